set_option maxHeartbeats 4000000 in
theorem ct_X1_knock (G : fmG) (hl : (fmLn G).stackTraces = false) (h : fmHp) {x far qu pa sb : Nat} {fl re de : Int32} {sv : Value} {d g sl se pl pe : Nat} {gf sf pf : Nat → Nat} {N : Nat → Int32} {K pk : Nat} (hC : CC G h) (hx : DkO h x far qu d pa sb fl re de sv) (hM : MineAt G h d g sl se pl pe gf sf pf N K pk) (v : Int32) : Ct G yX1_knock (ws_ yX1_knock cX1_knock 5 (some .int)) { frames := 8, cells := 2, slots := 8, locals := 144 } [.ref x, .int v] h (qPost h (aKnock N v K)) (qXp h (exQ "java/lang/IndexOutOfBoundsException" "java/lang/IllegalStateException") (aKnock N v K)) := by
  refine Ct.of hl (by decide +kernel) (Nat.le_of_ble_eq_true rfl) (fun Γ E P => ?_)
  obtain ⟨hd, ⟨gq, hg, hgq⟩, hgd, hS, hSh, hP, hPk, hK8, hP6, hsp, hse⟩ := id hM
  obtain ⟨mcS, hsl⟩ := hS.o
  obtain ⟨mcP, hpl⟩ := hP.o
  refine r_iconst E (nI 1) dX1_knock_0 (by decide) ?_
  refine r_newa E 0 (.inl (fun _ => 0)) rfl (z_ai 1) q236 (fun e => e) (Nat.le_of_ble_eq_true rfl) (Nat.le_of_ble_eq_true rfl) 1 7 (Nat.le_of_ble_eq_true rfl) (Nat.le_of_ble_eq_true rfl) dX1_knock_1 (fun b1 hb1 kb1 => ?_)
  refine r_dup E dX1_knock_3 rfl ?_
  refine r_iconst E (nI 0) dX1_knock_4 (by decide) ?_
  refine r_iload_n E dX1_knock_5 rfl ?_
  refine r_iast E fmUp_s (by decide) (by decide) dX1_knock_6 ?_
  refine r_hp (h' := fmUp h b1 (true, .inl (0, 1, .inl (upd (fun _ => 0) 0 v)))) (fmUp_uu _ _ _ _) ?_
  cases hv : sBetween v (nI 0) (nI 63) with
  | false =>
    refine r_callS E (ctF_X1_cellOf G hl _ b1 true _ fmUp_s (by rw [upd_eq' rfl]; exact hv)) mX1_cellOf q78 q625 q626 rfl rfl (Nat.le_of_ble_eq_true rfl) (Nat.le_of_ble_eq_true rfl) (Nat.le_of_ble_eq_true rfl) dX1_knock_7 0 0 (Nat.le_of_ble_eq_true rfl) (Nat.le_of_ble_eq_true rfl) (fun _ _ q => q.elim) (fun q Ex h' hx => ?_)
    exact r_xout E P (fun x hx => by cases hx) (qX_thr (k := 1) (Kp.up hb1) (aG_t (by rw [hv]; rfl)) (by decide) rfl hx)
  | true =>
    obtain ⟨c, hc0, rfl⟩ := sBtw_of (by decide) hv
    have hc : c < 64 := by omega
    have hcn : cN (nI c) = c := cN_n (by omega)
    refine r_callS1 (v1 := .int (nI c)) E (ctT_X1_cellOf G hl (fmUp h b1 (true, .inl (0, 1, .inl (upd (fun _ => 0) 0 (nI c))))) b1 true (upd (fun _ => 0) 0 (nI c)) fmUp_s c hc (upd_eq' rfl)) mX1_cellOf q78 q625 q626 rfl rfl (Nat.le_of_ble_eq_true rfl) (Nat.le_of_ble_eq_true rfl) (Nat.le_of_ble_eq_true rfl) dX1_knock_7 1 7 (Nat.le_of_ble_eq_true rfl) (Nat.le_of_ble_eq_true rfl) ?_
    have hkp : Kp h (fmUp h b1 (true, .inl (0, 1, .inl (upd (fun _ => 0) 0 (nI c))))) := Kp.up hb1
    have hM2 := hM.kp hkp
    have hC2 := hC.kp hkp
    obtain ⟨hd2, ⟨gq2, hg2, hgq2⟩, hgd2, hS2, hSh2, hP2, hPk2, hK82, hP62, hsp2, hse2⟩ := id hM2
    obtain ⟨mcS2, hsl2⟩ := hS2.o
    obtain ⟨mcP2, hpl2⟩ := hP2.o
    obtain ⟨feS2, capS2, geS2, hseA2⟩ := hS2.el
    obtain ⟨feP2, capP2, geP2, hpeA2⟩ := hP2.el
    rcases hgd2 c hc with ⟨gd2a, gd2b, gd2c, gd2o⟩ | ⟨gd2p, gd2a, gd2c, gd2o⟩ | ⟨gd2a, gd2c, gd2o⟩
    · refine r_istore_n E [some (.ref x), some (.int (nI c)), some (.int (nI c)), none, none] dX1_knock_10 rfl rfl ?_
      refine r_aload_n E dX1_knock_11 rfl ?_
      refine r_getf E cl_X1 2 (by decide) q272 (hkp _ _ hx) rfl dX1_knock_12 ?_
      refine r_getfN E cl_X2 0 (by decide) q186 hd2 rfl dX1_knock_15 ?_
      refine r_iload_n E dX1_knock_18 rfl ?_
      refine r_aald E hg2 rfl rfl (by omega) (by decide) dX1_knock_19 ?_
      refine r_top (v' := .ref (gf c)) (congrArg va_rf (hgq2 _ (by omega))) ?_
      refine r_instS E cl_X3 q355 gd2o dX1_knock_20 ?_
      refine r_top (v' := .int (bI true)) rfl ?_
      refine r_ifB_eq (b := true) (tgt := 43) E dX1_knock_23 (by decide) (fun c => absurd c (by decide)) (fun _ => ?_)
      refine r_aload_n E dX1_knock_26 rfl ?_
      refine r_getf E cl_X1 2 (by decide) q272 (hkp _ _ hx) rfl dX1_knock_27 ?_
      refine r_iload_n E dX1_knock_30 rfl ?_
      refine r_iconst E (-1) dX1_knock_31 (by decide) ?_
      refine r_callV1 (v1 := .int (cI (sMeet N c (-1) K))) E (ct_X2_met G hl (fmUp h b1 (true, .inl (0, 1, .inl (upd (fun _ => 0) 0 (nI c))))) hC2 hM2 c (-1) (by omega)) mX2_met q1146 q792 q793 (fun H a1 => fm_rc (ci := 2) (C := RX2) (T := TX2) (N := 7) a1 rfl E.v hd2) rfl rfl (Nat.le_of_ble_eq_true rfl) (Nat.le_of_ble_eq_true rfl) (Nat.le_of_ble_eq_true rfl) dX1_knock_32 1 7 (Nat.le_of_ble_eq_true rfl) (Nat.le_of_ble_eq_true rfl) ?_
      refine r_iconst E (-1) dX1_knock_35 (by decide) ?_
      refine r_icmpC_eq (tgt := 43) E dX1_knock_36 (by decide) (sMeet_31 hK8) (fun c4 => ?_) (fun c4 => ?_)
      · refine r_iconst E (nI 0) dX1_knock_43 (by decide) ?_
        refine r_top (v' := .int (bI false)) rfl ?_
        refine r_callS E (ctF_X1_requireState G hl _) mX1_requireState q78 q1147 q1148 rfl rfl (Nat.le_of_ble_eq_true rfl) (Nat.le_of_ble_eq_true rfl) (Nat.le_of_ble_eq_true rfl) dX1_knock_44 0 0 (Nat.le_of_ble_eq_true rfl) (Nat.le_of_ble_eq_true rfl) (fun _ _ q => q.elim) (fun q Ex h' hx => ?_)
        exact r_xout E P (fun x hx => by cases hx) (qX_thr (k := 2) hkp (by unfold aKnock; rw [hv, hcn, show sMeet N c (-1) K = none from c4, sc0 gd2a]; rfl) (by decide) rfl hx)
      · refine r_iconst E (nI 1) dX1_knock_39 (by decide) ?_
        refine r_goto (tgt := 44) E dX1_knock_40 (by decide) ?_
        refine r_top (v' := .int (bI true)) rfl ?_
        refine r_callS0 E (ctT_X1_requireState G hl (fmUp h b1 (true, .inl (0, 1, .inl (upd (fun _ => 0) 0 (nI c)))))) mX1_requireState q78 q1147 q1148 rfl rfl (Nat.le_of_ble_eq_true rfl) (Nat.le_of_ble_eq_true rfl) (Nat.le_of_ble_eq_true rfl) dX1_knock_44 1 7 (Nat.le_of_ble_eq_true rfl) (Nat.le_of_ble_eq_true rfl) ?_
        refine r_iconst E (nI 2) dX1_knock_47 (by decide) ?_
        refine r_aload_n E dX1_knock_48 rfl ?_
        refine r_getf E cl_X1 2 (by decide) q272 (hkp _ _ hx) rfl dX1_knock_49 ?_
        refine r_iload_n E dX1_knock_52 rfl ?_
        refine r_callV1 (v1 := .int (sNodO N (some c))) E (ct_X2_nodules G hl (fmUp h b1 (true, .inl (0, 1, .inl (upd (fun _ => 0) 0 (nI c))))) hC2 hM2 (some c) (by intro x hx; first | exact sBsd_lt (by omega) hx | exact ho x hx | (cases hx; omega) | cases hx)) mX2_nodules q1103 q1104 q1105 (fun H a1 => fm_rc (ci := 2) (C := RX2) (T := TX2) (N := 7) a1 rfl E.v hd2) rfl rfl (Nat.le_of_ble_eq_true rfl) (Nat.le_of_ble_eq_true rfl) (Nat.le_of_ble_eq_true rfl) dX1_knock_53 1 7 (Nat.le_of_ble_eq_true rfl) (Nat.le_of_ble_eq_true rfl) ?_
        refine r_imul E dX1_knock_56 ?_
        refine r_top (v' := .int (sKnK N c 0)) (congrArg Value.int (by rw [sNodO_ch (sc0 gd2a)]; rfl)) ?_
        refine r_istore_n E [some (.ref x), some (.int (nI c)), some (.int (nI c)), some (.int (sKnK N c 0)), none] dX1_knock_57 rfl rfl ?_
        refine r_iconst E (nI 0) dX1_knock_58 (by decide) ?_
        refine r_istore E [some (.ref x), some (.int (nI c)), some (.int (nI c)), some (.int (sKnK N c 0)), some (.int (nI 0))] dX1_knock_59 rfl rfl ?_
        have lp5 : ∀ (n5 i5 : Nat), i5 + n5 = 4 → fmW G Γ (fmUp h b1 (true, .inl (0, 1, .inl (upd (fun _ => 0) 0 (nI c))))) 1 7 61 [some (.ref x), some (.int (nI c)), some (.int (nI c)), some (.int (sKnK N c i5)), some (.int (nI i5))] [] := by
          intro n5
          induction n5 with
          | zero =>
            intro i5 hi5
            refine r_iload E dX1_knock_61 rfl ?_
            refine r_iconst E (nI 4) dX1_knock_63 (by decide) ?_
            refine r_icmpN_ge (tgt := 89) E dX1_knock_64 (by decide) (by omega) (by omega) (fun c6 => ?_) (fun c6 => ?_)
            · have h4 : i5 = 4 := by omega
              refine r_iload_n E dX1_knock_89 rfl ?_
              have hms : (sMeet N c (-1) K).isSome = true := Option.isSome_iff_ne_none.mpr c4
              exact r_ireturn E P rfl dX1_knock_90 (qP_don (by unfold aKnock; rw [hv, hcn, h4, sc0 gd2a, hms]; rfl) hkp)
            · exfalso; omega
          | succ n5 ih =>
            intro i5 hi5
            refine r_iload E dX1_knock_61 rfl ?_
            refine r_iconst E (nI 4) dX1_knock_63 (by decide) ?_
            refine r_icmpN_ge (tgt := 89) E dX1_knock_64 (by decide) (by omega) (by omega) (fun c7 => ?_) (fun c7 => ?_)
            · exfalso; omega
            · refine r_iload_n E dX1_knock_67 rfl ?_
              refine r_aload_n E dX1_knock_68 rfl ?_
              refine r_getf E cl_X1 2 (by decide) q272 (hkp _ _ hx) rfl dX1_knock_69 ?_
              refine r_iload_n E dX1_knock_72 rfl ?_
              refine r_iload E dX1_knock_73 rfl ?_
              refine r_callS1 (v1 := .int (cI (sBsd c i5))) E (ct_X1_beside G hl (fmUp h b1 (true, .inl (0, 1, .inl (upd (fun _ => 0) 0 (nI c))))) hC2 c i5 (by omega) (by omega)) mX1_beside q78 q1155 q337 rfl rfl (Nat.le_of_ble_eq_true rfl) (Nat.le_of_ble_eq_true rfl) (Nat.le_of_ble_eq_true rfl) dX1_knock_75 1 7 (Nat.le_of_ble_eq_true rfl) (Nat.le_of_ble_eq_true rfl) ?_
              refine r_callV1 (v1 := .int (sNodO N (sBsd c i5))) E (ct_X2_nodules G hl (fmUp h b1 (true, .inl (0, 1, .inl (upd (fun _ => 0) 0 (nI c))))) hC2 hM2 (sBsd c i5) (by intro x hx; first | exact sBsd_lt (by omega) hx | exact ho x hx | (cases hx; omega) | cases hx)) mX2_nodules q1103 q1104 q1105 (fun H a1 => fm_rc (ci := 2) (C := RX2) (T := TX2) (N := 7) a1 rfl E.v hd2) rfl rfl (Nat.le_of_ble_eq_true rfl) (Nat.le_of_ble_eq_true rfl) (Nat.le_of_ble_eq_true rfl) dX1_knock_78 1 7 (Nat.le_of_ble_eq_true rfl) (Nat.le_of_ble_eq_true rfl) ?_
              refine r_iadd E dX1_knock_81 ?_
              refine r_top (v' := .int (sKnK N c (i5 + 1))) (congrArg Value.int (by show sKnK N c i5 + _ = sKnK N c i5 + _; rw [sNodB_eq])) ?_
              refine r_istore_n E [some (.ref x), some (.int (nI c)), some (.int (nI c)), some (.int (sKnK N c (i5 + 1))), some (.int (nI i5))] dX1_knock_82 rfl rfl ?_
              refine r_iinc E (nI (i5 + 1)) [some (.ref x), some (.int (nI c)), some (.int (nI c)), some (.int (sKnK N c (i5 + 1))), some (.int (nI (i5 + 1)))] dX1_knock_83 rfl (nI_1 i5) rfl rfl ?_
              refine r_goto (tgt := 61) E dX1_knock_86 (by decide) ?_
              exact ih (i5 + 1) (by omega)
        exact lp5 4 0 (by omega)
    · refine r_istore_n E [some (.ref x), some (.int (nI c)), some (.int (nI c)), none, none] dX1_knock_10 rfl rfl ?_
      refine r_aload_n E dX1_knock_11 rfl ?_
      refine r_getf E cl_X1 2 (by decide) q272 (hkp _ _ hx) rfl dX1_knock_12 ?_
      refine r_getfN E cl_X2 0 (by decide) q186 hd2 rfl dX1_knock_15 ?_
      refine r_iload_n E dX1_knock_18 rfl ?_
      refine r_aald E hg2 rfl rfl (by omega) (by decide) dX1_knock_19 ?_
      refine r_top (v' := .ref (gf c)) (congrArg va_rf (hgq2 _ (by omega))) ?_
      refine r_instNo E cl_X6 q355 (by decide +kernel) gd2o dX1_knock_20 ?_
      refine r_top (v' := .int (bI false)) rfl ?_
      refine r_ifB_eq (b := false) (tgt := 43) E dX1_knock_23 (by decide) (fun _ => ?_) (fun c => absurd c (by decide))
      refine r_iconst E (nI 0) dX1_knock_43 (by decide) ?_
      refine r_top (v' := .int (bI false)) rfl ?_
      refine r_callS E (ctF_X1_requireState G hl _) mX1_requireState q78 q1147 q1148 rfl rfl (Nat.le_of_ble_eq_true rfl) (Nat.le_of_ble_eq_true rfl) (Nat.le_of_ble_eq_true rfl) dX1_knock_44 0 0 (Nat.le_of_ble_eq_true rfl) (Nat.le_of_ble_eq_true rfl) (fun _ _ q => q.elim) (fun q Ex h' hx => ?_)
      exact r_xout E P (fun x hx => by cases hx) (qX_thr (k := 2) hkp (by unfold aKnock; rw [hv, hcn, sc1 gd2a]; rfl) (by decide) rfl hx)
    · refine r_istore_n E [some (.ref x), some (.int (nI c)), some (.int (nI c)), none, none] dX1_knock_10 rfl rfl ?_
      refine r_aload_n E dX1_knock_11 rfl ?_
      refine r_getf E cl_X1 2 (by decide) q272 (hkp _ _ hx) rfl dX1_knock_12 ?_
      refine r_getfN E cl_X2 0 (by decide) q186 hd2 rfl dX1_knock_15 ?_
      refine r_iload_n E dX1_knock_18 rfl ?_
      refine r_aald E hg2 rfl rfl (by omega) (by decide) dX1_knock_19 ?_
      refine r_top (v' := .ref (gf c)) (congrArg va_rf (hgq2 _ (by omega))) ?_
      refine r_instNo E cl_X8 q355 (by decide +kernel) gd2o dX1_knock_20 ?_
      refine r_top (v' := .int (bI false)) rfl ?_
      refine r_ifB_eq (b := false) (tgt := 43) E dX1_knock_23 (by decide) (fun _ => ?_) (fun c => absurd c (by decide))
      refine r_iconst E (nI 0) dX1_knock_43 (by decide) ?_
      refine r_top (v' := .int (bI false)) rfl ?_
      refine r_callS E (ctF_X1_requireState G hl _) mX1_requireState q78 q1147 q1148 rfl rfl (Nat.le_of_ble_eq_true rfl) (Nat.le_of_ble_eq_true rfl) (Nat.le_of_ble_eq_true rfl) dX1_knock_44 0 0 (Nat.le_of_ble_eq_true rfl) (Nat.le_of_ble_eq_true rfl) (fun _ _ q => q.elim) (fun q Ex h' hx => ?_)
      exact r_xout E P (fun x hx => by cases hx) (qX_thr (k := 2) hkp (by unfold aKnock; rw [hv, hcn, sc2 gd2a]; rfl) (by decide) rfl hx)

set_option maxHeartbeats 4000000 in
theorem ct_X1_cells (G : fmG) (hl : (fmLn G).stackTraces = false) (h : fmHp) {x far qu pa sb : Nat} {fl re de : Int32} {sv : Value} {d g sl se pl pe : Nat} {gf sf pf : Nat → Nat} {N : Nat → Int32} {K pk : Nat} (hC : CC G h) (hx : DkO h x far qu d pa sb fl re de sv) (hM : MineAt G h d g sl se pl pe gf sf pf N K pk) (s : Int32) : Ct G yX1_cells (ws_ yX1_cells cX1_cells 4 (some .int)) { frames := 1, cells := 0, slots := 0, locals := 20 } [.ref x, .int s] h (fmRet (some (.int (nI (sSt N s)))) h) fmNo := by
  refine Ct.of hl (by decide +kernel) (Nat.le_of_ble_eq_true rfl) (fun Γ E P => ?_)
  obtain ⟨hd, ⟨gq, hg, hgq⟩, hgd, hS, hSh, hP, hPk, hK8, hP6, hsp, hse⟩ := id hM
  obtain ⟨mcS, hsl⟩ := hS.o
  obtain ⟨mcP, hpl⟩ := hP.o
  refine r_iconst E (nI 0) dX1_cells_0 (by decide) ?_
  refine r_istore_n E [some (.ref x), some (.int s), some (.int (nI 0)), none] dX1_cells_1 rfl rfl ?_
  refine r_iconst E (nI 0) dX1_cells_2 (by decide) ?_
  refine r_istore_n E [some (.ref x), some (.int s), some (.int (nI 0)), some (.int (nI 0))] dX1_cells_3 rfl rfl ?_
  show fmW G Γ _ _ _ _ [some (.ref x), some (.int s), some (.int (nI (sCount (fun c => decide (N c = s)) 0))), some (.int (nI 0))] []
  have lp1 : ∀ (n1 i1 : Nat), i1 + n1 = 64 → fmW G Γ (h) 0 0 4 [some (.ref x), some (.int s), some (.int (nI (sCount (fun c => decide (N c = s)) i1))), some (.int (nI i1))] [] := by
    intro n1
    induction n1 with
    | zero =>
      intro i1 hi1
      refine r_iload_n E dX1_cells_4 rfl ?_
      refine r_bipush E (nI 64) dX1_cells_5 (by decide) ?_
      refine r_icmpN_ge (tgt := 40) E dX1_cells_7 (by decide) (by omega) (by omega) (fun c2 => ?_) (fun c2 => ?_)
      · have h64 : i1 = 64 := by omega
        refine r_iload_n E dX1_cells_40 rfl ?_
        refine r_top (v' := .int (nI (sSt N s))) (by rw [h64]; rfl) ?_
        exact r_ireturn E P rfl dX1_cells_41 ⟨rfl, rfl⟩
      · exfalso; omega
    | succ n1 ih =>
      intro i1 hi1
      refine r_iload_n E dX1_cells_4 rfl ?_
      refine r_bipush E (nI 64) dX1_cells_5 (by decide) ?_
      refine r_icmpN_ge (tgt := 40) E dX1_cells_7 (by decide) (by omega) (by omega) (fun c3 => ?_) (fun c3 => ?_)
      · exfalso; omega
      · refine r_iload_n E dX1_cells_10 rfl ?_
        refine r_aload_n E dX1_cells_11 rfl ?_
        refine r_getf E cl_X1 2 (by decide) q272 hx rfl dX1_cells_12 ?_
        refine r_getfN E cl_X2 0 (by decide) q186 hd rfl dX1_cells_15 ?_
        refine r_iload_n E dX1_cells_18 rfl ?_
        refine r_aald E hg rfl rfl (by omega) (by decide) dX1_cells_19 ?_
        refine r_top (v' := .ref (gf i1)) (congrArg va_rf (hgq _ (by omega))) ?_
        refine r_callS1 (v1 := .int (N i1)) E (ct_X1_kind G hl (h) N i1 (gf i1) (hgd i1 (by omega))) mX1_kind q78 q352 q353 rfl rfl (Nat.le_of_ble_eq_true rfl) (Nat.le_of_ble_eq_true rfl) (Nat.le_of_ble_eq_true rfl) dX1_cells_20 0 0 (Nat.le_of_ble_eq_true rfl) (Nat.le_of_ble_eq_true rfl) ?_
        refine r_iload_n E dX1_cells_23 rfl ?_
        refine r_icmp_ne (tgt := 31) E dX1_cells_24 (by decide) (fun c2 => ?_) (fun c2 => ?_)
        · refine r_iconst E (nI 0) dX1_cells_31 (by decide) ?_
          refine r_iaddN E dX1_cells_32 ?_
          refine r_topi (congrArg nI (Nat.add_zero _)) ?_
          refine r_top (v' := .int (nI (sCount (fun c => decide (N c = s)) (i1 + 1)))) (congrArg (fun z => Value.int (nI z)) (by show _ = sCount _ i1 + _; rw [if_neg (show ¬ decide (N i1 = s) = true by rw [decide_eq_false c2]; exact Bool.false_ne_true)]; rfl)) ?_
          refine r_istore_n E [some (.ref x), some (.int s), some (.int (nI (sCount (fun c => decide (N c = s)) (i1 + 1)))), some (.int (nI i1))] dX1_cells_33 rfl rfl ?_
          refine r_iinc E (nI (i1 + 1)) [some (.ref x), some (.int s), some (.int (nI (sCount (fun c => decide (N c = s)) (i1 + 1)))), some (.int (nI (i1 + 1)))] dX1_cells_34 rfl (nI_1 i1) rfl rfl ?_
          refine r_goto (tgt := 4) E dX1_cells_37 (by decide) ?_
          exact ih (i1 + 1) (by omega)
        · refine r_iconst E (nI 1) dX1_cells_27 (by decide) ?_
          refine r_goto (tgt := 32) E dX1_cells_28 (by decide) ?_
          refine r_iaddN E dX1_cells_32 ?_
          refine r_top (v' := .int (nI (sCount (fun c => decide (N c = s)) (i1 + 1)))) (congrArg (fun z => Value.int (nI z)) (by show _ = sCount _ i1 + _; rw [if_pos (decide_eq_true c2)])) ?_
          refine r_istore_n E [some (.ref x), some (.int s), some (.int (nI (sCount (fun c => decide (N c = s)) (i1 + 1)))), some (.int (nI i1))] dX1_cells_33 rfl rfl ?_
          refine r_iinc E (nI (i1 + 1)) [some (.ref x), some (.int s), some (.int (nI (sCount (fun c => decide (N c = s)) (i1 + 1)))), some (.int (nI (i1 + 1)))] dX1_cells_34 rfl (nI_1 i1) rfl rfl ?_
          refine r_goto (tgt := 4) E dX1_cells_37 (by decide) ?_
          exact ih (i1 + 1) (by omega)
  exact lp1 64 0 (by omega)

set_option maxHeartbeats 4000000 in
theorem ct_X1_nodulesLeft (G : fmG) (hl : (fmLn G).stackTraces = false) (h : fmHp) {x far qu pa sb : Nat} {fl re de : Int32} {sv : Value} {d g sl se pl pe : Nat} {gf sf pf : Nat → Nat} {N : Nat → Int32} {K pk : Nat} (hC : CC G h) (hx : DkO h x far qu d pa sb fl re de sv) (hM : MineAt G h d g sl se pl pe gf sf pf N K pk)  : Ct G yX1_nodulesLeft (ws_ yX1_nodulesLeft cX1_nodulesLeft 3 (some .int)) { frames := 1, cells := 0, slots := 0, locals := 23 } [.ref x] h (fmRet (some (.int (sSum (fun c => if sChalk N c = true then N (128 + c) else nI 0) 64))) h) fmNo := by
  refine Ct.of hl (by decide +kernel) (Nat.le_of_ble_eq_true rfl) (fun Γ E P => ?_)
  obtain ⟨hd, ⟨gq, hg, hgq⟩, hgd, hS, hSh, hP, hPk, hK8, hP6, hsp, hse⟩ := id hM
  obtain ⟨mcS, hsl⟩ := hS.o
  obtain ⟨mcP, hpl⟩ := hP.o
  refine r_iconst E (nI 0) dX1_nodulesLeft_0 (by decide) ?_
  refine r_top (v' := .int (sSum (fun c => if sChalk N c = true then N (128 + c) else nI 0) 0)) rfl ?_
  refine r_istore_n E [some (.ref x), some (.int (sSum (fun c => if sChalk N c = true then N (128 + c) else nI 0) 0)), none] dX1_nodulesLeft_1 rfl rfl ?_
  refine r_iconst E (nI 0) dX1_nodulesLeft_2 (by decide) ?_
  refine r_istore_n E [some (.ref x), some (.int (sSum (fun c => if sChalk N c = true then N (128 + c) else nI 0) 0)), some (.int (nI 0))] dX1_nodulesLeft_3 rfl rfl ?_
  have lp1 : ∀ (n1 i1 : Nat), i1 + n1 = 64 → fmW G Γ (h) 0 0 4 [some (.ref x), some (.int (sSum (fun c => if sChalk N c = true then N (128 + c) else nI 0) i1)), some (.int (nI i1))] [] := by
    intro n1
    induction n1 with
    | zero =>
      intro i1 hi1
      refine r_iload_n E dX1_nodulesLeft_4 rfl ?_
      refine r_bipush E (nI 64) dX1_nodulesLeft_5 (by decide) ?_
      refine r_icmpN_ge (tgt := 27) E dX1_nodulesLeft_7 (by decide) (by omega) (by omega) (fun c2 => ?_) (fun c2 => ?_)
      · have h64 : i1 = 64 := by omega
        refine r_iload_n E dX1_nodulesLeft_27 rfl ?_
        refine r_top (v' := .int (sSum (fun c => if sChalk N c = true then N (128 + c) else nI 0) 64)) (by rw [h64]) ?_
        exact r_ireturn E P rfl dX1_nodulesLeft_28 ⟨rfl, rfl⟩
      · exfalso; omega
    | succ n1 ih =>
      intro i1 hi1
      refine r_iload_n E dX1_nodulesLeft_4 rfl ?_
      refine r_bipush E (nI 64) dX1_nodulesLeft_5 (by decide) ?_
      refine r_icmpN_ge (tgt := 27) E dX1_nodulesLeft_7 (by decide) (by omega) (by omega) (fun c3 => ?_) (fun c3 => ?_)
      · exfalso; omega
      · refine r_iload_n E dX1_nodulesLeft_10 rfl ?_
        refine r_aload_n E dX1_nodulesLeft_11 rfl ?_
        refine r_getf E cl_X1 2 (by decide) q272 hx rfl dX1_nodulesLeft_12 ?_
        refine r_iload_n E dX1_nodulesLeft_15 rfl ?_
        refine r_callV1 (v1 := .int (sNodO N (some i1))) E (ct_X2_nodules G hl (h) hC hM (some i1) (by intro x hx; first | exact sBsd_lt (by omega) hx | exact ho x hx | (cases hx; omega) | cases hx)) mX2_nodules q1103 q1104 q1105 (fun H a1 => fm_rc (ci := 2) (C := RX2) (T := TX2) (N := 7) a1 rfl E.v hd) rfl rfl (Nat.le_of_ble_eq_true rfl) (Nat.le_of_ble_eq_true rfl) (Nat.le_of_ble_eq_true rfl) dX1_nodulesLeft_16 0 0 (Nat.le_of_ble_eq_true rfl) (Nat.le_of_ble_eq_true rfl) ?_
        refine r_iadd E dX1_nodulesLeft_19 ?_
        refine r_top (v' := .int (sSum (fun c => if sChalk N c = true then N (128 + c) else nI 0) (i1 + 1))) rfl ?_
        refine r_istore_n E [some (.ref x), some (.int (sSum (fun c => if sChalk N c = true then N (128 + c) else nI 0) (i1 + 1))), some (.int (nI i1))] dX1_nodulesLeft_20 rfl rfl ?_
        refine r_iinc E (nI (i1 + 1)) [some (.ref x), some (.int (sSum (fun c => if sChalk N c = true then N (128 + c) else nI 0) (i1 + 1))), some (.int (nI (i1 + 1)))] dX1_nodulesLeft_21 rfl (nI_1 i1) rfl rfl ?_
        refine r_goto (tgt := 4) E dX1_nodulesLeft_24 (by decide) ?_
        exact ih (i1 + 1) (by omega)
  exact lp1 64 0 (by omega)

set_option maxHeartbeats 4000000 in
theorem ct_X1_propsSet (G : fmG) (hl : (fmLn G).stackTraces = false) (h : fmHp) {x far qu pa sb : Nat} {fl re de : Int32} {sv : Value} {d g sl se pl pe : Nat} {gf sf pf : Nat → Nat} {N : Nat → Int32} {K pk : Nat} (hC : CC G h) (hx : DkO h x far qu d pa sb fl re de sv) (hM : MineAt G h d g sl se pl pe gf sf pf N K pk)  : Ct G yX1_propsSet (ws_ yX1_propsSet cX1_propsSet 3 (some .int)) { frames := 2, cells := 0, slots := 0, locals := 47 } [.ref x] h (fmRet (some (.int (sSum (fun k => nI (cB N (nI k) 64)) K))) h) fmNo := by
  refine Ct.of hl (by decide +kernel) (Nat.le_of_ble_eq_true rfl) (fun Γ E P => ?_)
  obtain ⟨hd, ⟨gq, hg, hgq⟩, hgd, hS, hSh, hP, hPk, hK8, hP6, hsp, hse⟩ := id hM
  obtain ⟨mcS, hsl⟩ := hS.o
  obtain ⟨mcP, hpl⟩ := hP.o
  refine r_iconst E (nI 0) dX1_propsSet_0 (by decide) ?_
  refine r_top (v' := .int (sSum (fun k => nI (cB N (nI k) 64)) 0)) rfl ?_
  refine r_istore_n E [some (.ref x), some (.int (sSum (fun k => nI (cB N (nI k) 64)) 0)), none] dX1_propsSet_1 rfl rfl ?_
  refine r_iconst E (nI 0) dX1_propsSet_2 (by decide) ?_
  refine r_istore_n E [some (.ref x), some (.int (sSum (fun k => nI (cB N (nI k) 64)) 0)), some (.int (nI 0))] dX1_propsSet_3 rfl rfl ?_
  have lp1 : ∀ (n1 i1 : Nat), i1 + n1 = K → fmW G Γ (h) 0 0 4 [some (.ref x), some (.int (sSum (fun k => nI (cB N (nI k) 64)) i1)), some (.int (nI i1))] [] := by
    intro n1
    induction n1 with
    | zero =>
      intro i1 hi1
      refine r_iload_n E dX1_propsSet_4 rfl ?_
      refine r_aload_n E dX1_propsSet_5 rfl ?_
      refine r_getf E cl_X1 2 (by decide) q272 hx rfl dX1_propsSet_6 ?_
      refine r_getfN E cl_X2 1 (by decide) q188 hd rfl dX1_propsSet_9 ?_
      refine r_callF1 (v1 := .int (nI K)) E (ctA_J2_size G hl (h) sl se K sf hS (by omega)) mJ2_size (ci := 12) rfl hsl 3 rfl q576 q581 q579 fx_3 rfl rfl (Nat.le_of_ble_eq_true rfl) (Nat.le_of_ble_eq_true rfl) (Nat.le_of_ble_eq_true rfl) dX1_propsSet_12 0 0 (Nat.le_of_ble_eq_true rfl) (Nat.le_of_ble_eq_true rfl) ?_
      refine r_icmpN_ge (tgt := 37) E dX1_propsSet_17 (by decide) (by omega) (by omega) (fun c2 => ?_) (fun c2 => ?_)
      · have h64 : i1 = K := by omega
        refine r_iload_n E dX1_propsSet_37 rfl ?_
        refine r_top (v' := .int (sSum (fun k => nI (cB N (nI k) 64)) K)) (by rw [h64]) ?_
        exact r_ireturn E P rfl dX1_propsSet_38 ⟨rfl, rfl⟩
      · exfalso; omega
    | succ n1 ih =>
      intro i1 hi1
      refine r_iload_n E dX1_propsSet_4 rfl ?_
      refine r_aload_n E dX1_propsSet_5 rfl ?_
      refine r_getf E cl_X1 2 (by decide) q272 hx rfl dX1_propsSet_6 ?_
      refine r_getfN E cl_X2 1 (by decide) q188 hd rfl dX1_propsSet_9 ?_
      refine r_callF1 (v1 := .int (nI K)) E (ctA_J2_size G hl (h) sl se K sf hS (by omega)) mJ2_size (ci := 12) rfl hsl 3 rfl q576 q581 q579 fx_3 rfl rfl (Nat.le_of_ble_eq_true rfl) (Nat.le_of_ble_eq_true rfl) (Nat.le_of_ble_eq_true rfl) dX1_propsSet_12 0 0 (Nat.le_of_ble_eq_true rfl) (Nat.le_of_ble_eq_true rfl) ?_
      refine r_icmpN_ge (tgt := 37) E dX1_propsSet_17 (by decide) (by omega) (by omega) (fun c3 => ?_) (fun c3 => ?_)
      · exfalso; omega
      · refine r_iload_n E dX1_propsSet_20 rfl ?_
        refine r_aload_n E dX1_propsSet_21 rfl ?_
        refine r_getf E cl_X1 2 (by decide) q272 hx rfl dX1_propsSet_22 ?_
        refine r_iload_n E dX1_propsSet_25 rfl ?_
        refine r_callV1 (v1 := .int (nI (sCount (fun c => sOpenOf N (some c) (nI i1) && !sBare N (some c)) 64))) E (ct_X2_propsOf G hl (h) hC hM (nI i1)) mX2_propsOf q1210 q958 q959 (fun H a1 => fm_rc (ci := 2) (C := RX2) (T := TX2) (N := 7) a1 rfl E.v hd) rfl rfl (Nat.le_of_ble_eq_true rfl) (Nat.le_of_ble_eq_true rfl) (Nat.le_of_ble_eq_true rfl) dX1_propsSet_26 0 0 (Nat.le_of_ble_eq_true rfl) (Nat.le_of_ble_eq_true rfl) ?_
        refine r_iadd E dX1_propsSet_29 ?_
        refine r_top (v' := .int (sSum (fun k => nI (cB N (nI k) 64)) (i1 + 1))) rfl ?_
        refine r_istore_n E [some (.ref x), some (.int (sSum (fun k => nI (cB N (nI k) 64)) (i1 + 1))), some (.int (nI i1))] dX1_propsSet_30 rfl rfl ?_
        refine r_iinc E (nI (i1 + 1)) [some (.ref x), some (.int (sSum (fun k => nI (cB N (nI k) 64)) (i1 + 1))), some (.int (nI (i1 + 1)))] dX1_propsSet_31 rfl (nI_1 i1) rfl rfl ?_
        refine r_goto (tgt := 4) E dX1_propsSet_34 (by decide) ?_
        exact ih (i1 + 1) (by omega)
  exact lp1 K 0 (by omega)

set_option maxHeartbeats 4000000 in
theorem ct_X1_isBetter (G : fmG) (hl : (fmLn G).stackTraces = false) (h : fmHp) {x far qu pa sb : Nat} {fl re de : Int32} {sv : Value} {d g sl se pl pe : Nat} {gf sf pf : Nat → Nat} {N : Nat → Int32} {K pk : Nat} (hC : CC G h) (hx : DkO h x far qu d pa sb fl re de sv) (hM : MineAt G h d g sl se pl pe gf sf pf N K pk) (c e : Nat) (hc : c < 64) (he : e < 64) (h1 : sChalk N c = true) (h2 : sChalk N e = true) : Ct G yX1_isBetter (ws_ yX1_isBetter cX1_isBetter 4 (some .boolean)) { frames := 2, cells := 0, slots := 0, locals := 43 } [.ref x, .int (nI c), .int (nI e)] h (fmRet (some (.int (bI (sBetter N c e)))) h) fmNo := by
  refine Ct.of hl (by decide +kernel) (Nat.le_of_ble_eq_true rfl) (fun Γ E P => ?_)
  obtain ⟨hd, ⟨gq, hg, hgq⟩, hgd, hS, hSh, hP, hPk, hK8, hP6, hsp, hse⟩ := id hM
  obtain ⟨mcS, hsl⟩ := hS.o
  obtain ⟨mcP, hpl⟩ := hP.o
  refine r_aload_n E dX1_isBetter_0 rfl ?_
  refine r_getf E cl_X1 2 (by decide) q272 hx rfl dX1_isBetter_1 ?_
  refine r_iload_n E dX1_isBetter_4 rfl ?_
  refine r_callV1 (v1 := .int (sNodO N (some c))) E (ct_X2_nodules G hl (h) hC hM (some c) (by intro x hx; cases hx; omega)) mX2_nodules q1103 q1104 q1105 (fun H a1 => fm_rc (ci := 2) (C := RX2) (T := TX2) (N := 7) a1 rfl E.v hd) rfl rfl (Nat.le_of_ble_eq_true rfl) (Nat.le_of_ble_eq_true rfl) (Nat.le_of_ble_eq_true rfl) dX1_isBetter_5 0 0 (Nat.le_of_ble_eq_true rfl) (Nat.le_of_ble_eq_true rfl) ?_
  refine r_aload_n E dX1_isBetter_8 rfl ?_
  refine r_getf E cl_X1 2 (by decide) q272 hx rfl dX1_isBetter_9 ?_
  refine r_iload_n E dX1_isBetter_12 rfl ?_
  refine r_callV1 (v1 := .int (sStrO N e)) E (ct_X2_strokes G hl (h) hC hM e (by omega)) mX2_strokes q1107 q1108 q1109 (fun H a1 => fm_rc (ci := 2) (C := RX2) (T := TX2) (N := 7) a1 rfl E.v hd) rfl rfl (Nat.le_of_ble_eq_true rfl) (Nat.le_of_ble_eq_true rfl) (Nat.le_of_ble_eq_true rfl) dX1_isBetter_13 0 0 (Nat.le_of_ble_eq_true rfl) (Nat.le_of_ble_eq_true rfl) ?_
  refine r_imul E dX1_isBetter_16 ?_
  refine r_aload_n E dX1_isBetter_17 rfl ?_
  refine r_getf E cl_X1 2 (by decide) q272 hx rfl dX1_isBetter_18 ?_
  refine r_iload_n E dX1_isBetter_21 rfl ?_
  refine r_callV1 (v1 := .int (sNodO N (some e))) E (ct_X2_nodules G hl (h) hC hM (some e) (by intro x hx; cases hx; omega)) mX2_nodules q1103 q1104 q1105 (fun H a1 => fm_rc (ci := 2) (C := RX2) (T := TX2) (N := 7) a1 rfl E.v hd) rfl rfl (Nat.le_of_ble_eq_true rfl) (Nat.le_of_ble_eq_true rfl) (Nat.le_of_ble_eq_true rfl) dX1_isBetter_22 0 0 (Nat.le_of_ble_eq_true rfl) (Nat.le_of_ble_eq_true rfl) ?_
  refine r_aload_n E dX1_isBetter_25 rfl ?_
  refine r_getf E cl_X1 2 (by decide) q272 hx rfl dX1_isBetter_26 ?_
  refine r_iload_n E dX1_isBetter_29 rfl ?_
  refine r_callV1 (v1 := .int (sStrO N c)) E (ct_X2_strokes G hl (h) hC hM c (by omega)) mX2_strokes q1107 q1108 q1109 (fun H a1 => fm_rc (ci := 2) (C := RX2) (T := TX2) (N := 7) a1 rfl E.v hd) rfl rfl (Nat.le_of_ble_eq_true rfl) (Nat.le_of_ble_eq_true rfl) (Nat.le_of_ble_eq_true rfl) dX1_isBetter_30 0 0 (Nat.le_of_ble_eq_true rfl) (Nat.le_of_ble_eq_true rfl) ?_
  refine r_imul E dX1_isBetter_33 ?_
  refine r_isub E dX1_isBetter_34 ?_
  refine r_top (v' := .int (N (128 + c) * sStrokes N e - N (128 + e) * sStrokes N c)) (by rw [sNodO_ch h1, sNodO_ch h2, sStrO_ch h1, sStrO_ch h2]) ?_
  refine r_istore_n E [some (.ref x), some (.int (nI c)), some (.int (nI e)), some (.int (N (128 + c) * sStrokes N e - N (128 + e) * sStrokes N c))] dX1_isBetter_35 rfl rfl ?_
  refine r_iload_n E dX1_isBetter_36 rfl ?_
  refine r_if_gt (tgt := 63) E dX1_isBetter_37 (by decide) (fun c1 => ?_) (fun c1 => ?_)
  · refine r_iconst E (nI 1) dX1_isBetter_63 (by decide) ?_
    refine r_goto (tgt := 68) E dX1_isBetter_64 (by decide) ?_
    refine r_top (v' := .int (bI (sBetter N c e))) (congrArg (fun z => Value.int (bI z)) (show true = sBetter N c e by unfold sBetter; simp [c1])) ?_
    exact r_zreturn E P rfl dX1_isBetter_68 ⟨rfl, rfl⟩
  · have hn1 := c1
    refine r_iload_n E dX1_isBetter_40 rfl ?_
    refine r_if_ne (tgt := 67) E dX1_isBetter_41 (by decide) (fun c1 => ?_) (fun c1 => ?_)
    · refine r_iconst E (nI 0) dX1_isBetter_67 (by decide) ?_
      refine r_top (v' := .int (bI (sBetter N c e))) (congrArg (fun z => Value.int (bI z)) (show false = sBetter N c e by unfold sBetter; simp [hn1, c1])) ?_
      exact r_zreturn E P rfl dX1_isBetter_68 ⟨rfl, rfl⟩
    · have hn2 := c1
      refine r_aload_n E dX1_isBetter_44 rfl ?_
      refine r_getf E cl_X1 2 (by decide) q272 hx rfl dX1_isBetter_45 ?_
      refine r_iload_n E dX1_isBetter_48 rfl ?_
      refine r_callV1 (v1 := .int (sStrO N c)) E (ct_X2_strokes G hl (h) hC hM c (by omega)) mX2_strokes q1107 q1108 q1109 (fun H a1 => fm_rc (ci := 2) (C := RX2) (T := TX2) (N := 7) a1 rfl E.v hd) rfl rfl (Nat.le_of_ble_eq_true rfl) (Nat.le_of_ble_eq_true rfl) (Nat.le_of_ble_eq_true rfl) dX1_isBetter_49 0 0 (Nat.le_of_ble_eq_true rfl) (Nat.le_of_ble_eq_true rfl) ?_
      refine r_aload_n E dX1_isBetter_52 rfl ?_
      refine r_getf E cl_X1 2 (by decide) q272 hx rfl dX1_isBetter_53 ?_
      refine r_iload_n E dX1_isBetter_56 rfl ?_
      refine r_callV1 (v1 := .int (sStrO N e)) E (ct_X2_strokes G hl (h) hC hM e (by omega)) mX2_strokes q1107 q1108 q1109 (fun H a1 => fm_rc (ci := 2) (C := RX2) (T := TX2) (N := 7) a1 rfl E.v hd) rfl rfl (Nat.le_of_ble_eq_true rfl) (Nat.le_of_ble_eq_true rfl) (Nat.le_of_ble_eq_true rfl) dX1_isBetter_57 0 0 (Nat.le_of_ble_eq_true rfl) (Nat.le_of_ble_eq_true rfl) ?_
      refine r_top (v' := .int (sStrokes N e)) (by rw [sStrO_ch h2]) ?_
      have e8 : sStrO N c = sStrokes N c := sStrO_ch h1
      rw [e8]
      refine r_icmp_ge (tgt := 67) E dX1_isBetter_60 (by decide) (fun c1 => ?_) (fun c1 => ?_)
      · refine r_iconst E (nI 0) dX1_isBetter_67 (by decide) ?_
        refine r_top (v' := .int (bI (sBetter N c e))) (congrArg (fun z => Value.int (bI z)) (show false = sBetter N c e by unfold sBetter; simp [hn1, hn2, Int32.not_lt.mpr c1])) ?_
        exact r_zreturn E P rfl dX1_isBetter_68 ⟨rfl, rfl⟩
      · refine r_iconst E (nI 1) dX1_isBetter_63 (by decide) ?_
        refine r_goto (tgt := 68) E dX1_isBetter_64 (by decide) ?_
        refine r_top (v' := .int (bI (sBetter N c e))) (congrArg (fun z => Value.int (bI z)) (show true = sBetter N c e by unfold sBetter; simp [hn1, hn2, Int32.not_le.mp c1])) ?_
        exact r_zreturn E P rfl dX1_isBetter_68 ⟨rfl, rfl⟩

