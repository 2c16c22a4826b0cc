set_option maxHeartbeats 4000000 in
theorem ct_X1_cell (G : fmG) (hl : (fmLn G).stackTraces = false) (h : fmHp) {x far qu pa sb : Nat} {fl re de : Int32} {sv : Value} {d g sl se pl pe : Nat} {gf sf pf : Nat → Nat} {N : Nat → Int32} {K pk : Nat} (hC : CC G h) (hx : DkO h x far qu d pa sb fl re de sv) (hM : MineAt G h d g sl se pl pe gf sf pf N K pk) (v u : Int32) : Ct G yX1_cell (ws_ yX1_cell cX1_cell 6 (some .int)) { frames := 8, cells := 3, slots := 16, locals := 144 } [.ref x, .int v, .int u] h (qPost h (aCell N v u)) (qXp h (exQ "java/lang/IndexOutOfBoundsException" "java/lang/IllegalArgumentException") (aCell N v u)) := by
  refine Ct.of hl (by decide +kernel) (Nat.le_of_ble_eq_true rfl) (fun Γ E P => ?_)
  obtain ⟨hd, ⟨gq, hg, hgq⟩, hgd, hS, hSh, hP, hPk, hK8, hP6, hsp, hse⟩ := id hM
  obtain ⟨mcS, hsl⟩ := hS.o
  obtain ⟨mcP, hpl⟩ := hP.o
  refine r_iconst E (nI 1) dX1_cell_0 (by decide) ?_
  refine r_newa E 0 (.inl (fun _ => 0)) rfl (z_ai 1) q236 (fun e => e) (Nat.le_of_ble_eq_true rfl) (Nat.le_of_ble_eq_true rfl) 2 15 (Nat.le_of_ble_eq_true rfl) (Nat.le_of_ble_eq_true rfl) dX1_cell_1 (fun b1 hb1 kb1 => ?_)
  refine r_dup E dX1_cell_3 rfl ?_
  refine r_iconst E (nI 0) dX1_cell_4 (by decide) ?_
  refine r_iload_n E dX1_cell_5 rfl ?_
  refine r_iast E fmUp_s (by decide) (by decide) dX1_cell_6 ?_
  refine r_hp (h' := fmUp h b1 (true, .inl (0, 1, .inl (upd (fun _ => 0) 0 v)))) (fmUp_uu _ _ _ _) ?_
  cases hv : sBetween v (nI 0) (nI 63) with
  | false =>
    refine r_callS E (ctF_X1_cellOf G hl _ b1 true _ fmUp_s (by rw [upd_eq' rfl]; exact hv)) mX1_cellOf q78 q625 q626 rfl rfl (Nat.le_of_ble_eq_true rfl) (Nat.le_of_ble_eq_true rfl) (Nat.le_of_ble_eq_true rfl) dX1_cell_7 0 0 (Nat.le_of_ble_eq_true rfl) (Nat.le_of_ble_eq_true rfl) (fun _ _ q => q.elim) (fun q Ex h' hx => ?_)
    exact r_xout E P (fun x hx => by cases hx) (qX_thr (k := 1) (Kp.up hb1) (aG_t (by rw [hv]; rfl)) (by decide) rfl hx)
  | true =>
    obtain ⟨c, hc0, rfl⟩ := sBtw_of (by decide) hv
    have hc : c < 64 := by omega
    have hcn : cN (nI c) = c := cN_n (by omega)
    refine r_callS1 (v1 := .int (nI c)) E (ctT_X1_cellOf G hl (fmUp h b1 (true, .inl (0, 1, .inl (upd (fun _ => 0) 0 (nI c))))) b1 true (upd (fun _ => 0) 0 (nI c)) fmUp_s c hc (upd_eq' rfl)) mX1_cellOf q78 q625 q626 rfl rfl (Nat.le_of_ble_eq_true rfl) (Nat.le_of_ble_eq_true rfl) (Nat.le_of_ble_eq_true rfl) dX1_cell_7 2 15 (Nat.le_of_ble_eq_true rfl) (Nat.le_of_ble_eq_true rfl) ?_
    have hkp : Kp h (fmUp h b1 (true, .inl (0, 1, .inl (upd (fun _ => 0) 0 (nI c))))) := Kp.up hb1
    refine r_istore_n E [some (.ref x), some (.int (nI c)), some (.int u), some (.int (nI c)), none, none] dX1_cell_10 rfl rfl ?_
    refine r_iconst E (nI 1) dX1_cell_11 (by decide) ?_
    refine r_newa E 5 (.inl (fun _ => 0)) rfl (z_ab 1) q681 (fun e => e) (Nat.le_of_ble_eq_true rfl) (Nat.le_of_ble_eq_true rfl) 1 14 (Nat.le_of_ble_eq_true rfl) (Nat.le_of_ble_eq_true rfl) dX1_cell_12 (fun b2 hb2 kb2 => ?_)
    refine r_dup E dX1_cell_14 rfl ?_
    refine r_iconst E (nI 0) dX1_cell_15 (by decide) ?_
    refine r_iload_n E dX1_cell_16 rfl ?_
    refine r_iconst E (nI 0) dX1_cell_17 (by decide) ?_
    refine r_iconst E (nI 5) dX1_cell_18 (by decide) ?_
    refine r_callS1 (v1 := .int (bI (sBetween u (nI 0) (nI 5)))) E (ct_X1_inRange G hl (fmUp (fmUp h b1 (true, .inl (0, 1, .inl (upd (fun _ => 0) 0 (nI c))))) b2 (true, .inl (5, 1, .inl (fun _ => 0)))) u (nI 0) (nI 5)) mX1_inRange q78 q628 q629 rfl rfl (Nat.le_of_ble_eq_true rfl) (Nat.le_of_ble_eq_true rfl) (Nat.le_of_ble_eq_true rfl) dX1_cell_19 1 14 (Nat.le_of_ble_eq_true rfl) (Nat.le_of_ble_eq_true rfl) ?_
    refine r_zast E fmUp_s (by decide) (by decide) dX1_cell_22 ?_
    refine r_hp (h' := fmUp (fmUp h b1 (true, .inl (0, 1, .inl (upd (fun _ => 0) 0 (nI c))))) b2 (true, .inl (5, 1, .inl (upd (fun _ => 0) 0 (bI (sBetween u (nI 0) (nI 5))))))) (fmUp_uu _ _ _ _) ?_
    cases hu : sBetween u (nI 0) (nI 5) with
    | false =>
      refine r_callS E (ctF1_X1_require G hl _ b2 _ fmUp_s rfl) mX1_require q78 q1102 q664 rfl rfl (Nat.le_of_ble_eq_true rfl) (Nat.le_of_ble_eq_true rfl) (Nat.le_of_ble_eq_true rfl) dX1_cell_23 0 0 (Nat.le_of_ble_eq_true rfl) (Nat.le_of_ble_eq_true rfl) (fun _ _ q => q.elim) (fun q Ex h' hx => ?_)
      exact r_xout E P (fun x hx => by cases hx) (qX_thr (k := 2) (hkp.trans (Kp.up hb2)) (by unfold aCell; rw [hv, hu]; rfl) (by decide) rfl hx)
    | true =>
      refine r_callS0 E (ctT1_X1_require G hl (_) b2 _ fmUp_s rfl) mX1_require q78 q1102 q664 rfl rfl (Nat.le_of_ble_eq_true rfl) (Nat.le_of_ble_eq_true rfl) (Nat.le_of_ble_eq_true rfl) dX1_cell_23 1 14 (Nat.le_of_ble_eq_true rfl) (Nat.le_of_ble_eq_true rfl) ?_
      have hkq : Kp h (fmUp (fmUp h b1 (true, .inl (0, 1, .inl (upd (fun _ => 0) 0 (nI c))))) b2 (true, .inl (5, 1, .inl (upd (fun _ => 0) 0 (bI (true)))))) := hkp.trans (Kp.up hb2)
      obtain ⟨q, hq, rfl⟩ := sBtw_of (by decide) hu
      have hqn : cN (nI q) = q := cN_n (by omega)
      have hM2 := hM.kp hkq
      have hC2 := hC.kp hkq
      obtain ⟨hd2, ⟨gq2, hg2, hgq2⟩, hgd2, hS2, hSh2, hP2, hPk2, hK82, hP62, hsp2, hse2⟩ := id hM2
      obtain ⟨mcS2, hsl2⟩ := hS2.o
      obtain ⟨mcP2, hpl2⟩ := hP2.o
      obtain ⟨feS2, capS2, geS2, hseA2⟩ := hS2.el
      obtain ⟨feP2, capP2, geP2, hpeA2⟩ := hP2.el
      rcases hgd2 c hc with ⟨gd3a, gd3b, gd3c, gd3o⟩ | ⟨gd3p, gd3a, gd3c, gd3o⟩ | ⟨gd3a, gd3c, gd3o⟩
      · refine r_aload_n E dX1_cell_26 rfl ?_
        refine r_getf E cl_X1 2 (by decide) q272 (hkq _ _ hx) rfl dX1_cell_27 ?_
        refine r_getfN E cl_X2 0 (by decide) q186 hd2 rfl dX1_cell_30 ?_
        refine r_iload_n E dX1_cell_33 rfl ?_
        refine r_aald E hg2 rfl rfl (by omega) (by decide) dX1_cell_34 ?_
        refine r_top (v' := .ref (gf c)) (congrArg va_rf (hgq2 _ (by omega))) ?_
        refine r_astore E [some (.ref x), some (.int (nI c)), some (.int (nI q)), some (.int (nI c)), some (.ref (gf c)), none] dX1_cell_35 rfl rfl ?_
        refine r_iload_n E dX1_cell_37 rfl ?_
        rcases (by omega : q = 0 ∨ q = 1 ∨ q = 2 ∨ q = 3 ∨ q = 4 ∨ q = 5) with rfl | rfl | rfl | rfl | rfl | rfl
        · refine r_tableIn (tgt := 72) E dX1_cell_38 (by decide) (by decide) rfl (by decide) ?_
          refine r_aload E dX1_cell_72 rfl ?_
          refine r_callS1 (v1 := .int (N c)) E (ct_X1_kind G hl (fmUp (fmUp h b1 (true, .inl (0, 1, .inl (upd (fun _ => 0) 0 (nI c))))) b2 (true, .inl (5, 1, .inl (upd (fun _ => 0) 0 (bI (true)))))) N c (gf c) (hgd2 c hc)) mX1_kind q78 q352 q353 rfl rfl (Nat.le_of_ble_eq_true rfl) (Nat.le_of_ble_eq_true rfl) (Nat.le_of_ble_eq_true rfl) dX1_cell_74 1 14 (Nat.le_of_ble_eq_true rfl) (Nat.le_of_ble_eq_true rfl) ?_
          exact r_ireturn E P rfl dX1_cell_77 (qP_don (by unfold aCell; rw [hv, hu, hcn, hqn]; exact congrArg (fun z => aDon z N) (rfl)) hkq)
        · refine r_tableIn (tgt := 78) E dX1_cell_38 (by decide) (by decide) rfl (by decide) ?_
          refine r_aload E dX1_cell_78 rfl ?_
          refine r_instS E cl_X3 q355 gd3o dX1_cell_80 ?_
          refine r_top (v' := .int (bI true)) rfl ?_
          refine r_ifB_eq (b := true) (tgt := 101) E dX1_cell_83 (by decide) (fun c => absurd c (by decide)) (fun _ => ?_)
          refine r_aload E dX1_cell_86 rfl ?_
          refine r_castS E cl_X3 q355 gd3o dX1_cell_88 ?_
          refine r_astore E [some (.ref x), some (.int (nI c)), some (.int (nI 1)), some (.int (nI c)), some (.ref (gf c)), some (.ref (gf c))] dX1_cell_91 rfl rfl ?_
          refine r_aload E dX1_cell_93 rfl ?_
          refine r_getfN E cl_X3 0 (by decide) q177 gd3o rfl dX1_cell_95 ?_
          refine r_goto (tgt := 102) E dX1_cell_98 (by decide) ?_
          exact r_ireturn E P rfl dX1_cell_102 (qP_don (by unfold aCell; rw [hv, hu, hcn, hqn]; exact congrArg (fun z => aDon z N) (if_pos (sc0 gd3a))) hkq)
        · refine r_tableIn (tgt := 103) E dX1_cell_38 (by decide) (by decide) rfl (by decide) ?_
          refine r_aload_n E dX1_cell_103 rfl ?_
          refine r_getf E cl_X1 2 (by decide) q272 (hkq _ _ hx) rfl dX1_cell_104 ?_
          refine r_iload_n E dX1_cell_107 rfl ?_
          refine r_callV1 (v1 := .int (sNodO N (some c))) E (ct_X2_nodules G hl (fmUp (fmUp h b1 (true, .inl (0, 1, .inl (upd (fun _ => 0) 0 (nI c))))) b2 (true, .inl (5, 1, .inl (upd (fun _ => 0) 0 (bI (true)))))) hC2 hM2 (some c) (by intro x hx; first | exact sBsd_lt (by omega) hx | exact ho x hx | (cases hx; omega) | cases hx)) mX2_nodules q1103 q1104 q1105 (fun H a1 => fm_rc (ci := 2) (C := RX2) (T := TX2) (N := 7) a1 rfl E.v hd2) rfl rfl (Nat.le_of_ble_eq_true rfl) (Nat.le_of_ble_eq_true rfl) (Nat.le_of_ble_eq_true rfl) dX1_cell_108 1 14 (Nat.le_of_ble_eq_true rfl) (Nat.le_of_ble_eq_true rfl) ?_
          exact r_ireturn E P rfl dX1_cell_111 (qP_don (by unfold aCell; rw [hv, hu, hcn, hqn]; exact congrArg (fun z => aDon z N) (rfl)) hkq)
        · refine r_tableIn (tgt := 112) E dX1_cell_38 (by decide) (by decide) rfl (by decide) ?_
          refine r_aload_n E dX1_cell_112 rfl ?_
          refine r_getf E cl_X1 2 (by decide) q272 (hkq _ _ hx) rfl dX1_cell_113 ?_
          refine r_iload_n E dX1_cell_116 rfl ?_
          refine r_callV1 (v1 := .int (sStrO N c)) E (ct_X2_strokes G hl (fmUp (fmUp h b1 (true, .inl (0, 1, .inl (upd (fun _ => 0) 0 (nI c))))) b2 (true, .inl (5, 1, .inl (upd (fun _ => 0) 0 (bI (true)))))) hC2 hM2 c (by omega)) mX2_strokes q1107 q1108 q1109 (fun H a1 => fm_rc (ci := 2) (C := RX2) (T := TX2) (N := 7) a1 rfl E.v hd2) rfl rfl (Nat.le_of_ble_eq_true rfl) (Nat.le_of_ble_eq_true rfl) (Nat.le_of_ble_eq_true rfl) dX1_cell_117 1 14 (Nat.le_of_ble_eq_true rfl) (Nat.le_of_ble_eq_true rfl) ?_
          exact r_ireturn E P rfl dX1_cell_120 (qP_don (by unfold aCell; rw [hv, hu, hcn, hqn]; exact congrArg (fun z => aDon z N) (rfl)) hkq)
        · refine r_tableIn (tgt := 121) E dX1_cell_38 (by decide) (by decide) rfl (by decide) ?_
          refine r_aload E dX1_cell_121 rfl ?_
          refine r_callF1 (v1 := .int (-1)) E (ct_X3_shaft G hl (fmUp (fmUp h b1 (true, .inl (0, 1, .inl (upd (fun _ => 0) 0 (nI c))))) b2 (true, .inl (5, 1, .inl (upd (fun _ => 0) 0 (bI (true)))))) (gf c)) mX3_shaft (ci := 3) rfl gd3o 10 rfl q1112 q1117 q1115 fx_10 rfl rfl (Nat.le_of_ble_eq_true rfl) (Nat.le_of_ble_eq_true rfl) (Nat.le_of_ble_eq_true rfl) dX1_cell_123 1 14 (Nat.le_of_ble_eq_true rfl) (Nat.le_of_ble_eq_true rfl) ?_
          exact r_ireturn E P rfl dX1_cell_128 (qP_don (by unfold aCell; rw [hv, hu, hcn, hqn]; exact congrArg (fun z => aDon z N) (gd3b)) hkq)
        · refine r_tableOut (tgt := 129) E dX1_cell_38 (by decide) (by decide) ?_
          refine r_aload E dX1_cell_129 rfl ?_
          refine r_instNo E cl_X3 q356 (by decide +kernel) gd3o dX1_cell_131 ?_
          refine r_top (v' := .int (bI false)) rfl ?_
          refine r_ifB_eq (b := false) (tgt := 156) E dX1_cell_134 (by decide) (fun _ => ?_) (fun c => absurd c (by decide))
          refine r_iconst E (nI 0) dX1_cell_156 (by decide) ?_
          exact r_ireturn E P rfl dX1_cell_157 (qP_don (by unfold aCell; rw [hv, hu, hcn, hqn]; exact congrArg (fun z => aDon z N) (gd3c)) hkq)
      · refine r_aload_n E dX1_cell_26 rfl ?_
        refine r_getf E cl_X1 2 (by decide) q272 (hkq _ _ hx) rfl dX1_cell_27 ?_
        refine r_getfN E cl_X2 0 (by decide) q186 hd2 rfl dX1_cell_30 ?_
        refine r_iload_n E dX1_cell_33 rfl ?_
        refine r_aald E hg2 rfl rfl (by omega) (by decide) dX1_cell_34 ?_
        refine r_top (v' := .ref (gf c)) (congrArg va_rf (hgq2 _ (by omega))) ?_
        refine r_astore E [some (.ref x), some (.int (nI c)), some (.int (nI q)), some (.int (nI c)), some (.ref (gf c)), none] dX1_cell_35 rfl rfl ?_
        refine r_iload_n E dX1_cell_37 rfl ?_
        rcases (by omega : q = 0 ∨ q = 1 ∨ q = 2 ∨ q = 3 ∨ q = 4 ∨ q = 5) with rfl | rfl | rfl | rfl | rfl | rfl
        · refine r_tableIn (tgt := 72) E dX1_cell_38 (by decide) (by decide) rfl (by decide) ?_
          refine r_aload E dX1_cell_72 rfl ?_
          refine r_callS1 (v1 := .int (N c)) E (ct_X1_kind G hl (fmUp (fmUp h b1 (true, .inl (0, 1, .inl (upd (fun _ => 0) 0 (nI c))))) b2 (true, .inl (5, 1, .inl (upd (fun _ => 0) 0 (bI (true)))))) N c (gf c) (hgd2 c hc)) mX1_kind q78 q352 q353 rfl rfl (Nat.le_of_ble_eq_true rfl) (Nat.le_of_ble_eq_true rfl) (Nat.le_of_ble_eq_true rfl) dX1_cell_74 1 14 (Nat.le_of_ble_eq_true rfl) (Nat.le_of_ble_eq_true rfl) ?_
          exact r_ireturn E P rfl dX1_cell_77 (qP_don (by unfold aCell; rw [hv, hu, hcn, hqn]; exact congrArg (fun z => aDon z N) (rfl)) hkq)
        · refine r_tableIn (tgt := 78) E dX1_cell_38 (by decide) (by decide) rfl (by decide) ?_
          refine r_aload E dX1_cell_78 rfl ?_
          refine r_instNo E cl_X6 q355 (by decide +kernel) gd3o dX1_cell_80 ?_
          refine r_top (v' := .int (bI false)) rfl ?_
          refine r_ifB_eq (b := false) (tgt := 101) E dX1_cell_83 (by decide) (fun _ => ?_) (fun c => absurd c (by decide))
          refine r_iconst E (nI 0) dX1_cell_101 (by decide) ?_
          exact r_ireturn E P rfl dX1_cell_102 (qP_don (by unfold aCell; rw [hv, hu, hcn, hqn]; exact congrArg (fun z => aDon z N) (if_neg (by rw [sc1 gd3a]; decide))) hkq)
        · refine r_tableIn (tgt := 103) E dX1_cell_38 (by decide) (by decide) rfl (by decide) ?_
          refine r_aload_n E dX1_cell_103 rfl ?_
          refine r_getf E cl_X1 2 (by decide) q272 (hkq _ _ hx) rfl dX1_cell_104 ?_
          refine r_iload_n E dX1_cell_107 rfl ?_
          refine r_callV1 (v1 := .int (sNodO N (some c))) E (ct_X2_nodules G hl (fmUp (fmUp h b1 (true, .inl (0, 1, .inl (upd (fun _ => 0) 0 (nI c))))) b2 (true, .inl (5, 1, .inl (upd (fun _ => 0) 0 (bI (true)))))) hC2 hM2 (some c) (by intro x hx; first | exact sBsd_lt (by omega) hx | exact ho x hx | (cases hx; omega) | cases hx)) mX2_nodules q1103 q1104 q1105 (fun H a1 => fm_rc (ci := 2) (C := RX2) (T := TX2) (N := 7) a1 rfl E.v hd2) rfl rfl (Nat.le_of_ble_eq_true rfl) (Nat.le_of_ble_eq_true rfl) (Nat.le_of_ble_eq_true rfl) dX1_cell_108 1 14 (Nat.le_of_ble_eq_true rfl) (Nat.le_of_ble_eq_true rfl) ?_
          exact r_ireturn E P rfl dX1_cell_111 (qP_don (by unfold aCell; rw [hv, hu, hcn, hqn]; exact congrArg (fun z => aDon z N) (rfl)) hkq)
        · refine r_tableIn (tgt := 112) E dX1_cell_38 (by decide) (by decide) rfl (by decide) ?_
          refine r_aload_n E dX1_cell_112 rfl ?_
          refine r_getf E cl_X1 2 (by decide) q272 (hkq _ _ hx) rfl dX1_cell_113 ?_
          refine r_iload_n E dX1_cell_116 rfl ?_
          refine r_callV1 (v1 := .int (sStrO N c)) E (ct_X2_strokes G hl (fmUp (fmUp h b1 (true, .inl (0, 1, .inl (upd (fun _ => 0) 0 (nI c))))) b2 (true, .inl (5, 1, .inl (upd (fun _ => 0) 0 (bI (true)))))) hC2 hM2 c (by omega)) mX2_strokes q1107 q1108 q1109 (fun H a1 => fm_rc (ci := 2) (C := RX2) (T := TX2) (N := 7) a1 rfl E.v hd2) rfl rfl (Nat.le_of_ble_eq_true rfl) (Nat.le_of_ble_eq_true rfl) (Nat.le_of_ble_eq_true rfl) dX1_cell_117 1 14 (Nat.le_of_ble_eq_true rfl) (Nat.le_of_ble_eq_true rfl) ?_
          exact r_ireturn E P rfl dX1_cell_120 (qP_don (by unfold aCell; rw [hv, hu, hcn, hqn]; exact congrArg (fun z => aDon z N) (rfl)) hkq)
        · refine r_tableIn (tgt := 121) E dX1_cell_38 (by decide) (by decide) rfl (by decide) ?_
          refine r_aload E dX1_cell_121 rfl ?_
          refine r_callF1 (v1 := .int (N (192 + c))) E (ct_X6_shaft G hl (fmUp (fmUp h b1 (true, .inl (0, 1, .inl (upd (fun _ => 0) 0 (nI c))))) b2 (true, .inl (5, 1, .inl (upd (fun _ => 0) 0 (bI (true)))))) (gf c) true (N (192 + c)) gd3p gd3o) mX6_shaft (ci := 4) rfl gd3o 9 rfl q1112 q1127 q1125 fx_9 rfl rfl (Nat.le_of_ble_eq_true rfl) (Nat.le_of_ble_eq_true rfl) (Nat.le_of_ble_eq_true rfl) dX1_cell_123 1 14 (Nat.le_of_ble_eq_true rfl) (Nat.le_of_ble_eq_true rfl) ?_
          exact r_ireturn E P rfl dX1_cell_128 (qP_don (by unfold aCell; rw [hv, hu, hcn, hqn]; exact congrArg (fun z => aDon z N) (rfl)) hkq)
        · refine r_tableOut (tgt := 129) E dX1_cell_38 (by decide) (by decide) ?_
          refine r_aload E dX1_cell_129 rfl ?_
          refine r_instS E cl_X6 q356 gd3o dX1_cell_131 ?_
          refine r_top (v' := .int (bI true)) rfl ?_
          refine r_ifB_eq (b := true) (tgt := 156) E dX1_cell_134 (by decide) (fun c => absurd c (by decide)) (fun _ => ?_)
          refine r_aload E dX1_cell_137 rfl ?_
          refine r_castS E cl_X6 q356 gd3o dX1_cell_139 ?_
          refine r_astore E [some (.ref x), some (.int (nI c)), some (.int (nI 5)), some (.int (nI c)), some (.ref (gf c)), some (.ref (gf c))] dX1_cell_142 rfl rfl ?_
          refine r_aload E dX1_cell_144 rfl ?_
          refine r_getfN E cl_X6 1 (by decide) q814 gd3o rfl dX1_cell_146 ?_
          refine r_ifB_eq (b := gd3p) (tgt := 156) E dX1_cell_149 (by decide) (fun hpp => ?_) (fun hpp => ?_)
          · refine r_iconst E (nI 0) dX1_cell_156 (by decide) ?_
            exact r_ireturn E P rfl dX1_cell_157 (qP_don (by unfold aCell; rw [hv, hu, hcn, hqn]; exact congrArg (fun z => aDon z N) (by show N (256 + c) = _; rw [gd3c, hpp]; rfl)) hkq)
          · refine r_iconst E (nI 1) dX1_cell_152 (by decide) ?_
            refine r_goto (tgt := 157) E dX1_cell_153 (by decide) ?_
            exact r_ireturn E P rfl dX1_cell_157 (qP_don (by unfold aCell; rw [hv, hu, hcn, hqn]; exact congrArg (fun z => aDon z N) (by show N (256 + c) = _; rw [gd3c, hpp]; rfl)) hkq)
      · refine r_aload_n E dX1_cell_26 rfl ?_
        refine r_getf E cl_X1 2 (by decide) q272 (hkq _ _ hx) rfl dX1_cell_27 ?_
        refine r_getfN E cl_X2 0 (by decide) q186 hd2 rfl dX1_cell_30 ?_
        refine r_iload_n E dX1_cell_33 rfl ?_
        refine r_aald E hg2 rfl rfl (by omega) (by decide) dX1_cell_34 ?_
        refine r_top (v' := .ref (gf c)) (congrArg va_rf (hgq2 _ (by omega))) ?_
        refine r_astore E [some (.ref x), some (.int (nI c)), some (.int (nI q)), some (.int (nI c)), some (.ref (gf c)), none] dX1_cell_35 rfl rfl ?_
        refine r_iload_n E dX1_cell_37 rfl ?_
        rcases (by omega : q = 0 ∨ q = 1 ∨ q = 2 ∨ q = 3 ∨ q = 4 ∨ q = 5) with rfl | rfl | rfl | rfl | rfl | rfl
        · refine r_tableIn (tgt := 72) E dX1_cell_38 (by decide) (by decide) rfl (by decide) ?_
          refine r_aload E dX1_cell_72 rfl ?_
          refine r_callS1 (v1 := .int (N c)) E (ct_X1_kind G hl (fmUp (fmUp h b1 (true, .inl (0, 1, .inl (upd (fun _ => 0) 0 (nI c))))) b2 (true, .inl (5, 1, .inl (upd (fun _ => 0) 0 (bI (true)))))) N c (gf c) (hgd2 c hc)) mX1_kind q78 q352 q353 rfl rfl (Nat.le_of_ble_eq_true rfl) (Nat.le_of_ble_eq_true rfl) (Nat.le_of_ble_eq_true rfl) dX1_cell_74 1 14 (Nat.le_of_ble_eq_true rfl) (Nat.le_of_ble_eq_true rfl) ?_
          exact r_ireturn E P rfl dX1_cell_77 (qP_don (by unfold aCell; rw [hv, hu, hcn, hqn]; exact congrArg (fun z => aDon z N) (rfl)) hkq)
        · refine r_tableIn (tgt := 78) E dX1_cell_38 (by decide) (by decide) rfl (by decide) ?_
          refine r_aload E dX1_cell_78 rfl ?_
          refine r_instNo E cl_X8 q355 (by decide +kernel) gd3o dX1_cell_80 ?_
          refine r_top (v' := .int (bI false)) rfl ?_
          refine r_ifB_eq (b := false) (tgt := 101) E dX1_cell_83 (by decide) (fun _ => ?_) (fun c => absurd c (by decide))
          refine r_iconst E (nI 0) dX1_cell_101 (by decide) ?_
          exact r_ireturn E P rfl dX1_cell_102 (qP_don (by unfold aCell; rw [hv, hu, hcn, hqn]; exact congrArg (fun z => aDon z N) (if_neg (by rw [sc2 gd3a]; decide))) hkq)
        · refine r_tableIn (tgt := 103) E dX1_cell_38 (by decide) (by decide) rfl (by decide) ?_
          refine r_aload_n E dX1_cell_103 rfl ?_
          refine r_getf E cl_X1 2 (by decide) q272 (hkq _ _ hx) rfl dX1_cell_104 ?_
          refine r_iload_n E dX1_cell_107 rfl ?_
          refine r_callV1 (v1 := .int (sNodO N (some c))) E (ct_X2_nodules G hl (fmUp (fmUp h b1 (true, .inl (0, 1, .inl (upd (fun _ => 0) 0 (nI c))))) b2 (true, .inl (5, 1, .inl (upd (fun _ => 0) 0 (bI (true)))))) hC2 hM2 (some c) (by intro x hx; first | exact sBsd_lt (by omega) hx | exact ho x hx | (cases hx; omega) | cases hx)) mX2_nodules q1103 q1104 q1105 (fun H a1 => fm_rc (ci := 2) (C := RX2) (T := TX2) (N := 7) a1 rfl E.v hd2) rfl rfl (Nat.le_of_ble_eq_true rfl) (Nat.le_of_ble_eq_true rfl) (Nat.le_of_ble_eq_true rfl) dX1_cell_108 1 14 (Nat.le_of_ble_eq_true rfl) (Nat.le_of_ble_eq_true rfl) ?_
          exact r_ireturn E P rfl dX1_cell_111 (qP_don (by unfold aCell; rw [hv, hu, hcn, hqn]; exact congrArg (fun z => aDon z N) (rfl)) hkq)
        · refine r_tableIn (tgt := 112) E dX1_cell_38 (by decide) (by decide) rfl (by decide) ?_
          refine r_aload_n E dX1_cell_112 rfl ?_
          refine r_getf E cl_X1 2 (by decide) q272 (hkq _ _ hx) rfl dX1_cell_113 ?_
          refine r_iload_n E dX1_cell_116 rfl ?_
          refine r_callV1 (v1 := .int (sStrO N c)) E (ct_X2_strokes G hl (fmUp (fmUp h b1 (true, .inl (0, 1, .inl (upd (fun _ => 0) 0 (nI c))))) b2 (true, .inl (5, 1, .inl (upd (fun _ => 0) 0 (bI (true)))))) hC2 hM2 c (by omega)) mX2_strokes q1107 q1108 q1109 (fun H a1 => fm_rc (ci := 2) (C := RX2) (T := TX2) (N := 7) a1 rfl E.v hd2) rfl rfl (Nat.le_of_ble_eq_true rfl) (Nat.le_of_ble_eq_true rfl) (Nat.le_of_ble_eq_true rfl) dX1_cell_117 1 14 (Nat.le_of_ble_eq_true rfl) (Nat.le_of_ble_eq_true rfl) ?_
          exact r_ireturn E P rfl dX1_cell_120 (qP_don (by unfold aCell; rw [hv, hu, hcn, hqn]; exact congrArg (fun z => aDon z N) (rfl)) hkq)
        · refine r_tableIn (tgt := 121) E dX1_cell_38 (by decide) (by decide) rfl (by decide) ?_
          refine r_aload E dX1_cell_121 rfl ?_
          refine r_callF1 (v1 := .int (N (192 + c))) E (ct_X8_shaft G hl (fmUp (fmUp h b1 (true, .inl (0, 1, .inl (upd (fun _ => 0) 0 (nI c))))) b2 (true, .inl (5, 1, .inl (upd (fun _ => 0) 0 (bI (true)))))) (gf c) true (N (192 + c)) gd3o) mX8_shaft (ci := 5) rfl gd3o 11 rfl q1112 q1122 q1120 fx_11 rfl rfl (Nat.le_of_ble_eq_true rfl) (Nat.le_of_ble_eq_true rfl) (Nat.le_of_ble_eq_true rfl) dX1_cell_123 1 14 (Nat.le_of_ble_eq_true rfl) (Nat.le_of_ble_eq_true rfl) ?_
          exact r_ireturn E P rfl dX1_cell_128 (qP_don (by unfold aCell; rw [hv, hu, hcn, hqn]; exact congrArg (fun z => aDon z N) (rfl)) hkq)
        · refine r_tableOut (tgt := 129) E dX1_cell_38 (by decide) (by decide) ?_
          refine r_aload E dX1_cell_129 rfl ?_
          refine r_instNo E cl_X8 q356 (by decide +kernel) gd3o dX1_cell_131 ?_
          refine r_top (v' := .int (bI false)) rfl ?_
          refine r_ifB_eq (b := false) (tgt := 156) E dX1_cell_134 (by decide) (fun _ => ?_) (fun c => absurd c (by decide))
          refine r_iconst E (nI 0) dX1_cell_156 (by decide) ?_
          exact r_ireturn E P rfl dX1_cell_157 (qP_don (by unfold aCell; rw [hv, hu, hcn, hqn]; exact congrArg (fun z => aDon z N) (gd3c)) hkq)

