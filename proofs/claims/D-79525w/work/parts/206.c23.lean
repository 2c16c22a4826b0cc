set_option maxHeartbeats 4000000 in
theorem ct_X1_number (G : fmG) (hl : (fmLn G).stackTraces = false) (h : fmHp) {x far qu pa sb : Nat} {fl re de : Int32} {sv : Value} {d g sl se pl pe : Nat} {gf sf pf : Nat → Nat} {N : Nat → Int32} {K pk : Nat} (hC : CC G h) (hx : DkO h x far qu d pa sb fl re de sv) (hM : MineAt G h d g sl se pl pe gf sf pf N K pk) (v : Int32) (hR : RV N K pk) (e dh kp : Nat) (f : Nat → Nat) (hA : AD h pa e dh kp f) (sbv len : Nat) (T : Nat → Int32) (hSB : SBt h sb sbv len T) : Ct G yX1_number (ws_ yX1_number cX1_number 2 (some .int)) { frames := 7, cells := 2, slots := 7, locals := 124 } [.ref x, .int v] h (qPost h (aNumber N v K pk kp len)) (qXp h (exQ "java/lang/IllegalArgumentException" "java/lang/IllegalArgumentException") (aNumber N v K pk kp len)) := by
  refine Ct.of hl (by decide +kernel) (Nat.le_of_ble_eq_true rfl) (fun Γ E P => ?_)
  obtain ⟨hd, ⟨gq, hg, hgq⟩, hgd, hS, hSh, hP, hPk, hK8, hP6, hsp, hse⟩ := id hM
  obtain ⟨mcS, hsl⟩ := hS.o
  obtain ⟨mcP, hpl⟩ := hP.o
  refine r_iconst E (nI 1) dX1_number_0 (by decide) ?_
  refine r_newa E 5 (.inl (fun _ => 0)) rfl (z_ab 1) q681 (fun e => e) (Nat.le_of_ble_eq_true rfl) (Nat.le_of_ble_eq_true rfl) 1 6 (Nat.le_of_ble_eq_true rfl) (Nat.le_of_ble_eq_true rfl) dX1_number_1 (fun b1 hb1 kb1 => ?_)
  refine r_dup E dX1_number_3 rfl ?_
  refine r_iconst E (nI 0) dX1_number_4 (by decide) ?_
  refine r_iload_n E dX1_number_5 rfl ?_
  refine r_iconst E (nI 0) dX1_number_6 (by decide) ?_
  refine r_bipush E (nI 14) dX1_number_7 (by decide) ?_
  refine r_callS1 (v1 := .int (bI (sBetween v (nI 0) (nI 14)))) E (ct_X1_inRange G hl (fmUp h b1 (true, .inl (5, 1, .inl (fun _ => 0)))) v (nI 0) (nI 14)) mX1_inRange q78 q628 q629 rfl rfl (Nat.le_of_ble_eq_true rfl) (Nat.le_of_ble_eq_true rfl) (Nat.le_of_ble_eq_true rfl) dX1_number_9 1 6 (Nat.le_of_ble_eq_true rfl) (Nat.le_of_ble_eq_true rfl) ?_
  refine r_zast E fmUp_s (by decide) (by decide) dX1_number_12 ?_
  refine r_hp (h' := fmUp h b1 (true, .inl (5, 1, .inl (upd (fun _ => 0) 0 (bI (sBetween v (nI 0) (nI 14))))))) (fmUp_uu _ _ _ _) ?_
  cases hu : sBetween v (nI 0) (nI 14) with
  | false =>
    refine r_callS E (ctF1_X1_require G hl _ b1 _ fmUp_s rfl) mX1_require q78 q1102 q664 rfl rfl (Nat.le_of_ble_eq_true rfl) (Nat.le_of_ble_eq_true rfl) (Nat.le_of_ble_eq_true rfl) dX1_number_13 0 0 (Nat.le_of_ble_eq_true rfl) (Nat.le_of_ble_eq_true rfl) (fun _ _ q => q.elim) (fun q Ex h' hx => ?_)
    exact r_xout E P (fun x hx => by cases hx) (qX_thr (k := 1) (Kp.up hb1) (by unfold aNumber; rw [hu]; rfl) (by decide) rfl hx)
  | true =>
    refine r_callS0 E (ctT1_X1_require G hl (_) b1 _ fmUp_s rfl) mX1_require q78 q1102 q664 rfl rfl (Nat.le_of_ble_eq_true rfl) (Nat.le_of_ble_eq_true rfl) (Nat.le_of_ble_eq_true rfl) dX1_number_13 1 6 (Nat.le_of_ble_eq_true rfl) (Nat.le_of_ble_eq_true rfl) ?_
    have hkq : Kp h (fmUp h b1 (true, .inl (5, 1, .inl (upd (fun _ => 0) 0 (bI (true)))))) := Kp.up hb1
    obtain ⟨q, hq, rfl⟩ := sBtw_of (by decide) hu
    have hqn : cN (nI q) = q := cN_n (by omega)
    have hM2 := hM.kp hkq
    have hC2 := hC.kp hkq
    obtain ⟨hd2, ⟨gq2, hg2, hgq2⟩, hgd2, hS2, hSh2, hP2, hPk2, hK82, hP62, hsp2, hse2⟩ := id hM2
    obtain ⟨mcS2, hsl2⟩ := hS2.o
    obtain ⟨mcP2, hpl2⟩ := hP2.o
    obtain ⟨feS2, capS2, geS2, hseA2⟩ := hS2.el
    obtain ⟨feP2, capP2, geP2, hpeA2⟩ := hP2.el
    refine r_iload_n E dX1_number_16 rfl ?_
    obtain ⟨dg9, hpa9, -⟩ := id hA
    rcases (by omega : q = 0 ∨ q = 1 ∨ q = 2 ∨ q = 3 ∨ q = 4 ∨ q = 5 ∨ q = 6 ∨ q = 7 ∨ q = 8 ∨ q = 9 ∨ q = 10 ∨ q = 11 ∨ q = 12 ∨ q = 13 ∨ q = 14) with rfl | rfl | rfl | rfl | rfl | rfl | rfl | rfl | rfl | rfl | rfl | rfl | rfl | rfl | rfl
    · refine r_tableIn (tgt := 88) E dX1_number_17 (by decide) (by decide) rfl (by decide) ?_
      refine r_aload_n E dX1_number_88 rfl ?_
      refine r_getf E cl_X1 2 (by decide) q272 (hkq _ _ hx) rfl dX1_number_89 ?_
      refine r_getfN E cl_X2 1 (by decide) q188 hd2 rfl dX1_number_92 ?_
      refine r_callF1 (v1 := .int (nI K)) E (ctA_J2_size G hl (fmUp h b1 (true, .inl (5, 1, .inl (upd (fun _ => 0) 0 (bI (true)))))) sl se K sf hS2 (by omega)) mJ2_size (ci := 12) rfl hsl2 3 rfl q576 q581 q579 fx_3 rfl rfl (Nat.le_of_ble_eq_true rfl) (Nat.le_of_ble_eq_true rfl) (Nat.le_of_ble_eq_true rfl) dX1_number_95 1 6 (Nat.le_of_ble_eq_true rfl) (Nat.le_of_ble_eq_true rfl) ?_
      exact r_ireturn E P rfl dX1_number_100 (qP_don (by unfold aNumber; rw [hu, hqn]; exact congrArg (fun z => aDon z N) (rfl)) hkq)
    · refine r_tableIn (tgt := 101) E dX1_number_17 (by decide) (by decide) rfl (by decide) ?_
      refine r_aload_n E dX1_number_101 rfl ?_
      refine r_getf E cl_X1 2 (by decide) q272 (hkq _ _ hx) rfl dX1_number_102 ?_
      refine r_callV E (ct_X2_shaftsClosed G hl _ hC2 hM2) mX2_shaftsClosed q1332 q1333 q1334 (fun H a1 => fm_rc (ci := 2) (C := RX2) (T := TX2) (N := 7) a1 rfl E.v hd2) rfl rfl (Nat.le_of_ble_eq_true rfl) (Nat.le_of_ble_eq_true rfl) (Nat.le_of_ble_eq_true rfl) dX1_number_105 0 0 (Nat.le_of_ble_eq_true rfl) (Nat.le_of_ble_eq_true rfl) (fun v' h1 q => ?_) (fun _ _ _ q => q.elim)
      obtain ⟨rfl, hkr⟩ := q
      exact r_ireturn E P rfl dX1_number_108 (qP_don (by unfold aNumber; rw [hu, hqn]; exact congrArg (fun z => aDon z N) (rfl)) (hkq.trans hkr))
    · refine r_tableIn (tgt := 109) E dX1_number_17 (by decide) (by decide) rfl (by decide) ?_
      refine r_aload_n E dX1_number_109 rfl ?_
      refine r_iconst E (nI 1) dX1_number_110 (by decide) ?_
      refine r_callV1 (v1 := .int (nI (sSt N (nI 1)))) E (ct_X1_cells G hl (fmUp h b1 (true, .inl (5, 1, .inl (upd (fun _ => 0) 0 (bI (true)))))) hC2 (hkq _ _ hx) hM2 (nI 1)) mX1_cells q348 q350 qs1 (fun H a1 => fm_rc (ci := 1) (C := RX1) (T := TX1) (N := 9) a1 rfl E.v (hkq _ _ hx)) rfl rfl (Nat.le_of_ble_eq_true rfl) (Nat.le_of_ble_eq_true rfl) (Nat.le_of_ble_eq_true rfl) dX1_number_111 1 6 (Nat.le_of_ble_eq_true rfl) (Nat.le_of_ble_eq_true rfl) ?_
      exact r_ireturn E P rfl dX1_number_114 (qP_don (by unfold aNumber; rw [hu, hqn]; exact congrArg (fun z => aDon z N) (rfl)) hkq)
    · refine r_tableIn (tgt := 115) E dX1_number_17 (by decide) (by decide) rfl (by decide) ?_
      refine r_aload_n E dX1_number_115 rfl ?_
      refine r_iconst E (nI 2) dX1_number_116 (by decide) ?_
      refine r_callV1 (v1 := .int (nI (sSt N (nI 2)))) E (ct_X1_cells G hl (fmUp h b1 (true, .inl (5, 1, .inl (upd (fun _ => 0) 0 (bI (true)))))) hC2 (hkq _ _ hx) hM2 (nI 2)) mX1_cells q348 q350 qs1 (fun H a1 => fm_rc (ci := 1) (C := RX1) (T := TX1) (N := 9) a1 rfl E.v (hkq _ _ hx)) rfl rfl (Nat.le_of_ble_eq_true rfl) (Nat.le_of_ble_eq_true rfl) (Nat.le_of_ble_eq_true rfl) dX1_number_117 1 6 (Nat.le_of_ble_eq_true rfl) (Nat.le_of_ble_eq_true rfl) ?_
      exact r_ireturn E P rfl dX1_number_120 (qP_don (by unfold aNumber; rw [hu, hqn]; exact congrArg (fun z => aDon z N) (rfl)) hkq)
    · refine r_tableIn (tgt := 121) E dX1_number_17 (by decide) (by decide) rfl (by decide) ?_
      refine r_aload_n E dX1_number_121 rfl ?_
      refine r_getf E cl_X1 2 (by decide) q272 (hkq _ _ hx) rfl dX1_number_122 ?_
      refine r_getfN E cl_X2 4 (by decide) q194 hd2 rfl dX1_number_125 ?_
      exact r_ireturn E P rfl dX1_number_128 (qP_don (by unfold aNumber; rw [hu, hqn]; exact congrArg (fun z => aDon z N) (rfl)) hkq)
    · refine r_tableIn (tgt := 129) E dX1_number_17 (by decide) (by decide) rfl (by decide) ?_
      refine r_aload_n E dX1_number_129 rfl ?_
      refine r_callV1 (v1 := .int (sSum (fun k => nI (cB N (nI k) 64)) K)) E (ct_X1_propsSet G hl (fmUp h b1 (true, .inl (5, 1, .inl (upd (fun _ => 0) 0 (bI (true)))))) hC2 (hkq _ _ hx) hM2) mX1_propsSet q1336 q1338 qs24 (fun H a1 => fm_rc (ci := 1) (C := RX1) (T := TX1) (N := 9) a1 rfl E.v (hkq _ _ hx)) rfl rfl (Nat.le_of_ble_eq_true rfl) (Nat.le_of_ble_eq_true rfl) (Nat.le_of_ble_eq_true rfl) dX1_number_130 1 6 (Nat.le_of_ble_eq_true rfl) (Nat.le_of_ble_eq_true rfl) ?_
      exact r_ireturn E P rfl dX1_number_133 (qP_don (by unfold aNumber; rw [hu, hqn]; exact congrArg (fun z => aDon z N) ((hM.props hR).symm)) hkq)
    · refine r_tableIn (tgt := 134) E dX1_number_17 (by decide) (by decide) rfl (by decide) ?_
      refine r_aload_n E dX1_number_134 rfl ?_
      refine r_getf E cl_X1 2 (by decide) q272 (hkq _ _ hx) rfl dX1_number_135 ?_
      refine r_getfN E cl_X2 5 (by decide) q196 hd2 rfl dX1_number_138 ?_
      exact r_ireturn E P rfl dX1_number_141 (qP_don (by unfold aNumber; rw [hu, hqn]; exact congrArg (fun z => aDon z N) (rfl)) hkq)
    · refine r_tableIn (tgt := 142) E dX1_number_17 (by decide) (by decide) rfl (by decide) ?_
      refine r_aload_n E dX1_number_142 rfl ?_
      refine r_getf E cl_X1 2 (by decide) q272 (hkq _ _ hx) rfl dX1_number_143 ?_
      refine r_callV E (ct_X2_won G hl _ hC2 hM2) mX2_won q1340 q1341 q1342 (fun H a1 => fm_rc (ci := 2) (C := RX2) (T := TX2) (N := 7) a1 rfl E.v hd2) rfl rfl (Nat.le_of_ble_eq_true rfl) (Nat.le_of_ble_eq_true rfl) (Nat.le_of_ble_eq_true rfl) dX1_number_146 0 0 (Nat.le_of_ble_eq_true rfl) (Nat.le_of_ble_eq_true rfl) (fun v' h1 q => ?_) (fun _ _ _ q => q.elim)
      obtain ⟨rfl, hkr⟩ := q
      exact r_ireturn E P rfl dX1_number_149 (qP_don (by unfold aNumber; rw [hu, hqn]; exact congrArg (fun z => aDon z N) (rfl)) (hkq.trans hkr))
    · refine r_tableIn (tgt := 150) E dX1_number_17 (by decide) (by decide) rfl (by decide) ?_
      refine r_aload_n E dX1_number_150 rfl ?_
      refine r_getf E cl_X1 2 (by decide) q272 (hkq _ _ hx) rfl dX1_number_151 ?_
      refine r_getfN E cl_X2 6 (by decide) q198 hd2 rfl dX1_number_154 ?_
      exact r_ireturn E P rfl dX1_number_157 (qP_don (by unfold aNumber; rw [hu, hqn]; exact congrArg (fun z => aDon z N) (rfl)) hkq)
    · refine r_tableIn (tgt := 158) E dX1_number_17 (by decide) (by decide) rfl (by decide) ?_
      refine r_aload_n E dX1_number_158 rfl ?_
      refine r_getf E cl_X1 2 (by decide) q272 (hkq _ _ hx) rfl dX1_number_159 ?_
      refine r_getfN E cl_X2 2 (by decide) q190 hd2 rfl dX1_number_162 ?_
      refine r_callF1 (v1 := .int (nI pk)) E (ctA_J2_size G hl (fmUp h b1 (true, .inl (5, 1, .inl (upd (fun _ => 0) 0 (bI (true)))))) pl pe pk pf hP2 (by omega)) mJ2_size (ci := 12) rfl hpl2 3 rfl q576 q581 q579 fx_3 rfl rfl (Nat.le_of_ble_eq_true rfl) (Nat.le_of_ble_eq_true rfl) (Nat.le_of_ble_eq_true rfl) dX1_number_165 1 6 (Nat.le_of_ble_eq_true rfl) (Nat.le_of_ble_eq_true rfl) ?_
      exact r_ireturn E P rfl dX1_number_170 (qP_don (by unfold aNumber; rw [hu, hqn]; exact congrArg (fun z => aDon z N) (rfl)) hkq)
    · refine r_tableIn (tgt := 171) E dX1_number_17 (by decide) (by decide) rfl (by decide) ?_
      refine r_aload_n E dX1_number_171 rfl ?_
      refine r_getf E cl_X1 2 (by decide) q272 (hkq _ _ hx) rfl dX1_number_172 ?_
      refine r_callV E (ct_X2_edges G hl _ hC2 hM2) mX2_edges q1344 q1345 q1346 (fun H a1 => fm_rc (ci := 2) (C := RX2) (T := TX2) (N := 7) a1 rfl E.v hd2) rfl rfl (Nat.le_of_ble_eq_true rfl) (Nat.le_of_ble_eq_true rfl) (Nat.le_of_ble_eq_true rfl) dX1_number_175 0 0 (Nat.le_of_ble_eq_true rfl) (Nat.le_of_ble_eq_true rfl) (fun v' h1 q => ?_) (fun _ _ _ q => q.elim)
      obtain ⟨rfl, hkr⟩ := q
      exact r_ireturn E P rfl dX1_number_178 (qP_don (by unfold aNumber; rw [hu, hqn]; exact congrArg (fun z => aDon z N) (rfl)) (hkq.trans hkr))
    · refine r_tableIn (tgt := 179) E dX1_number_17 (by decide) (by decide) rfl (by decide) ?_
      refine r_aload_n E dX1_number_179 rfl ?_
      refine r_getf E cl_X1 2 (by decide) q272 (hkq _ _ hx) rfl dX1_number_180 ?_
      refine r_getfN E cl_X2 3 (by decide) q192 hd2 rfl dX1_number_183 ?_
      exact r_ireturn E P rfl dX1_number_186 (qP_don (by unfold aNumber; rw [hu, hqn]; exact congrArg (fun z => aDon z N) (rfl)) hkq)
    · refine r_tableIn (tgt := 187) E dX1_number_17 (by decide) (by decide) rfl (by decide) ?_
      refine r_aload_n E dX1_number_187 rfl ?_
      refine r_callV1 (v1 := .int (sSum (fun c => if sChalk N c = true then N (128 + c) else nI 0) 64)) E (ct_X1_nodulesLeft G hl (fmUp h b1 (true, .inl (5, 1, .inl (upd (fun _ => 0) 0 (bI (true)))))) hC2 (hkq _ _ hx) hM2) mX1_nodulesLeft q1348 q1350 qs25 (fun H a1 => fm_rc (ci := 1) (C := RX1) (T := TX1) (N := 9) a1 rfl E.v (hkq _ _ hx)) rfl rfl (Nat.le_of_ble_eq_true rfl) (Nat.le_of_ble_eq_true rfl) (Nat.le_of_ble_eq_true rfl) dX1_number_188 1 6 (Nat.le_of_ble_eq_true rfl) (Nat.le_of_ble_eq_true rfl) ?_
      exact r_ireturn E P rfl dX1_number_191 (qP_don (by unfold aNumber; rw [hu, hqn]; exact congrArg (fun z => aDon z N) (rfl)) hkq)
    · refine r_tableIn (tgt := 192) E dX1_number_17 (by decide) (by decide) rfl (by decide) ?_
      refine r_aload_n E dX1_number_192 rfl ?_
      refine r_getf E cl_X1 3 (by decide) q273 (hkq _ _ hx) rfl dX1_number_193 ?_
      refine r_callV1 (v1 := .int (nI kp)) E (ct_J3_size G hl (fmUp h b1 (true, .inl (5, 1, .inl (upd (fun _ => 0) 0 (bI (true)))))) pa e dh kp f (hA.kp hkq)) mJ3_size q979 q980 q981 (fun H a1 => fm_rc (ci := 14) (C := RJ3) (T := TJ3) (N := 3) a1 rfl E.v (hkq _ _ hpa9)) rfl rfl (Nat.le_of_ble_eq_true rfl) (Nat.le_of_ble_eq_true rfl) (Nat.le_of_ble_eq_true rfl) dX1_number_196 1 6 (Nat.le_of_ble_eq_true rfl) (Nat.le_of_ble_eq_true rfl) ?_
      exact r_ireturn E P rfl dX1_number_199 (qP_don (by unfold aNumber; rw [hu, hqn]; exact congrArg (fun z => aDon z N) (rfl)) hkq)
    · refine r_tableOut (tgt := 200) E dX1_number_17 (by decide) (by decide) ?_
      obtain ⟨u9, ml9, cap9, bf9, hsb9, -⟩ := hSB
      refine r_aload_n E dX1_number_200 rfl ?_
      refine r_getf E cl_X1 4 (by decide) q275 (hkq _ _ hx) rfl dX1_number_201 ?_
      refine r_callV1 (v1 := .int (nI len)) E (ct_J5_length G hl (fmUp h b1 (true, .inl (5, 1, .inl (upd (fun _ => 0) 0 (bI (true)))))) sb sbv len cap9 u9 ml9 bf9 (hkq _ _ hsb9)) mJ5_length q1352 q1353 q1354 (fun H a1 => fm_rc (ci := 15) (C := RJ5) (T := TJ5) (N := 4) a1 rfl E.v (hkq _ _ hsb9)) rfl rfl (Nat.le_of_ble_eq_true rfl) (Nat.le_of_ble_eq_true rfl) (Nat.le_of_ble_eq_true rfl) dX1_number_204 1 6 (Nat.le_of_ble_eq_true rfl) (Nat.le_of_ble_eq_true rfl) ?_
      exact r_ireturn E P rfl dX1_number_207 (qP_don (by unfold aNumber; rw [hu, hqn]; exact congrArg (fun z => aDon z N) (rfl)) hkq)

set_option maxHeartbeats 4000000 in
theorem ct_X1_perStroke (G : fmG) (hl : (fmLn G).stackTraces = false) (h : fmHp) {x far qu pa sb : Nat} {fl re de : Int32} {sv : Value} {d g sl se pl pe : Nat} {gf sf pf : Nat → Nat} {N : Nat → Int32} {K pk : Nat} (hC : CC G h) (hx : DkO h x far qu d pa sb fl re de sv) (hM : MineAt G h d g sl se pl pe gf sf pf N K pk)  : Ct G yX1_perStroke (ws_ yX1_perStroke cX1_perStroke 1 (some .double)) { frames := 6, cells := 1, slots := 6, locals := 100 } [.ref x] h (fun v h' => ¬ N 354 = 0 ∧ v = some (.double (FP.ddiv (FP.i2d (sWon N K)) (FP.i2d (N 354)))) ∧ Kp h h') (fun _ Ex h' => N 354 = 0 ∧ Ex = "java/lang/ArithmeticException" ∧ Kp h h') := by
  refine Ct.of hl (by decide +kernel) (Nat.le_of_ble_eq_true rfl) (fun Γ E P => ?_)
  obtain ⟨hd, ⟨gq, hg, hgq⟩, hgd, hS, hSh, hP, hPk, hK8, hP6, hsp, hse⟩ := id hM
  obtain ⟨mcS, hsl⟩ := hS.o
  obtain ⟨mcP, hpl⟩ := hP.o
  refine r_aload_n E dX1_perStroke_0 rfl ?_
  refine r_getf E cl_X1 2 (by decide) q272 hx rfl dX1_perStroke_1 ?_
  refine r_getfN E cl_X2 6 (by decide) q198 hd rfl dX1_perStroke_4 ?_
  refine r_if_ne (tgt := 18) E dX1_perStroke_7 (by decide) (fun c1 => ?_) (fun c1 => ?_)
  · refine r_aload_n E dX1_perStroke_18 rfl ?_
    refine r_getf E cl_X1 2 (by decide) q272 hx rfl dX1_perStroke_19 ?_
    refine r_callV E (ct_X2_won G hl h hC hM) mX2_won q1340 q1341 q1342 (fun H a1 => fm_rc (ci := 2) (C := RX2) (T := TX2) (N := 7) a1 rfl E.v hd) rfl rfl (Nat.le_of_ble_eq_true rfl) (Nat.le_of_ble_eq_true rfl) (Nat.le_of_ble_eq_true rfl) dX1_perStroke_22 0 0 (Nat.le_of_ble_eq_true rfl) (Nat.le_of_ble_eq_true rfl) (fun v' h1 q => ?_) (fun _ _ _ q => q.elim)
    obtain ⟨rfl, hkr⟩ := q
    refine r_i2d E dX1_perStroke_25 ?_
    refine r_aload_n E dX1_perStroke_26 rfl ?_
    refine r_getf E cl_X1 2 (by decide) q272 (hkr _ _ hx) rfl dX1_perStroke_27 ?_
    refine r_getfN E cl_X2 6 (by decide) q198 (hkr _ _ hd) rfl dX1_perStroke_30 ?_
    refine r_i2d E dX1_perStroke_33 ?_
    refine r_ddiv E (vf_ddiv _ c1) dX1_perStroke_34 ?_
    exact r_dreturn E P rfl dX1_perStroke_35 ⟨c1, rfl, hkr⟩
  · refine r_make E (ci := 23) rfl (by decide +kernel) (by decide +kernel) q1380 q116 at_S_are at_G_are dX1_perStroke_10 dX1_perStroke_13 dX1_perStroke_14 (Nat.le_of_ble_eq_true rfl) (Nat.le_of_ble_eq_true rfl) 0 0 (Nat.le_of_ble_eq_true rfl) (Nat.le_of_ble_eq_true rfl) (fun x1 hx1 kx1 => ?_)
    refine r_athrow E (ci := 23) rfl fmUp_s dX1_perStroke_17 ?_
    exact r_xout E P (fun x hx => by cases hx) ⟨c1, rfl, Kp.up hx1⟩

