set_option maxHeartbeats 4000000 in
theorem ct_X1_longest (G : fmG) (hl : (fmLn G).stackTraces = false) (h : fmHp) {x far qu pa sb : Nat} {fl re de : Int32} {sv : Value} {d g sl se pl pe : Nat} {gf sf pf : Nat → Nat} {N : Nat → Int32} {K pk : Nat} (hC : CC G h) (hx : DkO h x far qu d pa sb fl re de sv) (hM : MineAt G h d g sl se pl pe gf sf pf N K pk)  : Ct G yX1_longest (ws_ yX1_longest cX1_longest 1 (some .int)) { frames := 5, cells := 0, slots := 0, locals := 111 } [.ref x] h (fmRet (some (.int (nI (sLong N)))) h) fmNo := by
  refine Ct.of hl (by decide +kernel) (Nat.le_of_ble_eq_true rfl) (fun Γ E P => ?_)
  obtain ⟨hd, ⟨gq, hg, hgq⟩, hgd, hS, hSh, hP, hPk, hK8, hP6, hsp, hse⟩ := id hM
  obtain ⟨mcS, hsl⟩ := hS.o
  obtain ⟨mcP, hpl⟩ := hP.o
  refine r_aload_n E dX1_longest_0 rfl ?_
  refine r_getf E cl_X1 2 (by decide) q272 hx rfl dX1_longest_1 ?_
  refine r_callV1 (v1 := .int (nI (sLong N))) E (ct_X2_longest G hl (h) hC hM) mX2_longest q303 q304 q305 (fun H a1 => fm_rc (ci := 2) (C := RX2) (T := TX2) (N := 7) a1 rfl E.v hd) rfl rfl (Nat.le_of_ble_eq_true rfl) (Nat.le_of_ble_eq_true rfl) (Nat.le_of_ble_eq_true rfl) dX1_longest_4 0 0 (Nat.le_of_ble_eq_true rfl) (Nat.le_of_ble_eq_true rfl) ?_
  exact r_ireturn E P rfl dX1_longest_7 ⟨rfl, rfl⟩

set_option maxHeartbeats 4000000 in
theorem ct_X1_edge (G : fmG) (hl : (fmLn G).stackTraces = false) (h : fmHp) {x far qu pa sb : Nat} {fl re de : Int32} {sv : Value} {d g sl se pl pe : Nat} {gf sf pf : Nat → Nat} {N : Nat → Int32} {K pk : Nat} (hC : CC G h) (hx : DkO h x far qu d pa sb fl re de sv) (hM : MineAt G h d g sl se pl pe gf sf pf N K pk) (v : Int32) : Ct G yX1_edge (ws_ yX1_edge cX1_edge 2 (some .int)) { frames := 7, cells := 1, slots := 6, locals := 120 } [.ref x, .int v] h (qPost h (aEdge N v pk)) (qXp h (exQ "java/lang/IndexOutOfBoundsException" "java/lang/IllegalArgumentException") (aEdge N v pk)) := by
  refine Ct.of hl (by decide +kernel) (Nat.le_of_ble_eq_true rfl) (fun Γ E P => ?_)
  obtain ⟨hd, ⟨gq, hg, hgq⟩, hgd, hS, hSh, hP, hPk, hK8, hP6, hsp, hse⟩ := id hM
  obtain ⟨mcS, hsl⟩ := hS.o
  obtain ⟨mcP, hpl⟩ := hP.o
  refine r_iload_n E dX1_edge_0 rfl ?_
  refine r_iconst E (nI 0) dX1_edge_1 (by decide) ?_
  refine r_aload_n E dX1_edge_2 rfl ?_
  refine r_getf E cl_X1 2 (by decide) q272 hx rfl dX1_edge_3 ?_
  refine r_getfN E cl_X2 2 (by decide) q190 hd rfl dX1_edge_6 ?_
  refine r_callF1 (v1 := .int (nI pk)) E (ctA_J2_size G hl (h) pl pe pk pf hP (by omega)) mJ2_size (ci := 12) rfl hpl 3 rfl q576 q581 q579 fx_3 rfl rfl (Nat.le_of_ble_eq_true rfl) (Nat.le_of_ble_eq_true rfl) (Nat.le_of_ble_eq_true rfl) dX1_edge_9 1 6 (Nat.le_of_ble_eq_true rfl) (Nat.le_of_ble_eq_true rfl) ?_
  refine r_iconst E (nI 1) dX1_edge_14 (by decide) ?_
  refine r_isub E dX1_edge_15 ?_
  refine r_callS1 (v1 := .int (bI (sBetween v (nI 0) (nI pk - nI 1)))) E (ct_X1_inRange G hl (h) v (nI 0) (nI pk - nI 1)) mX1_inRange q78 q628 q629 rfl rfl (Nat.le_of_ble_eq_true rfl) (Nat.le_of_ble_eq_true rfl) (Nat.le_of_ble_eq_true rfl) dX1_edge_16 1 6 (Nat.le_of_ble_eq_true rfl) (Nat.le_of_ble_eq_true rfl) ?_
  cases hv : sBetween v (nI 0) (nI pk - nI 1) with
  | false =>
    refine r_top (v' := .int (bI false)) rfl ?_
    refine r_callS E (ctF_X1_requireIndex G hl h) mX1_requireIndex q78 q631 q632 rfl rfl (Nat.le_of_ble_eq_true rfl) (Nat.le_of_ble_eq_true rfl) (Nat.le_of_ble_eq_true rfl) dX1_edge_19 0 0 (Nat.le_of_ble_eq_true rfl) (Nat.le_of_ble_eq_true rfl) (fun _ _ q => q.elim) (fun q Ex h' hx => ?_)
    exact r_xout E P (fun x hx => by cases hx) (qX_thr (k := 1) Kp.refl (aG_t (by rw [hv]; rfl)) (by decide) rfl hx)
  | true =>
    refine r_top (v' := .int (bI true)) rfl ?_
    obtain ⟨j, hj, rfl⟩ := sShaft_of (by omega) hv
    refine r_callS0 E (ctT_X1_requireIndex G hl (h)) mX1_requireIndex q78 q631 q632 rfl rfl (Nat.le_of_ble_eq_true rfl) (Nat.le_of_ble_eq_true rfl) (Nat.le_of_ble_eq_true rfl) dX1_edge_19 1 6 (Nat.le_of_ble_eq_true rfl) (Nat.le_of_ble_eq_true rfl) ?_
    refine r_aload_n E dX1_edge_22 rfl ?_
    refine r_getf E cl_X1 2 (by decide) q272 hx rfl dX1_edge_23 ?_
    refine r_getfN E cl_X2 2 (by decide) q190 hd rfl dX1_edge_26 ?_
    refine r_iload_n E dX1_edge_29 rfl ?_
    refine r_callF1 (v1 := .ref (pf j)) E (ctA_J2_get G hl (h) pl pe pk pf hP (by omega) j (by omega)) mJ2_get (ci := 12) rfl hpl 2 rfl q1092 q834 q832 fx_2 rfl rfl (Nat.le_of_ble_eq_true rfl) (Nat.le_of_ble_eq_true rfl) (Nat.le_of_ble_eq_true rfl) dX1_edge_30 1 6 (Nat.le_of_ble_eq_true rfl) (Nat.le_of_ble_eq_true rfl) ?_
    refine r_castS E cl_J20 q1093 (hPk j (by omega)) dX1_edge_35 ?_
    refine r_callV1 (v1 := .int (N (344 + j))) E (ct_J20_intValue G hl (h) (pf j) false (N (344 + j)) (hPk j (by omega))) mJ20_intValue q1094 q848 q849 (fun H a1 => fm_rc (ci := 17) (C := RJ20) (T := TJ20) (N := 1) a1 rfl E.v (hPk j (by omega))) rfl rfl (Nat.le_of_ble_eq_true rfl) (Nat.le_of_ble_eq_true rfl) (Nat.le_of_ble_eq_true rfl) dX1_edge_38 1 6 (Nat.le_of_ble_eq_true rfl) (Nat.le_of_ble_eq_true rfl) ?_
    exact r_ireturn E P rfl dX1_edge_41 (qP_don (by unfold aEdge; rw [hv, cN_n (by omega)]; rfl) Kp.refl)

set_option maxHeartbeats 4000000 in
theorem ct_X1_span (G : fmG) (hl : (fmLn G).stackTraces = false) (h : fmHp) {x far qu pa sb : Nat} {fl re de : Int32} {sv : Value} {d g sl se pl pe : Nat} {gf sf pf : Nat → Nat} {N : Nat → Int32} {K pk : Nat} (hC : CC G h) (hx : DkO h x far qu d pa sb fl re de sv) (hM : MineAt G h d g sl se pl pe gf sf pf N K pk) (v : Int32) (b : Bool) : Ct G yX1_span (ws_ yX1_span cX1_span 3 (some .int)) { frames := 8, cells := 2, slots := 8, locals := 144 } [.ref x, .int v, .int (bI b)] h (qPost h (aSpan N v b)) (qXp h (exQ "java/lang/IndexOutOfBoundsException" "java/lang/IllegalArgumentException") (aSpan N v b)) := by
  refine Ct.of hl (by decide +kernel) (Nat.le_of_ble_eq_true rfl) (fun Γ E P => ?_)
  obtain ⟨hd, ⟨gq, hg, hgq⟩, hgd, hS, hSh, hP, hPk, hK8, hP6, hsp, hse⟩ := id hM
  obtain ⟨mcS, hsl⟩ := hS.o
  obtain ⟨mcP, hpl⟩ := hP.o
  refine r_aload_n E dX1_span_0 rfl ?_
  refine r_getf E cl_X1 2 (by decide) q272 hx rfl dX1_span_1 ?_
  refine r_iconst E (nI 1) dX1_span_4 (by decide) ?_
  refine r_newa E 0 (.inl (fun _ => 0)) rfl (z_ai 1) q236 (fun e => e) (Nat.le_of_ble_eq_true rfl) (Nat.le_of_ble_eq_true rfl) 1 7 (Nat.le_of_ble_eq_true rfl) (Nat.le_of_ble_eq_true rfl) dX1_span_5 (fun b1 hb1 kb1 => ?_)
  refine r_dup E dX1_span_7 rfl ?_
  refine r_iconst E (nI 0) dX1_span_8 (by decide) ?_
  refine r_iload_n E dX1_span_9 rfl ?_
  refine r_iast E fmUp_s (by decide) (by decide) dX1_span_10 ?_
  refine r_hp (h' := fmUp h b1 (true, .inl (0, 1, .inl (upd (fun _ => 0) 0 v)))) (fmUp_uu _ _ _ _) ?_
  cases hv : sBetween v (nI 0) (nI 63) with
  | false =>
    refine r_callS E (ctF_X1_cellOf G hl _ b1 true _ fmUp_s (by rw [upd_eq' rfl]; exact hv)) mX1_cellOf q78 q625 q626 rfl rfl (Nat.le_of_ble_eq_true rfl) (Nat.le_of_ble_eq_true rfl) (Nat.le_of_ble_eq_true rfl) dX1_span_11 0 0 (Nat.le_of_ble_eq_true rfl) (Nat.le_of_ble_eq_true rfl) (fun _ _ q => q.elim) (fun q Ex h' hx => ?_)
    exact r_xout E P (fun x hx => by cases hx) (qX_thr (k := 1) (Kp.up hb1) (aG_t (by rw [hv]; rfl)) (by decide) rfl hx)
  | true =>
    obtain ⟨c, hc0, rfl⟩ := sBtw_of (by decide) hv
    have hc : c < 64 := by omega
    have hcn : cN (nI c) = c := cN_n (by omega)
    refine r_callS1 (v1 := .int (nI c)) E (ctT_X1_cellOf G hl (fmUp h b1 (true, .inl (0, 1, .inl (upd (fun _ => 0) 0 (nI c))))) b1 true (upd (fun _ => 0) 0 (nI c)) fmUp_s c hc (upd_eq' rfl)) mX1_cellOf q78 q625 q626 rfl rfl (Nat.le_of_ble_eq_true rfl) (Nat.le_of_ble_eq_true rfl) (Nat.le_of_ble_eq_true rfl) dX1_span_11 1 7 (Nat.le_of_ble_eq_true rfl) (Nat.le_of_ble_eq_true rfl) ?_
    have hkp : Kp h (fmUp h b1 (true, .inl (0, 1, .inl (upd (fun _ => 0) 0 (nI c))))) := Kp.up hb1
    refine r_iload_n E dX1_span_14 rfl ?_
    refine r_callV1 (v1 := .int (nI (sSpan N c b))) E (ct_X2_span G hl (fmUp h b1 (true, .inl (0, 1, .inl (upd (fun _ => 0) 0 (nI c))))) (CC.kp hC (Kp.up hb1)) (MineAt.kp hM (Kp.up hb1)) c b (by omega)) mX2_span q1137 q308 q309 (fun H a1 => fm_rc (ci := 2) (C := RX2) (T := TX2) (N := 7) a1 rfl E.v (fmUp_of hd hb1)) rfl rfl (Nat.le_of_ble_eq_true rfl) (Nat.le_of_ble_eq_true rfl) (Nat.le_of_ble_eq_true rfl) dX1_span_15 1 7 (Nat.le_of_ble_eq_true rfl) (Nat.le_of_ble_eq_true rfl) ?_
    exact r_ireturn E P rfl dX1_span_18 (qP_don (by unfold aSpan; rw [hv, hcn]; rfl) hkp)

set_option maxHeartbeats 4000000 in
theorem ct_X1_kind (G : fmG) (hl : (fmLn G).stackTraces = false) (h : fmHp) (N : Nat → Int32) (c a : Nat) (hg : Gd h N c a) : Ct G yX1_kind (ws_ yX1_kind cX1_kind 1 (some .int)) { frames := 0, cells := 0, slots := 0, locals := 0 } [.ref a] h (fmRet (some (.int (N c))) h) fmNo := by
  refine Ct.of hl (by decide +kernel) (Nat.le_of_ble_eq_true rfl) (fun Γ E P => ?_)
  rcases hg with ⟨e0, e1, e2, eo⟩ | ⟨p, e0, e2, eo⟩ | ⟨e0, e2, eo⟩
  · refine r_aload_n E dX1_kind_0 rfl ?_
    refine r_instS E cl_X3 q355 eo dX1_kind_1 ?_
    refine r_top (v' := .int (bI true)) rfl ?_
    refine r_ifB_eq (b := true) (tgt := 9) E dX1_kind_4 (by decide) (fun c => absurd c (by decide)) (fun _ => ?_)
    refine r_iconst E (nI 0) dX1_kind_7 (by decide) ?_
    refine r_top (v' := .int (N c)) (by rw [e0]) ?_
    exact r_ireturn E P rfl dX1_kind_8 ⟨rfl, rfl⟩
  · refine r_aload_n E dX1_kind_0 rfl ?_
    refine r_instNo E cl_X6 q355 (by decide +kernel) eo dX1_kind_1 ?_
    refine r_top (v' := .int (bI false)) rfl ?_
    refine r_ifB_eq (b := false) (tgt := 9) E dX1_kind_4 (by decide) (fun _ => ?_) (fun c => absurd c (by decide))
    refine r_aload_n E dX1_kind_9 rfl ?_
    refine r_instS E cl_X6 q356 eo dX1_kind_10 ?_
    refine r_top (v' := .int (bI true)) rfl ?_
    refine r_ifB_eq (b := true) (tgt := 20) E dX1_kind_13 (by decide) (fun c => absurd c (by decide)) (fun _ => ?_)
    refine r_iconst E (nI 1) dX1_kind_16 (by decide) ?_
    refine r_goto (tgt := 21) E dX1_kind_17 (by decide) ?_
    refine r_top (v' := .int (N c)) (by rw [e0]) ?_
    exact r_ireturn E P rfl dX1_kind_21 ⟨rfl, rfl⟩
  · refine r_aload_n E dX1_kind_0 rfl ?_
    refine r_instNo E cl_X8 q355 (by decide +kernel) eo dX1_kind_1 ?_
    refine r_top (v' := .int (bI false)) rfl ?_
    refine r_ifB_eq (b := false) (tgt := 9) E dX1_kind_4 (by decide) (fun _ => ?_) (fun c => absurd c (by decide))
    refine r_aload_n E dX1_kind_9 rfl ?_
    refine r_instNo E cl_X8 q356 (by decide +kernel) eo dX1_kind_10 ?_
    refine r_top (v' := .int (bI false)) rfl ?_
    refine r_ifB_eq (b := false) (tgt := 20) E dX1_kind_13 (by decide) (fun _ => ?_) (fun c => absurd c (by decide))
    refine r_iconst E (nI 2) dX1_kind_20 (by decide) ?_
    refine r_top (v' := .int (N c)) (by rw [e0]) ?_
    exact r_ireturn E P rfl dX1_kind_21 ⟨rfl, rfl⟩

