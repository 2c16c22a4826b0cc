set_option maxHeartbeats 4000000 in
theorem ct_X2_run (G : fmG) (hl : (fmLn G).stackTraces = false) (h : fmHp) {d g sl se pl pe : Nat} {gf sf pf : Nat → Nat} {N : Nat → Int32} {K pk : Nat} (hC : CC G h) (hM : MineAt G h d g sl se pl pe gf sf pf N K pk) (c dd : Nat) (hc : c < 64) (hdd : dd < 4) : Ct G yX2_run (ws_ yX2_run cX2_run 5 (some .int)) { frames := 1, cells := 0, slots := 0, locals := 21 } [.ref d, .int (nI c), .int (nI dd)] h (fmRet (some (.int (nI (sRun N c dd)))) h) fmNo := by
  refine Ct.of hl (by decide +kernel) (Nat.le_of_ble_eq_true rfl) (fun Γ E P => ?_)
  obtain ⟨hd, ⟨gq, hg, hgq⟩, hgd, hS, hSh, hP, hPk, hK8, hP6, hsp, hse⟩ := id hM
  obtain ⟨mcS, hsl⟩ := hS.o
  obtain ⟨mcP, hpl⟩ := hP.o
  refine r_iconst E (nI 0) dX2_run_0 (by decide) ?_
  refine r_istore_n E [some (.ref d), some (.int (nI c)), some (.int (nI dd)), some (.int (nI 0)), none] dX2_run_1 rfl rfl ?_
  refine r_iload_n E dX2_run_2 rfl ?_
  refine r_iload_n E dX2_run_3 rfl ?_
  refine r_callSN1 (v1 := .int (cI (sBsd c dd))) E (ct_X1_beside G hl (h) hC c dd (by omega) (by omega)) mX1_beside q78 q336 q337 rfl rfl (Nat.le_of_ble_eq_true rfl) (Nat.le_of_ble_eq_true rfl) (Nat.le_of_ble_eq_true rfl) dX2_run_4 0 0 (Nat.le_of_ble_eq_true rfl) (Nat.le_of_ble_eq_true rfl) ?_
  refine r_istore E [some (.ref d), some (.int (nI c)), some (.int (nI dd)), some (.int (nI 0)), some (.int (cI (sBsd c dd)))] dX2_run_7 rfl rfl ?_
  have lp : ∀ (n j : Nat) (o : Option Nat), (∀ x, o = some x → x < 64 ∧ sLeft x dd < n) → j + sRunF N dd n o = sRun N c dd → fmW G Γ (h) 0 0 9 [some (.ref d), some (.int (nI c)), some (.int (nI dd)), some (.int (nI j)), some (.int (cI o))] [] := by
    intro n
    induction n with
    | zero =>
      intro j o ho hv
      refine r_iload E dX2_run_9 rfl ?_
      refine r_iconst E (-1) dX2_run_11 (by decide) ?_
      refine r_icmpC_eq (tgt := 44) E dX2_run_12 (by decide) (fun x hx => Nat.lt_trans (ho x hx).1 (by decide)) (fun c1 => ?_) (fun c1 => ?_)
      · subst c1
        refine r_iload_n E dX2_run_44 rfl ?_
        exact r_ireturn E P rfl dX2_run_45 ⟨by rw [← hv, sRunF_0 (o := none) rfl]; rfl, rfl⟩
      · obtain ⟨x, rfl⟩ := Option.ne_none_iff_exists'.mp c1
        exact absurd (ho x rfl).2 (Nat.not_lt_zero _)
    | succ n ih =>
      intro j o ho hv
      refine r_iload E dX2_run_9 rfl ?_
      refine r_iconst E (-1) dX2_run_11 (by decide) ?_
      refine r_icmpC_eq (tgt := 44) E dX2_run_12 (by decide) (fun x hx => Nat.lt_trans (ho x hx).1 (by decide)) (fun c1 => ?_) (fun c1 => ?_)
      · subst c1
        refine r_iload_n E dX2_run_44 rfl ?_
        exact r_ireturn E P rfl dX2_run_45 ⟨by rw [← hv, sRunF_0 (o := none) rfl]; rfl, rfl⟩
      · obtain ⟨x, rfl⟩ := Option.ne_none_iff_exists'.mp c1
        obtain ⟨hx, hx2⟩ := ho x rfl
        rcases hgd x hx with ⟨gd1a, gd1b, gd1c, gd1o⟩ | ⟨gd1p, gd1a, gd1c, gd1o⟩ | ⟨gd1a, gd1c, gd1o⟩
        · refine r_aload_n E dX2_run_15 rfl ?_
          refine r_getf E cl_X2 0 (by decide) q185 hd rfl dX2_run_16 ?_
          refine r_iload E dX2_run_19 rfl ?_
          refine r_aald E hg rfl rfl (by omega) (by decide) dX2_run_21 ?_
          refine r_top (v' := .ref (gf x)) (congrArg va_rf (hgq _ (by omega))) ?_
          refine r_callD (v1 := .int (bI false)) E (ct_X13_isBare G hl (h) (gf x)) mX13_isBare (ci := 3) rfl gd1o (by decide +kernel) q312 q317 fx_d rfl rfl (Nat.le_of_ble_eq_true rfl) (Nat.le_of_ble_eq_true rfl) (Nat.le_of_ble_eq_true rfl) dX2_run_22 0 0 (Nat.le_of_ble_eq_true rfl) (Nat.le_of_ble_eq_true rfl) ?_
          refine r_ifB_eq (b := false) (tgt := 44) E dX2_run_27 (by decide) (fun _ => ?_) (fun c => absurd c (by decide))
          refine r_iload_n E dX2_run_44 rfl ?_
          exact r_ireturn E P rfl dX2_run_45 ⟨by rw [← hv, sRunF_0 (sb0 gd1a)]; rfl, rfl⟩
        · refine r_aload_n E dX2_run_15 rfl ?_
          refine r_getf E cl_X2 0 (by decide) q185 hd rfl dX2_run_16 ?_
          refine r_iload E dX2_run_19 rfl ?_
          refine r_aald E hg rfl rfl (by omega) (by decide) dX2_run_21 ?_
          refine r_top (v' := .ref (gf x)) (congrArg va_rf (hgq _ (by omega))) ?_
          refine r_callF1 (v1 := .int (bI (!gd1p))) E (ct_X6_isBare G hl (h) (gf x) true (N (192 + x)) gd1p gd1o) mX6_isBare (ci := 4) rfl gd1o 8 rfl q312 q325 q323 fx_8 rfl rfl (Nat.le_of_ble_eq_true rfl) (Nat.le_of_ble_eq_true rfl) (Nat.le_of_ble_eq_true rfl) dX2_run_22 0 0 (Nat.le_of_ble_eq_true rfl) (Nat.le_of_ble_eq_true rfl) ?_
          refine r_ifB_eq (b := !gd1p) (tgt := 44) E dX2_run_27 (by decide) (fun c3 => ?_) (fun c3 => ?_)
          · refine r_iload_n E dX2_run_44 rfl ?_
            exact r_ireturn E P rfl dX2_run_45 ⟨by rw [← hv, sRunF_0 (by rw [sb1 gd1a gd1c, c3])]; rfl, rfl⟩
          · have hb := sb1 gd1a gd1c
            rw [c3] at hb
            refine r_iinc E (nI (j + 1)) [some (.ref d), some (.int (nI c)), some (.int (nI dd)), some (.int (nI (j + 1))), some (.int (nI x))] dX2_run_30 rfl (nI_1 j) rfl rfl ?_
            refine r_iload E dX2_run_33 rfl ?_
            refine r_iload_n E dX2_run_35 rfl ?_
            refine r_callSN1 (v1 := .int (cI (sBsd x dd))) E (ct_X1_beside G hl (h) hC x dd (by omega) (by omega)) mX1_beside q78 q336 q337 rfl rfl (Nat.le_of_ble_eq_true rfl) (Nat.le_of_ble_eq_true rfl) (Nat.le_of_ble_eq_true rfl) dX2_run_36 0 0 (Nat.le_of_ble_eq_true rfl) (Nat.le_of_ble_eq_true rfl) ?_
            refine r_istore E [some (.ref d), some (.int (nI c)), some (.int (nI dd)), some (.int (nI (j + 1))), some (.int (cI (sBsd x dd)))] dX2_run_39 rfl rfl ?_
            refine r_goto (tgt := 9) E dX2_run_41 (by decide) ?_
            exact ih (j + 1) _ (fun y hy => ⟨sBsd_lt hx hy, by have := sLeft_bsd hx hy; omega⟩) (by rw [sRunF_1 hb] at hv; omega)
        · refine r_aload_n E dX2_run_15 rfl ?_
          refine r_getf E cl_X2 0 (by decide) q185 hd rfl dX2_run_16 ?_
          refine r_iload E dX2_run_19 rfl ?_
          refine r_aald E hg rfl rfl (by omega) (by decide) dX2_run_21 ?_
          refine r_top (v' := .ref (gf x)) (congrArg va_rf (hgq _ (by omega))) ?_
          refine r_callD (v1 := .int (bI false)) E (ct_X13_isBare G hl (h) (gf x)) mX13_isBare (ci := 5) rfl gd1o (by decide +kernel) q312 q317 fx_d rfl rfl (Nat.le_of_ble_eq_true rfl) (Nat.le_of_ble_eq_true rfl) (Nat.le_of_ble_eq_true rfl) dX2_run_22 0 0 (Nat.le_of_ble_eq_true rfl) (Nat.le_of_ble_eq_true rfl) ?_
          refine r_ifB_eq (b := false) (tgt := 44) E dX2_run_27 (by decide) (fun _ => ?_) (fun c => absurd c (by decide))
          refine r_iload_n E dX2_run_44 rfl ?_
          exact r_ireturn E P rfl dX2_run_45 ⟨by rw [← hv, sRunF_0 (sb2 gd1a)]; rfl, rfl⟩
  exact lp 8 0 _ (fun y hy => ⟨sBsd_lt hc hy, by have := sLeft_le (d := dd) (sBsd_lt hc hy); omega⟩) (Nat.zero_add _)

set_option maxHeartbeats 4000000 in
theorem ct_X2_spanIf (G : fmG) (hl : (fmLn G).stackTraces = false) (h : fmHp) {d g sl se pl pe : Nat} {gf sf pf : Nat → Nat} {N : Nat → Int32} {K pk : Nat} (hC : CC G h) (hM : MineAt G h d g sl se pl pe gf sf pf N K pk) (c : Nat) (b : Bool) (hc : c < 64) : Ct G yX2_spanIf (ws_ yX2_spanIf cX2_spanIf 3 (some .int)) { frames := 2, cells := 0, slots := 0, locals := 45 } [.ref d, .int (nI c), .int (bI b)] h (fmRet (some (.int (nI (sSpanWith N c b)))) h) fmNo := by
  refine Ct.of hl (by decide +kernel) (Nat.le_of_ble_eq_true rfl) (fun Γ E P => ?_)
  obtain ⟨hd, ⟨gq, hg, hgq⟩, hgd, hS, hSh, hP, hPk, hK8, hP6, hsp, hse⟩ := id hM
  obtain ⟨mcS, hsl⟩ := hS.o
  obtain ⟨mcP, hpl⟩ := hP.o
  cases b with
  | false =>
    refine r_iconst E (nI 1) dX2_spanIf_0 (by decide) ?_
    refine r_iload_n E dX2_spanIf_1 rfl ?_
    refine r_ifB_eq (b := false) (tgt := 21) E dX2_spanIf_2 (by decide) (fun _ => ?_) (fun c => absurd c (by decide))
    refine r_aload_n E dX2_spanIf_21 rfl ?_
    refine r_iload_n E dX2_spanIf_22 rfl ?_
    refine r_iconst E (nI 1) dX2_spanIf_23 (by decide) ?_
    refine r_callV1 (v1 := .int (nI (sRun N c 1))) E (ct_X2_run G hl (h) hC hM c 1 (by omega) (by omega)) mX2_run q332 q334 qs0 (fun H a1 => fm_rc (ci := 2) (C := RX2) (T := TX2) (N := 7) a1 rfl E.v hd) rfl rfl (Nat.le_of_ble_eq_true rfl) (Nat.le_of_ble_eq_true rfl) (Nat.le_of_ble_eq_true rfl) dX2_spanIf_24 0 0 (Nat.le_of_ble_eq_true rfl) (Nat.le_of_ble_eq_true rfl) ?_
    refine r_aload_n E dX2_spanIf_27 rfl ?_
    refine r_iload_n E dX2_spanIf_28 rfl ?_
    refine r_iconst E (nI 2) dX2_spanIf_29 (by decide) ?_
    refine r_callV1 (v1 := .int (nI (sRun N c 2))) E (ct_X2_run G hl (h) hC hM c 2 (by omega) (by omega)) mX2_run q332 q334 qs0 (fun H a1 => fm_rc (ci := 2) (C := RX2) (T := TX2) (N := 7) a1 rfl E.v hd) rfl rfl (Nat.le_of_ble_eq_true rfl) (Nat.le_of_ble_eq_true rfl) (Nat.le_of_ble_eq_true rfl) dX2_spanIf_30 0 0 (Nat.le_of_ble_eq_true rfl) (Nat.le_of_ble_eq_true rfl) ?_
    refine r_iaddN E dX2_spanIf_33 ?_
    refine r_iaddN E dX2_spanIf_34 ?_
    refine r_top (v' := .int (nI (sSpanWith N c false))) (congrArg (fun z => Value.int (nI z)) (by unfold sSpanWith; simp; omega)) ?_
    exact r_ireturn E P rfl dX2_spanIf_35 ⟨rfl, rfl⟩
  | true =>
    refine r_iconst E (nI 1) dX2_spanIf_0 (by decide) ?_
    refine r_iload_n E dX2_spanIf_1 rfl ?_
    refine r_ifB_eq (b := true) (tgt := 21) E dX2_spanIf_2 (by decide) (fun c => absurd c (by decide)) (fun _ => ?_)
    refine r_aload_n E dX2_spanIf_5 rfl ?_
    refine r_iload_n E dX2_spanIf_6 rfl ?_
    refine r_iconst E (nI 0) dX2_spanIf_7 (by decide) ?_
    refine r_callV1 (v1 := .int (nI (sRun N c 0))) E (ct_X2_run G hl (h) hC hM c 0 (by omega) (by omega)) mX2_run q332 q334 qs0 (fun H a1 => fm_rc (ci := 2) (C := RX2) (T := TX2) (N := 7) a1 rfl E.v hd) rfl rfl (Nat.le_of_ble_eq_true rfl) (Nat.le_of_ble_eq_true rfl) (Nat.le_of_ble_eq_true rfl) dX2_spanIf_8 0 0 (Nat.le_of_ble_eq_true rfl) (Nat.le_of_ble_eq_true rfl) ?_
    refine r_aload_n E dX2_spanIf_11 rfl ?_
    refine r_iload_n E dX2_spanIf_12 rfl ?_
    refine r_iconst E (nI 3) dX2_spanIf_13 (by decide) ?_
    refine r_callV1 (v1 := .int (nI (sRun N c 3))) E (ct_X2_run G hl (h) hC hM c 3 (by omega) (by omega)) mX2_run q332 q334 qs0 (fun H a1 => fm_rc (ci := 2) (C := RX2) (T := TX2) (N := 7) a1 rfl E.v hd) rfl rfl (Nat.le_of_ble_eq_true rfl) (Nat.le_of_ble_eq_true rfl) (Nat.le_of_ble_eq_true rfl) dX2_spanIf_14 0 0 (Nat.le_of_ble_eq_true rfl) (Nat.le_of_ble_eq_true rfl) ?_
    refine r_iaddN E dX2_spanIf_17 ?_
    refine r_goto (tgt := 34) E dX2_spanIf_18 (by decide) ?_
    refine r_iaddN E dX2_spanIf_34 ?_
    refine r_top (v' := .int (nI (sSpanWith N c true))) (congrArg (fun z => Value.int (nI z)) (by unfold sSpanWith; simp; omega)) ?_
    exact r_ireturn E P rfl dX2_spanIf_35 ⟨rfl, rfl⟩

set_option maxHeartbeats 4000000 in
theorem ct_X2_span (G : fmG) (hl : (fmLn G).stackTraces = false) (h : fmHp) {d g sl se pl pe : Nat} {gf sf pf : Nat → Nat} {N : Nat → Int32} {K pk : Nat} (hC : CC G h) (hM : MineAt G h d g sl se pl pe gf sf pf N K pk) (c : Nat) (b : Bool) (hc : c < 64) : Ct G yX2_span (ws_ yX2_span cX2_span 3 (some .int)) { frames := 3, cells := 0, slots := 0, locals := 67 } [.ref d, .int (nI c), .int (bI b)] h (fmRet (some (.int (nI (sSpan N c b)))) h) fmNo := by
  refine Ct.of hl (by decide +kernel) (Nat.le_of_ble_eq_true rfl) (fun Γ E P => ?_)
  obtain ⟨hd, ⟨gq, hg, hgq⟩, hgd, hS, hSh, hP, hPk, hK8, hP6, hsp, hse⟩ := id hM
  obtain ⟨mcS, hsl⟩ := hS.o
  obtain ⟨mcP, hpl⟩ := hP.o
  rcases hgd c hc with ⟨gd1a, gd1b, gd1c, gd1o⟩ | ⟨gd1p, gd1a, gd1c, gd1o⟩ | ⟨gd1a, gd1c, gd1o⟩
  · refine r_aload_n E dX2_span_0 rfl ?_
    refine r_getf E cl_X2 0 (by decide) q185 hd rfl dX2_span_1 ?_
    refine r_iload_n E dX2_span_4 rfl ?_
    refine r_aald E hg rfl rfl (by omega) (by decide) dX2_span_5 ?_
    refine r_top (v' := .ref (gf c)) (congrArg va_rf (hgq _ (by omega))) ?_
    refine r_callD (v1 := .int (bI false)) E (ct_X13_isBare G hl (h) (gf c)) mX13_isBare (ci := 3) rfl gd1o (by decide +kernel) q312 q317 fx_d rfl rfl (Nat.le_of_ble_eq_true rfl) (Nat.le_of_ble_eq_true rfl) (Nat.le_of_ble_eq_true rfl) dX2_span_6 0 0 (Nat.le_of_ble_eq_true rfl) (Nat.le_of_ble_eq_true rfl) ?_
    refine r_ifB_eq (b := false) (tgt := 23) E dX2_span_11 (by decide) (fun _ => ?_) (fun c => absurd c (by decide))
    refine r_iconst E (nI 0) dX2_span_23 (by decide) ?_
    refine r_top (v' := .int (nI (sSpan N c b))) (by unfold sSpan; rw [if_neg (by rw [sb0 gd1a]; decide)]) ?_
    exact r_ireturn E P rfl dX2_span_24 ⟨rfl, rfl⟩
  · refine r_aload_n E dX2_span_0 rfl ?_
    refine r_getf E cl_X2 0 (by decide) q185 hd rfl dX2_span_1 ?_
    refine r_iload_n E dX2_span_4 rfl ?_
    refine r_aald E hg rfl rfl (by omega) (by decide) dX2_span_5 ?_
    refine r_top (v' := .ref (gf c)) (congrArg va_rf (hgq _ (by omega))) ?_
    refine r_callF1 (v1 := .int (bI (!gd1p))) E (ct_X6_isBare G hl (h) (gf c) true (N (192 + c)) gd1p gd1o) mX6_isBare (ci := 4) rfl gd1o 8 rfl q312 q325 q323 fx_8 rfl rfl (Nat.le_of_ble_eq_true rfl) (Nat.le_of_ble_eq_true rfl) (Nat.le_of_ble_eq_true rfl) dX2_span_6 0 0 (Nat.le_of_ble_eq_true rfl) (Nat.le_of_ble_eq_true rfl) ?_
    refine r_ifB_eq (b := !gd1p) (tgt := 23) E dX2_span_11 (by decide) (fun c3 => ?_) (fun c3 => ?_)
    · refine r_iconst E (nI 0) dX2_span_23 (by decide) ?_
      refine r_top (v' := .int (nI (sSpan N c b))) (by unfold sSpan; rw [if_neg (by rw [sb1 gd1a gd1c, c3]; decide)]) ?_
      exact r_ireturn E P rfl dX2_span_24 ⟨rfl, rfl⟩
    · refine r_aload_n E dX2_span_14 rfl ?_
      refine r_iload_n E dX2_span_15 rfl ?_
      refine r_iload_n E dX2_span_16 rfl ?_
      refine r_callV1 (v1 := .int (nI (sSpanWith N c b))) E (ct_X2_spanIf G hl (h) hC hM c b (by omega)) mX2_spanIf q328 q329 q330 (fun H a1 => fm_rc (ci := 2) (C := RX2) (T := TX2) (N := 7) a1 rfl E.v hd) rfl rfl (Nat.le_of_ble_eq_true rfl) (Nat.le_of_ble_eq_true rfl) (Nat.le_of_ble_eq_true rfl) dX2_span_17 0 0 (Nat.le_of_ble_eq_true rfl) (Nat.le_of_ble_eq_true rfl) ?_
      refine r_goto (tgt := 24) E dX2_span_20 (by decide) ?_
      refine r_top (v' := .int (nI (sSpan N c b))) (by unfold sSpan; rw [if_pos (by rw [sb1 gd1a gd1c, c3])]) ?_
      exact r_ireturn E P rfl dX2_span_24 ⟨rfl, rfl⟩
  · refine r_aload_n E dX2_span_0 rfl ?_
    refine r_getf E cl_X2 0 (by decide) q185 hd rfl dX2_span_1 ?_
    refine r_iload_n E dX2_span_4 rfl ?_
    refine r_aald E hg rfl rfl (by omega) (by decide) dX2_span_5 ?_
    refine r_top (v' := .ref (gf c)) (congrArg va_rf (hgq _ (by omega))) ?_
    refine r_callD (v1 := .int (bI false)) E (ct_X13_isBare G hl (h) (gf c)) mX13_isBare (ci := 5) rfl gd1o (by decide +kernel) q312 q317 fx_d rfl rfl (Nat.le_of_ble_eq_true rfl) (Nat.le_of_ble_eq_true rfl) (Nat.le_of_ble_eq_true rfl) dX2_span_6 0 0 (Nat.le_of_ble_eq_true rfl) (Nat.le_of_ble_eq_true rfl) ?_
    refine r_ifB_eq (b := false) (tgt := 23) E dX2_span_11 (by decide) (fun _ => ?_) (fun c => absurd c (by decide))
    refine r_iconst E (nI 0) dX2_span_23 (by decide) ?_
    refine r_top (v' := .int (nI (sSpan N c b))) (by unfold sSpan; rw [if_neg (by rw [sb2 gd1a]; decide)]) ?_
    exact r_ireturn E P rfl dX2_span_24 ⟨rfl, rfl⟩

set_option maxHeartbeats 4000000 in
theorem ct_X2_widest (G : fmG) (hl : (fmLn G).stackTraces = false) (h : fmHp) {d g sl se pl pe : Nat} {gf sf pf : Nat → Nat} {N : Nat → Int32} {K pk : Nat} (hC : CC G h) (hM : MineAt G h d g sl se pl pe gf sf pf N K pk) (c : Nat) (hc : c < 64) : Ct G yX2_widest (ws_ yX2_widest cX2_widest 2 (some .int)) { frames := 3, cells := 0, slots := 0, locals := 67 } [.ref d, .int (nI c)] h (fmRet (some (.int (nI (sWide N c)))) h) fmNo := by
  refine Ct.of hl (by decide +kernel) (Nat.le_of_ble_eq_true rfl) (fun Γ E P => ?_)
  obtain ⟨hd, ⟨gq, hg, hgq⟩, hgd, hS, hSh, hP, hPk, hK8, hP6, hsp, hse⟩ := id hM
  obtain ⟨mcS, hsl⟩ := hS.o
  obtain ⟨mcP, hpl⟩ := hP.o
  have h1 := sSpanWith_le N c false
  have h2 := sSpanWith_le N c true
  refine r_aload_n E dX2_widest_0 rfl ?_
  refine r_iload_n E dX2_widest_1 rfl ?_
  refine r_iconst E (nI 1) dX2_widest_2 (by decide) ?_
  refine r_callV1 (v1 := .int (nI (sSpanWith N c true))) E (ct_X2_spanIf G hl (h) hC hM c true (by omega)) mX2_spanIf q328 q329 q330 (fun H a1 => fm_rc (ci := 2) (C := RX2) (T := TX2) (N := 7) a1 rfl E.v hd) rfl rfl (Nat.le_of_ble_eq_true rfl) (Nat.le_of_ble_eq_true rfl) (Nat.le_of_ble_eq_true rfl) dX2_widest_3 0 0 (Nat.le_of_ble_eq_true rfl) (Nat.le_of_ble_eq_true rfl) ?_
  refine r_aload_n E dX2_widest_6 rfl ?_
  refine r_iload_n E dX2_widest_7 rfl ?_
  refine r_iconst E (nI 0) dX2_widest_8 (by decide) ?_
  refine r_callV1 (v1 := .int (nI (sSpanWith N c false))) E (ct_X2_spanIf G hl (h) hC hM c false (by omega)) mX2_spanIf q328 q329 q330 (fun H a1 => fm_rc (ci := 2) (C := RX2) (T := TX2) (N := 7) a1 rfl E.v hd) rfl rfl (Nat.le_of_ble_eq_true rfl) (Nat.le_of_ble_eq_true rfl) (Nat.le_of_ble_eq_true rfl) dX2_widest_9 0 0 (Nat.le_of_ble_eq_true rfl) (Nat.le_of_ble_eq_true rfl) ?_
  refine r_max E (by omega) (by omega) q341 q342 q101 q343 (Nat.le_of_ble_eq_true rfl) (Nat.le_of_ble_eq_true rfl) dX2_widest_12 ?_
  exact r_ireturn E P rfl dX2_widest_15 ⟨rfl, rfl⟩

set_option maxHeartbeats 4000000 in
theorem ct_X2_longest (G : fmG) (hl : (fmLn G).stackTraces = false) (h : fmHp) {d g sl se pl pe : Nat} {gf sf pf : Nat → Nat} {N : Nat → Int32} {K pk : Nat} (hC : CC G h) (hM : MineAt G h d g sl se pl pe gf sf pf N K pk)  : Ct G yX2_longest (ws_ yX2_longest cX2_longest 3 (some .int)) { frames := 4, cells := 0, slots := 0, locals := 89 } [.ref d] h (fmRet (some (.int (nI (sLong N)))) h) fmNo := by
  refine Ct.of hl (by decide +kernel) (Nat.le_of_ble_eq_true rfl) (fun Γ E P => ?_)
  obtain ⟨hd, ⟨gq, hg, hgq⟩, hgd, hS, hSh, hP, hPk, hK8, hP6, hsp, hse⟩ := id hM
  obtain ⟨mcS, hsl⟩ := hS.o
  obtain ⟨mcP, hpl⟩ := hP.o
  refine r_iconst E (nI 0) dX2_longest_0 (by decide) ?_
  refine r_istore_n E [some (.ref d), some (.int (nI 0)), none] dX2_longest_1 rfl rfl ?_
  refine r_iconst E (nI 0) dX2_longest_2 (by decide) ?_
  refine r_istore_n E [some (.ref d), some (.int (nI 0)), some (.int (nI 0))] dX2_longest_3 rfl rfl ?_
  have lp1 : ∀ (n1 i1 : Nat), i1 + n1 = 64 → fmW G Γ (h) 0 0 4 [some (.ref d), some (.int (nI (sLongC N i1))), some (.int (nI i1))] [] := by
    intro n1
    induction n1 with
    | zero =>
      intro i1 hi1
      refine r_iload_n E dX2_longest_4 rfl ?_
      refine r_bipush E (nI 64) dX2_longest_5 (by decide) ?_
      refine r_icmpN_ge (tgt := 36) E dX2_longest_7 (by decide) (by omega) (by omega) (fun c2 => ?_) (fun c2 => ?_)
      · obtain rfl : i1 = 64 := by omega
        refine r_iload_n E dX2_longest_36 rfl ?_
        refine r_top (v' := .int (nI (sLong N))) (congrArg (fun z => Value.int (nI z)) (sLongC_eq N 64)) ?_
        exact r_ireturn E P rfl dX2_longest_37 ⟨rfl, rfl⟩
      · exfalso; omega
    | succ n1 ih =>
      intro i1 hi1
      refine r_iload_n E dX2_longest_4 rfl ?_
      refine r_bipush E (nI 64) dX2_longest_5 (by decide) ?_
      refine r_icmpN_ge (tgt := 36) E dX2_longest_7 (by decide) (by omega) (by omega) (fun c3 => ?_) (fun c3 => ?_)
      · exfalso; omega
      · have h0 := sLongK_le N i1
        rw [← sLongC_eq] at h0
        have h1 := sSpan_le N i1 true
        have h2 := sSpan_le N i1 false
        refine r_iload_n E dX2_longest_10 rfl ?_
        refine r_aload_n E dX2_longest_11 rfl ?_
        refine r_iload_n E dX2_longest_12 rfl ?_
        refine r_iconst E (nI 1) dX2_longest_13 (by decide) ?_
        refine r_callV1 (v1 := .int (nI (sSpan N i1 true))) E (ct_X2_span G hl (h) hC hM i1 true (by omega)) mX2_span q307 q308 q309 (fun H a1 => fm_rc (ci := 2) (C := RX2) (T := TX2) (N := 7) a1 rfl E.v hd) rfl rfl (Nat.le_of_ble_eq_true rfl) (Nat.le_of_ble_eq_true rfl) (Nat.le_of_ble_eq_true rfl) dX2_longest_14 0 0 (Nat.le_of_ble_eq_true rfl) (Nat.le_of_ble_eq_true rfl) ?_
        refine r_aload_n E dX2_longest_17 rfl ?_
        refine r_iload_n E dX2_longest_18 rfl ?_
        refine r_iconst E (nI 0) dX2_longest_19 (by decide) ?_
        refine r_callV1 (v1 := .int (nI (sSpan N i1 false))) E (ct_X2_span G hl (h) hC hM i1 false (by omega)) mX2_span q307 q308 q309 (fun H a1 => fm_rc (ci := 2) (C := RX2) (T := TX2) (N := 7) a1 rfl E.v hd) rfl rfl (Nat.le_of_ble_eq_true rfl) (Nat.le_of_ble_eq_true rfl) (Nat.le_of_ble_eq_true rfl) dX2_longest_20 0 0 (Nat.le_of_ble_eq_true rfl) (Nat.le_of_ble_eq_true rfl) ?_
        refine r_max E (by omega) (by omega) q341 q342 q101 q343 (Nat.le_of_ble_eq_true rfl) (Nat.le_of_ble_eq_true rfl) dX2_longest_23 ?_
        refine r_max E (by omega) (by omega) q341 q342 q101 q343 (Nat.le_of_ble_eq_true rfl) (Nat.le_of_ble_eq_true rfl) dX2_longest_26 ?_
        refine r_istore_n E [some (.ref d), some (.int (nI (max (sLongC N i1) (max (sSpan N i1 true) (sSpan N i1 false))))), some (.int (nI i1))] dX2_longest_29 rfl rfl ?_
        refine r_iinc E (nI (i1 + 1)) [some (.ref d), some (.int (nI (max (sLongC N i1) (max (sSpan N i1 true) (sSpan N i1 false))))), some (.int (nI (i1 + 1)))] dX2_longest_30 rfl (nI_1 i1) rfl rfl ?_
        refine r_goto (tgt := 4) E dX2_longest_33 (by decide) ?_
        exact ih (i1 + 1) (by omega)
  exact lp1 64 0 (by omega)

