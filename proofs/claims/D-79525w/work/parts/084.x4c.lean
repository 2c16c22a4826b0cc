set_option maxHeartbeats 4000000 in
theorem ct_X4_sumOf (G : fmG) (hl : (fmLn G).stackTraces = false) (m : Nat) (S : MSt) (h0 : fmHp) (f0 nn : Nat) (hf : f0 + nn ≤ 356) : Ct G yX4_sumOf (ws_ yX4_sumOf cX4_sumOf 5 (some .int)) { frames := 0, cells := 0, slots := 0, locals := 0 } [.ref m, .int (nI f0), .int (nI nn)] (mdl m S h0) (fmRet (some (.int (sSum (fun k => S.2 1 (f0 + k)) nn))) (mdl m S h0)) fmNo := by
  refine Ct.of hl (by decide +kernel) (Nat.le_of_ble_eq_true rfl) (fun Γ E P => ?_)
  refine r_iconst E (nI 0) dX4_sumOf_0 (by decide) ?_
  refine r_istore_n E [some (.ref m), some (.int (nI f0)), some (.int (nI nn)), some (.int (nI 0)), none] dX4_sumOf_1 rfl rfl ?_
  refine r_iconst E (nI 0) dX4_sumOf_2 (by decide) ?_
  refine r_istore E [some (.ref m), some (.int (nI f0)), some (.int (nI nn)), some (.int (nI 0)), some (.int (nI 0))] dX4_sumOf_3 rfl rfl ?_
  have lp1 : ∀ (n1 i1 : Nat), i1 + n1 = nn → fmW G Γ (mdl m S h0) 0 0 5 [some (.ref m), some (.int (nI f0)), some (.int (nI nn)), some (.int (sSum (fun k => S.2 1 (f0 + k)) i1)), some (.int (nI i1))] [] := by
    intro n1
    induction n1 with
    | zero =>
      intro i1 hi1
      refine r_iload E dX4_sumOf_5 rfl ?_
      refine r_iload_n E dX4_sumOf_7 rfl ?_
      refine r_icmpN_ge (tgt := 29) E dX4_sumOf_8 (by decide) (by omega) (by omega) (fun c2 => ?_) (fun c2 => ?_)
      · obtain rfl : i1 = nn := by omega
        refine r_iload_n E dX4_sumOf_29 rfl ?_
        exact r_ireturn E P rfl dX4_sumOf_30 ⟨rfl, rfl⟩
      · exfalso; omega
    | succ n1 ih =>
      intro i1 hi1
      refine r_iload E dX4_sumOf_5 rfl ?_
      refine r_iload_n E dX4_sumOf_7 rfl ?_
      refine r_icmpN_ge (tgt := 29) E dX4_sumOf_8 (by decide) (by omega) (by omega) (fun c3 => ?_) (fun c3 => ?_)
      · exfalso; omega
      · refine r_iload_n E dX4_sumOf_11 rfl ?_
        refine r_aload_n E dX4_sumOf_12 rfl ?_
        refine r_getf E cl_X4 1 (by decide) q1887 mdl_o rfl dX4_sumOf_13 ?_
        refine r_iload_n E dX4_sumOf_16 rfl ?_
        refine r_iload E dX4_sumOf_17 rfl ?_
        refine r_iaddN E dX4_sumOf_19 ?_
        refine r_iald E mdl_1 (by omega) (by omega) dX4_sumOf_20 ?_
        refine r_iadd E dX4_sumOf_21 ?_
        refine r_istore_n E [some (.ref m), some (.int (nI f0)), some (.int (nI nn)), some (.int ((sSum (fun k => S.2 1 (f0 + k)) i1) + ((S.2 1) (f0 + i1)))), some (.int (nI i1))] dX4_sumOf_22 rfl rfl ?_
        refine r_iinc E (nI (i1 + 1)) [some (.ref m), some (.int (nI f0)), some (.int (nI nn)), some (.int ((sSum (fun k => S.2 1 (f0 + k)) i1) + ((S.2 1) (f0 + i1)))), some (.int (nI (i1 + 1)))] dX4_sumOf_23 rfl (nI_1 i1) rfl rfl ?_
        refine r_goto (tgt := 5) E dX4_sumOf_26 (by decide) ?_
        exact ih (i1 + 1) (by omega)
  exact lp1 nn 0 (by omega)

set_option maxHeartbeats 4000000 in
theorem ct_X4_countStates (G : fmG) (hl : (fmLn G).stackTraces = false) (m : Nat) (S : MSt) (h0 : fmHp) (s : Int32) : Ct G yX4_countStates (ws_ yX4_countStates cX4_countStates 4 (some .int)) { frames := 0, cells := 0, slots := 0, locals := 0 } [.ref m, .int s] (mdl m S h0) (fmRet (some (.int (nI (sCount (fun c => decide (S.2 1 c = s)) 64)))) (mdl m S h0)) fmNo := by
  refine Ct.of hl (by decide +kernel) (Nat.le_of_ble_eq_true rfl) (fun Γ E P => ?_)
  refine r_iconst E (nI 0) dX4_countStates_0 (by decide) ?_
  refine r_istore_n E [some (.ref m), some (.int s), some (.int (nI 0)), none] dX4_countStates_1 rfl rfl ?_
  refine r_iconst E (nI 0) dX4_countStates_2 (by decide) ?_
  refine r_istore_n E [some (.ref m), some (.int s), some (.int (nI 0)), some (.int (nI 0))] dX4_countStates_3 rfl rfl ?_
  have lp1 : ∀ (n1 i1 : Nat), i1 + n1 = 64 → fmW G Γ (mdl m S h0) 0 0 4 [some (.ref m), some (.int s), some (.int (nI (sCount (fun c => decide (S.2 1 c = s)) i1))), some (.int (nI i1))] [] := by
    intro n1
    induction n1 with
    | zero =>
      intro i1 hi1
      refine r_iload_n E dX4_countStates_4 rfl ?_
      refine r_bipush E (nI 64) dX4_countStates_5 (by decide) ?_
      refine r_icmpN_ge (tgt := 36) E dX4_countStates_7 (by decide) (by omega) (by omega) (fun c2 => ?_) (fun c2 => ?_)
      · obtain rfl : i1 = 64 := by omega
        refine r_iload_n E dX4_countStates_36 rfl ?_
        exact r_ireturn E P rfl dX4_countStates_37 ⟨rfl, rfl⟩
      · exfalso; omega
    | succ n1 ih =>
      intro i1 hi1
      refine r_iload_n E dX4_countStates_4 rfl ?_
      refine r_bipush E (nI 64) dX4_countStates_5 (by decide) ?_
      refine r_icmpN_ge (tgt := 36) E dX4_countStates_7 (by decide) (by omega) (by omega) (fun c3 => ?_) (fun c3 => ?_)
      · exfalso; omega
      · refine r_iload_n E dX4_countStates_10 rfl ?_
        suffices j4 : fmW G Γ (mdl m S h0) 0 0 28 [some (.ref m), some (.int s), some (.int (nI (sCount (fun c => decide (S.2 1 c = s)) i1))), some (.int (nI i1))] [.int (nI (if decide (S.2 1 i1 = s) = true then 1 else 0)), .int (nI (sCount (fun c => decide (S.2 1 c = s)) i1))] by
          refine r_aload_n E dX4_countStates_11 rfl ?_
          refine r_getf E cl_X4 1 (by decide) q1887 mdl_o rfl dX4_countStates_12 ?_
          refine r_iconst E (nI 0) dX4_countStates_15 (by decide) ?_
          refine r_iload_n E dX4_countStates_16 rfl ?_
          refine r_iaddN E dX4_countStates_17 ?_
          refine r_topi (congrArg nI (Nat.zero_add _)) ?_
          refine r_iald E mdl_1 (by omega) (by omega) dX4_countStates_18 ?_
          refine r_iload_n E dX4_countStates_19 rfl ?_
          refine r_icmp_ne (x := (S.2 1) i1) (y := s) (tgt := 27) E dX4_countStates_20 (by decide) (fun c5 => ?_) (fun c5 => ?_)
          · refine r_iconst E (nI 0) dX4_countStates_27 (by decide) ?_
            refine r_top (v' := .int (nI (if decide (S.2 1 i1 = s) = true then 1 else 0))) (congrArg (fun z => Value.int (nI z)) (by simp [c5])) ?_
            exact j4
          · refine r_iconst E (nI 1) dX4_countStates_23 (by decide) ?_
            refine r_goto (tgt := 28) E dX4_countStates_24 (by decide) ?_
            refine r_top (v' := .int (nI (if decide (S.2 1 i1 = s) = true then 1 else 0))) (congrArg (fun z => Value.int (nI z)) (by simp [c5])) ?_
            exact j4
        refine r_iaddN E dX4_countStates_28 ?_
        refine r_istore_n E [some (.ref m), some (.int s), some (.int (nI (sCount (fun c => decide (S.2 1 c = s)) i1 + (if decide (S.2 1 i1 = s) = true then 1 else 0)))), some (.int (nI i1))] dX4_countStates_29 rfl rfl ?_
        refine r_iinc E (nI (i1 + 1)) [some (.ref m), some (.int s), some (.int (nI (sCount (fun c => decide (S.2 1 c = s)) i1 + (if decide (S.2 1 i1 = s) = true then 1 else 0)))), some (.int (nI (i1 + 1)))] dX4_countStates_30 rfl (nI_1 i1) rfl rfl ?_
        refine r_goto (tgt := 4) E dX4_countStates_33 (by decide) ?_
        exact ih (i1 + 1) (by omega)
  exact lp1 64 0 (by omega)

set_option maxHeartbeats 4000000 in
theorem ct_X4_nodulesInChalk (G : fmG) (hl : (fmLn G).stackTraces = false) (m : Nat) (S : MSt) (h0 : fmHp)  : Ct G yX4_nodulesInChalk (ws_ yX4_nodulesInChalk cX4_nodulesInChalk 3 (some .int)) { frames := 1, cells := 0, slots := 0, locals := 21 } [.ref m] (mdl m S h0) (fmRet (some (.int (sSum (fun c => if sChalk (S.2 1) c = true then S.2 1 (128 + c) else nI 0) 64))) (mdl m S h0)) fmNo := by
  refine Ct.of hl (by decide +kernel) (Nat.le_of_ble_eq_true rfl) (fun Γ E P => ?_)
  refine r_iconst E (nI 0) dX4_nodulesInChalk_0 (by decide) ?_
  refine r_istore_n E [some (.ref m), some (.int (nI 0)), none] dX4_nodulesInChalk_1 rfl rfl ?_
  refine r_iconst E (nI 0) dX4_nodulesInChalk_2 (by decide) ?_
  refine r_istore_n E [some (.ref m), some (.int (nI 0)), some (.int (nI 0))] dX4_nodulesInChalk_3 rfl rfl ?_
  have lp1 : ∀ (n1 i1 : Nat), i1 + n1 = 64 → fmW G Γ (mdl m S h0) 0 0 4 [some (.ref m), some (.int (sSum (fun c => if sChalk (S.2 1) c = true then S.2 1 (128 + c) else nI 0) i1)), some (.int (nI i1))] [] := by
    intro n1
    induction n1 with
    | zero =>
      intro i1 hi1
      refine r_iload_n E dX4_nodulesInChalk_4 rfl ?_
      refine r_bipush E (nI 64) dX4_nodulesInChalk_5 (by decide) ?_
      refine r_icmpN_ge (tgt := 41) E dX4_nodulesInChalk_7 (by decide) (by omega) (by omega) (fun c2 => ?_) (fun c2 => ?_)
      · obtain rfl : i1 = 64 := by omega
        refine r_iload_n E dX4_nodulesInChalk_41 rfl ?_
        exact r_ireturn E P rfl dX4_nodulesInChalk_42 ⟨rfl, rfl⟩
      · exfalso; omega
    | succ n1 ih =>
      intro i1 hi1
      refine r_iload_n E dX4_nodulesInChalk_4 rfl ?_
      refine r_bipush E (nI 64) dX4_nodulesInChalk_5 (by decide) ?_
      refine r_icmpN_ge (tgt := 41) E dX4_nodulesInChalk_7 (by decide) (by omega) (by omega) (fun c3 => ?_) (fun c3 => ?_)
      · exfalso; omega
      · refine r_iload_n E dX4_nodulesInChalk_10 rfl ?_
        suffices j4 : fmW G Γ (mdl m S h0) 0 0 33 [some (.ref m), some (.int (sSum (fun c => if sChalk (S.2 1) c = true then S.2 1 (128 + c) else nI 0) i1)), some (.int (nI i1))] [.int (if sChalk (S.2 1) i1 = true then S.2 1 (128 + i1) else nI 0), .int (sSum (fun c => if sChalk (S.2 1) c = true then S.2 1 (128 + c) else nI 0) i1)] by
          refine r_aload_n E dX4_nodulesInChalk_11 rfl ?_
          refine r_iload_n E dX4_nodulesInChalk_12 rfl ?_
          refine r_callV1 (v1 := .int (bI (sChalk (S.2 1) i1))) E (ct_X4_isChalk G hl m S h0 i1 (by omega)) mX4_isChalk q1969 q1971 qs34 (fun H a1 => fm_rc (ci := 0) (C := RX4) (T := TX4) (N := 21) a1 rfl E.v mdl_o) rfl rfl (Nat.le_of_ble_eq_true rfl) (Nat.le_of_ble_eq_true rfl) (Nat.le_of_ble_eq_true rfl) dX4_nodulesInChalk_13 0 0 (Nat.le_of_ble_eq_true rfl) (Nat.le_of_ble_eq_true rfl) ?_
          refine r_ifB_eq (b := sChalk (S.2 1) i1) (tgt := 32) E dX4_nodulesInChalk_16 (by decide) (fun c5 => ?_) (fun c5 => ?_)
          · refine r_iconst E (nI 0) dX4_nodulesInChalk_32 (by decide) ?_
            refine r_top (v' := .int (if sChalk (S.2 1) i1 = true then S.2 1 (128 + i1) else nI 0)) (congrArg (fun z => Value.int z) (by simp [c5])) ?_
            exact j4
          · refine r_aload_n E dX4_nodulesInChalk_19 rfl ?_
            refine r_getf E cl_X4 1 (by decide) q1887 mdl_o rfl dX4_nodulesInChalk_20 ?_
            refine r_sipush E (nI 128) dX4_nodulesInChalk_23 (by decide) ?_
            refine r_iload_n E dX4_nodulesInChalk_26 rfl ?_
            refine r_iaddN E dX4_nodulesInChalk_27 ?_
            refine r_iald E mdl_1 (by omega) (by omega) dX4_nodulesInChalk_28 ?_
            refine r_goto (tgt := 33) E dX4_nodulesInChalk_29 (by decide) ?_
            refine r_top (v' := .int (if sChalk (S.2 1) i1 = true then S.2 1 (128 + i1) else nI 0)) (congrArg (fun z => Value.int z) (by simp [c5])) ?_
            exact j4
        refine r_iadd E dX4_nodulesInChalk_33 ?_
        refine r_istore_n E [some (.ref m), some (.int ((sSum (fun c => if sChalk (S.2 1) c = true then S.2 1 (128 + c) else nI 0) i1) + (if sChalk (S.2 1) i1 = true then S.2 1 (128 + i1) else nI 0))), some (.int (nI i1))] dX4_nodulesInChalk_34 rfl rfl ?_
        refine r_iinc E (nI (i1 + 1)) [some (.ref m), some (.int ((sSum (fun c => if sChalk (S.2 1) c = true then S.2 1 (128 + c) else nI 0) i1) + (if sChalk (S.2 1) i1 = true then S.2 1 (128 + i1) else nI 0))), some (.int (nI (i1 + 1)))] dX4_nodulesInChalk_35 rfl (nI_1 i1) rfl rfl ?_
        refine r_goto (tgt := 4) E dX4_nodulesInChalk_38 (by decide) ?_
        exact ih (i1 + 1) (by omega)
  exact lp1 64 0 (by omega)

set_option maxHeartbeats 4000000 in
theorem ct_X4_openCells (G : fmG) (hl : (fmLn G).stackTraces = false) (m : Nat) (S : MSt) (h0 : fmHp) (s : Int32) : Ct G yX4_openCells (ws_ yX4_openCells cX4_openCells 4 (some .int)) { frames := 2, cells := 0, slots := 0, locals := 43 } [.ref m, .int s] (mdl m S h0) (fmRet (some (.int (nI (sCount (fun c => sOpenOf (S.2 1) (some c) s) 64)))) (mdl m S h0)) fmNo := by
  refine Ct.of hl (by decide +kernel) (Nat.le_of_ble_eq_true rfl) (fun Γ E P => ?_)
  refine r_iconst E (nI 0) dX4_openCells_0 (by decide) ?_
  refine r_istore_n E [some (.ref m), some (.int s), some (.int (nI 0)), none] dX4_openCells_1 rfl rfl ?_
  refine r_iconst E (nI 0) dX4_openCells_2 (by decide) ?_
  refine r_istore_n E [some (.ref m), some (.int s), some (.int (nI 0)), some (.int (nI 0))] dX4_openCells_3 rfl rfl ?_
  have lp1 : ∀ (n1 i1 : Nat), i1 + n1 = 64 → fmW G Γ (mdl m S h0) 0 0 4 [some (.ref m), some (.int s), some (.int (nI (sCount (fun c => sOpenOf (S.2 1) (some c) s) i1))), some (.int (nI i1))] [] := by
    intro n1
    induction n1 with
    | zero =>
      intro i1 hi1
      refine r_iload_n E dX4_openCells_4 rfl ?_
      refine r_bipush E (nI 64) dX4_openCells_5 (by decide) ?_
      refine r_icmpN_ge (tgt := 33) E dX4_openCells_7 (by decide) (by omega) (by omega) (fun c2 => ?_) (fun c2 => ?_)
      · obtain rfl : i1 = 64 := by omega
        refine r_iload_n E dX4_openCells_33 rfl ?_
        exact r_ireturn E P rfl dX4_openCells_34 ⟨rfl, rfl⟩
      · exfalso; omega
    | succ n1 ih =>
      intro i1 hi1
      refine r_iload_n E dX4_openCells_4 rfl ?_
      refine r_bipush E (nI 64) dX4_openCells_5 (by decide) ?_
      refine r_icmpN_ge (tgt := 33) E dX4_openCells_7 (by decide) (by omega) (by omega) (fun c3 => ?_) (fun c3 => ?_)
      · exfalso; omega
      · refine r_iload_n E dX4_openCells_10 rfl ?_
        suffices j4 : fmW G Γ (mdl m S h0) 0 0 25 [some (.ref m), some (.int s), some (.int (nI (sCount (fun c => sOpenOf (S.2 1) (some c) s) i1))), some (.int (nI i1))] [.int (nI (if sOpenOf (S.2 1) (some i1) s = true then 1 else 0)), .int (nI (sCount (fun c => sOpenOf (S.2 1) (some c) s) i1))] by
          refine r_aload_n E dX4_openCells_11 rfl ?_
          refine r_iload_n E dX4_openCells_12 rfl ?_
          refine r_iload_n E dX4_openCells_13 rfl ?_
          refine r_callV1 (v1 := .int (bI (sOpenOf (S.2 1) (some i1) s))) E (ct_X4_isOpenOf G hl m S h0 (some i1) s (by intro x hx; first | exact sBsd_lt (by omega) hx | exact (ho x hx).1 | exact ho x hx | (cases hx; omega) | cases hx)) mX4_isOpenOf q2067 q2069 qs49 (fun H a1 => fm_rc (ci := 0) (C := RX4) (T := TX4) (N := 21) a1 rfl E.v mdl_o) rfl rfl (Nat.le_of_ble_eq_true rfl) (Nat.le_of_ble_eq_true rfl) (Nat.le_of_ble_eq_true rfl) dX4_openCells_14 0 0 (Nat.le_of_ble_eq_true rfl) (Nat.le_of_ble_eq_true rfl) ?_
          refine r_ifB_eq (b := sOpenOf (S.2 1) (some i1) s) (tgt := 24) E dX4_openCells_17 (by decide) (fun c5 => ?_) (fun c5 => ?_)
          · refine r_iconst E (nI 0) dX4_openCells_24 (by decide) ?_
            refine r_top (v' := .int (nI (if sOpenOf (S.2 1) (some i1) s = true then 1 else 0))) (congrArg (fun z => Value.int (nI z)) (by simp [c5])) ?_
            exact j4
          · refine r_iconst E (nI 1) dX4_openCells_20 (by decide) ?_
            refine r_goto (tgt := 25) E dX4_openCells_21 (by decide) ?_
            refine r_top (v' := .int (nI (if sOpenOf (S.2 1) (some i1) s = true then 1 else 0))) (congrArg (fun z => Value.int (nI z)) (by simp [c5])) ?_
            exact j4
        refine r_iaddN E dX4_openCells_25 ?_
        refine r_istore_n E [some (.ref m), some (.int s), some (.int (nI (sCount (fun c => sOpenOf (S.2 1) (some c) s) i1 + (if sOpenOf (S.2 1) (some i1) s = true then 1 else 0)))), some (.int (nI i1))] dX4_openCells_26 rfl rfl ?_
        refine r_iinc E (nI (i1 + 1)) [some (.ref m), some (.int s), some (.int (nI (sCount (fun c => sOpenOf (S.2 1) (some c) s) i1 + (if sOpenOf (S.2 1) (some i1) s = true then 1 else 0)))), some (.int (nI (i1 + 1)))] dX4_openCells_27 rfl (nI_1 i1) rfl rfl ?_
        refine r_goto (tgt := 4) E dX4_openCells_30 (by decide) ?_
        exact ih (i1 + 1) (by omega)
  exact lp1 64 0 (by omega)

set_option maxHeartbeats 4000000 in
theorem ct_X4_propsOf (G : fmG) (hl : (fmLn G).stackTraces = false) (m : Nat) (S : MSt) (h0 : fmHp) (s : Int32) : Ct G yX4_propsOf (ws_ yX4_propsOf cX4_propsOf 4 (some .int)) { frames := 0, cells := 0, slots := 0, locals := 0 } [.ref m, .int s] (mdl m S h0) (fmRet (some (.int (sSum (fun c => if S.2 1 (192 + c) = s then S.2 1 (256 + c) else nI 0) 64))) (mdl m S h0)) fmNo := by
  refine Ct.of hl (by decide +kernel) (Nat.le_of_ble_eq_true rfl) (fun Γ E P => ?_)
  refine r_iconst E (nI 0) dX4_propsOf_0 (by decide) ?_
  refine r_istore_n E [some (.ref m), some (.int s), some (.int (nI 0)), none] dX4_propsOf_1 rfl rfl ?_
  refine r_iconst E (nI 0) dX4_propsOf_2 (by decide) ?_
  refine r_istore_n E [some (.ref m), some (.int s), some (.int (nI 0)), some (.int (nI 0))] dX4_propsOf_3 rfl rfl ?_
  have lp1 : ∀ (n1 i1 : Nat), i1 + n1 = 64 → fmW G Γ (mdl m S h0) 0 0 4 [some (.ref m), some (.int s), some (.int (sSum (fun c => if S.2 1 (192 + c) = s then S.2 1 (256 + c) else nI 0) i1)), some (.int (nI i1))] [] := by
    intro n1
    induction n1 with
    | zero =>
      intro i1 hi1
      refine r_iload_n E dX4_propsOf_4 rfl ?_
      refine r_bipush E (nI 64) dX4_propsOf_5 (by decide) ?_
      refine r_icmpN_ge (tgt := 47) E dX4_propsOf_7 (by decide) (by omega) (by omega) (fun c2 => ?_) (fun c2 => ?_)
      · obtain rfl : i1 = 64 := by omega
        refine r_iload_n E dX4_propsOf_47 rfl ?_
        exact r_ireturn E P rfl dX4_propsOf_48 ⟨rfl, rfl⟩
      · exfalso; omega
    | succ n1 ih =>
      intro i1 hi1
      refine r_iload_n E dX4_propsOf_4 rfl ?_
      refine r_bipush E (nI 64) dX4_propsOf_5 (by decide) ?_
      refine r_icmpN_ge (tgt := 47) E dX4_propsOf_7 (by decide) (by omega) (by omega) (fun c3 => ?_) (fun c3 => ?_)
      · exfalso; omega
      · refine r_iload_n E dX4_propsOf_10 rfl ?_
        suffices j4 : fmW G Γ (mdl m S h0) 0 0 39 [some (.ref m), some (.int s), some (.int (sSum (fun c => if S.2 1 (192 + c) = s then S.2 1 (256 + c) else nI 0) i1)), some (.int (nI i1))] [.int (if S.2 1 (192 + i1) = s then S.2 1 (256 + i1) else nI 0), .int (sSum (fun c => if S.2 1 (192 + c) = s then S.2 1 (256 + c) else nI 0) i1)] by
          refine r_aload_n E dX4_propsOf_11 rfl ?_
          refine r_getf E cl_X4 1 (by decide) q1887 mdl_o rfl dX4_propsOf_12 ?_
          refine r_sipush E (nI 192) dX4_propsOf_15 (by decide) ?_
          refine r_iload_n E dX4_propsOf_18 rfl ?_
          refine r_iaddN E dX4_propsOf_19 ?_
          refine r_iald E mdl_1 (by omega) (by omega) dX4_propsOf_20 ?_
          refine r_iload_n E dX4_propsOf_21 rfl ?_
          refine r_icmp_ne (x := (S.2 1) (192 + i1)) (y := s) (tgt := 38) E dX4_propsOf_22 (by decide) (fun c5 => ?_) (fun c5 => ?_)
          · refine r_iconst E (nI 0) dX4_propsOf_38 (by decide) ?_
            refine r_top (v' := .int (if S.2 1 (192 + i1) = s then S.2 1 (256 + i1) else nI 0)) (congrArg (fun z => Value.int z) (by simp [c5])) ?_
            exact j4
          · refine r_aload_n E dX4_propsOf_25 rfl ?_
            refine r_getf E cl_X4 1 (by decide) q1887 mdl_o rfl dX4_propsOf_26 ?_
            refine r_sipush E (nI 256) dX4_propsOf_29 (by decide) ?_
            refine r_iload_n E dX4_propsOf_32 rfl ?_
            refine r_iaddN E dX4_propsOf_33 ?_
            refine r_iald E mdl_1 (by omega) (by omega) dX4_propsOf_34 ?_
            refine r_goto (tgt := 39) E dX4_propsOf_35 (by decide) ?_
            refine r_top (v' := .int (if S.2 1 (192 + i1) = s then S.2 1 (256 + i1) else nI 0)) (congrArg (fun z => Value.int z) (by simp [c5])) ?_
            exact j4
        refine r_iadd E dX4_propsOf_39 ?_
        refine r_istore_n E [some (.ref m), some (.int s), some (.int ((sSum (fun c => if S.2 1 (192 + c) = s then S.2 1 (256 + c) else nI 0) i1) + (if S.2 1 (192 + i1) = s then S.2 1 (256 + i1) else nI 0))), some (.int (nI i1))] dX4_propsOf_40 rfl rfl ?_
        refine r_iinc E (nI (i1 + 1)) [some (.ref m), some (.int s), some (.int ((sSum (fun c => if S.2 1 (192 + c) = s then S.2 1 (256 + c) else nI 0) i1) + (if S.2 1 (192 + i1) = s then S.2 1 (256 + i1) else nI 0))), some (.int (nI (i1 + 1)))] dX4_propsOf_41 rfl (nI_1 i1) rfl rfl ?_
        refine r_goto (tgt := 4) E dX4_propsOf_44 (by decide) ?_
        exact ih (i1 + 1) (by omega)
  exact lp1 64 0 (by omega)

set_option maxHeartbeats 4000000 in
theorem ct_X4_isDiggable (G : fmG) (hl : (fmLn G).stackTraces = false) (m : Nat) (S : MSt) (h0 : fmHp) (s : Int32) (c : Nat) (K : Nat) (hK : S.2 1 350 = nI K) (hK8 : K ≤ 8) (pk : Nat) (hP : S.2 1 351 = nI pk) (hP6 : pk ≤ 6) (hc : c < 64) : Ct G yX4_isDiggable (ws_ yX4_isDiggable cX4_isDiggable 4 (some .boolean)) { frames := 5, cells := 0, slots := 0, locals := 114 } [.ref m, .int s, .int (nI c)] (mdl m S h0) (fmRet (some (.int (bI (sDigs (S.2 1) s c K pk)))) (mdl m S h0)) fmNo := by
  refine Ct.of hl (by decide +kernel) (Nat.le_of_ble_eq_true rfl) (fun Γ E P => ?_)
  suffices j1 : fmW G Γ (mdl m S h0) 0 0 31 [some (.ref m), some (.int s), some (.int (nI c)), none] [.int (bI (sChalk (S.2 1) c && (sNext (S.2 1) c s && (sMeet (S.2 1) c s K).isNone)))] by
    refine r_aload_n E dX4_isDiggable_0 rfl ?_
    refine r_iload_n E dX4_isDiggable_1 rfl ?_
    refine r_callV1 (v1 := .int (bI (sChalk (S.2 1) c))) E (ct_X4_isChalk G hl m S h0 c (by omega)) mX4_isChalk q1969 q1971 qs34 (fun H a1 => fm_rc (ci := 0) (C := RX4) (T := TX4) (N := 21) a1 rfl E.v mdl_o) rfl rfl (Nat.le_of_ble_eq_true rfl) (Nat.le_of_ble_eq_true rfl) (Nat.le_of_ble_eq_true rfl) dX4_isDiggable_2 0 0 (Nat.le_of_ble_eq_true rfl) (Nat.le_of_ble_eq_true rfl) ?_
    refine r_ifB_eq (b := sChalk (S.2 1) c) (tgt := 30) E dX4_isDiggable_5 (by decide) (fun c2 => ?_) (fun c2 => ?_)
    · refine r_iconst E (nI 0) dX4_isDiggable_30 (by decide) ?_
      refine r_top (v' := .int (bI (sChalk (S.2 1) c && (sNext (S.2 1) c s && (sMeet (S.2 1) c s K).isNone)))) (by rw [show (sChalk (S.2 1) c && (sNext (S.2 1) c s && (sMeet (S.2 1) c s K).isNone)) = false by simp [c2, Option.isSome_iff_ne_none]]; rfl) ?_
      exact j1
    · refine r_aload_n E dX4_isDiggable_8 rfl ?_
      refine r_iload_n E dX4_isDiggable_9 rfl ?_
      refine r_iload_n E dX4_isDiggable_10 rfl ?_
      refine r_callV1 (v1 := .int (bI (sNext (S.2 1) c s))) E (ct_X4_isNextTo G hl m S h0 c s (by omega)) mX4_isNextTo q2063 q2065 qs48 (fun H a1 => fm_rc (ci := 0) (C := RX4) (T := TX4) (N := 21) a1 rfl E.v mdl_o) rfl rfl (Nat.le_of_ble_eq_true rfl) (Nat.le_of_ble_eq_true rfl) (Nat.le_of_ble_eq_true rfl) dX4_isDiggable_11 0 0 (Nat.le_of_ble_eq_true rfl) (Nat.le_of_ble_eq_true rfl) ?_
      refine r_ifB_eq (b := sNext (S.2 1) c s) (tgt := 30) E dX4_isDiggable_14 (by decide) (fun c3 => ?_) (fun c3 => ?_)
      · refine r_iconst E (nI 0) dX4_isDiggable_30 (by decide) ?_
        refine r_top (v' := .int (bI (sChalk (S.2 1) c && (sNext (S.2 1) c s && (sMeet (S.2 1) c s K).isNone)))) (by rw [show (sChalk (S.2 1) c && (sNext (S.2 1) c s && (sMeet (S.2 1) c s K).isNone)) = false by simp [c2, c3, Option.isSome_iff_ne_none]]; rfl) ?_
        exact j1
      · refine r_aload_n E dX4_isDiggable_17 rfl ?_
        refine r_iload_n E dX4_isDiggable_18 rfl ?_
        refine r_iload_n E dX4_isDiggable_19 rfl ?_
        refine r_callV1 (v1 := .int (cI (sMeet (S.2 1) c s K))) E (ct_X4_otherShaftBeside G hl m S h0 c s K hK hK8 (by omega)) mX4_otherShaftBeside q2059 q2061 qs47 (fun H a1 => fm_rc (ci := 0) (C := RX4) (T := TX4) (N := 21) a1 rfl E.v mdl_o) rfl rfl (Nat.le_of_ble_eq_true rfl) (Nat.le_of_ble_eq_true rfl) (Nat.le_of_ble_eq_true rfl) dX4_isDiggable_20 0 0 (Nat.le_of_ble_eq_true rfl) (Nat.le_of_ble_eq_true rfl) ?_
        refine r_ifC_ge (o := sMeet (S.2 1) c s K) (tgt := 30) E dX4_isDiggable_23 (by decide) (sMeet_31 hK8) (fun c4 => ?_) (fun c4 => ?_)
        · refine r_iconst E (nI 0) dX4_isDiggable_30 (by decide) ?_
          refine r_top (v' := .int (bI (sChalk (S.2 1) c && (sNext (S.2 1) c s && (sMeet (S.2 1) c s K).isNone)))) (by rw [show (sChalk (S.2 1) c && (sNext (S.2 1) c s && (sMeet (S.2 1) c s K).isNone)) = false by simp [c2, c3, c4, Option.isSome_iff_ne_none]]; rfl) ?_
          exact j1
        · refine r_iconst E (nI 1) dX4_isDiggable_26 (by decide) ?_
          refine r_goto (tgt := 31) E dX4_isDiggable_27 (by decide) ?_
          refine r_top (v' := .int (bI (sChalk (S.2 1) c && (sNext (S.2 1) c s && (sMeet (S.2 1) c s K).isNone)))) (by rw [show (sChalk (S.2 1) c && (sNext (S.2 1) c s && (sMeet (S.2 1) c s K).isNone)) = true by simp [c2, c3, c4, Option.isSome_iff_ne_none]]; rfl) ?_
          exact j1
  refine r_istore_n E [some (.ref m), some (.int s), some (.int (nI c)), some (.int (bI (sChalk (S.2 1) c && (sNext (S.2 1) c s && (sMeet (S.2 1) c s K).isNone))))] dX4_isDiggable_31 rfl rfl ?_
  suffices j5 : fmW G Γ (mdl m S h0) 0 0 69 [some (.ref m), some (.int s), some (.int (nI c)), some (.int (bI (sChalk (S.2 1) c && (sNext (S.2 1) c s && (sMeet (S.2 1) c s K).isNone))))] [.int (bI (sDigs (S.2 1) s c K pk))] by
    refine r_iload_n E dX4_isDiggable_32 rfl ?_
    refine r_ifB_eq (b := sChalk (S.2 1) c && (sNext (S.2 1) c s && (sMeet (S.2 1) c s K).isNone)) (tgt := 68) E dX4_isDiggable_33 (by decide) (fun c6 => ?_) (fun c6 => ?_)
    · refine r_iconst E (nI 0) dX4_isDiggable_68 (by decide) ?_
      refine r_top (v' := .int (bI (sDigs (S.2 1) s c K pk))) (by rw [show (sDigs (S.2 1) s c K pk) = false by first | (simp [c6, sDigs, Option.isSome_iff_ne_none, Int32.not_lt, Int32.not_le]; done) | (simp [Int32.not_le.mp c6, sDigs, Option.isSome_iff_ne_none, Int32.not_lt, Int32.not_le]; done) | (simp [Int32.not_lt.mp c6, sDigs, Option.isSome_iff_ne_none, Int32.not_lt, Int32.not_le]; done)]; rfl) ?_
      exact j5
    · refine r_aload_n E dX4_isDiggable_36 rfl ?_
      refine r_iload_n E dX4_isDiggable_37 rfl ?_
      refine r_callV1 (v1 := .int (nI (sWide (S.2 1) c))) E (ct_X4_longerSpanWith G hl m S h0 c (by omega)) mX4_longerSpanWith q2004 q2006 qs41 (fun H a1 => fm_rc (ci := 0) (C := RX4) (T := TX4) (N := 21) a1 rfl E.v mdl_o) rfl rfl (Nat.le_of_ble_eq_true rfl) (Nat.le_of_ble_eq_true rfl) (Nat.le_of_ble_eq_true rfl) dX4_isDiggable_38 0 0 (Nat.le_of_ble_eq_true rfl) (Nat.le_of_ble_eq_true rfl) ?_
      refine r_aload_n E dX4_isDiggable_41 rfl ?_
      refine r_getf E cl_X4 1 (by decide) q1887 mdl_o rfl dX4_isDiggable_42 ?_
      refine r_sipush E (nI 355) dX4_isDiggable_45 (by decide) ?_
      refine r_iald E mdl_1 (by omega) (by omega) dX4_isDiggable_48 ?_
      refine r_icmp_gt (x := nI (sWide (S.2 1) c)) (y := (S.2 1) 355) (tgt := 68) E dX4_isDiggable_49 (by decide) (fun c7 => ?_) (fun c7 => ?_)
      · refine r_iconst E (nI 0) dX4_isDiggable_68 (by decide) ?_
        refine r_top (v' := .int (bI (sDigs (S.2 1) s c K pk))) (by rw [show (sDigs (S.2 1) s c K pk) = false by first | (simp [c6, c7, sDigs, Option.isSome_iff_ne_none, Int32.not_lt, Int32.not_le]; done) | (simp [c6, Int32.not_le.mp c7, sDigs, Option.isSome_iff_ne_none, Int32.not_lt, Int32.not_le]; done) | (simp [c6, Int32.not_lt.mp c7, sDigs, Option.isSome_iff_ne_none, Int32.not_lt, Int32.not_le]; done)]; rfl) ?_
        exact j5
      · refine r_aload_n E dX4_isDiggable_52 rfl ?_
        refine r_aload_n E dX4_isDiggable_53 rfl ?_
        refine r_iload_n E dX4_isDiggable_54 rfl ?_
        refine r_callV1 (v1 := .int (sStrokes (S.2 1) c)) E (ct_X4_strokesOf G hl m S h0 c (by omega)) mX4_strokesOf q1984 q1986 qs37 (fun H a1 => fm_rc (ci := 0) (C := RX4) (T := TX4) (N := 21) a1 rfl E.v mdl_o) rfl rfl (Nat.le_of_ble_eq_true rfl) (Nat.le_of_ble_eq_true rfl) (Nat.le_of_ble_eq_true rfl) dX4_isDiggable_55 0 0 (Nat.le_of_ble_eq_true rfl) (Nat.le_of_ble_eq_true rfl) ?_
        refine r_callV1 (v1 := .int (cI (sPickK (S.2 1) (sStrokes (S.2 1) c) pk))) E (ct_X4_pickFor G hl m S h0 (sStrokes (S.2 1) c) pk hP hP6) mX4_pickFor q2083 q2085 qs52 (fun H a1 => fm_rc (ci := 0) (C := RX4) (T := TX4) (N := 21) a1 rfl E.v mdl_o) rfl rfl (Nat.le_of_ble_eq_true rfl) (Nat.le_of_ble_eq_true rfl) (Nat.le_of_ble_eq_true rfl) dX4_isDiggable_58 0 0 (Nat.le_of_ble_eq_true rfl) (Nat.le_of_ble_eq_true rfl) ?_
        refine r_ifC_lt (o := sPickK (S.2 1) (sStrokes (S.2 1) c) pk) (tgt := 68) E dX4_isDiggable_61 (by decide) (sPickK_31 (by omega)) (fun c8 => ?_) (fun c8 => ?_)
        · refine r_iconst E (nI 0) dX4_isDiggable_68 (by decide) ?_
          refine r_top (v' := .int (bI (sDigs (S.2 1) s c K pk))) (by rw [show (sDigs (S.2 1) s c K pk) = false by first | (simp [c6, c7, c8, sDigs, Option.isSome_iff_ne_none, Int32.not_lt, Int32.not_le]; done) | (simp [c6, c7, Int32.not_le.mp c8, sDigs, Option.isSome_iff_ne_none, Int32.not_lt, Int32.not_le]; done) | (simp [c6, c7, Int32.not_lt.mp c8, sDigs, Option.isSome_iff_ne_none, Int32.not_lt, Int32.not_le]; done)]; rfl) ?_
          exact j5
        · refine r_iconst E (nI 1) dX4_isDiggable_64 (by decide) ?_
          refine r_goto (tgt := 69) E dX4_isDiggable_65 (by decide) ?_
          refine r_top (v' := .int (bI (sDigs (S.2 1) s c K pk))) (by rw [show (sDigs (S.2 1) s c K pk) = true by first | (simp [c6, c7, c8, sDigs, Option.isSome_iff_ne_none, Int32.not_lt, Int32.not_le]; done) | (simp [c6, c7, Int32.not_le.mp c8, sDigs, Option.isSome_iff_ne_none, Int32.not_lt, Int32.not_le]; done) | (simp [c6, c7, Int32.not_lt.mp c8, sDigs, Option.isSome_iff_ne_none, Int32.not_lt, Int32.not_le]; done)]; rfl) ?_
          exact j5
  exact r_zreturn E P rfl dX4_isDiggable_69 ⟨rfl, rfl⟩

set_option maxHeartbeats 4000000 in
theorem ct_X4_isBetter (G : fmG) (hl : (fmLn G).stackTraces = false) (m : Nat) (S : MSt) (h0 : fmHp) (c d : Nat) (hc : c < 64) (hd : d < 64) : Ct G yX4_isBetter (ws_ yX4_isBetter cX4_isBetter 4 (some .boolean)) { frames := 1, cells := 0, slots := 0, locals := 21 } [.ref m, .int (nI c), .int (nI d)] (mdl m S h0) (fmRet (some (.int (bI (sBetter (S.2 1) c d)))) (mdl m S h0)) fmNo := by
  refine Ct.of hl (by decide +kernel) (Nat.le_of_ble_eq_true rfl) (fun Γ E P => ?_)
  refine r_aload_n E dX4_isBetter_0 rfl ?_
  refine r_getf E cl_X4 1 (by decide) q1887 mdl_o rfl dX4_isBetter_1 ?_
  refine r_sipush E (nI 128) dX4_isBetter_4 (by decide) ?_
  refine r_iload_n E dX4_isBetter_7 rfl ?_
  refine r_iaddN E dX4_isBetter_8 ?_
  refine r_iald E mdl_1 (by omega) (by omega) dX4_isBetter_9 ?_
  refine r_aload_n E dX4_isBetter_10 rfl ?_
  refine r_iload_n E dX4_isBetter_11 rfl ?_
  refine r_callV1 (v1 := .int (sStrokes (S.2 1) d)) E (ct_X4_strokesOf G hl m S h0 d (by omega)) mX4_strokesOf q1984 q1986 qs37 (fun H a1 => fm_rc (ci := 0) (C := RX4) (T := TX4) (N := 21) a1 rfl E.v mdl_o) rfl rfl (Nat.le_of_ble_eq_true rfl) (Nat.le_of_ble_eq_true rfl) (Nat.le_of_ble_eq_true rfl) dX4_isBetter_12 0 0 (Nat.le_of_ble_eq_true rfl) (Nat.le_of_ble_eq_true rfl) ?_
  refine r_imul E dX4_isBetter_15 ?_
  refine r_aload_n E dX4_isBetter_16 rfl ?_
  refine r_getf E cl_X4 1 (by decide) q1887 mdl_o rfl dX4_isBetter_17 ?_
  refine r_sipush E (nI 128) dX4_isBetter_20 (by decide) ?_
  refine r_iload_n E dX4_isBetter_23 rfl ?_
  refine r_iaddN E dX4_isBetter_24 ?_
  refine r_iald E mdl_1 (by omega) (by omega) dX4_isBetter_25 ?_
  refine r_aload_n E dX4_isBetter_26 rfl ?_
  refine r_iload_n E dX4_isBetter_27 rfl ?_
  refine r_callV1 (v1 := .int (sStrokes (S.2 1) c)) E (ct_X4_strokesOf G hl m S h0 c (by omega)) mX4_strokesOf q1984 q1986 qs37 (fun H a1 => fm_rc (ci := 0) (C := RX4) (T := TX4) (N := 21) a1 rfl E.v mdl_o) rfl rfl (Nat.le_of_ble_eq_true rfl) (Nat.le_of_ble_eq_true rfl) (Nat.le_of_ble_eq_true rfl) dX4_isBetter_28 0 0 (Nat.le_of_ble_eq_true rfl) (Nat.le_of_ble_eq_true rfl) ?_
  refine r_imul E dX4_isBetter_31 ?_
  refine r_isub E dX4_isBetter_32 ?_
  refine r_istore_n E [some (.ref m), some (.int (nI c)), some (.int (nI d)), some (.int ((((S.2 1) (128 + c)) * (sStrokes (S.2 1) d)) - (((S.2 1) (128 + d)) * (sStrokes (S.2 1) c))))] dX4_isBetter_33 rfl rfl ?_
  suffices j1 : fmW G Γ (mdl m S h0) 0 0 60 [some (.ref m), some (.int (nI c)), some (.int (nI d)), some (.int ((((S.2 1) (128 + c)) * (sStrokes (S.2 1) d)) - (((S.2 1) (128 + d)) * (sStrokes (S.2 1) c))))] [.int (bI (sBetter (S.2 1) c d))] by
    refine r_iload_n E dX4_isBetter_34 rfl ?_
    refine r_if_gt (tgt := 55) E dX4_isBetter_35 (by decide) (fun c2 => ?_) (fun c2 => ?_)
    · refine r_iconst E (nI 1) dX4_isBetter_55 (by decide) ?_
      refine r_goto (tgt := 60) E dX4_isBetter_56 (by decide) ?_
      refine r_top (v' := .int (bI (sBetter (S.2 1) c d))) (by rw [show (sBetter (S.2 1) c d) = true by first | (simp [c2, sBetter, Int32.not_lt, Int32.not_le]; done) | (simp [Int32.not_le.mp c2, sBetter, Int32.not_lt, Int32.not_le]; done) | (simp [Int32.not_lt.mp c2, sBetter, Int32.not_lt, Int32.not_le]; done)]; rfl) ?_
      exact j1
    · refine r_iload_n E dX4_isBetter_38 rfl ?_
      refine r_if_ne (tgt := 59) E dX4_isBetter_39 (by decide) (fun c3 => ?_) (fun c3 => ?_)
      · refine r_iconst E (nI 0) dX4_isBetter_59 (by decide) ?_
        refine r_top (v' := .int (bI (sBetter (S.2 1) c d))) (by rw [show (sBetter (S.2 1) c d) = false by first | (simp [c2, c3, sBetter, Int32.not_lt, Int32.not_le]; done) | (simp [c2, Int32.not_le.mp c3, sBetter, Int32.not_lt, Int32.not_le]; done) | (simp [c2, Int32.not_lt.mp c3, sBetter, Int32.not_lt, Int32.not_le]; done)]; rfl) ?_
        exact j1
      · refine r_aload_n E dX4_isBetter_42 rfl ?_
        refine r_iload_n E dX4_isBetter_43 rfl ?_
        refine r_callV1 (v1 := .int (sStrokes (S.2 1) c)) E (ct_X4_strokesOf G hl m S h0 c (by omega)) mX4_strokesOf q1984 q1986 qs37 (fun H a1 => fm_rc (ci := 0) (C := RX4) (T := TX4) (N := 21) a1 rfl E.v mdl_o) rfl rfl (Nat.le_of_ble_eq_true rfl) (Nat.le_of_ble_eq_true rfl) (Nat.le_of_ble_eq_true rfl) dX4_isBetter_44 0 0 (Nat.le_of_ble_eq_true rfl) (Nat.le_of_ble_eq_true rfl) ?_
        refine r_aload_n E dX4_isBetter_47 rfl ?_
        refine r_iload_n E dX4_isBetter_48 rfl ?_
        refine r_callV1 (v1 := .int (sStrokes (S.2 1) d)) E (ct_X4_strokesOf G hl m S h0 d (by omega)) mX4_strokesOf q1984 q1986 qs37 (fun H a1 => fm_rc (ci := 0) (C := RX4) (T := TX4) (N := 21) a1 rfl E.v mdl_o) rfl rfl (Nat.le_of_ble_eq_true rfl) (Nat.le_of_ble_eq_true rfl) (Nat.le_of_ble_eq_true rfl) dX4_isBetter_49 0 0 (Nat.le_of_ble_eq_true rfl) (Nat.le_of_ble_eq_true rfl) ?_
        refine r_icmp_ge (x := sStrokes (S.2 1) c) (y := sStrokes (S.2 1) d) (tgt := 59) E dX4_isBetter_52 (by decide) (fun c4 => ?_) (fun c4 => ?_)
        · refine r_iconst E (nI 0) dX4_isBetter_59 (by decide) ?_
          refine r_top (v' := .int (bI (sBetter (S.2 1) c d))) (by rw [show (sBetter (S.2 1) c d) = false by first | (simp [c2, c3, c4, sBetter, Int32.not_lt, Int32.not_le]; done) | (simp [c2, c3, Int32.not_le.mp c4, sBetter, Int32.not_lt, Int32.not_le]; done) | (simp [c2, c3, Int32.not_lt.mp c4, sBetter, Int32.not_lt, Int32.not_le]; done)]; rfl) ?_
          exact j1
        · refine r_iconst E (nI 1) dX4_isBetter_55 (by decide) ?_
          refine r_goto (tgt := 60) E dX4_isBetter_56 (by decide) ?_
          refine r_top (v' := .int (bI (sBetter (S.2 1) c d))) (by rw [show (sBetter (S.2 1) c d) = true by first | (simp [c2, c3, c4, sBetter, Int32.not_lt, Int32.not_le]; done) | (simp [c2, c3, Int32.not_le.mp c4, sBetter, Int32.not_lt, Int32.not_le]; done) | (simp [c2, c3, Int32.not_lt.mp c4, sBetter, Int32.not_lt, Int32.not_le]; done)]; rfl) ?_
          exact j1
  exact r_zreturn E P rfl dX4_isBetter_60 ⟨rfl, rfl⟩

set_option maxHeartbeats 4000000 in
theorem ct_X4_isTooHard (G : fmG) (hl : (fmLn G).stackTraces = false) (m : Nat) (S : MSt) (h0 : fmHp) (c : Nat) (pk : Nat) (hP : S.2 1 351 = nI pk) (hP6 : pk ≤ 6) (hc : c < 64) : Ct G yX4_isTooHard (ws_ yX4_isTooHard cX4_isTooHard 2 (some .boolean)) { frames := 1, cells := 0, slots := 0, locals := 24 } [.ref m, .int (nI c)] (mdl m S h0) (fmRet (some (.int (bI ((sPickK (S.2 1) (sStrokes (S.2 1) c) pk).isNone)))) (mdl m (refF S.1 (sPickK (S.2 1) (sStrokes (S.2 1) c) pk).isNone (nI 5) (sStrokes (S.2 1) c), S.2) h0)) fmNo := by
  refine Ct.of hl (by decide +kernel) (Nat.le_of_ble_eq_true rfl) (fun Γ E P => ?_)
  refine r_aload_n E dX4_isTooHard_0 rfl ?_
  suffices j1 : fmW G Γ (mdl m S h0) 0 0 18 [some (.ref m), some (.int (nI c))] [.int (bI ((sPickK (S.2 1) (sStrokes (S.2 1) c) pk).isNone)), .ref m] by
    refine r_aload_n E dX4_isTooHard_1 rfl ?_
    refine r_aload_n E dX4_isTooHard_2 rfl ?_
    refine r_iload_n E dX4_isTooHard_3 rfl ?_
    refine r_callV1 (v1 := .int (sStrokes (S.2 1) c)) E (ct_X4_strokesOf G hl m S h0 c (by omega)) mX4_strokesOf q1984 q1986 qs37 (fun H a1 => fm_rc (ci := 0) (C := RX4) (T := TX4) (N := 21) a1 rfl E.v mdl_o) rfl rfl (Nat.le_of_ble_eq_true rfl) (Nat.le_of_ble_eq_true rfl) (Nat.le_of_ble_eq_true rfl) dX4_isTooHard_4 0 0 (Nat.le_of_ble_eq_true rfl) (Nat.le_of_ble_eq_true rfl) ?_
    refine r_callV1 (v1 := .int (cI (sPickK (S.2 1) (sStrokes (S.2 1) c) pk))) E (ct_X4_pickFor G hl m S h0 (sStrokes (S.2 1) c) pk hP hP6) mX4_pickFor q2083 q2085 qs52 (fun H a1 => fm_rc (ci := 0) (C := RX4) (T := TX4) (N := 21) a1 rfl E.v mdl_o) rfl rfl (Nat.le_of_ble_eq_true rfl) (Nat.le_of_ble_eq_true rfl) (Nat.le_of_ble_eq_true rfl) dX4_isTooHard_7 0 0 (Nat.le_of_ble_eq_true rfl) (Nat.le_of_ble_eq_true rfl) ?_
    refine r_ifC_ge (o := sPickK (S.2 1) (sStrokes (S.2 1) c) pk) (tgt := 17) E dX4_isTooHard_10 (by decide) (sPickK_31 (by omega)) (fun c2 => ?_) (fun c2 => ?_)
    · refine r_iconst E (nI 0) dX4_isTooHard_17 (by decide) ?_
      refine r_top (v' := .int (bI ((sPickK (S.2 1) (sStrokes (S.2 1) c) pk).isNone))) (by rw [show ((sPickK (S.2 1) (sStrokes (S.2 1) c) pk).isNone) = false by simp [c2, Option.isSome_iff_ne_none]]; rfl) ?_
      exact j1
    · refine r_iconst E (nI 1) dX4_isTooHard_13 (by decide) ?_
      refine r_goto (tgt := 18) E dX4_isTooHard_14 (by decide) ?_
      refine r_top (v' := .int (bI ((sPickK (S.2 1) (sStrokes (S.2 1) c) pk).isNone))) (by rw [show ((sPickK (S.2 1) (sStrokes (S.2 1) c) pk).isNone) = true by simp [c2, Option.isSome_iff_ne_none]]; rfl) ?_
      exact j1
  refine r_iconst E (nI 5) dX4_isTooHard_18 (by decide) ?_
  refine r_aload_n E dX4_isTooHard_19 rfl ?_
  refine r_iload_n E dX4_isTooHard_20 rfl ?_
  refine r_callV1 (v1 := .int (sStrokes (S.2 1) c)) E (ct_X4_strokesOf G hl m S h0 c (by omega)) mX4_strokesOf q1984 q1986 qs37 (fun H a1 => fm_rc (ci := 0) (C := RX4) (T := TX4) (N := 21) a1 rfl E.v mdl_o) rfl rfl (Nat.le_of_ble_eq_true rfl) (Nat.le_of_ble_eq_true rfl) (Nat.le_of_ble_eq_true rfl) dX4_isTooHard_21 0 0 (Nat.le_of_ble_eq_true rfl) (Nat.le_of_ble_eq_true rfl) ?_
  refine r_callV1 (v1 := .int (bI ((sPickK (S.2 1) (sStrokes (S.2 1) c) pk).isNone))) E (ct_X4_refuse G hl m S h0 ((sPickK (S.2 1) (sStrokes (S.2 1) c) pk).isNone) (nI 5) (sStrokes (S.2 1) c)) mX4_refuse q1973 q1975 qs35 (fun H a1 => fm_rc (ci := 0) (C := RX4) (T := TX4) (N := 21) a1 rfl E.v mdl_o) rfl rfl (Nat.le_of_ble_eq_true rfl) (Nat.le_of_ble_eq_true rfl) (Nat.le_of_ble_eq_true rfl) dX4_isTooHard_24 0 0 (Nat.le_of_ble_eq_true rfl) (Nat.le_of_ble_eq_true rfl) ?_
  exact r_zreturn E P rfl dX4_isTooHard_27 ⟨rfl, rfl⟩

set_option maxHeartbeats 4000000 in
theorem ct_X4_isBesideOther (G : fmG) (hl : (fmLn G).stackTraces = false) (m : Nat) (S : MSt) (h0 : fmHp) (c : Nat) (s : Int32) (K : Nat) (hK : S.2 1 350 = nI K) (hK8 : K ≤ 8) (hc : c < 64) : Ct G yX4_isBesideOther (ws_ yX4_isBesideOther cX4_isBesideOther 4 (some .boolean)) { frames := 4, cells := 0, slots := 0, locals := 92 } [.ref m, .int (nI c), .int s] (mdl m S h0) (fmRet (some (.int (bI ((sMeet (S.2 1) c s K).isSome)))) (mdl m (refF S.1 (sMeet (S.2 1) c s K).isSome (nI 3) (cI (sMeet (S.2 1) c s K)), S.2) h0)) fmNo := by
  refine Ct.of hl (by decide +kernel) (Nat.le_of_ble_eq_true rfl) (fun Γ E P => ?_)
  refine r_aload_n E dX4_isBesideOther_0 rfl ?_
  refine r_iload_n E dX4_isBesideOther_1 rfl ?_
  refine r_iload_n E dX4_isBesideOther_2 rfl ?_
  refine r_callV1 (v1 := .int (cI (sMeet (S.2 1) c s K))) E (ct_X4_otherShaftBeside G hl m S h0 c s K hK hK8 (by omega)) mX4_otherShaftBeside q2059 q2061 qs47 (fun H a1 => fm_rc (ci := 0) (C := RX4) (T := TX4) (N := 21) a1 rfl E.v mdl_o) rfl rfl (Nat.le_of_ble_eq_true rfl) (Nat.le_of_ble_eq_true rfl) (Nat.le_of_ble_eq_true rfl) dX4_isBesideOther_3 0 0 (Nat.le_of_ble_eq_true rfl) (Nat.le_of_ble_eq_true rfl) ?_
  refine r_istore_n E [some (.ref m), some (.int (nI c)), some (.int s), some (.int (cI (sMeet (S.2 1) c s K)))] dX4_isBesideOther_6 rfl rfl ?_
  refine r_aload_n E dX4_isBesideOther_7 rfl ?_
  suffices j1 : fmW G Γ (mdl m S h0) 0 0 17 [some (.ref m), some (.int (nI c)), some (.int s), some (.int (cI (sMeet (S.2 1) c s K)))] [.int (bI ((sMeet (S.2 1) c s K).isSome)), .ref m] by
    refine r_iload_n E dX4_isBesideOther_8 rfl ?_
    refine r_ifC_lt (o := sMeet (S.2 1) c s K) (tgt := 16) E dX4_isBesideOther_9 (by decide) (sMeet_31 hK8) (fun c2 => ?_) (fun c2 => ?_)
    · refine r_iconst E (nI 0) dX4_isBesideOther_16 (by decide) ?_
      refine r_top (v' := .int (bI ((sMeet (S.2 1) c s K).isSome))) (by rw [show ((sMeet (S.2 1) c s K).isSome) = false by simp [c2, Option.isSome_iff_ne_none]]; rfl) ?_
      exact j1
    · refine r_iconst E (nI 1) dX4_isBesideOther_12 (by decide) ?_
      refine r_goto (tgt := 17) E dX4_isBesideOther_13 (by decide) ?_
      refine r_top (v' := .int (bI ((sMeet (S.2 1) c s K).isSome))) (by rw [show ((sMeet (S.2 1) c s K).isSome) = true by simp [c2, Option.isSome_iff_ne_none]]; rfl) ?_
      exact j1
  refine r_iconst E (nI 3) dX4_isBesideOther_17 (by decide) ?_
  refine r_iload_n E dX4_isBesideOther_18 rfl ?_
  refine r_callV1 (v1 := .int (bI ((sMeet (S.2 1) c s K).isSome))) E (ct_X4_refuse G hl m S h0 ((sMeet (S.2 1) c s K).isSome) (nI 3) (cI (sMeet (S.2 1) c s K))) mX4_refuse q1973 q1975 qs35 (fun H a1 => fm_rc (ci := 0) (C := RX4) (T := TX4) (N := 21) a1 rfl E.v mdl_o) rfl rfl (Nat.le_of_ble_eq_true rfl) (Nat.le_of_ble_eq_true rfl) (Nat.le_of_ble_eq_true rfl) dX4_isBesideOther_19 0 0 (Nat.le_of_ble_eq_true rfl) (Nat.le_of_ble_eq_true rfl) ?_
  exact r_zreturn E P rfl dX4_isBesideOther_22 ⟨rfl, rfl⟩

set_option maxHeartbeats 4000000 in
theorem ct_X4_isSpanTooLong (G : fmG) (hl : (fmLn G).stackTraces = false) (m : Nat) (S : MSt) (h0 : fmHp) (c : Nat) (hc : c < 64) : Ct G yX4_isSpanTooLong (ws_ yX4_isSpanTooLong cX4_isSpanTooLong 3 (some .boolean)) { frames := 5, cells := 0, slots := 0, locals := 114 } [.ref m, .int (nI c)] (mdl m S h0) (fmRet (some (.int (bI (decide ((S.2 1) 355 < nI (sWide (S.2 1) c)))))) (mdl m (refF S.1 (decide ((S.2 1) 355 < nI (sWide (S.2 1) c))) (nI 4) (nI (sWide (S.2 1) c)), S.2) h0)) fmNo := by
  refine Ct.of hl (by decide +kernel) (Nat.le_of_ble_eq_true rfl) (fun Γ E P => ?_)
  refine r_aload_n E dX4_isSpanTooLong_0 rfl ?_
  refine r_iload_n E dX4_isSpanTooLong_1 rfl ?_
  refine r_callV1 (v1 := .int (nI (sWide (S.2 1) c))) E (ct_X4_longerSpanWith G hl m S h0 c (by omega)) mX4_longerSpanWith q2004 q2006 qs41 (fun H a1 => fm_rc (ci := 0) (C := RX4) (T := TX4) (N := 21) a1 rfl E.v mdl_o) rfl rfl (Nat.le_of_ble_eq_true rfl) (Nat.le_of_ble_eq_true rfl) (Nat.le_of_ble_eq_true rfl) dX4_isSpanTooLong_2 0 0 (Nat.le_of_ble_eq_true rfl) (Nat.le_of_ble_eq_true rfl) ?_
  refine r_istore_n E [some (.ref m), some (.int (nI c)), some (.int (nI (sWide (S.2 1) c)))] dX4_isSpanTooLong_5 rfl rfl ?_
  refine r_aload_n E dX4_isSpanTooLong_6 rfl ?_
  suffices j1 : fmW G Γ (mdl m S h0) 0 0 24 [some (.ref m), some (.int (nI c)), some (.int (nI (sWide (S.2 1) c)))] [.int (bI (decide ((S.2 1) 355 < nI (sWide (S.2 1) c)))), .ref m] by
    refine r_iload_n E dX4_isSpanTooLong_7 rfl ?_
    refine r_aload_n E dX4_isSpanTooLong_8 rfl ?_
    refine r_getf E cl_X4 1 (by decide) q1887 mdl_o rfl dX4_isSpanTooLong_9 ?_
    refine r_sipush E (nI 355) dX4_isSpanTooLong_12 (by decide) ?_
    refine r_iald E mdl_1 (by omega) (by omega) dX4_isSpanTooLong_15 ?_
    refine r_icmp_le (x := nI (sWide (S.2 1) c)) (y := (S.2 1) 355) (tgt := 23) E dX4_isSpanTooLong_16 (by decide) (fun c2 => ?_) (fun c2 => ?_)
    · refine r_iconst E (nI 0) dX4_isSpanTooLong_23 (by decide) ?_
      refine r_top (v' := .int (bI (decide ((S.2 1) 355 < nI (sWide (S.2 1) c))))) (by rw [show (decide ((S.2 1) 355 < nI (sWide (S.2 1) c))) = false by first | (simp [c2, Int32.not_lt, Int32.not_le]; done) | (simp [Int32.not_le.mp c2, Int32.not_lt, Int32.not_le]; done) | (simp [Int32.not_lt.mp c2, Int32.not_lt, Int32.not_le]; done)]; rfl) ?_
      exact j1
    · refine r_iconst E (nI 1) dX4_isSpanTooLong_19 (by decide) ?_
      refine r_goto (tgt := 24) E dX4_isSpanTooLong_20 (by decide) ?_
      refine r_top (v' := .int (bI (decide ((S.2 1) 355 < nI (sWide (S.2 1) c))))) (by rw [show (decide ((S.2 1) 355 < nI (sWide (S.2 1) c))) = true by first | (simp [c2, Int32.not_lt, Int32.not_le]; done) | (simp [Int32.not_le.mp c2, Int32.not_lt, Int32.not_le]; done) | (simp [Int32.not_lt.mp c2, Int32.not_lt, Int32.not_le]; done)]; rfl) ?_
      exact j1
  refine r_iconst E (nI 4) dX4_isSpanTooLong_24 (by decide) ?_
  refine r_iload_n E dX4_isSpanTooLong_25 rfl ?_
  refine r_callV1 (v1 := .int (bI (decide ((S.2 1) 355 < nI (sWide (S.2 1) c))))) E (ct_X4_refuse G hl m S h0 (decide ((S.2 1) 355 < nI (sWide (S.2 1) c))) (nI 4) (nI (sWide (S.2 1) c))) mX4_refuse q1973 q1975 qs35 (fun H a1 => fm_rc (ci := 0) (C := RX4) (T := TX4) (N := 21) a1 rfl E.v mdl_o) rfl rfl (Nat.le_of_ble_eq_true rfl) (Nat.le_of_ble_eq_true rfl) (Nat.le_of_ble_eq_true rfl) dX4_isSpanTooLong_26 0 0 (Nat.le_of_ble_eq_true rfl) (Nat.le_of_ble_eq_true rfl) ?_
  exact r_zreturn E P rfl dX4_isSpanTooLong_29 ⟨rfl, rfl⟩

