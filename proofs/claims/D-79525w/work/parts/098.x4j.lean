set_option maxHeartbeats 4000000 in
theorem ct_X4_perStroke (G : fmG) (hl : (fmLn G).stackTraces = false) (m : Nat) (S : MSt) (h0 : fmHp) (K : Nat) (hK : S.2 1 350 = nI K) (hK8 : K ≤ 8) : Ct G yX4_perStroke (ws_ yX4_perStroke cX4_perStroke 1 (some .double)) { frames := 1, cells := 0, slots := 0, locals := 24 } [.ref m] (mdl m S h0) (fmRet (some (.double (if S.2 1 354 = 0 then 0 else FP.ddiv (FP.i2d (sWon (S.2 1) K)) (FP.i2d (S.2 1 354))))) (mdl m (upd S.1 0 (if S.2 1 354 = 0 then nI 1 else nI 0), S.2) h0)) fmNo := by
  refine Ct.of hl (by decide +kernel) (Nat.le_of_ble_eq_true rfl) (fun Γ E P => ?_)
  by_cases hz : S.2 1 354 = 0
  · refine r_aload_n E dX4_perStroke_0 rfl ?_
    refine r_iconst E (nI 1) dX4_perStroke_1 (by decide) ?_
    refine r_aload_n E dX4_perStroke_2 rfl ?_
    refine r_getf E cl_X4 1 (by decide) q1887 mdl_o rfl dX4_perStroke_3 ?_
    refine r_sipush E (nI 354) dX4_perStroke_6 (by decide) ?_
    refine r_iald E mdl_1 (by omega) (by omega) dX4_perStroke_9 ?_
    refine r_if_ne (tgt := 17) E dX4_perStroke_10 (by decide) (fun c => absurd hz c) (fun _ => ?_)
    refine r_iconst E (nI 1) dX4_perStroke_13 (by decide) ?_
    refine r_goto (tgt := 18) E dX4_perStroke_14 (by decide) ?_
    refine r_callV1 (v1 := .int (bI true)) E (ct_X4_fails G hl m S h0 (nI 1) (true)) mX4_fails q1965 q1967 qs33 (fun H a1 => fm_rc (ci := 0) (C := RX4) (T := TX4) (N := 21) a1 rfl E.v mdl_o) rfl rfl (Nat.le_of_ble_eq_true rfl) (Nat.le_of_ble_eq_true rfl) (Nat.le_of_ble_eq_true rfl) dX4_perStroke_18 0 0 (Nat.le_of_ble_eq_true rfl) (Nat.le_of_ble_eq_true rfl) ?_
    refine r_ifB_eq (b := true) (tgt := 26) E dX4_perStroke_21 (by decide) (fun c => absurd c (by decide)) (fun _ => ?_)
    refine r_hp (h' := mdl m (upd S.1 0 (nI 1), S.2) h0) (by rw [nt1 rfl]) ?_
    refine r_dconst0 E dX4_perStroke_24 ?_
    exact r_dreturn E P rfl dX4_perStroke_25 ⟨by rw [if_pos hz], by rw [if_pos hz]⟩
  · refine r_aload_n E dX4_perStroke_0 rfl ?_
    refine r_iconst E (nI 1) dX4_perStroke_1 (by decide) ?_
    refine r_aload_n E dX4_perStroke_2 rfl ?_
    refine r_getf E cl_X4 1 (by decide) q1887 mdl_o rfl dX4_perStroke_3 ?_
    refine r_sipush E (nI 354) dX4_perStroke_6 (by decide) ?_
    refine r_iald E mdl_1 (by omega) (by omega) dX4_perStroke_9 ?_
    refine r_if_ne (tgt := 17) E dX4_perStroke_10 (by decide) (fun _ => ?_) (fun c => absurd c hz)
    refine r_iconst E (nI 0) dX4_perStroke_17 (by decide) ?_
    refine r_callV1 (v1 := .int (bI false)) E (ct_X4_fails G hl m S h0 (nI 1) (false)) mX4_fails q1965 q1967 qs33 (fun H a1 => fm_rc (ci := 0) (C := RX4) (T := TX4) (N := 21) a1 rfl E.v mdl_o) rfl rfl (Nat.le_of_ble_eq_true rfl) (Nat.le_of_ble_eq_true rfl) (Nat.le_of_ble_eq_true rfl) dX4_perStroke_18 0 0 (Nat.le_of_ble_eq_true rfl) (Nat.le_of_ble_eq_true rfl) ?_
    refine r_ifB_eq (b := false) (tgt := 26) E dX4_perStroke_21 (by decide) (fun _ => ?_) (fun c => absurd c (by decide))
    refine r_hp (h' := mdl m (upd S.1 0 (nI 0), S.2) h0) (by rw [nf1 rfl]) ?_
    refine r_aload_n E dX4_perStroke_26 rfl ?_
    refine r_sipush E (nI 336) dX4_perStroke_27 (by decide) ?_
    refine r_aload_n E dX4_perStroke_30 rfl ?_
    refine r_getf E cl_X4 1 (by decide) q1887 mdl_o rfl dX4_perStroke_31 ?_
    refine r_sipush E (nI 350) dX4_perStroke_34 (by decide) ?_
    refine r_iald E mdl_1 (by omega) (by omega) dX4_perStroke_37 ?_
    refine r_top (v' := .int (nI K)) (congrArg Value.int hK) ?_
    refine r_callV1 (v1 := .int (sSum (fun k => (S.2 1) (336 + k)) K)) E (ct_X4_sumOf G hl m (upd S.1 0 (nI 0), S.2) h0 336 K (by omega)) mX4_sumOf q2192 q2194 qs68 (fun H a1 => fm_rc (ci := 0) (C := RX4) (T := TX4) (N := 21) a1 rfl E.v mdl_o) rfl rfl (Nat.le_of_ble_eq_true rfl) (Nat.le_of_ble_eq_true rfl) (Nat.le_of_ble_eq_true rfl) dX4_perStroke_38 0 0 (Nat.le_of_ble_eq_true rfl) (Nat.le_of_ble_eq_true rfl) ?_
    refine r_i2d E dX4_perStroke_41 ?_
    refine r_aload_n E dX4_perStroke_42 rfl ?_
    refine r_getf E cl_X4 1 (by decide) q1887 mdl_o rfl dX4_perStroke_43 ?_
    refine r_sipush E (nI 354) dX4_perStroke_46 (by decide) ?_
    refine r_iald E mdl_1 (by omega) (by omega) dX4_perStroke_49 ?_
    refine r_top (v' := .int ((S.2 1) 354)) rfl ?_
    refine r_i2d E dX4_perStroke_50 ?_
    refine r_ddiv E (vf_ddiv _ hz) dX4_perStroke_51 ?_
    exact r_dreturn E P rfl dX4_perStroke_52 ⟨by rw [if_neg hz]; rfl, by rw [if_neg hz]⟩

set_option maxHeartbeats 4000000 in
theorem ct_X4_chalk (G : fmG) (hl : (fmLn G).stackTraces = false) (m : Nat) (S : MSt) (h0 : fmHp)  : Ct G yX4_chalk (ws_ yX4_chalk cX4_chalk 1 (some .float)) { frames := 1, cells := 0, slots := 0, locals := 23 } [.ref m] (mdl m S h0) (fmRet (some (.float (FP.fdiv (FP.i2f (nI (sSt (S.2 1) (nI 0)))) 1115684864))) (mdl m (upd S.1 0 (nI 0), S.2) h0)) fmNo := by
  refine Ct.of hl (by decide +kernel) (Nat.le_of_ble_eq_true rfl) (fun Γ E P => ?_)
  refine r_aload_n E dX4_chalk_0 rfl ?_
  refine r_iconst E (nI 0) dX4_chalk_1 (by decide) ?_
  refine r_putf E cl_X4 0 (by decide) rfl q1886 (fun _ z => z) mdl_o (Nat.le_of_ble_eq_true rfl) rfl rfl dX4_chalk_2 ?_
  refine r_hp (h' := mdl m (upd S.1 0 (nI 0), S.2) h0) (mdl_s0 _) ?_
  refine r_aload_n E dX4_chalk_5 rfl ?_
  refine r_iconst E (nI 0) dX4_chalk_6 (by decide) ?_
  refine r_callV1 (v1 := .int (nI (sCount (fun c => decide ((S.2 1) c = (nI 0))) 64))) E (ct_X4_countStates G hl m (upd S.1 0 (nI 0), S.2) h0 (nI 0)) mX4_countStates q2196 q2198 qs69 (fun H a1 => fm_rc (ci := 0) (C := RX4) (T := TX4) (N := 21) a1 rfl E.v mdl_o) rfl rfl (Nat.le_of_ble_eq_true rfl) (Nat.le_of_ble_eq_true rfl) (Nat.le_of_ble_eq_true rfl) dX4_chalk_7 0 0 (Nat.le_of_ble_eq_true rfl) (Nat.le_of_ble_eq_true rfl) ?_
  refine r_i2f E dX4_chalk_10 ?_
  refine r_ldcf E q2212 dX4_chalk_11 ?_
  have hle : sSt (S.2 1) (nI 0) < 65 := Nat.lt_succ_of_le (sCount_le _ 64)
  refine r_fdiv E (vf_chalk ⟨_, hle⟩).1 dX4_chalk_13 ?_
  exact r_freturn E P rfl dX4_chalk_14 ⟨rfl, rfl⟩

