set_option maxHeartbeats 4000000 in
theorem ct_X4_undo (G : fmG) (hl : (fmLn G).stackTraces = false) (m : Nat) (S : MSt) (h0 : fmHp) (kp : Nat) (h4 : S.1 4 = nI kp) (hk8 : kp ≤ 8) : Ct G yX4_undo (ws_ yX4_undo cX4_undo 1 (some .int)) { frames := 1, cells := 0, slots := 0, locals := 22 } [.ref m] (mdl m S h0) (fmRet (some (.int (if kp = 0 then nI 0 else nI (kp - 1)))) (mdl m (uUndo S kp) h0)) fmNo := by
  refine Ct.of hl (by decide +kernel) (Nat.le_of_ble_eq_true rfl) (fun Γ E P => ?_)
  by_cases hz : kp = 0
  · subst hz
    refine r_aload_n E dX4_undo_0 rfl ?_
    refine r_iconst E (nI 1) dX4_undo_1 (by decide) ?_
    refine r_aload_n E dX4_undo_2 rfl ?_
    refine r_getf E cl_X4 4 (by decide) q1890 mdl_o rfl dX4_undo_3 ?_
    refine r_top (v' := .int (nI 0)) (congrArg Value.int h4) ?_
    refine r_if_ne (tgt := 13) E dX4_undo_6 (by decide) (fun c => absurd rfl c) (fun _ => ?_)
    refine r_iconst E (nI 1) dX4_undo_9 (by decide) ?_
    refine r_goto (tgt := 14) E dX4_undo_10 (by decide) ?_
    refine r_callV1 (v1 := .int (bI true)) E (ct_X4_fails G hl m S h0 (nI 1) (true)) mX4_fails q1965 q1967 qs33 (fun H a1 => fm_rc (ci := 0) (C := RX4) (T := TX4) (N := 21) a1 rfl E.v mdl_o) rfl rfl (Nat.le_of_ble_eq_true rfl) (Nat.le_of_ble_eq_true rfl) (Nat.le_of_ble_eq_true rfl) dX4_undo_14 0 0 (Nat.le_of_ble_eq_true rfl) (Nat.le_of_ble_eq_true rfl) ?_
    refine r_ifB_eq (b := true) (tgt := 22) E dX4_undo_17 (by decide) (fun c => absurd c (by decide)) (fun _ => ?_)
    refine r_hp (h' := mdl m (upd S.1 0 (nI 1), S.2) h0) (by rw [nt1 rfl]) ?_
    refine r_iconst E (nI 0) dX4_undo_20 (by decide) ?_
    exact r_ireturn E P rfl dX4_undo_21 ⟨rfl, rfl⟩
  · refine r_aload_n E dX4_undo_0 rfl ?_
    refine r_iconst E (nI 1) dX4_undo_1 (by decide) ?_
    refine r_aload_n E dX4_undo_2 rfl ?_
    refine r_getf E cl_X4 4 (by decide) q1890 mdl_o rfl dX4_undo_3 ?_
    refine r_top (v' := .int (nI kp)) (congrArg Value.int h4) ?_
    refine r_if_ne (tgt := 13) E dX4_undo_6 (by decide) (fun _ => ?_) (fun c => absurd (nI_z (by omega) c) hz)
    refine r_iconst E (nI 0) dX4_undo_13 (by decide) ?_
    refine r_callV1 (v1 := .int (bI false)) E (ct_X4_fails G hl m S h0 (nI 1) (false)) mX4_fails q1965 q1967 qs33 (fun H a1 => fm_rc (ci := 0) (C := RX4) (T := TX4) (N := 21) a1 rfl E.v mdl_o) rfl rfl (Nat.le_of_ble_eq_true rfl) (Nat.le_of_ble_eq_true rfl) (Nat.le_of_ble_eq_true rfl) dX4_undo_14 0 0 (Nat.le_of_ble_eq_true rfl) (Nat.le_of_ble_eq_true rfl) ?_
    refine r_ifB_eq (b := false) (tgt := 22) E dX4_undo_17 (by decide) (fun _ => ?_) (fun c => absurd c (by decide))
    refine r_hp (h' := mdl m (upd S.1 0 (nI 0), S.2) h0) (by rw [nf1 rfl]) ?_
    refine r_aload_n E dX4_undo_22 rfl ?_
    refine r_dup E dX4_undo_23 rfl ?_
    refine r_getf E cl_X4 4 (by decide) q1890 mdl_o rfl dX4_undo_24 ?_
    refine r_top (v' := .int (nI kp)) (congrArg Value.int h4) ?_
    refine r_iconst E (nI 1) dX4_undo_27 (by decide) ?_
    refine r_isubN E dX4_undo_28 (by omega) ?_
    refine r_putf E cl_X4 4 (by decide) rfl q1890 (fun _ z => z) mdl_o (Nat.le_of_ble_eq_true rfl) rfl rfl dX4_undo_29 ?_
    refine r_hp (h' := mdl m (upd (upd S.1 0 (nI 0)) 4 (nI (kp - 1)), S.2) h0) (mdl_s4 _) ?_
    refine r_aload_n E dX4_undo_32 rfl ?_
    refine r_getf E cl_X4 3 (by decide) q1889 mdl_o rfl dX4_undo_33 ?_
    refine r_aload_n E dX4_undo_36 rfl ?_
    refine r_getf E cl_X4 4 (by decide) q1890 mdl_o rfl dX4_undo_37 ?_
    refine r_top (v' := .int (nI (kp - 1))) (congrArg Value.int rfl) ?_
    refine r_aald E mdl_3 rfl rfl (by omega) (by omega) dX4_undo_40 ?_
    refine r_aload_n E dX4_undo_41 rfl ?_
    refine r_getf E cl_X4 1 (by decide) q1887 mdl_o rfl dX4_undo_42 ?_
    refine r_callS0 E (ct_X4_copyRow G hl (mdl m (upd (upd S.1 0 (nI 0)) 4 (nI (kp - 1)), S.2) h0) (m + 4 + (kp - 1)) (m + 1) true (S.2 (4 + (kp - 1))) (S.2 1) (mdl_r (by omega)) mdl_1 (by omega)) mX4_copyRow q89 q1981 q1982 rfl rfl (Nat.le_of_ble_eq_true rfl) (Nat.le_of_ble_eq_true rfl) (Nat.le_of_ble_eq_true rfl) dX4_undo_45 0 0 (Nat.le_of_ble_eq_true rfl) (Nat.le_of_ble_eq_true rfl) ?_
    refine r_hp (h' := mdl m (upd (upd S.1 0 (nI 0)) 4 (nI (kp - 1)), va_up S.2 1 (S.2 (4 + (kp - 1)))) h0) (mdl_a1 _) ?_
    refine r_aload_n E dX4_undo_48 rfl ?_
    refine r_getf E cl_X4 4 (by decide) q1890 mdl_o rfl dX4_undo_49 ?_
    refine r_top (v' := .int (nI (kp - 1))) (congrArg Value.int rfl) ?_
    exact r_ireturn E P rfl dX4_undo_52 ⟨by rw [if_neg hz], by unfold uUndo; rw [if_neg hz]⟩

set_option maxHeartbeats 4000000 in
theorem ct_X4_saveSnapshot (G : fmG) (hl : (fmLn G).stackTraces = false) (m : Nat) (S : MSt) (h0 : fmHp) (K : Nat) (hK : S.2 1 350 = nI K) (hK8 : K ≤ 8) : Ct G yX4_saveSnapshot (ws_ yX4_saveSnapshot cX4_saveSnapshot 1 (some .int)) { frames := 1, cells := 0, slots := 0, locals := 22 } [.ref m] (mdl m S h0) (fmRet (some (.int (nI K))) (mdl m (uSave S) h0)) fmNo := by
  refine Ct.of hl (by decide +kernel) (Nat.le_of_ble_eq_true rfl) (fun Γ E P => ?_)
  refine r_aload_n E dX4_saveSnapshot_0 rfl ?_
  refine r_iconst E (nI 0) dX4_saveSnapshot_1 (by decide) ?_
  refine r_putf E cl_X4 0 (by decide) rfl q1886 (fun _ z => z) mdl_o (Nat.le_of_ble_eq_true rfl) rfl rfl dX4_saveSnapshot_2 ?_
  refine r_hp (h' := mdl m (upd S.1 0 (nI 0), S.2) h0) (mdl_s0 _) ?_
  refine r_aload_n E dX4_saveSnapshot_5 rfl ?_
  refine r_iconst E (nI 1) dX4_saveSnapshot_6 (by decide) ?_
  refine r_top (v' := .int (bI true)) rfl ?_
  refine r_putf E cl_X4 7 (by decide) rfl q1893 (fun _ z => z) mdl_o (Nat.le_of_ble_eq_true rfl) (bI_n _) (bI_f _) dX4_saveSnapshot_7 ?_
  refine r_hp (h' := mdl m (upd (upd S.1 0 (nI 0)) 7 (bI true), S.2) h0) (mdl_s7 _) ?_
  refine r_aload_n E dX4_saveSnapshot_10 rfl ?_
  refine r_getf E cl_X4 1 (by decide) q1887 mdl_o rfl dX4_saveSnapshot_11 ?_
  refine r_aload_n E dX4_saveSnapshot_14 rfl ?_
  refine r_getf E cl_X4 2 (by decide) q1888 mdl_o rfl dX4_saveSnapshot_15 ?_
  refine r_callS0 E (ct_X4_copyRow G hl (mdl m (upd (upd S.1 0 (nI 0)) 7 (bI true), S.2) h0) (m + 1) (m + 2) true (S.2 1) (S.2 2) mdl_1 mdl_2 (by omega)) mX4_copyRow q89 q1981 q1982 rfl rfl (Nat.le_of_ble_eq_true rfl) (Nat.le_of_ble_eq_true rfl) (Nat.le_of_ble_eq_true rfl) dX4_saveSnapshot_18 0 0 (Nat.le_of_ble_eq_true rfl) (Nat.le_of_ble_eq_true rfl) ?_
  refine r_hp (h' := mdl m (upd (upd S.1 0 (nI 0)) 7 (bI true), va_up S.2 2 (S.2 1)) h0) (mdl_a2 _) ?_
  refine r_aload_n E dX4_saveSnapshot_21 rfl ?_
  refine r_getf E cl_X4 1 (by decide) q1887 mdl_o rfl dX4_saveSnapshot_22 ?_
  refine r_sipush E (nI 350) dX4_saveSnapshot_25 (by decide) ?_
  refine r_iald E mdl_1 (by omega) (by omega) dX4_saveSnapshot_28 ?_
  refine r_top (v' := .int (nI K)) (congrArg Value.int hK) ?_
  exact r_ireturn E P rfl dX4_saveSnapshot_29 ⟨rfl, rfl⟩

set_option maxHeartbeats 4000000 in
theorem ct_X4_restoreSnapshot (G : fmG) (hl : (fmLn G).stackTraces = false) (m : Nat) (S : MSt) (h0 : fmHp) (sv : Bool) (h7 : S.1 7 = bI sv) : Ct G yX4_restoreSnapshot (ws_ yX4_restoreSnapshot cX4_restoreSnapshot 1 (some .int)) { frames := 1, cells := 0, slots := 0, locals := 22 } [.ref m] (mdl m S h0) (fmRet (some (.int (if sv = true then S.2 2 350 else nI 0))) (mdl m (uBack S sv) h0)) fmNo := by
  refine Ct.of hl (by decide +kernel) (Nat.le_of_ble_eq_true rfl) (fun Γ E P => ?_)
  cases sv with
  | false =>
    refine r_aload_n E dX4_restoreSnapshot_0 rfl ?_
    refine r_iconst E (nI 1) dX4_restoreSnapshot_1 (by decide) ?_
    refine r_aload_n E dX4_restoreSnapshot_2 rfl ?_
    refine r_getf E cl_X4 7 (by decide) q1893 mdl_o rfl dX4_restoreSnapshot_3 ?_
    refine r_top (v' := .int (bI false)) (congrArg Value.int h7) ?_
    refine r_ifB_ne (b := false) (tgt := 13) E dX4_restoreSnapshot_6 (by decide) (fun c => absurd c (by decide)) (fun _ => ?_)
    refine r_iconst E (nI 1) dX4_restoreSnapshot_9 (by decide) ?_
    refine r_goto (tgt := 14) E dX4_restoreSnapshot_10 (by decide) ?_
    refine r_callV1 (v1 := .int (bI true)) E (ct_X4_fails G hl m S h0 (nI 1) (true)) mX4_fails q1965 q1967 qs33 (fun H a1 => fm_rc (ci := 0) (C := RX4) (T := TX4) (N := 21) a1 rfl E.v mdl_o) rfl rfl (Nat.le_of_ble_eq_true rfl) (Nat.le_of_ble_eq_true rfl) (Nat.le_of_ble_eq_true rfl) dX4_restoreSnapshot_14 0 0 (Nat.le_of_ble_eq_true rfl) (Nat.le_of_ble_eq_true rfl) ?_
    refine r_ifB_eq (b := true) (tgt := 22) E dX4_restoreSnapshot_17 (by decide) (fun c => absurd c (by decide)) (fun _ => ?_)
    refine r_hp (h' := mdl m (upd S.1 0 (nI 1), S.2) h0) (by rw [nt1 rfl]) ?_
    refine r_iconst E (nI 0) dX4_restoreSnapshot_20 (by decide) ?_
    exact r_ireturn E P rfl dX4_restoreSnapshot_21 ⟨rfl, rfl⟩
  | true =>
    refine r_aload_n E dX4_restoreSnapshot_0 rfl ?_
    refine r_iconst E (nI 1) dX4_restoreSnapshot_1 (by decide) ?_
    refine r_aload_n E dX4_restoreSnapshot_2 rfl ?_
    refine r_getf E cl_X4 7 (by decide) q1893 mdl_o rfl dX4_restoreSnapshot_3 ?_
    refine r_top (v' := .int (bI true)) (congrArg Value.int h7) ?_
    refine r_ifB_ne (b := true) (tgt := 13) E dX4_restoreSnapshot_6 (by decide) (fun _ => ?_) (fun c => absurd c (by decide))
    refine r_iconst E (nI 0) dX4_restoreSnapshot_13 (by decide) ?_
    refine r_callV1 (v1 := .int (bI false)) E (ct_X4_fails G hl m S h0 (nI 1) (false)) mX4_fails q1965 q1967 qs33 (fun H a1 => fm_rc (ci := 0) (C := RX4) (T := TX4) (N := 21) a1 rfl E.v mdl_o) rfl rfl (Nat.le_of_ble_eq_true rfl) (Nat.le_of_ble_eq_true rfl) (Nat.le_of_ble_eq_true rfl) dX4_restoreSnapshot_14 0 0 (Nat.le_of_ble_eq_true rfl) (Nat.le_of_ble_eq_true rfl) ?_
    refine r_ifB_eq (b := false) (tgt := 22) E dX4_restoreSnapshot_17 (by decide) (fun _ => ?_) (fun c => absurd c (by decide))
    refine r_hp (h' := mdl m (upd S.1 0 (nI 0), S.2) h0) (by rw [nf1 rfl]) ?_
    refine r_aload_n E dX4_restoreSnapshot_22 rfl ?_
    refine r_getf E cl_X4 2 (by decide) q1888 mdl_o rfl dX4_restoreSnapshot_23 ?_
    refine r_aload_n E dX4_restoreSnapshot_26 rfl ?_
    refine r_getf E cl_X4 1 (by decide) q1887 mdl_o rfl dX4_restoreSnapshot_27 ?_
    refine r_callS0 E (ct_X4_copyRow G hl (mdl m (upd S.1 0 (nI 0), S.2) h0) (m + 2) (m + 1) true (S.2 2) (S.2 1) mdl_2 mdl_1 (by omega)) mX4_copyRow q89 q1981 q1982 rfl rfl (Nat.le_of_ble_eq_true rfl) (Nat.le_of_ble_eq_true rfl) (Nat.le_of_ble_eq_true rfl) dX4_restoreSnapshot_30 0 0 (Nat.le_of_ble_eq_true rfl) (Nat.le_of_ble_eq_true rfl) ?_
    refine r_hp (h' := mdl m (upd S.1 0 (nI 0), va_up S.2 1 (S.2 2)) h0) (mdl_a1 _) ?_
    refine r_aload_n E dX4_restoreSnapshot_33 rfl ?_
    refine r_iconst E (nI 0) dX4_restoreSnapshot_34 (by decide) ?_
    refine r_putf E cl_X4 4 (by decide) rfl q1890 (fun _ z => z) mdl_o (Nat.le_of_ble_eq_true rfl) rfl rfl dX4_restoreSnapshot_35 ?_
    refine r_hp (h' := mdl m (upd (upd S.1 0 (nI 0)) 4 (nI 0), va_up S.2 1 (S.2 2)) h0) (mdl_s4 _) ?_
    refine r_aload_n E dX4_restoreSnapshot_38 rfl ?_
    refine r_getf E cl_X4 1 (by decide) q1887 mdl_o rfl dX4_restoreSnapshot_39 ?_
    refine r_sipush E (nI 350) dX4_restoreSnapshot_42 (by decide) ?_
    refine r_iald E mdl_1 (by omega) (by omega) dX4_restoreSnapshot_45 ?_
    refine r_top (v' := .int (((va_up S.2 1 (S.2 2)) 1) 350)) rfl ?_
    exact r_ireturn E P rfl dX4_restoreSnapshot_46 ⟨rfl, rfl⟩

set_option maxHeartbeats 4000000 in
theorem ct_X4_faultPosition (G : fmG) (hl : (fmLn G).stackTraces = false) (m : Nat) (S : MSt) (h0 : fmHp) (fo : Option Nat) (hf : S.1 14 = cI fo) (hf6 : ∀ x, fo = some x → x < 2 ^ 31)  : Ct G yX4_faultPosition (ws_ yX4_faultPosition cX4_faultPosition 1 (some .int)) { frames := 1, cells := 0, slots := 0, locals := 22 } [.ref m] (mdl m S h0) (fmRet (some (.int (aAns (aFault S fo)))) (mdl m (qSt S (aFault S fo)) h0)) fmNo := by
  refine Ct.of hl (by decide +kernel) (Nat.le_of_ble_eq_true rfl) (fun Γ E P => ?_)
  refine r_aload_n E dX4_faultPosition_0 rfl ?_
  refine r_iconst E (nI 1) dX4_faultPosition_1 (by decide) ?_
  suffices j1 : fmW G Γ (mdl m S h0) 0 0 14 [some (.ref m)] [.int (bI fo.isNone), .int (nI 1), .ref m] by
    refine r_aload_n E dX4_faultPosition_2 rfl ?_
    refine r_getf E cl_X4 14 (by decide) q1900 mdl_o rfl dX4_faultPosition_3 ?_
    refine r_top (v' := .int (cI fo)) (congrArg Value.int hf) ?_
    refine r_ifC_ge (o := fo) (tgt := 13) E dX4_faultPosition_6 (by decide) hf6 (fun c2 => ?_) (fun c2 => ?_)
    · refine r_iconst E (nI 0) dX4_faultPosition_13 (by decide) ?_
      refine r_top (v' := .int (bI fo.isNone)) (by rw [show (fo.isNone) = false by simp [c2, Option.isSome_iff_ne_none]]; rfl) ?_
      exact j1
    · refine r_iconst E (nI 1) dX4_faultPosition_9 (by decide) ?_
      refine r_goto (tgt := 14) E dX4_faultPosition_10 (by decide) ?_
      refine r_top (v' := .int (bI fo.isNone)) (by rw [show (fo.isNone) = true by simp [c2, Option.isSome_iff_ne_none]]; rfl) ?_
      exact j1
  refine r_callV1 (v1 := .int (bI fo.isNone)) E (ct_X4_fails G hl m S h0 (nI 1) (fo.isNone)) mX4_fails q1965 q1967 qs33 (fun H a1 => fm_rc (ci := 0) (C := RX4) (T := TX4) (N := 21) a1 rfl E.v mdl_o) rfl rfl (Nat.le_of_ble_eq_true rfl) (Nat.le_of_ble_eq_true rfl) (Nat.le_of_ble_eq_true rfl) dX4_faultPosition_14 0 0 (Nat.le_of_ble_eq_true rfl) (Nat.le_of_ble_eq_true rfl) ?_
  refine r_ifB_eq (b := fo.isNone) (tgt := 24) E dX4_faultPosition_17 (by decide) (fun c3 => ?_) (fun c3 => ?_)
  · refine r_hp (h' := mdl m (upd S.1 0 (nI 0), S.2) h0) (by rw [nf1 c3]) ?_
    refine r_aload_n E dX4_faultPosition_24 rfl ?_
    refine r_getf E cl_X4 14 (by decide) q1900 mdl_o rfl dX4_faultPosition_25 ?_
    refine r_top (v' := .int (cI fo)) (congrArg Value.int hf) ?_
    have hs : aFault S fo = aDon (cI fo) (S.2 1) := by
      unfold aFault
      exact (aG_f c3).trans (rfl)
    exact r_ireturn E P rfl dX4_faultPosition_28 ⟨by rw [hs]; rfl, by rw [hs]; rfl⟩
  · refine r_hp (h' := mdl m (upd S.1 0 (nI 1), S.2) h0) (by rw [nt1 c3]) ?_
    refine r_iconst E (nI 0) dX4_faultPosition_20 (by decide) ?_
    refine r_goto (tgt := 28) E dX4_faultPosition_21 (by decide) ?_
    have hs : aFault S fo = aThr 1 := by
      unfold aFault
      exact (aG_t c3).trans (rfl)
    exact r_ireturn E P rfl dX4_faultPosition_28 ⟨by rw [hs]; rfl, by rw [hs]; rfl⟩

set_option maxHeartbeats 4000000 in
theorem ct_X4_refusal (G : fmG) (hl : (fmLn G).stackTraces = false) (m : Nat) (S : MSt) (h0 : fmHp) (b : Bool)  : Ct G yX4_refusal (ws_ yX4_refusal cX4_refusal 2 (some .int)) { frames := 1, cells := 0, slots := 0, locals := 22 } [.ref m, .int (bI b)] (mdl m S h0) (fmRet (some (.int (aAns (aRefusal S b)))) (mdl m (qSt S (aRefusal S b)) h0)) fmNo := by
  refine Ct.of hl (by decide +kernel) (Nat.le_of_ble_eq_true rfl) (fun Γ E P => ?_)
  refine r_aload_n E dX4_refusal_0 rfl ?_
  refine r_iconst E (nI 1) dX4_refusal_1 (by decide) ?_
  suffices j1 : fmW G Γ (mdl m S h0) 0 0 14 [some (.ref m), some (.int (bI b))] [.int (bI (decide (S.1 5 = nI 0))), .int (nI 1), .ref m] by
    refine r_aload_n E dX4_refusal_2 rfl ?_
    refine r_getf E cl_X4 5 (by decide) q1891 mdl_o rfl dX4_refusal_3 ?_
    refine r_if_ne (tgt := 13) E dX4_refusal_6 (by decide) (fun c2 => ?_) (fun c2 => ?_)
    · refine r_iconst E (nI 0) dX4_refusal_13 (by decide) ?_
      refine r_top (v' := .int (bI (decide (S.1 5 = nI 0)))) (by rw [show (decide (S.1 5 = nI 0)) = false by simp [c2, nI_0]]; rfl) ?_
      exact j1
    · refine r_iconst E (nI 1) dX4_refusal_9 (by decide) ?_
      refine r_goto (tgt := 14) E dX4_refusal_10 (by decide) ?_
      refine r_top (v' := .int (bI (decide (S.1 5 = nI 0)))) (by rw [show (decide (S.1 5 = nI 0)) = true by simp [c2, nI_0]]; rfl) ?_
      exact j1
  refine r_callV1 (v1 := .int (bI (decide (S.1 5 = nI 0)))) E (ct_X4_fails G hl m S h0 (nI 1) (decide (S.1 5 = nI 0))) mX4_fails q1965 q1967 qs33 (fun H a1 => fm_rc (ci := 0) (C := RX4) (T := TX4) (N := 21) a1 rfl E.v mdl_o) rfl rfl (Nat.le_of_ble_eq_true rfl) (Nat.le_of_ble_eq_true rfl) (Nat.le_of_ble_eq_true rfl) dX4_refusal_14 0 0 (Nat.le_of_ble_eq_true rfl) (Nat.le_of_ble_eq_true rfl) ?_
  refine r_ifB_eq (b := decide (S.1 5 = nI 0)) (tgt := 24) E dX4_refusal_17 (by decide) (fun c3 => ?_) (fun c3 => ?_)
  · refine r_hp (h' := mdl m (upd S.1 0 (nI 0), S.2) h0) (by rw [nf1 c3]) ?_
    suffices j4 : fmW G Γ (mdl m (upd S.1 0 (nI 0), S.2) h0) 0 0 39 [some (.ref m), some (.int (bI b))] [.int (if b = true then S.1 5 else S.1 6)] by
      refine r_iload_n E dX4_refusal_24 rfl ?_
      refine r_ifB_eq (b := b) (tgt := 35) E dX4_refusal_25 (by decide) (fun c5 => ?_) (fun c5 => ?_)
      · refine r_aload_n E dX4_refusal_35 rfl ?_
        refine r_getf E cl_X4 6 (by decide) q1892 mdl_o rfl dX4_refusal_36 ?_
        refine r_top (v' := .int (if b = true then S.1 5 else S.1 6)) (by simp [c5]; rfl) ?_
        exact j4
      · refine r_aload_n E dX4_refusal_28 rfl ?_
        refine r_getf E cl_X4 5 (by decide) q1891 mdl_o rfl dX4_refusal_29 ?_
        refine r_goto (tgt := 39) E dX4_refusal_32 (by decide) ?_
        refine r_top (v' := .int (if b = true then S.1 5 else S.1 6)) (by simp [c5]; rfl) ?_
        exact j4
    have hs : aRefusal S b = aDon (if b = true then S.1 5 else S.1 6) (S.2 1) := by
      unfold aRefusal
      exact (aG_f c3).trans (rfl)
    exact r_ireturn E P rfl dX4_refusal_39 ⟨by rw [hs]; rfl, by rw [hs]; rfl⟩
  · refine r_hp (h' := mdl m (upd S.1 0 (nI 1), S.2) h0) (by rw [nt1 c3]) ?_
    refine r_iconst E (nI 0) dX4_refusal_20 (by decide) ?_
    refine r_goto (tgt := 39) E dX4_refusal_21 (by decide) ?_
    have hs : aRefusal S b = aThr 1 := by
      unfold aRefusal
      exact (aG_t c3).trans (rfl)
    exact r_ireturn E P rfl dX4_refusal_39 ⟨by rw [hs]; rfl, by rw [hs]; rfl⟩

set_option maxHeartbeats 4000000 in
theorem ct_X4_thrown (G : fmG) (hl : (fmLn G).stackTraces = false) (m : Nat) (S : MSt) (h0 : fmHp)  : Ct G yX4_thrown (ws_ yX4_thrown cX4_thrown 1 (some .int)) { frames := 0, cells := 0, slots := 0, locals := 0 } [.ref m] (mdl m S h0) (fmRet (some (.int (S.1 0))) (mdl m S h0)) fmNo := by
  refine Ct.of hl (by decide +kernel) (Nat.le_of_ble_eq_true rfl) (fun Γ E P => ?_)
  refine r_aload_n E dX4_thrown_0 rfl ?_
  refine r_getf E cl_X4 0 (by decide) q1886 mdl_o rfl dX4_thrown_1 ?_
  exact r_ireturn E P rfl dX4_thrown_4 ⟨rfl, rfl⟩

set_option maxHeartbeats 4000000 in
theorem ct_X4_feed (G : fmG) (hl : (fmLn G).stackTraces = false) (m : Nat) (S : MSt) (h0 : fmHp) (len : Nat) (hn : S.1 12 = nI len) (hn60 : len ≤ 60) (ch : Int32) : Ct G yX4_feed (ws_ yX4_feed cX4_feed 2 (some .int)) { frames := 1, cells := 0, slots := 0, locals := 22 } [.ref m, .int ch] (mdl m S h0) (fmRet (some (.int (if len = 60 then nI 0 else nI (len + 1)))) (mdl m (uFeed S len ch) h0)) fmNo := by
  refine Ct.of hl (by decide +kernel) (Nat.le_of_ble_eq_true rfl) (fun Γ E P => ?_)
  by_cases hz : len = 60
  · refine r_aload_n E dX4_feed_0 rfl ?_
    refine r_iconst E (nI 1) dX4_feed_1 (by decide) ?_
    refine r_aload_n E dX4_feed_2 rfl ?_
    refine r_getf E cl_X4 12 (by decide) q1898 mdl_o rfl dX4_feed_3 ?_
    refine r_top (v' := .int (nI len)) (congrArg Value.int hn) ?_
    refine r_bipush E (nI 60) dX4_feed_6 (by decide) ?_
    refine r_icmpN_ne (tgt := 15) E dX4_feed_8 (by decide) (by omega) (by omega) (fun c => absurd hz c) (fun _ => ?_)
    refine r_iconst E (nI 1) dX4_feed_11 (by decide) ?_
    refine r_goto (tgt := 16) E dX4_feed_12 (by decide) ?_
    refine r_callV1 (v1 := .int (bI true)) E (ct_X4_fails G hl m S h0 (nI 1) (true)) mX4_fails q1965 q1967 qs33 (fun H a1 => fm_rc (ci := 0) (C := RX4) (T := TX4) (N := 21) a1 rfl E.v mdl_o) rfl rfl (Nat.le_of_ble_eq_true rfl) (Nat.le_of_ble_eq_true rfl) (Nat.le_of_ble_eq_true rfl) dX4_feed_16 0 0 (Nat.le_of_ble_eq_true rfl) (Nat.le_of_ble_eq_true rfl) ?_
    refine r_ifB_eq (b := true) (tgt := 24) E dX4_feed_19 (by decide) (fun c => absurd c (by decide)) (fun _ => ?_)
    refine r_hp (h' := mdl m (upd S.1 0 (nI 1), S.2) h0) (by rw [nt1 rfl]) ?_
    refine r_iconst E (nI 0) dX4_feed_22 (by decide) ?_
    exact r_ireturn E P rfl dX4_feed_23 ⟨by rw [if_pos hz], by unfold uFeed; rw [if_pos hz]; rfl⟩
  · refine r_aload_n E dX4_feed_0 rfl ?_
    refine r_iconst E (nI 1) dX4_feed_1 (by decide) ?_
    refine r_aload_n E dX4_feed_2 rfl ?_
    refine r_getf E cl_X4 12 (by decide) q1898 mdl_o rfl dX4_feed_3 ?_
    refine r_top (v' := .int (nI len)) (congrArg Value.int hn) ?_
    refine r_bipush E (nI 60) dX4_feed_6 (by decide) ?_
    refine r_icmpN_ne (tgt := 15) E dX4_feed_8 (by decide) (by omega) (by omega) (fun _ => ?_) (fun c => absurd c hz)
    refine r_iconst E (nI 0) dX4_feed_15 (by decide) ?_
    refine r_callV1 (v1 := .int (bI false)) E (ct_X4_fails G hl m S h0 (nI 1) (false)) mX4_fails q1965 q1967 qs33 (fun H a1 => fm_rc (ci := 0) (C := RX4) (T := TX4) (N := 21) a1 rfl E.v mdl_o) rfl rfl (Nat.le_of_ble_eq_true rfl) (Nat.le_of_ble_eq_true rfl) (Nat.le_of_ble_eq_true rfl) dX4_feed_16 0 0 (Nat.le_of_ble_eq_true rfl) (Nat.le_of_ble_eq_true rfl) ?_
    refine r_ifB_eq (b := false) (tgt := 24) E dX4_feed_19 (by decide) (fun _ => ?_) (fun c => absurd c (by decide))
    refine r_hp (h' := mdl m (upd S.1 0 (nI 0), S.2) h0) (by rw [nf1 rfl]) ?_
    refine r_aload_n E dX4_feed_24 rfl ?_
    refine r_getf E cl_X4 11 (by decide) q1897 mdl_o rfl dX4_feed_25 ?_
    refine r_aload_n E dX4_feed_28 rfl ?_
    refine r_getf E cl_X4 12 (by decide) q1898 mdl_o rfl dX4_feed_29 ?_
    refine r_top (v' := .int (nI len)) (congrArg Value.int hn) ?_
    refine r_iload_n E dX4_feed_32 rfl ?_
    refine r_cast E mdl_14 (by omega) (by omega) dX4_feed_33 ?_
    refine r_hp (h' := mdl m (upd S.1 0 (nI 0), va_up S.2 14 (upd (S.2 14) len ((ch.toUInt32 % 65536).toInt32))) h0) (mdl_a14 _) ?_
    refine r_aload_n E dX4_feed_34 rfl ?_
    refine r_dup E dX4_feed_35 rfl ?_
    refine r_getf E cl_X4 12 (by decide) q1898 mdl_o rfl dX4_feed_36 ?_
    refine r_top (v' := .int (nI len)) (congrArg Value.int hn) ?_
    refine r_iconst E (nI 1) dX4_feed_39 (by decide) ?_
    refine r_iaddN E dX4_feed_40 ?_
    refine r_putf E cl_X4 12 (by decide) rfl q1898 (fun _ z => z) mdl_o (Nat.le_of_ble_eq_true rfl) rfl rfl dX4_feed_41 ?_
    refine r_hp (h' := mdl m (upd (upd S.1 0 (nI 0)) 12 (nI (len + 1)), va_up S.2 14 (upd (S.2 14) len ((ch.toUInt32 % 65536).toInt32))) h0) (mdl_s12 _) ?_
    refine r_aload_n E dX4_feed_44 rfl ?_
    refine r_getf E cl_X4 12 (by decide) q1898 mdl_o rfl dX4_feed_45 ?_
    refine r_top (v' := .int (nI (len + 1))) (congrArg Value.int rfl) ?_
    exact r_ireturn E P rfl dX4_feed_48 ⟨by rw [if_neg hz], by unfold uFeed; rw [if_neg hz]⟩

set_option maxHeartbeats 4000000 in
theorem ct_X4_number (G : fmG) (hl : (fmLn G).stackTraces = false) (m : Nat) (S : MSt) (h0 : fmHp) (v : Int32) (K : Nat) (hK : S.2 1 350 = nI K) (hK8 : K ≤ 8) (pk : Nat) (hP : S.2 1 351 = nI pk) (hP6 : pk ≤ 6) (kp : Nat) (h4 : S.1 4 = nI kp) (len : Nat) (hn : S.1 12 = nI len) : Ct G yX4_number (ws_ yX4_number cX4_number 2 (some .int)) { frames := 2, cells := 0, slots := 0, locals := 43 } [.ref m, .int v] (mdl m S h0) (fmRet (some (.int (aAns (aNumber (S.2 1) v K pk kp len)))) (mdl m (qSt S (aNumber (S.2 1) v K pk kp len)) h0)) fmNo := by
  refine Ct.of hl (by decide +kernel) (Nat.le_of_ble_eq_true rfl) (fun Γ E P => ?_)
  refine r_aload_n E dX4_number_0 rfl ?_
  refine r_iconst E (nI 1) dX4_number_1 (by decide) ?_
  suffices j1 : fmW G Γ (mdl m S h0) 0 0 17 [some (.ref m), some (.int v)] [.int (bI (!sBetween v (nI 0) (nI 14))), .int (nI 1), .ref m] by
    refine r_iload_n E dX4_number_2 rfl ?_
    refine r_iconst E (nI 0) dX4_number_3 (by decide) ?_
    refine r_bipush E (nI 14) dX4_number_4 (by decide) ?_
    refine r_callS1 (v1 := .int (bI (sBetween v (nI 0) (nI 14)))) E (ct_X4_isBetween G hl (mdl m S h0) (v) (nI 0) (nI 14)) mX4_isBetween q89 q1962 q1963 rfl rfl (Nat.le_of_ble_eq_true rfl) (Nat.le_of_ble_eq_true rfl) (Nat.le_of_ble_eq_true rfl) dX4_number_6 0 0 (Nat.le_of_ble_eq_true rfl) (Nat.le_of_ble_eq_true rfl) ?_
    refine r_ifB_ne (b := sBetween v (nI 0) (nI 14)) (tgt := 16) E dX4_number_9 (by decide) (fun c2 => ?_) (fun c2 => ?_)
    · refine r_iconst E (nI 0) dX4_number_16 (by decide) ?_
      refine r_top (v' := .int (bI (!sBetween v (nI 0) (nI 14)))) (by rw [show (!sBetween v (nI 0) (nI 14)) = false by simp [c2]]; rfl) ?_
      exact j1
    · refine r_iconst E (nI 1) dX4_number_12 (by decide) ?_
      refine r_goto (tgt := 17) E dX4_number_13 (by decide) ?_
      refine r_top (v' := .int (bI (!sBetween v (nI 0) (nI 14)))) (by rw [show (!sBetween v (nI 0) (nI 14)) = true by simp [c2]]; rfl) ?_
      exact j1
  refine r_callV1 (v1 := .int (bI (!sBetween v (nI 0) (nI 14)))) E (ct_X4_fails G hl m S h0 (nI 1) (!sBetween v (nI 0) (nI 14))) mX4_fails q1965 q1967 qs33 (fun H a1 => fm_rc (ci := 0) (C := RX4) (T := TX4) (N := 21) a1 rfl E.v mdl_o) rfl rfl (Nat.le_of_ble_eq_true rfl) (Nat.le_of_ble_eq_true rfl) (Nat.le_of_ble_eq_true rfl) dX4_number_17 0 0 (Nat.le_of_ble_eq_true rfl) (Nat.le_of_ble_eq_true rfl) ?_
  refine r_ifB_eq (b := !sBetween v (nI 0) (nI 14)) (tgt := 25) E dX4_number_20 (by decide) (fun c3 => ?_) (fun c3 => ?_)
  · refine r_hp (h' := mdl m (upd S.1 0 (nI 0), S.2) h0) (by rw [nf1 c3]) ?_
    obtain ⟨q, hq, rfl⟩ := sNum_f (by decide) c3
    have hqn : cN (nI q) = q := cN_n (by omega)
    refine r_iload_n E dX4_number_25 rfl ?_
    rcases (by omega : q = 0 ∨ q = 1 ∨ q = 2 ∨ q = 3 ∨ q = 4 ∨ q = 5 ∨ q = 6 ∨ q = 7 ∨ q = 8 ∨ q = 9 ∨ q = 10 ∨ q = 11 ∨ q = 12 ∨ q = 13 ∨ q = 14) with rfl | rfl | rfl | rfl | rfl | rfl | rfl | rfl | rfl | rfl | rfl | rfl | rfl | rfl | rfl
    · refine r_tableIn (tgt := 96) E dX4_number_26 (by decide) (by decide) rfl (by decide) ?_
      refine r_aload_n E dX4_number_96 rfl ?_
      refine r_getf E cl_X4 1 (by decide) q1887 mdl_o rfl dX4_number_97 ?_
      refine r_sipush E (nI 350) dX4_number_100 (by decide) ?_
      refine r_iald E mdl_1 (by omega) (by omega) dX4_number_103 ?_
      refine r_top (v' := .int (nI K)) (congrArg Value.int hK) ?_
      have hs : aNumber (S.2 1) (nI 0) K pk kp len = aDon (sNumQ (S.2 1) K pk kp len 0) (S.2 1) := by
        unfold aNumber; rw [hqn]
        exact (aG_f c3).trans (rfl)
      exact r_ireturn E P rfl dX4_number_104 ⟨by rw [hs]; rfl, by rw [hs]; rfl⟩
    · refine r_tableIn (tgt := 105) E dX4_number_26 (by decide) (by decide) rfl (by decide) ?_
      refine r_aload_n E dX4_number_105 rfl ?_
      refine r_sipush E (nI 328) dX4_number_106 (by decide) ?_
      refine r_aload_n E dX4_number_109 rfl ?_
      refine r_getf E cl_X4 1 (by decide) q1887 mdl_o rfl dX4_number_110 ?_
      refine r_sipush E (nI 350) dX4_number_113 (by decide) ?_
      refine r_iald E mdl_1 (by omega) (by omega) dX4_number_116 ?_
      refine r_top (v' := .int (nI K)) (congrArg Value.int hK) ?_
      refine r_callV1 (v1 := .int (sSum (fun k => (S.2 1) (328 + k)) K)) E (ct_X4_sumOf G hl m (upd S.1 0 (nI 0), S.2) h0 328 K (by omega)) mX4_sumOf q2192 q2194 qs68 (fun H a1 => fm_rc (ci := 0) (C := RX4) (T := TX4) (N := 21) a1 rfl E.v mdl_o) rfl rfl (Nat.le_of_ble_eq_true rfl) (Nat.le_of_ble_eq_true rfl) (Nat.le_of_ble_eq_true rfl) dX4_number_117 0 0 (Nat.le_of_ble_eq_true rfl) (Nat.le_of_ble_eq_true rfl) ?_
      have hs : aNumber (S.2 1) (nI 1) K pk kp len = aDon (sNumQ (S.2 1) K pk kp len 1) (S.2 1) := by
        unfold aNumber; rw [hqn]
        exact (aG_f c3).trans (rfl)
      exact r_ireturn E P rfl dX4_number_120 ⟨by rw [hs]; rfl, by rw [hs]; rfl⟩
    · refine r_tableIn (tgt := 121) E dX4_number_26 (by decide) (by decide) rfl (by decide) ?_
      refine r_aload_n E dX4_number_121 rfl ?_
      refine r_iload_n E dX4_number_122 rfl ?_
      refine r_iconst E (nI 2) dX4_number_123 (by decide) ?_
      refine r_icmpN_ne (tgt := 131) E dX4_number_124 (by decide) (by omega) (by omega) (fun c => absurd rfl c) (fun _ => ?_)
      refine r_iconst E (nI 1) dX4_number_127 (by decide) ?_
      refine r_goto (tgt := 132) E dX4_number_128 (by decide) ?_
      refine r_callV1 (v1 := .int (nI (sCount (fun c => decide ((S.2 1) c = (nI 1))) 64))) E (ct_X4_countStates G hl m (upd S.1 0 (nI 0), S.2) h0 (nI 1)) mX4_countStates q2196 q2198 qs69 (fun H a1 => fm_rc (ci := 0) (C := RX4) (T := TX4) (N := 21) a1 rfl E.v mdl_o) rfl rfl (Nat.le_of_ble_eq_true rfl) (Nat.le_of_ble_eq_true rfl) (Nat.le_of_ble_eq_true rfl) dX4_number_132 0 0 (Nat.le_of_ble_eq_true rfl) (Nat.le_of_ble_eq_true rfl) ?_
      have hs : aNumber (S.2 1) (nI 2) K pk kp len = aDon (sNumQ (S.2 1) K pk kp len 2) (S.2 1) := by
        unfold aNumber; rw [hqn]
        exact (aG_f c3).trans (rfl)
      exact r_ireturn E P rfl dX4_number_135 ⟨by rw [hs]; rfl, by rw [hs]; rfl⟩
    · refine r_tableIn (tgt := 121) E dX4_number_26 (by decide) (by decide) rfl (by decide) ?_
      refine r_aload_n E dX4_number_121 rfl ?_
      refine r_iload_n E dX4_number_122 rfl ?_
      refine r_iconst E (nI 2) dX4_number_123 (by decide) ?_
      refine r_icmpN_ne (tgt := 131) E dX4_number_124 (by decide) (by omega) (by omega) (fun _ => ?_) (fun c => absurd c (by decide))
      refine r_iconst E (nI 2) dX4_number_131 (by decide) ?_
      refine r_callV1 (v1 := .int (nI (sCount (fun c => decide ((S.2 1) c = (nI 2))) 64))) E (ct_X4_countStates G hl m (upd S.1 0 (nI 0), S.2) h0 (nI 2)) mX4_countStates q2196 q2198 qs69 (fun H a1 => fm_rc (ci := 0) (C := RX4) (T := TX4) (N := 21) a1 rfl E.v mdl_o) rfl rfl (Nat.le_of_ble_eq_true rfl) (Nat.le_of_ble_eq_true rfl) (Nat.le_of_ble_eq_true rfl) dX4_number_132 0 0 (Nat.le_of_ble_eq_true rfl) (Nat.le_of_ble_eq_true rfl) ?_
      have hs : aNumber (S.2 1) (nI 3) K pk kp len = aDon (sNumQ (S.2 1) K pk kp len 3) (S.2 1) := by
        unfold aNumber; rw [hqn]
        exact (aG_f c3).trans (rfl)
      exact r_ireturn E P rfl dX4_number_135 ⟨by rw [hs]; rfl, by rw [hs]; rfl⟩
    · refine r_tableIn (tgt := 136) E dX4_number_26 (by decide) (by decide) rfl (by decide) ?_
      refine r_aload_n E dX4_number_136 rfl ?_
      refine r_getf E cl_X4 1 (by decide) q1887 mdl_o rfl dX4_number_137 ?_
      refine r_sipush E (nI 352) dX4_number_140 (by decide) ?_
      refine r_iald E mdl_1 (by omega) (by omega) dX4_number_143 ?_
      refine r_top (v' := .int ((S.2 1) 352)) rfl ?_
      have hs : aNumber (S.2 1) (nI 4) K pk kp len = aDon (sNumQ (S.2 1) K pk kp len 4) (S.2 1) := by
        unfold aNumber; rw [hqn]
        exact (aG_f c3).trans (rfl)
      exact r_ireturn E P rfl dX4_number_144 ⟨by rw [hs]; rfl, by rw [hs]; rfl⟩
    · refine r_tableIn (tgt := 145) E dX4_number_26 (by decide) (by decide) rfl (by decide) ?_
      refine r_aload_n E dX4_number_145 rfl ?_
      refine r_sipush E (nI 256) dX4_number_146 (by decide) ?_
      refine r_bipush E (nI 64) dX4_number_149 (by decide) ?_
      refine r_callV1 (v1 := .int (sSum (fun k => (S.2 1) (256 + k)) 64)) E (ct_X4_sumOf G hl m (upd S.1 0 (nI 0), S.2) h0 256 64 (by omega)) mX4_sumOf q2192 q2194 qs68 (fun H a1 => fm_rc (ci := 0) (C := RX4) (T := TX4) (N := 21) a1 rfl E.v mdl_o) rfl rfl (Nat.le_of_ble_eq_true rfl) (Nat.le_of_ble_eq_true rfl) (Nat.le_of_ble_eq_true rfl) dX4_number_151 0 0 (Nat.le_of_ble_eq_true rfl) (Nat.le_of_ble_eq_true rfl) ?_
      have hs : aNumber (S.2 1) (nI 5) K pk kp len = aDon (sNumQ (S.2 1) K pk kp len 5) (S.2 1) := by
        unfold aNumber; rw [hqn]
        exact (aG_f c3).trans (rfl)
      exact r_ireturn E P rfl dX4_number_154 ⟨by rw [hs]; rfl, by rw [hs]; rfl⟩
    · refine r_tableIn (tgt := 155) E dX4_number_26 (by decide) (by decide) rfl (by decide) ?_
      refine r_aload_n E dX4_number_155 rfl ?_
      refine r_getf E cl_X4 1 (by decide) q1887 mdl_o rfl dX4_number_156 ?_
      refine r_sipush E (nI 353) dX4_number_159 (by decide) ?_
      refine r_iald E mdl_1 (by omega) (by omega) dX4_number_162 ?_
      refine r_top (v' := .int ((S.2 1) 353)) rfl ?_
      have hs : aNumber (S.2 1) (nI 6) K pk kp len = aDon (sNumQ (S.2 1) K pk kp len 6) (S.2 1) := by
        unfold aNumber; rw [hqn]
        exact (aG_f c3).trans (rfl)
      exact r_ireturn E P rfl dX4_number_163 ⟨by rw [hs]; rfl, by rw [hs]; rfl⟩
    · refine r_tableIn (tgt := 164) E dX4_number_26 (by decide) (by decide) rfl (by decide) ?_
      refine r_aload_n E dX4_number_164 rfl ?_
      refine r_sipush E (nI 336) dX4_number_165 (by decide) ?_
      refine r_aload_n E dX4_number_168 rfl ?_
      refine r_getf E cl_X4 1 (by decide) q1887 mdl_o rfl dX4_number_169 ?_
      refine r_sipush E (nI 350) dX4_number_172 (by decide) ?_
      refine r_iald E mdl_1 (by omega) (by omega) dX4_number_175 ?_
      refine r_top (v' := .int (nI K)) (congrArg Value.int hK) ?_
      refine r_callV1 (v1 := .int (sSum (fun k => (S.2 1) (336 + k)) K)) E (ct_X4_sumOf G hl m (upd S.1 0 (nI 0), S.2) h0 336 K (by omega)) mX4_sumOf q2192 q2194 qs68 (fun H a1 => fm_rc (ci := 0) (C := RX4) (T := TX4) (N := 21) a1 rfl E.v mdl_o) rfl rfl (Nat.le_of_ble_eq_true rfl) (Nat.le_of_ble_eq_true rfl) (Nat.le_of_ble_eq_true rfl) dX4_number_176 0 0 (Nat.le_of_ble_eq_true rfl) (Nat.le_of_ble_eq_true rfl) ?_
      have hs : aNumber (S.2 1) (nI 7) K pk kp len = aDon (sNumQ (S.2 1) K pk kp len 7) (S.2 1) := by
        unfold aNumber; rw [hqn]
        exact (aG_f c3).trans (rfl)
      exact r_ireturn E P rfl dX4_number_179 ⟨by rw [hs]; rfl, by rw [hs]; rfl⟩
    · refine r_tableIn (tgt := 180) E dX4_number_26 (by decide) (by decide) rfl (by decide) ?_
      refine r_aload_n E dX4_number_180 rfl ?_
      refine r_getf E cl_X4 1 (by decide) q1887 mdl_o rfl dX4_number_181 ?_
      refine r_sipush E (nI 354) dX4_number_184 (by decide) ?_
      refine r_iald E mdl_1 (by omega) (by omega) dX4_number_187 ?_
      refine r_top (v' := .int ((S.2 1) 354)) rfl ?_
      have hs : aNumber (S.2 1) (nI 8) K pk kp len = aDon (sNumQ (S.2 1) K pk kp len 8) (S.2 1) := by
        unfold aNumber; rw [hqn]
        exact (aG_f c3).trans (rfl)
      exact r_ireturn E P rfl dX4_number_188 ⟨by rw [hs]; rfl, by rw [hs]; rfl⟩
    · refine r_tableIn (tgt := 189) E dX4_number_26 (by decide) (by decide) rfl (by decide) ?_
      refine r_aload_n E dX4_number_189 rfl ?_
      refine r_getf E cl_X4 1 (by decide) q1887 mdl_o rfl dX4_number_190 ?_
      refine r_sipush E (nI 351) dX4_number_193 (by decide) ?_
      refine r_iald E mdl_1 (by omega) (by omega) dX4_number_196 ?_
      refine r_top (v' := .int (nI pk)) (congrArg Value.int hP) ?_
      have hs : aNumber (S.2 1) (nI 9) K pk kp len = aDon (sNumQ (S.2 1) K pk kp len 9) (S.2 1) := by
        unfold aNumber; rw [hqn]
        exact (aG_f c3).trans (rfl)
      exact r_ireturn E P rfl dX4_number_197 ⟨by rw [hs]; rfl, by rw [hs]; rfl⟩
    · refine r_tableIn (tgt := 198) E dX4_number_26 (by decide) (by decide) rfl (by decide) ?_
      refine r_aload_n E dX4_number_198 rfl ?_
      refine r_sipush E (nI 344) dX4_number_199 (by decide) ?_
      refine r_aload_n E dX4_number_202 rfl ?_
      refine r_getf E cl_X4 1 (by decide) q1887 mdl_o rfl dX4_number_203 ?_
      refine r_sipush E (nI 351) dX4_number_206 (by decide) ?_
      refine r_iald E mdl_1 (by omega) (by omega) dX4_number_209 ?_
      refine r_top (v' := .int (nI pk)) (congrArg Value.int hP) ?_
      refine r_callV1 (v1 := .int (sSum (fun k => (S.2 1) (344 + k)) pk)) E (ct_X4_sumOf G hl m (upd S.1 0 (nI 0), S.2) h0 344 pk (by omega)) mX4_sumOf q2192 q2194 qs68 (fun H a1 => fm_rc (ci := 0) (C := RX4) (T := TX4) (N := 21) a1 rfl E.v mdl_o) rfl rfl (Nat.le_of_ble_eq_true rfl) (Nat.le_of_ble_eq_true rfl) (Nat.le_of_ble_eq_true rfl) dX4_number_210 0 0 (Nat.le_of_ble_eq_true rfl) (Nat.le_of_ble_eq_true rfl) ?_
      have hs : aNumber (S.2 1) (nI 10) K pk kp len = aDon (sNumQ (S.2 1) K pk kp len 10) (S.2 1) := by
        unfold aNumber; rw [hqn]
        exact (aG_f c3).trans (rfl)
      exact r_ireturn E P rfl dX4_number_213 ⟨by rw [hs]; rfl, by rw [hs]; rfl⟩
    · refine r_tableIn (tgt := 214) E dX4_number_26 (by decide) (by decide) rfl (by decide) ?_
      refine r_aload_n E dX4_number_214 rfl ?_
      refine r_getf E cl_X4 1 (by decide) q1887 mdl_o rfl dX4_number_215 ?_
      refine r_sipush E (nI 355) dX4_number_218 (by decide) ?_
      refine r_iald E mdl_1 (by omega) (by omega) dX4_number_221 ?_
      refine r_top (v' := .int ((S.2 1) 355)) rfl ?_
      have hs : aNumber (S.2 1) (nI 11) K pk kp len = aDon (sNumQ (S.2 1) K pk kp len 11) (S.2 1) := by
        unfold aNumber; rw [hqn]
        exact (aG_f c3).trans (rfl)
      exact r_ireturn E P rfl dX4_number_222 ⟨by rw [hs]; rfl, by rw [hs]; rfl⟩
    · refine r_tableIn (tgt := 223) E dX4_number_26 (by decide) (by decide) rfl (by decide) ?_
      refine r_aload_n E dX4_number_223 rfl ?_
      refine r_callV1 (v1 := .int (sSum (fun c => if sChalk (S.2 1) c = true then (S.2 1) (128 + c) else nI 0) 64)) E (ct_X4_nodulesInChalk G hl m (upd S.1 0 (nI 0), S.2) h0) mX4_nodulesInChalk q2200 q2202 qs70 (fun H a1 => fm_rc (ci := 0) (C := RX4) (T := TX4) (N := 21) a1 rfl E.v mdl_o) rfl rfl (Nat.le_of_ble_eq_true rfl) (Nat.le_of_ble_eq_true rfl) (Nat.le_of_ble_eq_true rfl) dX4_number_224 0 0 (Nat.le_of_ble_eq_true rfl) (Nat.le_of_ble_eq_true rfl) ?_
      have hs : aNumber (S.2 1) (nI 12) K pk kp len = aDon (sNumQ (S.2 1) K pk kp len 12) (S.2 1) := by
        unfold aNumber; rw [hqn]
        exact (aG_f c3).trans (rfl)
      exact r_ireturn E P rfl dX4_number_227 ⟨by rw [hs]; rfl, by rw [hs]; rfl⟩
    · refine r_tableIn (tgt := 228) E dX4_number_26 (by decide) (by decide) rfl (by decide) ?_
      refine r_aload_n E dX4_number_228 rfl ?_
      refine r_getf E cl_X4 4 (by decide) q1890 mdl_o rfl dX4_number_229 ?_
      refine r_top (v' := .int (nI kp)) (congrArg Value.int h4) ?_
      have hs : aNumber (S.2 1) (nI 13) K pk kp len = aDon (sNumQ (S.2 1) K pk kp len 13) (S.2 1) := by
        unfold aNumber; rw [hqn]
        exact (aG_f c3).trans (rfl)
      exact r_ireturn E P rfl dX4_number_232 ⟨by rw [hs]; rfl, by rw [hs]; rfl⟩
    · refine r_tableOut (tgt := 233) E dX4_number_26 (by decide) (by decide) ?_
      refine r_aload_n E dX4_number_233 rfl ?_
      refine r_getf E cl_X4 12 (by decide) q1898 mdl_o rfl dX4_number_234 ?_
      refine r_top (v' := .int (nI len)) (congrArg Value.int hn) ?_
      have hs : aNumber (S.2 1) (nI 14) K pk kp len = aDon (sNumQ (S.2 1) K pk kp len 14) (S.2 1) := by
        unfold aNumber; rw [hqn]
        exact (aG_f c3).trans (rfl)
      exact r_ireturn E P rfl dX4_number_237 ⟨by rw [hs]; rfl, by rw [hs]; rfl⟩
  · refine r_hp (h' := mdl m (upd S.1 0 (nI 1), S.2) h0) (by rw [nt1 c3]) ?_
    refine r_iconst E (nI 0) dX4_number_23 (by decide) ?_
    have hs : aNumber (S.2 1) v K pk kp len = aThr 1 := by
      unfold aNumber
      exact (aG_t c3).trans (rfl)
    exact r_ireturn E P rfl dX4_number_24 ⟨by rw [hs]; rfl, by rw [hs]; rfl⟩

