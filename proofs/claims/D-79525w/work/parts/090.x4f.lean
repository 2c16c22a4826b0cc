set_option maxHeartbeats 4000000 in
theorem ct_X4_props (G : fmG) (hl : (fmLn G).stackTraces = false) (m : Nat) (S : MSt) (h0 : fmHp) (v : Int32) (tx : Bool) (h8 : S.1 8 = bI tx) (kp : Nat) (h4 : S.1 4 = nI kp) (hk8 : kp ≤ 8) : Ct G yX4_props (ws_ yX4_props cX4_props 2 (some .int)) { frames := 3, cells := 0, slots := 0, locals := 72 } [.ref m, .int v] (mdl m S h0) (fmRet (some (.int (aAns (aProps (S.2 1) v)))) (mdl m (aSt S tx kp 9 1 9 (aProps (S.2 1) v)) h0)) fmNo := by
  refine Ct.of hl (by decide +kernel) (Nat.le_of_ble_eq_true rfl) (fun Γ E P => ?_)
  refine r_aload_n E dX4_props_0 rfl ?_
  refine r_iconst E (nI 1) dX4_props_1 (by decide) ?_
  suffices j1 : fmW G Γ (mdl m S h0) 0 0 17 [some (.ref m), some (.int v)] [.int (bI (!sBetween v (nI 1) (nI 99))), .int (nI 1), .ref m] by
    refine r_iload_n E dX4_props_2 rfl ?_
    refine r_iconst E (nI 1) dX4_props_3 (by decide) ?_
    refine r_bipush E (nI 99) dX4_props_4 (by decide) ?_
    refine r_callS1 (v1 := .int (bI (sBetween v (nI 1) (nI 99)))) E (ct_X4_isBetween G hl (mdl m S h0) (v) (nI 1) (nI 99)) mX4_isBetween q89 q1962 q1963 rfl rfl (Nat.le_of_ble_eq_true rfl) (Nat.le_of_ble_eq_true rfl) (Nat.le_of_ble_eq_true rfl) dX4_props_6 0 0 (Nat.le_of_ble_eq_true rfl) (Nat.le_of_ble_eq_true rfl) ?_
    refine r_ifB_ne (b := sBetween v (nI 1) (nI 99)) (tgt := 16) E dX4_props_9 (by decide) (fun c2 => ?_) (fun c2 => ?_)
    · refine r_iconst E (nI 0) dX4_props_16 (by decide) ?_
      refine r_top (v' := .int (bI (!sBetween v (nI 1) (nI 99)))) (by rw [show (!sBetween v (nI 1) (nI 99)) = false by simp [c2]]; rfl) ?_
      exact j1
    · refine r_iconst E (nI 1) dX4_props_12 (by decide) ?_
      refine r_goto (tgt := 17) E dX4_props_13 (by decide) ?_
      refine r_top (v' := .int (bI (!sBetween v (nI 1) (nI 99)))) (by rw [show (!sBetween v (nI 1) (nI 99)) = true by simp [c2]]; rfl) ?_
      exact j1
  refine r_callV1 (v1 := .int (bI (!sBetween v (nI 1) (nI 99)))) E (ct_X4_fails G hl m S h0 (nI 1) (!sBetween v (nI 1) (nI 99))) mX4_fails q1965 q1967 qs33 (fun H a1 => fm_rc (ci := 0) (C := RX4) (T := TX4) (N := 21) a1 rfl E.v mdl_o) rfl rfl (Nat.le_of_ble_eq_true rfl) (Nat.le_of_ble_eq_true rfl) (Nat.le_of_ble_eq_true rfl) dX4_props_17 0 0 (Nat.le_of_ble_eq_true rfl) (Nat.le_of_ble_eq_true rfl) ?_
  refine r_ifB_eq (b := !sBetween v (nI 1) (nI 99)) (tgt := 25) E dX4_props_20 (by decide) (fun c3 => ?_) (fun c3 => ?_)
  · refine r_hp (h' := mdl m (upd S.1 0 (nI 0), S.2) h0) (by rw [nf1 c3]) ?_
    refine r_aload_n E dX4_props_25 rfl ?_
    refine r_callV0 E (ct_X4_change G hl m (upd S.1 0 (nI 0), S.2) h0 tx h8 kp h4 hk8) mX4_change q2023 q2025 qs44 (fun H a1 => fm_rc (ci := 0) (C := RX4) (T := TX4) (N := 21) a1 rfl E.v mdl_o) rfl rfl (Nat.le_of_ble_eq_true rfl) (Nat.le_of_ble_eq_true rfl) (Nat.le_of_ble_eq_true rfl) dX4_props_26 0 0 (Nat.le_of_ble_eq_true rfl) (Nat.le_of_ble_eq_true rfl) ?_
    refine r_aload_n E dX4_props_29 rfl ?_
    refine r_iload_n E dX4_props_30 rfl ?_
    refine r_callV0 E (ct_X4_addProps G hl m ((sChg (upd S.1 0 (nI 0), S.2) tx kp).1, va_up ((sChg (upd S.1 0 (nI 0), S.2) tx kp).2) 1 (S.2 1)) h0 v) mX4_addProps q2027 q2029 qs45 (fun H a1 => fm_rc (ci := 0) (C := RX4) (T := TX4) (N := 21) a1 rfl E.v mdl_o) rfl rfl (Nat.le_of_ble_eq_true rfl) (Nat.le_of_ble_eq_true rfl) (Nat.le_of_ble_eq_true rfl) dX4_props_31 0 0 (Nat.le_of_ble_eq_true rfl) (Nat.le_of_ble_eq_true rfl) ?_
    refine r_hp (h' := mdl m ((sChg (upd S.1 0 (nI 0), S.2) tx kp).1, va_up ((sChg (upd S.1 0 (nI 0), S.2) tx kp).2) 1 (sAddP (S.2 1) v)) h0) (mdl_vv 1 _ _) ?_
    refine r_aload_n E dX4_props_34 rfl ?_
    refine r_getf E cl_X4 1 (by decide) q1887 mdl_o rfl dX4_props_35 ?_
    refine r_sipush E (nI 352) dX4_props_38 (by decide) ?_
    refine r_iald E mdl_1 (by omega) (by omega) dX4_props_41 ?_
    refine r_top (v' := .int ((sAddP (S.2 1) v) 352)) rfl ?_
    have hs : aProps (S.2 1) v = aDon _ _ := (aG_f c3).trans (rfl)
    exact r_ireturn E P rfl dX4_props_42 ⟨by rw [hs]; rfl, by rw [hs]; rfl⟩
  · refine r_hp (h' := mdl m (upd S.1 0 (nI 1), S.2) h0) (by rw [nt1 c3]) ?_
    refine r_iconst E (nI 0) dX4_props_23 (by decide) ?_
    have hs : aProps (S.2 1) v = aThr 2 := (aG_t c3).trans (rfl)
    exact r_ireturn E P rfl dX4_props_24 ⟨by rw [hs]; rfl, by rw [hs]; rfl⟩

set_option maxHeartbeats 4000000 in
theorem ct_X4_pick (G : fmG) (hl : (fmLn G).stackTraces = false) (m : Nat) (S : MSt) (h0 : fmHp) (v : Int32) (tx : Bool) (h8 : S.1 8 = bI tx) (kp : Nat) (h4 : S.1 4 = nI kp) (hk8 : kp ≤ 8) (pk : Nat) (hP : S.2 1 351 = nI pk) (hP6 : pk ≤ 6) : Ct G yX4_pick (ws_ yX4_pick cX4_pick 2 (some .int)) { frames := 3, cells := 0, slots := 0, locals := 72 } [.ref m, .int v] (mdl m S h0) (fmRet (some (.int (aAns (aPick (S.2 1) v pk)))) (mdl m (aSt S tx kp 9 1 2 (aPick (S.2 1) v pk)) h0)) fmNo := by
  refine Ct.of hl (by decide +kernel) (Nat.le_of_ble_eq_true rfl) (fun Γ E P => ?_)
  refine r_aload_n E dX4_pick_0 rfl ?_
  refine r_iconst E (nI 1) dX4_pick_1 (by decide) ?_
  suffices j1 : fmW G Γ (mdl m S h0) 0 0 17 [some (.ref m), some (.int v)] [.int (bI (!sBetween v (nI 1) (nI 99))), .int (nI 1), .ref m] by
    refine r_iload_n E dX4_pick_2 rfl ?_
    refine r_iconst E (nI 1) dX4_pick_3 (by decide) ?_
    refine r_bipush E (nI 99) dX4_pick_4 (by decide) ?_
    refine r_callS1 (v1 := .int (bI (sBetween v (nI 1) (nI 99)))) E (ct_X4_isBetween G hl (mdl m S h0) (v) (nI 1) (nI 99)) mX4_isBetween q89 q1962 q1963 rfl rfl (Nat.le_of_ble_eq_true rfl) (Nat.le_of_ble_eq_true rfl) (Nat.le_of_ble_eq_true rfl) dX4_pick_6 0 0 (Nat.le_of_ble_eq_true rfl) (Nat.le_of_ble_eq_true rfl) ?_
    refine r_ifB_ne (b := sBetween v (nI 1) (nI 99)) (tgt := 16) E dX4_pick_9 (by decide) (fun c2 => ?_) (fun c2 => ?_)
    · refine r_iconst E (nI 0) dX4_pick_16 (by decide) ?_
      refine r_top (v' := .int (bI (!sBetween v (nI 1) (nI 99)))) (by rw [show (!sBetween v (nI 1) (nI 99)) = false by simp [c2]]; rfl) ?_
      exact j1
    · refine r_iconst E (nI 1) dX4_pick_12 (by decide) ?_
      refine r_goto (tgt := 17) E dX4_pick_13 (by decide) ?_
      refine r_top (v' := .int (bI (!sBetween v (nI 1) (nI 99)))) (by rw [show (!sBetween v (nI 1) (nI 99)) = true by simp [c2]]; rfl) ?_
      exact j1
  refine r_callV1 (v1 := .int (bI (!sBetween v (nI 1) (nI 99)))) E (ct_X4_fails G hl m S h0 (nI 1) (!sBetween v (nI 1) (nI 99))) mX4_fails q1965 q1967 qs33 (fun H a1 => fm_rc (ci := 0) (C := RX4) (T := TX4) (N := 21) a1 rfl E.v mdl_o) rfl rfl (Nat.le_of_ble_eq_true rfl) (Nat.le_of_ble_eq_true rfl) (Nat.le_of_ble_eq_true rfl) dX4_pick_17 0 0 (Nat.le_of_ble_eq_true rfl) (Nat.le_of_ble_eq_true rfl) ?_
  refine r_ifB_ne (b := !sBetween v (nI 1) (nI 99)) (tgt := 57) E dX4_pick_20 (by decide) (fun c3 => ?_) (fun c3 => ?_)
  · refine r_hp (h' := mdl m (upd S.1 0 (nI 1), S.2) h0) (by rw [nt1 c3]) ?_
    refine r_iconst E (nI 0) dX4_pick_57 (by decide) ?_
    have hs : aPick (S.2 1) v pk = aThr 2 := (aG_t c3).trans (rfl)
    exact r_ireturn E P rfl dX4_pick_58 ⟨by rw [hs]; rfl, by rw [hs]; rfl⟩
  · refine r_hp (h' := mdl m (upd S.1 0 (nI 0), S.2) h0) (by rw [nf1 c3]) ?_
    refine r_aload_n E dX4_pick_23 rfl ?_
    refine r_iconst E (nI 2) dX4_pick_24 (by decide) ?_
    refine r_aload_n E dX4_pick_25 rfl ?_
    suffices j4 : fmW G Γ (mdl m (upd S.1 0 (nI 0), S.2) h0) 0 0 44 [some (.ref m), some (.int v)] [.int (bI (decide (pk = 6))), .ref m, .int (nI 2), .ref m] by
      refine r_aload_n E dX4_pick_26 rfl ?_
      refine r_getf E cl_X4 1 (by decide) q1887 mdl_o rfl dX4_pick_27 ?_
      refine r_sipush E (nI 351) dX4_pick_30 (by decide) ?_
      refine r_iald E mdl_1 (by omega) (by omega) dX4_pick_33 ?_
      refine r_top (v' := .int (nI pk)) (congrArg Value.int hP) ?_
      refine r_bipush E (nI 6) dX4_pick_34 (by decide) ?_
      refine r_icmpN_ne (tgt := 43) E dX4_pick_36 (by decide) (by omega) (by omega) (fun c5 => ?_) (fun c5 => ?_)
      · refine r_iconst E (nI 0) dX4_pick_43 (by decide) ?_
        refine r_top (v' := .int (bI (decide (pk = 6)))) (by rw [show (decide (pk = 6)) = false by simp [c5]]; rfl) ?_
        exact j4
      · refine r_iconst E (nI 1) dX4_pick_39 (by decide) ?_
        refine r_goto (tgt := 44) E dX4_pick_40 (by decide) ?_
        refine r_top (v' := .int (bI (decide (pk = 6)))) (by rw [show (decide (pk = 6)) = true by simp [c5]]; rfl) ?_
        exact j4
    refine r_bipush E (nI 8) dX4_pick_44 (by decide) ?_
    refine r_bipush E (nI 6) dX4_pick_46 (by decide) ?_
    refine r_callV1 (v1 := .int (bI (decide (pk = 6)))) E (ct_X4_refuse G hl m (upd S.1 0 (nI 0), S.2) h0 (decide (pk = 6)) (nI 8) (nI 6)) mX4_refuse q1973 q1975 qs35 (fun H a1 => fm_rc (ci := 0) (C := RX4) (T := TX4) (N := 21) a1 rfl E.v mdl_o) rfl rfl (Nat.le_of_ble_eq_true rfl) (Nat.le_of_ble_eq_true rfl) (Nat.le_of_ble_eq_true rfl) dX4_pick_48 0 0 (Nat.le_of_ble_eq_true rfl) (Nat.le_of_ble_eq_true rfl) ?_
    refine r_callV1 (v1 := .int (bI (decide (pk = 6)))) E (ct_X4_fails G hl m (refF (upd S.1 0 (nI 0)) (decide (pk = 6)) (nI 8) (nI 6), S.2) h0 (nI 2) (decide (pk = 6))) mX4_fails q1965 q1967 qs33 (fun H a1 => fm_rc (ci := 0) (C := RX4) (T := TX4) (N := 21) a1 rfl E.v mdl_o) rfl rfl (Nat.le_of_ble_eq_true rfl) (Nat.le_of_ble_eq_true rfl) (Nat.le_of_ble_eq_true rfl) dX4_pick_51 0 0 (Nat.le_of_ble_eq_true rfl) (Nat.le_of_ble_eq_true rfl) ?_
    refine r_ifB_eq (b := decide (pk = 6)) (tgt := 59) E dX4_pick_54 (by decide) (fun c6 => ?_) (fun c6 => ?_)
    · refine r_hp (h' := mdl m (upd S.1 0 (nI 0), S.2) h0) (by rw [nf1 c6, refF_n c6, upd_uu]) ?_
      refine r_aload_n E dX4_pick_59 rfl ?_
      refine r_callV0 E (ct_X4_change G hl m (upd S.1 0 (nI 0), S.2) h0 tx h8 kp h4 hk8) mX4_change q2023 q2025 qs44 (fun H a1 => fm_rc (ci := 0) (C := RX4) (T := TX4) (N := 21) a1 rfl E.v mdl_o) rfl rfl (Nat.le_of_ble_eq_true rfl) (Nat.le_of_ble_eq_true rfl) (Nat.le_of_ble_eq_true rfl) dX4_pick_60 0 0 (Nat.le_of_ble_eq_true rfl) (Nat.le_of_ble_eq_true rfl) ?_
      refine r_aload_n E dX4_pick_63 rfl ?_
      refine r_getf E cl_X4 1 (by decide) q1887 mdl_o rfl dX4_pick_64 ?_
      refine r_sipush E (nI 344) dX4_pick_67 (by decide) ?_
      refine r_aload_n E dX4_pick_70 rfl ?_
      refine r_getf E cl_X4 1 (by decide) q1887 mdl_o rfl dX4_pick_71 ?_
      refine r_sipush E (nI 351) dX4_pick_74 (by decide) ?_
      refine r_iald E mdl_1 (by omega) (by omega) dX4_pick_77 ?_
      refine r_top (v' := .int (nI pk)) (congrArg Value.int hP) ?_
      refine r_iaddN E dX4_pick_78 ?_
      refine r_iload_n E dX4_pick_79 rfl ?_
      refine r_iast E mdl_1 (by omega) (by omega) dX4_pick_80 ?_
      refine r_hp (h' := mdl m ((sChg (upd S.1 0 (nI 0), S.2) tx kp).1, va_up ((sChg (upd S.1 0 (nI 0), S.2) tx kp).2) 1 (upd (S.2 1) (344 + pk) v)) h0) (mdl_b1 _) ?_
      refine r_aload_n E dX4_pick_81 rfl ?_
      refine r_getf E cl_X4 1 (by decide) q1887 mdl_o rfl dX4_pick_82 ?_
      refine r_sipush E (nI 351) dX4_pick_85 (by decide) ?_
      refine r_dup2 E dX4_pick_88 rfl rfl ?_
      refine r_iald E mdl_1 (by omega) (by omega) dX4_pick_89 ?_
      refine r_top (v' := .int (nI pk)) (congrArg Value.int ((if_neg (by omega)).trans hP)) ?_
      refine r_iconst E (nI 1) dX4_pick_90 (by decide) ?_
      refine r_iaddN E dX4_pick_91 ?_
      refine r_iast E mdl_1 (by omega) (by omega) dX4_pick_92 ?_
      refine r_hp (h' := mdl m ((sChg (upd S.1 0 (nI 0), S.2) tx kp).1, va_up ((sChg (upd S.1 0 (nI 0), S.2) tx kp).2) 1 (upd (upd (S.2 1) (344 + pk) v) 351 (nI (pk + 1)))) h0) (mdl_b1 _) ?_
      refine r_aload_n E dX4_pick_93 rfl ?_
      refine r_getf E cl_X4 1 (by decide) q1887 mdl_o rfl dX4_pick_94 ?_
      refine r_sipush E (nI 351) dX4_pick_97 (by decide) ?_
      refine r_iald E mdl_1 (by omega) (by omega) dX4_pick_100 ?_
      refine r_top (v' := .int ((upd (upd (S.2 1) (344 + pk) v) 351 (nI (pk + 1))) 351)) rfl ?_
      refine r_top (v' := .int (nI (pk + 1))) rfl ?_
      refine r_iconst E (nI 1) dX4_pick_101 (by decide) ?_
      refine r_isubN E dX4_pick_102 (by omega) ?_
      refine r_top (v' := .int (nI pk)) (by rw [Nat.add_sub_cancel]) ?_
      have hs : aPick (S.2 1) v pk = aDon _ _ := (aG_f c3).trans ((aG_f c6).trans (rfl))
      exact r_ireturn E P rfl dX4_pick_103 ⟨by rw [hs]; rfl, by rw [hs]; rfl⟩
    · refine r_hp (h' := mdl m (upd (refO (upd S.1 0 (nI 0)) (some (nI 8, nI 6))) 0 (nI 2), S.2) h0) (by rw [nt1 c6, refF_p c6]) ?_
      refine r_iconst E (nI 0) dX4_pick_57 (by decide) ?_
      have hs : aPick (S.2 1) v pk = aRef (nI 8) (nI 6) := (aG_f c3).trans ((aG_t c6).trans (rfl))
      exact r_ireturn E P rfl dX4_pick_58 ⟨by rw [hs]; rfl, by rw [hs]; rfl⟩

set_option maxHeartbeats 4000000 in
theorem ct_X4_roof (G : fmG) (hl : (fmLn G).stackTraces = false) (m : Nat) (S : MSt) (h0 : fmHp) (v : Int32) (kp : Nat) (h4 : S.1 4 = nI kp) (hk8 : kp ≤ 8) : Ct G yX4_roof (ws_ yX4_roof cX4_roof 3 (some .int)) { frames := 6, cells := 0, slots := 0, locals := 137 } [.ref m, .int v] (mdl m S h0) (fmRet (some (.int (aAns (aRoof (S.2 1) v)))) (mdl m (aSt S false kp 9 1 2 (aRoof (S.2 1) v)) h0)) fmNo := by
  refine Ct.of hl (by decide +kernel) (Nat.le_of_ble_eq_true rfl) (fun Γ E P => ?_)
  refine r_aload_n E dX4_roof_0 rfl ?_
  refine r_iconst E (nI 1) dX4_roof_1 (by decide) ?_
  suffices j1 : fmW G Γ (mdl m S h0) 0 0 17 [some (.ref m), some (.int v), none] [.int (bI (!sBetween v (nI 2) (nI 8))), .int (nI 1), .ref m] by
    refine r_iload_n E dX4_roof_2 rfl ?_
    refine r_iconst E (nI 2) dX4_roof_3 (by decide) ?_
    refine r_bipush E (nI 8) dX4_roof_4 (by decide) ?_
    refine r_callS1 (v1 := .int (bI (sBetween v (nI 2) (nI 8)))) E (ct_X4_isBetween G hl (mdl m S h0) (v) (nI 2) (nI 8)) mX4_isBetween q89 q1962 q1963 rfl rfl (Nat.le_of_ble_eq_true rfl) (Nat.le_of_ble_eq_true rfl) (Nat.le_of_ble_eq_true rfl) dX4_roof_6 0 0 (Nat.le_of_ble_eq_true rfl) (Nat.le_of_ble_eq_true rfl) ?_
    refine r_ifB_ne (b := sBetween v (nI 2) (nI 8)) (tgt := 16) E dX4_roof_9 (by decide) (fun c2 => ?_) (fun c2 => ?_)
    · refine r_iconst E (nI 0) dX4_roof_16 (by decide) ?_
      refine r_top (v' := .int (bI (!sBetween v (nI 2) (nI 8)))) (by rw [show (!sBetween v (nI 2) (nI 8)) = false by simp [c2]]; rfl) ?_
      exact j1
    · refine r_iconst E (nI 1) dX4_roof_12 (by decide) ?_
      refine r_goto (tgt := 17) E dX4_roof_13 (by decide) ?_
      refine r_top (v' := .int (bI (!sBetween v (nI 2) (nI 8)))) (by rw [show (!sBetween v (nI 2) (nI 8)) = true by simp [c2]]; rfl) ?_
      exact j1
  refine r_callV1 (v1 := .int (bI (!sBetween v (nI 2) (nI 8)))) E (ct_X4_fails G hl m S h0 (nI 1) (!sBetween v (nI 2) (nI 8))) mX4_fails q1965 q1967 qs33 (fun H a1 => fm_rc (ci := 0) (C := RX4) (T := TX4) (N := 21) a1 rfl E.v mdl_o) rfl rfl (Nat.le_of_ble_eq_true rfl) (Nat.le_of_ble_eq_true rfl) (Nat.le_of_ble_eq_true rfl) dX4_roof_17 0 0 (Nat.le_of_ble_eq_true rfl) (Nat.le_of_ble_eq_true rfl) ?_
  refine r_ifB_ne (b := !sBetween v (nI 2) (nI 8)) (tgt := 53) E dX4_roof_20 (by decide) (fun c3 => ?_) (fun c3 => ?_)
  · refine r_hp (h' := mdl m (upd S.1 0 (nI 1), S.2) h0) (by rw [nt1 c3]) ?_
    refine r_iconst E (nI 0) dX4_roof_53 (by decide) ?_
    have hs : aRoof (S.2 1) v = aThr 2 := (aG_t c3).trans (rfl)
    exact r_ireturn E P rfl dX4_roof_54 ⟨by rw [hs]; rfl, by rw [hs]; rfl⟩
  · refine r_hp (h' := mdl m (upd S.1 0 (nI 0), S.2) h0) (by rw [nf1 c3]) ?_
    refine r_aload_n E dX4_roof_23 rfl ?_
    refine r_iconst E (nI 2) dX4_roof_24 (by decide) ?_
    refine r_aload_n E dX4_roof_25 rfl ?_
    suffices j4 : fmW G Γ (mdl m (upd S.1 0 (nI 0), S.2) h0) 0 0 39 [some (.ref m), some (.int v), none] [.int (bI (decide (v < nI (sLong (S.2 1))))), .ref m, .int (nI 2), .ref m] by
      refine r_aload_n E dX4_roof_26 rfl ?_
      refine r_callV1 (v1 := .int (nI (sLong (S.2 1)))) E (ct_X4_longestSpan G hl m (upd S.1 0 (nI 0), S.2) h0) mX4_longestSpan q1992 q1994 qs38 (fun H a1 => fm_rc (ci := 0) (C := RX4) (T := TX4) (N := 21) a1 rfl E.v mdl_o) rfl rfl (Nat.le_of_ble_eq_true rfl) (Nat.le_of_ble_eq_true rfl) (Nat.le_of_ble_eq_true rfl) dX4_roof_27 0 0 (Nat.le_of_ble_eq_true rfl) (Nat.le_of_ble_eq_true rfl) ?_
      refine r_iload_n E dX4_roof_30 rfl ?_
      refine r_icmp_le (x := nI (sLong (S.2 1))) (y := v) (tgt := 38) E dX4_roof_31 (by decide) (fun c5 => ?_) (fun c5 => ?_)
      · refine r_iconst E (nI 0) dX4_roof_38 (by decide) ?_
        refine r_top (v' := .int (bI (decide (v < nI (sLong (S.2 1)))))) (by rw [show (decide (v < nI (sLong (S.2 1)))) = false by first | (simp [c5, Int32.not_lt, Int32.not_le]; done) | (simp [Int32.not_le.mp c5, Int32.not_lt, Int32.not_le]; done) | (simp [Int32.not_lt.mp c5, Int32.not_lt, Int32.not_le]; done)]; rfl) ?_
        exact j4
      · refine r_iconst E (nI 1) dX4_roof_34 (by decide) ?_
        refine r_goto (tgt := 39) E dX4_roof_35 (by decide) ?_
        refine r_top (v' := .int (bI (decide (v < nI (sLong (S.2 1)))))) (by rw [show (decide (v < nI (sLong (S.2 1)))) = true by first | (simp [c5, Int32.not_lt, Int32.not_le]; done) | (simp [Int32.not_le.mp c5, Int32.not_lt, Int32.not_le]; done) | (simp [Int32.not_lt.mp c5, Int32.not_lt, Int32.not_le]; done)]; rfl) ?_
        exact j4
    refine r_iconst E (nI 4) dX4_roof_39 (by decide) ?_
    refine r_aload_n E dX4_roof_40 rfl ?_
    refine r_callV1 (v1 := .int (nI (sLong (S.2 1)))) E (ct_X4_longestSpan G hl m (upd S.1 0 (nI 0), S.2) h0) mX4_longestSpan q1992 q1994 qs38 (fun H a1 => fm_rc (ci := 0) (C := RX4) (T := TX4) (N := 21) a1 rfl E.v mdl_o) rfl rfl (Nat.le_of_ble_eq_true rfl) (Nat.le_of_ble_eq_true rfl) (Nat.le_of_ble_eq_true rfl) dX4_roof_41 0 0 (Nat.le_of_ble_eq_true rfl) (Nat.le_of_ble_eq_true rfl) ?_
    refine r_callV1 (v1 := .int (bI (decide (v < nI (sLong (S.2 1)))))) E (ct_X4_refuse G hl m (upd S.1 0 (nI 0), S.2) h0 (decide (v < nI (sLong (S.2 1)))) (nI 4) (nI (sLong (S.2 1)))) mX4_refuse q1973 q1975 qs35 (fun H a1 => fm_rc (ci := 0) (C := RX4) (T := TX4) (N := 21) a1 rfl E.v mdl_o) rfl rfl (Nat.le_of_ble_eq_true rfl) (Nat.le_of_ble_eq_true rfl) (Nat.le_of_ble_eq_true rfl) dX4_roof_44 0 0 (Nat.le_of_ble_eq_true rfl) (Nat.le_of_ble_eq_true rfl) ?_
    refine r_callV1 (v1 := .int (bI (decide (v < nI (sLong (S.2 1)))))) E (ct_X4_fails G hl m (refF (upd S.1 0 (nI 0)) (decide (v < nI (sLong (S.2 1)))) (nI 4) (nI (sLong (S.2 1))), S.2) h0 (nI 2) (decide (v < nI (sLong (S.2 1))))) mX4_fails q1965 q1967 qs33 (fun H a1 => fm_rc (ci := 0) (C := RX4) (T := TX4) (N := 21) a1 rfl E.v mdl_o) rfl rfl (Nat.le_of_ble_eq_true rfl) (Nat.le_of_ble_eq_true rfl) (Nat.le_of_ble_eq_true rfl) dX4_roof_47 0 0 (Nat.le_of_ble_eq_true rfl) (Nat.le_of_ble_eq_true rfl) ?_
    refine r_ifB_eq (b := decide (v < nI (sLong (S.2 1)))) (tgt := 55) E dX4_roof_50 (by decide) (fun c6 => ?_) (fun c6 => ?_)
    · refine r_hp (h' := mdl m (upd S.1 0 (nI 0), S.2) h0) (by rw [nf1 c6, refF_n c6, upd_uu]) ?_
      refine r_aload_n E dX4_roof_55 rfl ?_
      refine r_aload_n E dX4_roof_56 rfl ?_
      refine r_getf E cl_X4 1 (by decide) q1887 mdl_o rfl dX4_roof_57 ?_
      refine r_callV0 E (ct_X4_remember_1 G hl m (upd S.1 0 (nI 0), S.2) h0 kp h4 hk8) mX4_remember q1977 q1979 qs36 (fun H a1 => fm_rc (ci := 0) (C := RX4) (T := TX4) (N := 21) a1 rfl E.v mdl_o) rfl rfl (Nat.le_of_ble_eq_true rfl) (Nat.le_of_ble_eq_true rfl) (Nat.le_of_ble_eq_true rfl) dX4_roof_60 0 0 (Nat.le_of_ble_eq_true rfl) (Nat.le_of_ble_eq_true rfl) ?_
      refine r_hp (h' := mdl m ((sChg (upd S.1 0 (nI 0), S.2) false kp).1, va_up ((sChg (upd S.1 0 (nI 0), S.2) false kp).2) 1 (S.2 1)) h0) (congrArg (fun s => mdl m s h0) (sChg_f hk8 rfl)) ?_
      refine r_aload_n E dX4_roof_63 rfl ?_
      refine r_getf E cl_X4 1 (by decide) q1887 mdl_o rfl dX4_roof_64 ?_
      refine r_sipush E (nI 355) dX4_roof_67 (by decide) ?_
      refine r_iald E mdl_1 (by omega) (by omega) dX4_roof_70 ?_
      refine r_top (v' := .int ((S.2 1) 355)) rfl ?_
      refine r_istore_n E [some (.ref m), some (.int v), some (.int ((S.2 1) 355))] dX4_roof_71 rfl rfl ?_
      refine r_aload_n E dX4_roof_72 rfl ?_
      refine r_getf E cl_X4 1 (by decide) q1887 mdl_o rfl dX4_roof_73 ?_
      refine r_sipush E (nI 355) dX4_roof_76 (by decide) ?_
      refine r_iload_n E dX4_roof_79 rfl ?_
      refine r_iast E mdl_1 (by omega) (by omega) dX4_roof_80 ?_
      refine r_hp (h' := mdl m ((sChg (upd S.1 0 (nI 0), S.2) false kp).1, va_up ((sChg (upd S.1 0 (nI 0), S.2) false kp).2) 1 (upd (S.2 1) 355 v)) h0) (mdl_b1 _) ?_
      refine r_iload_n E dX4_roof_81 rfl ?_
      have hs : aRoof (S.2 1) v = aDon _ _ := (aG_f c3).trans ((aG_f c6).trans (rfl))
      exact r_ireturn E P rfl dX4_roof_82 ⟨by rw [hs]; rfl, by rw [hs]; rfl⟩
    · refine r_hp (h' := mdl m (upd (refO (upd S.1 0 (nI 0)) (some (nI 4, nI (sLong (S.2 1))))) 0 (nI 2), S.2) h0) (by rw [nt1 c6, refF_p c6]) ?_
      refine r_iconst E (nI 0) dX4_roof_53 (by decide) ?_
      have hs : aRoof (S.2 1) v = aRef (nI 4) (nI (sLong (S.2 1))) := (aG_f c3).trans ((aG_t c6).trans (rfl))
      exact r_ireturn E P rfl dX4_roof_54 ⟨by rw [hs]; rfl, by rw [hs]; rfl⟩

set_option maxHeartbeats 4000000 in
theorem ct_X4_rock (G : fmG) (hl : (fmLn G).stackTraces = false) (m : Nat) (S : MSt) (h0 : fmHp) (v hd nd : Int32) (kp : Nat) (h4 : S.1 4 = nI kp) (hk8 : kp ≤ 8) : Ct G yX4_rock (ws_ yX4_rock cX4_rock 4 (some .int)) { frames := 2, cells := 0, slots := 0, locals := 52 } [.ref m, .int v, .int hd, .int nd] (mdl m S h0) (fmRet (some (.int (aAns (aRock (S.2 1) v hd nd)))) (mdl m (aSt S false kp 1 2 3 (aRock (S.2 1) v hd nd)) h0)) fmNo := by
  refine Ct.of hl (by decide +kernel) (Nat.le_of_ble_eq_true rfl) (fun Γ E P => ?_)
  refine r_aload_n E dX4_rock_0 rfl ?_
  refine r_iconst E (nI 1) dX4_rock_1 (by decide) ?_
  suffices j1 : fmW G Γ (mdl m S h0) 0 0 14 [some (.ref m), some (.int v), some (.int hd), some (.int nd)] [.int (bI (!sBetween v (nI 0) (nI 63))), .int (nI 1), .ref m] by
    refine r_iload_n E dX4_rock_2 rfl ?_
    refine r_callS1 (v1 := .int (bI (sBetween v (nI 0) (nI 63)))) E (ct_X4_isCell G hl (mdl m S h0) (v)) mX4_isCell q89 q1959 q1960 rfl rfl (Nat.le_of_ble_eq_true rfl) (Nat.le_of_ble_eq_true rfl) (Nat.le_of_ble_eq_true rfl) dX4_rock_3 0 0 (Nat.le_of_ble_eq_true rfl) (Nat.le_of_ble_eq_true rfl) ?_
    refine r_ifB_ne (b := sBetween v (nI 0) (nI 63)) (tgt := 13) E dX4_rock_6 (by decide) (fun c2 => ?_) (fun c2 => ?_)
    · refine r_iconst E (nI 0) dX4_rock_13 (by decide) ?_
      refine r_top (v' := .int (bI (!sBetween v (nI 0) (nI 63)))) (by rw [show (!sBetween v (nI 0) (nI 63)) = false by simp [c2]]; rfl) ?_
      exact j1
    · refine r_iconst E (nI 1) dX4_rock_9 (by decide) ?_
      refine r_goto (tgt := 14) E dX4_rock_10 (by decide) ?_
      refine r_top (v' := .int (bI (!sBetween v (nI 0) (nI 63)))) (by rw [show (!sBetween v (nI 0) (nI 63)) = true by simp [c2]]; rfl) ?_
      exact j1
  refine r_callV1 (v1 := .int (bI (!sBetween v (nI 0) (nI 63)))) E (ct_X4_fails G hl m S h0 (nI 1) (!sBetween v (nI 0) (nI 63))) mX4_fails q1965 q1967 qs33 (fun H a1 => fm_rc (ci := 0) (C := RX4) (T := TX4) (N := 21) a1 rfl E.v mdl_o) rfl rfl (Nat.le_of_ble_eq_true rfl) (Nat.le_of_ble_eq_true rfl) (Nat.le_of_ble_eq_true rfl) dX4_rock_14 0 0 (Nat.le_of_ble_eq_true rfl) (Nat.le_of_ble_eq_true rfl) ?_
  refine r_ifB_ne (b := !sBetween v (nI 0) (nI 63)) (tgt := 80) E dX4_rock_17 (by decide) (fun c3 => ?_) (fun c3 => ?_)
  · refine r_hp (h' := mdl m (upd S.1 0 (nI 1), S.2) h0) (by rw [nt1 c3]) ?_
    refine r_iconst E (nI 0) dX4_rock_80 (by decide) ?_
    have hs : aRock (S.2 1) v hd nd = aThr 1 := (aG_t c3).trans (rfl)
    exact r_ireturn E P rfl dX4_rock_81 ⟨by rw [hs]; rfl, by rw [hs]; rfl⟩
  · refine r_hp (h' := mdl m (upd S.1 0 (nI 0), S.2) h0) (by rw [nf1 c3]) ?_
    obtain ⟨c, hc, rfl⟩ := sCell_of c3
    have hcn : cN (nI c) = c := cN_n (by omega)
    refine r_aload_n E dX4_rock_20 rfl ?_
    refine r_iconst E (nI 2) dX4_rock_21 (by decide) ?_
    suffices j4 : fmW G Γ (mdl m (upd S.1 0 (nI 0), S.2) h0) 0 0 47 [some (.ref m), some (.int (nI c)), some (.int hd), some (.int nd)] [.int (bI (!sBetween hd (nI 1) (nI 9) || !sBetween nd (nI 0) (nI 9))), .int (nI 2), .ref m] by
      refine r_iload_n E dX4_rock_22 rfl ?_
      refine r_iconst E (nI 1) dX4_rock_23 (by decide) ?_
      refine r_bipush E (nI 9) dX4_rock_24 (by decide) ?_
      refine r_callS1 (v1 := .int (bI (sBetween hd (nI 1) (nI 9)))) E (ct_X4_isBetween G hl (mdl m (upd S.1 0 (nI 0), S.2) h0) (hd) (nI 1) (nI 9)) mX4_isBetween q89 q1962 q1963 rfl rfl (Nat.le_of_ble_eq_true rfl) (Nat.le_of_ble_eq_true rfl) (Nat.le_of_ble_eq_true rfl) dX4_rock_26 0 0 (Nat.le_of_ble_eq_true rfl) (Nat.le_of_ble_eq_true rfl) ?_
      refine r_ifB_eq (b := sBetween hd (nI 1) (nI 9)) (tgt := 42) E dX4_rock_29 (by decide) (fun c5 => ?_) (fun c5 => ?_)
      · refine r_iconst E (nI 1) dX4_rock_42 (by decide) ?_
        refine r_goto (tgt := 47) E dX4_rock_43 (by decide) ?_
        refine r_top (v' := .int (bI (!sBetween hd (nI 1) (nI 9) || !sBetween nd (nI 0) (nI 9)))) (by rw [show (!sBetween hd (nI 1) (nI 9) || !sBetween nd (nI 0) (nI 9)) = true by simp [c5]]; rfl) ?_
        exact j4
      · refine r_iload_n E dX4_rock_32 rfl ?_
        refine r_iconst E (nI 0) dX4_rock_33 (by decide) ?_
        refine r_bipush E (nI 9) dX4_rock_34 (by decide) ?_
        refine r_callS1 (v1 := .int (bI (sBetween nd (nI 0) (nI 9)))) E (ct_X4_isBetween G hl (mdl m (upd S.1 0 (nI 0), S.2) h0) (nd) (nI 0) (nI 9)) mX4_isBetween q89 q1962 q1963 rfl rfl (Nat.le_of_ble_eq_true rfl) (Nat.le_of_ble_eq_true rfl) (Nat.le_of_ble_eq_true rfl) dX4_rock_36 0 0 (Nat.le_of_ble_eq_true rfl) (Nat.le_of_ble_eq_true rfl) ?_
        refine r_ifB_ne (b := sBetween nd (nI 0) (nI 9)) (tgt := 46) E dX4_rock_39 (by decide) (fun c6 => ?_) (fun c6 => ?_)
        · refine r_iconst E (nI 0) dX4_rock_46 (by decide) ?_
          refine r_top (v' := .int (bI (!sBetween hd (nI 1) (nI 9) || !sBetween nd (nI 0) (nI 9)))) (by rw [show (!sBetween hd (nI 1) (nI 9) || !sBetween nd (nI 0) (nI 9)) = false by simp [c5, c6]]; rfl) ?_
          exact j4
        · refine r_iconst E (nI 1) dX4_rock_42 (by decide) ?_
          refine r_goto (tgt := 47) E dX4_rock_43 (by decide) ?_
          refine r_top (v' := .int (bI (!sBetween hd (nI 1) (nI 9) || !sBetween nd (nI 0) (nI 9)))) (by rw [show (!sBetween hd (nI 1) (nI 9) || !sBetween nd (nI 0) (nI 9)) = true by simp [c5, c6]]; rfl) ?_
          exact j4
    refine r_callV1 (v1 := .int (bI (!sBetween hd (nI 1) (nI 9) || !sBetween nd (nI 0) (nI 9)))) E (ct_X4_fails G hl m (upd S.1 0 (nI 0), S.2) h0 (nI 2) (!sBetween hd (nI 1) (nI 9) || !sBetween nd (nI 0) (nI 9))) mX4_fails q1965 q1967 qs33 (fun H a1 => fm_rc (ci := 0) (C := RX4) (T := TX4) (N := 21) a1 rfl E.v mdl_o) rfl rfl (Nat.le_of_ble_eq_true rfl) (Nat.le_of_ble_eq_true rfl) (Nat.le_of_ble_eq_true rfl) dX4_rock_47 0 0 (Nat.le_of_ble_eq_true rfl) (Nat.le_of_ble_eq_true rfl) ?_
    refine r_ifB_ne (b := !sBetween hd (nI 1) (nI 9) || !sBetween nd (nI 0) (nI 9)) (tgt := 80) E dX4_rock_50 (by decide) (fun c7 => ?_) (fun c7 => ?_)
    · refine r_hp (h' := mdl m (upd S.1 0 (nI 2), S.2) h0) (by rw [nt1 c7, upd_uu]) ?_
      refine r_iconst E (nI 0) dX4_rock_80 (by decide) ?_
      have hs : aRock (S.2 1) (nI c) hd nd = aThr 2 := by
        unfold aRock; rw [hcn]
        exact (aG_f c3).trans ((aG_t c7).trans (rfl))
      exact r_ireturn E P rfl dX4_rock_81 ⟨by rw [hs]; rfl, by rw [hs]; rfl⟩
    · refine r_hp (h' := mdl m (upd S.1 0 (nI 0), S.2) h0) (by rw [nf1 c7, upd_uu]) ?_
      refine r_aload_n E dX4_rock_53 rfl ?_
      refine r_iconst E (nI 3) dX4_rock_54 (by decide) ?_
      refine r_aload_n E dX4_rock_55 rfl ?_
      suffices j8 : fmW G Γ (mdl m (upd S.1 0 (nI 0), S.2) h0) 0 0 69 [some (.ref m), some (.int (nI c)), some (.int hd), some (.int nd)] [.int (bI (!sChalk (S.2 1) c)), .ref m, .int (nI 3), .ref m] by
        refine r_aload_n E dX4_rock_56 rfl ?_
        refine r_iload_n E dX4_rock_57 rfl ?_
        refine r_callV1 (v1 := .int (bI (sChalk (S.2 1) c))) E (ct_X4_isChalk G hl m (upd S.1 0 (nI 0), S.2) h0 c (by omega)) mX4_isChalk q1969 q1971 qs34 (fun H a1 => fm_rc (ci := 0) (C := RX4) (T := TX4) (N := 21) a1 rfl E.v mdl_o) rfl rfl (Nat.le_of_ble_eq_true rfl) (Nat.le_of_ble_eq_true rfl) (Nat.le_of_ble_eq_true rfl) dX4_rock_58 0 0 (Nat.le_of_ble_eq_true rfl) (Nat.le_of_ble_eq_true rfl) ?_
        refine r_ifB_ne (b := sChalk (S.2 1) c) (tgt := 68) E dX4_rock_61 (by decide) (fun c9 => ?_) (fun c9 => ?_)
        · refine r_iconst E (nI 0) dX4_rock_68 (by decide) ?_
          refine r_top (v' := .int (bI (!sChalk (S.2 1) c))) (by rw [show (!sChalk (S.2 1) c) = false by simp [c9]]; rfl) ?_
          exact j8
        · refine r_iconst E (nI 1) dX4_rock_64 (by decide) ?_
          refine r_goto (tgt := 69) E dX4_rock_65 (by decide) ?_
          refine r_top (v' := .int (bI (!sChalk (S.2 1) c))) (by rw [show (!sChalk (S.2 1) c) = true by simp [c9]]; rfl) ?_
          exact j8
      refine r_iconst E (nI 1) dX4_rock_69 (by decide) ?_
      refine r_iload_n E dX4_rock_70 rfl ?_
      refine r_callV1 (v1 := .int (bI (!sChalk (S.2 1) c))) E (ct_X4_refuse G hl m (upd S.1 0 (nI 0), S.2) h0 (!sChalk (S.2 1) c) (nI 1) (nI c)) mX4_refuse q1973 q1975 qs35 (fun H a1 => fm_rc (ci := 0) (C := RX4) (T := TX4) (N := 21) a1 rfl E.v mdl_o) rfl rfl (Nat.le_of_ble_eq_true rfl) (Nat.le_of_ble_eq_true rfl) (Nat.le_of_ble_eq_true rfl) dX4_rock_71 0 0 (Nat.le_of_ble_eq_true rfl) (Nat.le_of_ble_eq_true rfl) ?_
      refine r_callV1 (v1 := .int (bI (!sChalk (S.2 1) c))) E (ct_X4_fails G hl m (refF (upd S.1 0 (nI 0)) (!sChalk (S.2 1) c) (nI 1) (nI c), S.2) h0 (nI 3) (!sChalk (S.2 1) c)) mX4_fails q1965 q1967 qs33 (fun H a1 => fm_rc (ci := 0) (C := RX4) (T := TX4) (N := 21) a1 rfl E.v mdl_o) rfl rfl (Nat.le_of_ble_eq_true rfl) (Nat.le_of_ble_eq_true rfl) (Nat.le_of_ble_eq_true rfl) dX4_rock_74 0 0 (Nat.le_of_ble_eq_true rfl) (Nat.le_of_ble_eq_true rfl) ?_
      refine r_ifB_eq (b := !sChalk (S.2 1) c) (tgt := 82) E dX4_rock_77 (by decide) (fun c10 => ?_) (fun c10 => ?_)
      · refine r_hp (h' := mdl m (upd S.1 0 (nI 0), S.2) h0) (by rw [nf1 c10, refF_n c10, upd_uu]) ?_
        refine r_aload_n E dX4_rock_82 rfl ?_
        refine r_aload_n E dX4_rock_83 rfl ?_
        refine r_getf E cl_X4 1 (by decide) q1887 mdl_o rfl dX4_rock_84 ?_
        refine r_callV0 E (ct_X4_remember_1 G hl m (upd S.1 0 (nI 0), S.2) h0 kp h4 hk8) mX4_remember q1977 q1979 qs36 (fun H a1 => fm_rc (ci := 0) (C := RX4) (T := TX4) (N := 21) a1 rfl E.v mdl_o) rfl rfl (Nat.le_of_ble_eq_true rfl) (Nat.le_of_ble_eq_true rfl) (Nat.le_of_ble_eq_true rfl) dX4_rock_87 0 0 (Nat.le_of_ble_eq_true rfl) (Nat.le_of_ble_eq_true rfl) ?_
        refine r_hp (h' := mdl m ((sChg (upd S.1 0 (nI 0), S.2) false kp).1, va_up ((sChg (upd S.1 0 (nI 0), S.2) false kp).2) 1 (S.2 1)) h0) (congrArg (fun s => mdl m s h0) (sChg_f hk8 rfl)) ?_
        refine r_aload_n E dX4_rock_90 rfl ?_
        refine r_getf E cl_X4 1 (by decide) q1887 mdl_o rfl dX4_rock_91 ?_
        refine r_bipush E (nI 64) dX4_rock_94 (by decide) ?_
        refine r_iload_n E dX4_rock_96 rfl ?_
        refine r_iaddN E dX4_rock_97 ?_
        refine r_iload_n E dX4_rock_98 rfl ?_
        refine r_iast E mdl_1 (by omega) (by omega) dX4_rock_99 ?_
        refine r_hp (h' := mdl m ((sChg (upd S.1 0 (nI 0), S.2) false kp).1, va_up ((sChg (upd S.1 0 (nI 0), S.2) false kp).2) 1 (upd (S.2 1) (64 + c) hd)) h0) (mdl_b1 _) ?_
        refine r_aload_n E dX4_rock_100 rfl ?_
        refine r_getf E cl_X4 1 (by decide) q1887 mdl_o rfl dX4_rock_101 ?_
        refine r_sipush E (nI 128) dX4_rock_104 (by decide) ?_
        refine r_iload_n E dX4_rock_107 rfl ?_
        refine r_iaddN E dX4_rock_108 ?_
        refine r_iload_n E dX4_rock_109 rfl ?_
        refine r_iast E mdl_1 (by omega) (by omega) dX4_rock_110 ?_
        refine r_hp (h' := mdl m ((sChg (upd S.1 0 (nI 0), S.2) false kp).1, va_up ((sChg (upd S.1 0 (nI 0), S.2) false kp).2) 1 (upd (upd (S.2 1) (64 + c) hd) (128 + c) nd)) h0) (mdl_b1 _) ?_
        refine r_aload_n E dX4_rock_111 rfl ?_
        refine r_iload_n E dX4_rock_112 rfl ?_
        refine r_callV1 (v1 := .int (sStrokes (upd (upd (S.2 1) (64 + c) hd) (128 + c) nd) c)) E (ct_X4_strokesOf G hl m ((sChg (upd S.1 0 (nI 0), S.2) false kp).1, va_up ((sChg (upd S.1 0 (nI 0), S.2) false kp).2) 1 (upd (upd (S.2 1) (64 + c) hd) (128 + c) nd)) h0 c (by omega)) mX4_strokesOf q1984 q1986 qs37 (fun H a1 => fm_rc (ci := 0) (C := RX4) (T := TX4) (N := 21) a1 rfl E.v mdl_o) rfl rfl (Nat.le_of_ble_eq_true rfl) (Nat.le_of_ble_eq_true rfl) (Nat.le_of_ble_eq_true rfl) dX4_rock_113 0 0 (Nat.le_of_ble_eq_true rfl) (Nat.le_of_ble_eq_true rfl) ?_
        have hs : aRock (S.2 1) (nI c) hd nd = aDon (sStrokes (upd (upd (S.2 1) (64 + c) hd) (128 + c) nd) c) (upd (upd (S.2 1) (64 + c) hd) (128 + c) nd) := by
          unfold aRock; rw [hcn]
          exact (aG_f c3).trans ((aG_f c7).trans ((aG_f c10).trans (rfl)))
        exact r_ireturn E P rfl dX4_rock_116 ⟨by rw [hs]; rfl, by rw [hs]; rfl⟩
      · refine r_hp (h' := mdl m (upd (refO (upd S.1 0 (nI 0)) (some (nI 1, nI c))) 0 (nI 3), S.2) h0) (by rw [nt1 c10, refF_p c10]) ?_
        refine r_iconst E (nI 0) dX4_rock_80 (by decide) ?_
        have hs : aRock (S.2 1) (nI c) hd nd = aRef (nI 1) (nI c) := by
          unfold aRock; rw [hcn]
          exact (aG_f c3).trans ((aG_f c7).trans ((aG_t c10).trans (rfl)))
        exact r_ireturn E P rfl dX4_rock_81 ⟨by rw [hs]; rfl, by rw [hs]; rfl⟩

set_option maxHeartbeats 4000000 in
theorem ct_X4_prop (G : fmG) (hl : (fmLn G).stackTraces = false) (m : Nat) (S : MSt) (h0 : fmHp) (v : Int32) (tx : Bool) (h8 : S.1 8 = bI tx) (kp : Nat) (h4 : S.1 4 = nI kp) (hk8 : kp ≤ 8) : Ct G yX4_prop (ws_ yX4_prop cX4_prop 2 (some .int)) { frames := 3, cells := 0, slots := 0, locals := 72 } [.ref m, .int v] (mdl m S h0) (fmRet (some (.int (aAns (aProp (S.2 1) v)))) (mdl m (aSt S tx kp 1 9 2 (aProp (S.2 1) v)) h0)) fmNo := by
  refine Ct.of hl (by decide +kernel) (Nat.le_of_ble_eq_true rfl) (fun Γ E P => ?_)
  refine r_aload_n E dX4_prop_0 rfl ?_
  refine r_iconst E (nI 1) dX4_prop_1 (by decide) ?_
  suffices j1 : fmW G Γ (mdl m S h0) 0 0 14 [some (.ref m), some (.int v)] [.int (bI (!sBetween v (nI 0) (nI 63))), .int (nI 1), .ref m] by
    refine r_iload_n E dX4_prop_2 rfl ?_
    refine r_callS1 (v1 := .int (bI (sBetween v (nI 0) (nI 63)))) E (ct_X4_isCell G hl (mdl m S h0) (v)) mX4_isCell q89 q1959 q1960 rfl rfl (Nat.le_of_ble_eq_true rfl) (Nat.le_of_ble_eq_true rfl) (Nat.le_of_ble_eq_true rfl) dX4_prop_3 0 0 (Nat.le_of_ble_eq_true rfl) (Nat.le_of_ble_eq_true rfl) ?_
    refine r_ifB_ne (b := sBetween v (nI 0) (nI 63)) (tgt := 13) E dX4_prop_6 (by decide) (fun c2 => ?_) (fun c2 => ?_)
    · refine r_iconst E (nI 0) dX4_prop_13 (by decide) ?_
      refine r_top (v' := .int (bI (!sBetween v (nI 0) (nI 63)))) (by rw [show (!sBetween v (nI 0) (nI 63)) = false by simp [c2]]; rfl) ?_
      exact j1
    · refine r_iconst E (nI 1) dX4_prop_9 (by decide) ?_
      refine r_goto (tgt := 14) E dX4_prop_10 (by decide) ?_
      refine r_top (v' := .int (bI (!sBetween v (nI 0) (nI 63)))) (by rw [show (!sBetween v (nI 0) (nI 63)) = true by simp [c2]]; rfl) ?_
      exact j1
  refine r_callV1 (v1 := .int (bI (!sBetween v (nI 0) (nI 63)))) E (ct_X4_fails G hl m S h0 (nI 1) (!sBetween v (nI 0) (nI 63))) mX4_fails q1965 q1967 qs33 (fun H a1 => fm_rc (ci := 0) (C := RX4) (T := TX4) (N := 21) a1 rfl E.v mdl_o) rfl rfl (Nat.le_of_ble_eq_true rfl) (Nat.le_of_ble_eq_true rfl) (Nat.le_of_ble_eq_true rfl) dX4_prop_14 0 0 (Nat.le_of_ble_eq_true rfl) (Nat.le_of_ble_eq_true rfl) ?_
  refine r_ifB_ne (b := !sBetween v (nI 0) (nI 63)) (tgt := 82) E dX4_prop_17 (by decide) (fun c3 => ?_) (fun c3 => ?_)
  · refine r_hp (h' := mdl m (upd S.1 0 (nI 1), S.2) h0) (by rw [nt1 c3]) ?_
    refine r_iconst E (nI 0) dX4_prop_82 (by decide) ?_
    have hs : aProp (S.2 1) v = aThr 1 := (aG_t c3).trans (rfl)
    exact r_ireturn E P rfl dX4_prop_83 ⟨by rw [hs]; rfl, by rw [hs]; rfl⟩
  · refine r_hp (h' := mdl m (upd S.1 0 (nI 0), S.2) h0) (by rw [nf1 c3]) ?_
    obtain ⟨c, hc, rfl⟩ := sCell_of c3
    have hcn : cN (nI c) = c := cN_n (by omega)
    refine r_aload_n E dX4_prop_20 rfl ?_
    refine r_iconst E (nI 2) dX4_prop_21 (by decide) ?_
    refine r_aload_n E dX4_prop_22 rfl ?_
    suffices j4 : fmW G Γ (mdl m (upd S.1 0 (nI 0), S.2) h0) 0 0 36 [some (.ref m), some (.int (nI c))] [.int (bI (!sBare (S.2 1) (some c))), .ref m, .int (nI 2), .ref m] by
      refine r_aload_n E dX4_prop_23 rfl ?_
      refine r_iload_n E dX4_prop_24 rfl ?_
      refine r_callV1 (v1 := .int (bI (sBare (S.2 1) (some c)))) E (ct_X4_isBare G hl m (upd S.1 0 (nI 0), S.2) h0 (some c) (by intro x hx; first | exact sBsd_lt (by omega) hx | exact (ho x hx).1 | exact ho x hx | (cases hx; omega) | cases hx)) mX4_isBare q1996 q1998 qs39 (fun H a1 => fm_rc (ci := 0) (C := RX4) (T := TX4) (N := 21) a1 rfl E.v mdl_o) rfl rfl (Nat.le_of_ble_eq_true rfl) (Nat.le_of_ble_eq_true rfl) (Nat.le_of_ble_eq_true rfl) dX4_prop_25 0 0 (Nat.le_of_ble_eq_true rfl) (Nat.le_of_ble_eq_true rfl) ?_
      refine r_ifB_ne (b := sBare (S.2 1) (some c)) (tgt := 35) E dX4_prop_28 (by decide) (fun c5 => ?_) (fun c5 => ?_)
      · refine r_iconst E (nI 0) dX4_prop_35 (by decide) ?_
        refine r_top (v' := .int (bI (!sBare (S.2 1) (some c)))) (by rw [show (!sBare (S.2 1) (some c)) = false by simp [c5]]; rfl) ?_
        exact j4
      · refine r_iconst E (nI 1) dX4_prop_31 (by decide) ?_
        refine r_goto (tgt := 36) E dX4_prop_32 (by decide) ?_
        refine r_top (v' := .int (bI (!sBare (S.2 1) (some c)))) (by rw [show (!sBare (S.2 1) (some c)) = true by simp [c5]]; rfl) ?_
        exact j4
    refine r_bipush E (nI 9) dX4_prop_36 (by decide) ?_
    refine r_iload_n E dX4_prop_38 rfl ?_
    refine r_callV1 (v1 := .int (bI (!sBare (S.2 1) (some c)))) E (ct_X4_refuse G hl m (upd S.1 0 (nI 0), S.2) h0 (!sBare (S.2 1) (some c)) (nI 9) (nI c)) mX4_refuse q1973 q1975 qs35 (fun H a1 => fm_rc (ci := 0) (C := RX4) (T := TX4) (N := 21) a1 rfl E.v mdl_o) rfl rfl (Nat.le_of_ble_eq_true rfl) (Nat.le_of_ble_eq_true rfl) (Nat.le_of_ble_eq_true rfl) dX4_prop_39 0 0 (Nat.le_of_ble_eq_true rfl) (Nat.le_of_ble_eq_true rfl) ?_
    refine r_ifB_ne (b := !sBare (S.2 1) (some c)) (tgt := 71) E dX4_prop_42 (by decide) (fun c6 => ?_) (fun c6 => ?_)
    · refine r_hp (h' := mdl m (refO (upd S.1 0 (nI 0)) (some (nI 9, nI c)), S.2) h0) (by rw [refF_p c6]) ?_
      refine r_iconst E (nI 1) dX4_prop_71 (by decide) ?_
      refine r_goto (tgt := 76) E dX4_prop_72 (by decide) ?_
      refine r_callV1 (v1 := .int (bI true)) E (ct_X4_fails G hl m (refO (upd S.1 0 (nI 0)) (some (nI 9, nI c)), S.2) h0 (nI 2) (true)) mX4_fails q1965 q1967 qs33 (fun H a1 => fm_rc (ci := 0) (C := RX4) (T := TX4) (N := 21) a1 rfl E.v mdl_o) rfl rfl (Nat.le_of_ble_eq_true rfl) (Nat.le_of_ble_eq_true rfl) (Nat.le_of_ble_eq_true rfl) dX4_prop_76 0 0 (Nat.le_of_ble_eq_true rfl) (Nat.le_of_ble_eq_true rfl) ?_
      refine r_ifB_eq (b := true) (tgt := 84) E dX4_prop_79 (by decide) (fun c => absurd c (by decide)) (fun _ => ?_)
      refine r_hp (h' := mdl m (upd (refO (upd S.1 0 (nI 0)) (some (nI 9, nI c))) 0 (nI 2), S.2) h0) (by rw [nt1 rfl]) ?_
      refine r_iconst E (nI 0) dX4_prop_82 (by decide) ?_
      have hs : aProp (S.2 1) (nI c) = aRef (nI 9) (nI c) := by
        unfold aProp; rw [hcn]
        exact (aG_f c3).trans ((aG_t c6).trans (rfl))
      exact r_ireturn E P rfl dX4_prop_83 ⟨by rw [hs]; rfl, by rw [hs]; rfl⟩
    · refine r_hp (h' := mdl m (upd S.1 0 (nI 0), S.2) h0) (by rw [refF_n c6]) ?_
      refine r_aload_n E dX4_prop_45 rfl ?_
      suffices j8 : fmW G Γ (mdl m (upd S.1 0 (nI 0), S.2) h0) 0 0 62 [some (.ref m), some (.int (nI c))] [.int (bI (decide ((S.2 1) 352 = nI 0))), .ref m, .int (nI 2), .ref m] by
        refine r_aload_n E dX4_prop_46 rfl ?_
        refine r_getf E cl_X4 1 (by decide) q1887 mdl_o rfl dX4_prop_47 ?_
        refine r_sipush E (nI 352) dX4_prop_50 (by decide) ?_
        refine r_iald E mdl_1 (by omega) (by omega) dX4_prop_53 ?_
        refine r_top (v' := .int ((S.2 1) 352)) rfl ?_
        refine r_if_ne (tgt := 61) E dX4_prop_54 (by decide) (fun c9 => ?_) (fun c9 => ?_)
        · refine r_iconst E (nI 0) dX4_prop_61 (by decide) ?_
          refine r_top (v' := .int (bI (decide ((S.2 1) 352 = nI 0)))) (by rw [show (decide ((S.2 1) 352 = nI 0)) = false by simp [c9, nI_0]]; rfl) ?_
          exact j8
        · refine r_iconst E (nI 1) dX4_prop_57 (by decide) ?_
          refine r_goto (tgt := 62) E dX4_prop_58 (by decide) ?_
          refine r_top (v' := .int (bI (decide ((S.2 1) 352 = nI 0)))) (by rw [show (decide ((S.2 1) 352 = nI 0)) = true by simp [c9, nI_0]]; rfl) ?_
          exact j8
      refine r_bipush E (nI 7) dX4_prop_62 (by decide) ?_
      refine r_iconst E (nI 0) dX4_prop_64 (by decide) ?_
      refine r_callV1 (v1 := .int (bI (decide ((S.2 1) 352 = nI 0)))) E (ct_X4_refuse G hl m (upd S.1 0 (nI 0), S.2) h0 (decide ((S.2 1) 352 = nI 0)) (nI 7) (nI 0)) mX4_refuse q1973 q1975 qs35 (fun H a1 => fm_rc (ci := 0) (C := RX4) (T := TX4) (N := 21) a1 rfl E.v mdl_o) rfl rfl (Nat.le_of_ble_eq_true rfl) (Nat.le_of_ble_eq_true rfl) (Nat.le_of_ble_eq_true rfl) dX4_prop_65 0 0 (Nat.le_of_ble_eq_true rfl) (Nat.le_of_ble_eq_true rfl) ?_
      refine r_ifB_eq (b := decide ((S.2 1) 352 = nI 0)) (tgt := 75) E dX4_prop_68 (by decide) (fun c10 => ?_) (fun c10 => ?_)
      · refine r_hp (h' := mdl m (upd S.1 0 (nI 0), S.2) h0) (by rw [refF_n c10]) ?_
        refine r_iconst E (nI 0) dX4_prop_75 (by decide) ?_
        refine r_callV1 (v1 := .int (bI false)) E (ct_X4_fails G hl m (upd S.1 0 (nI 0), S.2) h0 (nI 2) (false)) mX4_fails q1965 q1967 qs33 (fun H a1 => fm_rc (ci := 0) (C := RX4) (T := TX4) (N := 21) a1 rfl E.v mdl_o) rfl rfl (Nat.le_of_ble_eq_true rfl) (Nat.le_of_ble_eq_true rfl) (Nat.le_of_ble_eq_true rfl) dX4_prop_76 0 0 (Nat.le_of_ble_eq_true rfl) (Nat.le_of_ble_eq_true rfl) ?_
        refine r_ifB_eq (b := false) (tgt := 84) E dX4_prop_79 (by decide) (fun _ => ?_) (fun c => absurd c (by decide))
        refine r_hp (h' := mdl m (upd S.1 0 (nI 0), S.2) h0) (by rw [nf1 rfl, upd_uu]) ?_
        refine r_aload_n E dX4_prop_84 rfl ?_
        refine r_callV0 E (ct_X4_change G hl m (upd S.1 0 (nI 0), S.2) h0 tx h8 kp h4 hk8) mX4_change q2023 q2025 qs44 (fun H a1 => fm_rc (ci := 0) (C := RX4) (T := TX4) (N := 21) a1 rfl E.v mdl_o) rfl rfl (Nat.le_of_ble_eq_true rfl) (Nat.le_of_ble_eq_true rfl) (Nat.le_of_ble_eq_true rfl) dX4_prop_85 0 0 (Nat.le_of_ble_eq_true rfl) (Nat.le_of_ble_eq_true rfl) ?_
        refine r_aload_n E dX4_prop_88 rfl ?_
        refine r_getf E cl_X4 1 (by decide) q1887 mdl_o rfl dX4_prop_89 ?_
        refine r_sipush E (nI 256) dX4_prop_92 (by decide) ?_
        refine r_iload_n E dX4_prop_95 rfl ?_
        refine r_iaddN E dX4_prop_96 ?_
        refine r_iconst E (nI 1) dX4_prop_97 (by decide) ?_
        refine r_iast E mdl_1 (by omega) (by omega) dX4_prop_98 ?_
        refine r_hp (h' := mdl m ((sChg (upd S.1 0 (nI 0), S.2) tx kp).1, va_up ((sChg (upd S.1 0 (nI 0), S.2) tx kp).2) 1 (upd (S.2 1) (256 + c) (nI 1))) h0) (mdl_b1 _) ?_
        refine r_aload_n E dX4_prop_99 rfl ?_
        refine r_getf E cl_X4 1 (by decide) q1887 mdl_o rfl dX4_prop_100 ?_
        refine r_sipush E (nI 352) dX4_prop_103 (by decide) ?_
        refine r_dup2 E dX4_prop_106 rfl rfl ?_
        refine r_iald E mdl_1 (by omega) (by omega) dX4_prop_107 ?_
        refine r_top (v' := .int ((upd (S.2 1) (256 + c) (nI 1)) 352)) rfl ?_
        refine r_iconst E (nI 1) dX4_prop_108 (by decide) ?_
        refine r_isub E dX4_prop_109 ?_
        refine r_iast E mdl_1 (by omega) (by omega) dX4_prop_110 ?_
        refine r_hp (h' := mdl m ((sChg (upd S.1 0 (nI 0), S.2) tx kp).1, va_up ((sChg (upd S.1 0 (nI 0), S.2) tx kp).2) 1 (upd (upd (S.2 1) (256 + c) (nI 1)) 352 (((upd (S.2 1) (256 + c) (nI 1)) 352) - (nI 1)))) h0) (mdl_b1 _) ?_
        refine r_aload_n E dX4_prop_111 rfl ?_
        refine r_getf E cl_X4 1 (by decide) q1887 mdl_o rfl dX4_prop_112 ?_
        refine r_sipush E (nI 352) dX4_prop_115 (by decide) ?_
        refine r_iald E mdl_1 (by omega) (by omega) dX4_prop_118 ?_
        refine r_top (v' := .int ((upd (upd (S.2 1) (256 + c) (nI 1)) 352 (((upd (S.2 1) (256 + c) (nI 1)) 352) - (nI 1))) 352)) rfl ?_
        have hs : aProp (S.2 1) (nI c) = aDon (sPropRow (S.2 1) c 352) (sPropRow (S.2 1) c) := by
          unfold aProp; rw [hcn]
          exact (aG_f c3).trans ((aG_f c6).trans ((aG_f c10).trans (rfl)))
        exact r_ireturn E P rfl dX4_prop_119 ⟨by rw [hs]; rfl, by rw [hs]; rfl⟩
      · refine r_hp (h' := mdl m (refO (upd S.1 0 (nI 0)) (some (nI 7, nI 0)), S.2) h0) (by rw [refF_p c10]) ?_
        refine r_iconst E (nI 1) dX4_prop_71 (by decide) ?_
        refine r_goto (tgt := 76) E dX4_prop_72 (by decide) ?_
        refine r_callV1 (v1 := .int (bI true)) E (ct_X4_fails G hl m (refO (upd S.1 0 (nI 0)) (some (nI 7, nI 0)), S.2) h0 (nI 2) (true)) mX4_fails q1965 q1967 qs33 (fun H a1 => fm_rc (ci := 0) (C := RX4) (T := TX4) (N := 21) a1 rfl E.v mdl_o) rfl rfl (Nat.le_of_ble_eq_true rfl) (Nat.le_of_ble_eq_true rfl) (Nat.le_of_ble_eq_true rfl) dX4_prop_76 0 0 (Nat.le_of_ble_eq_true rfl) (Nat.le_of_ble_eq_true rfl) ?_
        refine r_ifB_eq (b := true) (tgt := 84) E dX4_prop_79 (by decide) (fun c => absurd c (by decide)) (fun _ => ?_)
        refine r_hp (h' := mdl m (upd (refO (upd S.1 0 (nI 0)) (some (nI 7, nI 0))) 0 (nI 2), S.2) h0) (by rw [nt1 rfl]) ?_
        refine r_iconst E (nI 0) dX4_prop_82 (by decide) ?_
        have hs : aProp (S.2 1) (nI c) = aRef (nI 7) (nI 0) := by
          unfold aProp; rw [hcn]
          exact (aG_f c3).trans ((aG_f c6).trans ((aG_t c10).trans (rfl)))
        exact r_ireturn E P rfl dX4_prop_83 ⟨by rw [hs]; rfl, by rw [hs]; rfl⟩

set_option maxHeartbeats 4000000 in
theorem ct_X4_unprop (G : fmG) (hl : (fmLn G).stackTraces = false) (m : Nat) (S : MSt) (h0 : fmHp) (v : Int32) (tx : Bool) (h8 : S.1 8 = bI tx) (kp : Nat) (h4 : S.1 4 = nI kp) (hk8 : kp ≤ 8) : Ct G yX4_unprop (ws_ yX4_unprop cX4_unprop 2 (some .int)) { frames := 6, cells := 0, slots := 0, locals := 136 } [.ref m, .int v] (mdl m S h0) (fmRet (some (.int (aAns (aUnprop (S.2 1) v)))) (mdl m (aSt S tx kp 1 9 2 (aUnprop (S.2 1) v)) h0)) fmNo := by
  refine Ct.of hl (by decide +kernel) (Nat.le_of_ble_eq_true rfl) (fun Γ E P => ?_)
  refine r_aload_n E dX4_unprop_0 rfl ?_
  refine r_iconst E (nI 1) dX4_unprop_1 (by decide) ?_
  suffices j1 : fmW G Γ (mdl m S h0) 0 0 14 [some (.ref m), some (.int v)] [.int (bI (!sBetween v (nI 0) (nI 63))), .int (nI 1), .ref m] by
    refine r_iload_n E dX4_unprop_2 rfl ?_
    refine r_callS1 (v1 := .int (bI (sBetween v (nI 0) (nI 63)))) E (ct_X4_isCell G hl (mdl m S h0) (v)) mX4_isCell q89 q1959 q1960 rfl rfl (Nat.le_of_ble_eq_true rfl) (Nat.le_of_ble_eq_true rfl) (Nat.le_of_ble_eq_true rfl) dX4_unprop_3 0 0 (Nat.le_of_ble_eq_true rfl) (Nat.le_of_ble_eq_true rfl) ?_
    refine r_ifB_ne (b := sBetween v (nI 0) (nI 63)) (tgt := 13) E dX4_unprop_6 (by decide) (fun c2 => ?_) (fun c2 => ?_)
    · refine r_iconst E (nI 0) dX4_unprop_13 (by decide) ?_
      refine r_top (v' := .int (bI (!sBetween v (nI 0) (nI 63)))) (by rw [show (!sBetween v (nI 0) (nI 63)) = false by simp [c2]]; rfl) ?_
      exact j1
    · refine r_iconst E (nI 1) dX4_unprop_9 (by decide) ?_
      refine r_goto (tgt := 14) E dX4_unprop_10 (by decide) ?_
      refine r_top (v' := .int (bI (!sBetween v (nI 0) (nI 63)))) (by rw [show (!sBetween v (nI 0) (nI 63)) = true by simp [c2]]; rfl) ?_
      exact j1
  refine r_callV1 (v1 := .int (bI (!sBetween v (nI 0) (nI 63)))) E (ct_X4_fails G hl m S h0 (nI 1) (!sBetween v (nI 0) (nI 63))) mX4_fails q1965 q1967 qs33 (fun H a1 => fm_rc (ci := 0) (C := RX4) (T := TX4) (N := 21) a1 rfl E.v mdl_o) rfl rfl (Nat.le_of_ble_eq_true rfl) (Nat.le_of_ble_eq_true rfl) (Nat.le_of_ble_eq_true rfl) dX4_unprop_14 0 0 (Nat.le_of_ble_eq_true rfl) (Nat.le_of_ble_eq_true rfl) ?_
  refine r_ifB_ne (b := !sBetween v (nI 0) (nI 63)) (tgt := 69) E dX4_unprop_17 (by decide) (fun c3 => ?_) (fun c3 => ?_)
  · refine r_hp (h' := mdl m (upd S.1 0 (nI 1), S.2) h0) (by rw [nt1 c3]) ?_
    refine r_iconst E (nI 0) dX4_unprop_69 (by decide) ?_
    have hs : aUnprop (S.2 1) v = aThr 1 := (aG_t c3).trans (rfl)
    exact r_ireturn E P rfl dX4_unprop_70 ⟨by rw [hs]; rfl, by rw [hs]; rfl⟩
  · refine r_hp (h' := mdl m (upd S.1 0 (nI 0), S.2) h0) (by rw [nf1 c3]) ?_
    obtain ⟨c, hc, rfl⟩ := sCell_of c3
    have hcn : cN (nI c) = c := cN_n (by omega)
    refine r_aload_n E dX4_unprop_20 rfl ?_
    refine r_iconst E (nI 2) dX4_unprop_21 (by decide) ?_
    refine r_aload_n E dX4_unprop_22 rfl ?_
    suffices j4 : fmW G Γ (mdl m (upd S.1 0 (nI 0), S.2) h0) 0 0 41 [some (.ref m), some (.int (nI c))] [.int (bI (decide ((S.2 1) (256 + c) = nI 0))), .ref m, .int (nI 2), .ref m] by
      refine r_aload_n E dX4_unprop_23 rfl ?_
      refine r_getf E cl_X4 1 (by decide) q1887 mdl_o rfl dX4_unprop_24 ?_
      refine r_sipush E (nI 256) dX4_unprop_27 (by decide) ?_
      refine r_iload_n E dX4_unprop_30 rfl ?_
      refine r_iaddN E dX4_unprop_31 ?_
      refine r_iald E mdl_1 (by omega) (by omega) dX4_unprop_32 ?_
      refine r_top (v' := .int ((S.2 1) (256 + c))) rfl ?_
      refine r_if_ne (tgt := 40) E dX4_unprop_33 (by decide) (fun c5 => ?_) (fun c5 => ?_)
      · refine r_iconst E (nI 0) dX4_unprop_40 (by decide) ?_
        refine r_top (v' := .int (bI (decide ((S.2 1) (256 + c) = nI 0)))) (by rw [show (decide ((S.2 1) (256 + c) = nI 0)) = false by simp [c5, nI_0]]; rfl) ?_
        exact j4
      · refine r_iconst E (nI 1) dX4_unprop_36 (by decide) ?_
        refine r_goto (tgt := 41) E dX4_unprop_37 (by decide) ?_
        refine r_top (v' := .int (bI (decide ((S.2 1) (256 + c) = nI 0)))) (by rw [show (decide ((S.2 1) (256 + c) = nI 0)) = true by simp [c5, nI_0]]; rfl) ?_
        exact j4
    refine r_bipush E (nI 9) dX4_unprop_41 (by decide) ?_
    refine r_iload_n E dX4_unprop_43 rfl ?_
    refine r_callV1 (v1 := .int (bI (decide ((S.2 1) (256 + c) = nI 0)))) E (ct_X4_refuse G hl m (upd S.1 0 (nI 0), S.2) h0 (decide ((S.2 1) (256 + c) = nI 0)) (nI 9) (nI c)) mX4_refuse q1973 q1975 qs35 (fun H a1 => fm_rc (ci := 0) (C := RX4) (T := TX4) (N := 21) a1 rfl E.v mdl_o) rfl rfl (Nat.le_of_ble_eq_true rfl) (Nat.le_of_ble_eq_true rfl) (Nat.le_of_ble_eq_true rfl) dX4_unprop_44 0 0 (Nat.le_of_ble_eq_true rfl) (Nat.le_of_ble_eq_true rfl) ?_
    refine r_ifB_ne (b := decide ((S.2 1) (256 + c) = nI 0)) (tgt := 58) E dX4_unprop_47 (by decide) (fun c6 => ?_) (fun c6 => ?_)
    · refine r_hp (h' := mdl m (refO (upd S.1 0 (nI 0)) (some (nI 9, nI c)), S.2) h0) (by rw [refF_p c6]) ?_
      refine r_iconst E (nI 1) dX4_unprop_58 (by decide) ?_
      refine r_goto (tgt := 63) E dX4_unprop_59 (by decide) ?_
      refine r_callV1 (v1 := .int (bI true)) E (ct_X4_fails G hl m (refO (upd S.1 0 (nI 0)) (some (nI 9, nI c)), S.2) h0 (nI 2) (true)) mX4_fails q1965 q1967 qs33 (fun H a1 => fm_rc (ci := 0) (C := RX4) (T := TX4) (N := 21) a1 rfl E.v mdl_o) rfl rfl (Nat.le_of_ble_eq_true rfl) (Nat.le_of_ble_eq_true rfl) (Nat.le_of_ble_eq_true rfl) dX4_unprop_63 0 0 (Nat.le_of_ble_eq_true rfl) (Nat.le_of_ble_eq_true rfl) ?_
      refine r_ifB_eq (b := true) (tgt := 71) E dX4_unprop_66 (by decide) (fun c => absurd c (by decide)) (fun _ => ?_)
      refine r_hp (h' := mdl m (upd (refO (upd S.1 0 (nI 0)) (some (nI 9, nI c))) 0 (nI 2), S.2) h0) (by rw [nt1 rfl]) ?_
      refine r_iconst E (nI 0) dX4_unprop_69 (by decide) ?_
      have hs : aUnprop (S.2 1) (nI c) = aRef (nI 9) (nI c) := by
        unfold aUnprop; rw [hcn]
        exact (aG_f c3).trans ((aG_t c6).trans (rfl))
      exact r_ireturn E P rfl dX4_unprop_70 ⟨by rw [hs]; rfl, by rw [hs]; rfl⟩
    · refine r_hp (h' := mdl m (upd S.1 0 (nI 0), S.2) h0) (by rw [refF_n c6]) ?_
      refine r_aload_n E dX4_unprop_50 rfl ?_
      refine r_iload_n E dX4_unprop_51 rfl ?_
      refine r_callV1 (v1 := .int (bI (decide ((S.2 1) 355 < nI (sWide (S.2 1) c))))) E (ct_X4_isSpanTooLong G hl m (upd S.1 0 (nI 0), S.2) h0 c (by omega)) mX4_isSpanTooLong q2107 q2109 qs57 (fun H a1 => fm_rc (ci := 0) (C := RX4) (T := TX4) (N := 21) a1 rfl E.v mdl_o) rfl rfl (Nat.le_of_ble_eq_true rfl) (Nat.le_of_ble_eq_true rfl) (Nat.le_of_ble_eq_true rfl) dX4_unprop_52 0 0 (Nat.le_of_ble_eq_true rfl) (Nat.le_of_ble_eq_true rfl) ?_
      refine r_ifB_eq (b := (decide ((S.2 1) 355 < nI (sWide (S.2 1) c)))) (tgt := 62) E dX4_unprop_55 (by decide) (fun c8 => ?_) (fun c8 => ?_)
      · refine r_hp (h' := mdl m (upd S.1 0 (nI 0), S.2) h0) (by rw [refF_n c8]) ?_
        refine r_iconst E (nI 0) dX4_unprop_62 (by decide) ?_
        refine r_callV1 (v1 := .int (bI false)) E (ct_X4_fails G hl m (upd S.1 0 (nI 0), S.2) h0 (nI 2) (false)) mX4_fails q1965 q1967 qs33 (fun H a1 => fm_rc (ci := 0) (C := RX4) (T := TX4) (N := 21) a1 rfl E.v mdl_o) rfl rfl (Nat.le_of_ble_eq_true rfl) (Nat.le_of_ble_eq_true rfl) (Nat.le_of_ble_eq_true rfl) dX4_unprop_63 0 0 (Nat.le_of_ble_eq_true rfl) (Nat.le_of_ble_eq_true rfl) ?_
        refine r_ifB_eq (b := false) (tgt := 71) E dX4_unprop_66 (by decide) (fun _ => ?_) (fun c => absurd c (by decide))
        refine r_hp (h' := mdl m (upd S.1 0 (nI 0), S.2) h0) (by rw [nf1 rfl, upd_uu]) ?_
        refine r_aload_n E dX4_unprop_71 rfl ?_
        refine r_callV0 E (ct_X4_change G hl m (upd S.1 0 (nI 0), S.2) h0 tx h8 kp h4 hk8) mX4_change q2023 q2025 qs44 (fun H a1 => fm_rc (ci := 0) (C := RX4) (T := TX4) (N := 21) a1 rfl E.v mdl_o) rfl rfl (Nat.le_of_ble_eq_true rfl) (Nat.le_of_ble_eq_true rfl) (Nat.le_of_ble_eq_true rfl) dX4_unprop_72 0 0 (Nat.le_of_ble_eq_true rfl) (Nat.le_of_ble_eq_true rfl) ?_
        refine r_aload_n E dX4_unprop_75 rfl ?_
        refine r_getf E cl_X4 1 (by decide) q1887 mdl_o rfl dX4_unprop_76 ?_
        refine r_sipush E (nI 256) dX4_unprop_79 (by decide) ?_
        refine r_iload_n E dX4_unprop_82 rfl ?_
        refine r_iaddN E dX4_unprop_83 ?_
        refine r_iconst E (nI 0) dX4_unprop_84 (by decide) ?_
        refine r_iast E mdl_1 (by omega) (by omega) dX4_unprop_85 ?_
        refine r_hp (h' := mdl m ((sChg (upd S.1 0 (nI 0), S.2) tx kp).1, va_up ((sChg (upd S.1 0 (nI 0), S.2) tx kp).2) 1 (upd (S.2 1) (256 + c) (nI 0))) h0) (mdl_b1 _) ?_
        refine r_aload_n E dX4_unprop_86 rfl ?_
        refine r_iconst E (nI 1) dX4_unprop_87 (by decide) ?_
        refine r_callV0 E (ct_X4_addProps G hl m ((sChg (upd S.1 0 (nI 0), S.2) tx kp).1, va_up ((sChg (upd S.1 0 (nI 0), S.2) tx kp).2) 1 (upd (S.2 1) (256 + c) (nI 0))) h0 (nI 1)) mX4_addProps q2027 q2029 qs45 (fun H a1 => fm_rc (ci := 0) (C := RX4) (T := TX4) (N := 21) a1 rfl E.v mdl_o) rfl rfl (Nat.le_of_ble_eq_true rfl) (Nat.le_of_ble_eq_true rfl) (Nat.le_of_ble_eq_true rfl) dX4_unprop_88 0 0 (Nat.le_of_ble_eq_true rfl) (Nat.le_of_ble_eq_true rfl) ?_
        refine r_hp (h' := mdl m ((sChg (upd S.1 0 (nI 0), S.2) tx kp).1, va_up ((sChg (upd S.1 0 (nI 0), S.2) tx kp).2) 1 (sAddP (upd (S.2 1) (256 + c) (nI 0)) (nI 1))) h0) (mdl_vv 1 _ _) ?_
        refine r_aload_n E dX4_unprop_91 rfl ?_
        refine r_getf E cl_X4 1 (by decide) q1887 mdl_o rfl dX4_unprop_92 ?_
        refine r_sipush E (nI 352) dX4_unprop_95 (by decide) ?_
        refine r_iald E mdl_1 (by omega) (by omega) dX4_unprop_98 ?_
        refine r_top (v' := .int ((sAddP (upd (S.2 1) (256 + c) (nI 0)) (nI 1)) 352)) rfl ?_
        have hs : aUnprop (S.2 1) (nI c) = aDon (sAddP (upd (S.2 1) (256 + c) (nI 0)) (nI 1) 352) (sAddP (upd (S.2 1) (256 + c) (nI 0)) (nI 1)) := by
          unfold aUnprop; rw [hcn]
          exact (aG_f c3).trans ((aG_f c6).trans ((aG_f c8).trans (rfl)))
        exact r_ireturn E P rfl dX4_unprop_99 ⟨by rw [hs]; rfl, by rw [hs]; rfl⟩
      · refine r_hp (h' := mdl m (refO (upd S.1 0 (nI 0)) (some (nI 4, nI (sWide (S.2 1) c))), S.2) h0) (by rw [refF_p c8]) ?_
        refine r_iconst E (nI 1) dX4_unprop_58 (by decide) ?_
        refine r_goto (tgt := 63) E dX4_unprop_59 (by decide) ?_
        refine r_callV1 (v1 := .int (bI true)) E (ct_X4_fails G hl m (refO (upd S.1 0 (nI 0)) (some (nI 4, nI (sWide (S.2 1) c))), S.2) h0 (nI 2) (true)) mX4_fails q1965 q1967 qs33 (fun H a1 => fm_rc (ci := 0) (C := RX4) (T := TX4) (N := 21) a1 rfl E.v mdl_o) rfl rfl (Nat.le_of_ble_eq_true rfl) (Nat.le_of_ble_eq_true rfl) (Nat.le_of_ble_eq_true rfl) dX4_unprop_63 0 0 (Nat.le_of_ble_eq_true rfl) (Nat.le_of_ble_eq_true rfl) ?_
        refine r_ifB_eq (b := true) (tgt := 71) E dX4_unprop_66 (by decide) (fun c => absurd c (by decide)) (fun _ => ?_)
        refine r_hp (h' := mdl m (upd (refO (upd S.1 0 (nI 0)) (some (nI 4, nI (sWide (S.2 1) c)))) 0 (nI 2), S.2) h0) (by rw [nt1 rfl]) ?_
        refine r_iconst E (nI 0) dX4_unprop_69 (by decide) ?_
        have hs : aUnprop (S.2 1) (nI c) = aRef (nI 4) (nI (sWide (S.2 1) c)) := by
          unfold aUnprop; rw [hcn]
          exact (aG_f c3).trans ((aG_f c6).trans ((aG_t c8).trans (rfl)))
        exact r_ireturn E P rfl dX4_unprop_70 ⟨by rw [hs]; rfl, by rw [hs]; rfl⟩

set_option maxHeartbeats 4000000 in
theorem ct_X4_sink (G : fmG) (hl : (fmLn G).stackTraces = false) (m : Nat) (S : MSt) (h0 : fmHp) (v : Int32) (tx : Bool) (h8 : S.1 8 = bI tx) (kp : Nat) (h4 : S.1 4 = nI kp) (hk8 : kp ≤ 8) (K : Nat) (hK : S.2 1 350 = nI K) (hK8 : K ≤ 8) (pk : Nat) (hP : S.2 1 351 = nI pk) (hP6 : pk ≤ 6) : Ct G yX4_sink (ws_ yX4_sink cX4_sink 3 (some .int)) { frames := 5, cells := 0, slots := 0, locals := 115 } [.ref m, .int v] (mdl m S h0) (fmRet (some (.int (aAns (aSink (S.2 1) v K pk)))) (mdl m (aSt S tx kp 1 9 2 (aSink (S.2 1) v K pk)) h0)) fmNo := by
  refine Ct.of hl (by decide +kernel) (Nat.le_of_ble_eq_true rfl) (fun Γ E P => ?_)
  refine r_aload_n E dX4_sink_0 rfl ?_
  refine r_iconst E (nI 1) dX4_sink_1 (by decide) ?_
  suffices j1 : fmW G Γ (mdl m S h0) 0 0 14 [some (.ref m), some (.int v), none] [.int (bI (!sBetween v (nI 0) (nI 63))), .int (nI 1), .ref m] by
    refine r_iload_n E dX4_sink_2 rfl ?_
    refine r_callS1 (v1 := .int (bI (sBetween v (nI 0) (nI 63)))) E (ct_X4_isCell G hl (mdl m S h0) (v)) mX4_isCell q89 q1959 q1960 rfl rfl (Nat.le_of_ble_eq_true rfl) (Nat.le_of_ble_eq_true rfl) (Nat.le_of_ble_eq_true rfl) dX4_sink_3 0 0 (Nat.le_of_ble_eq_true rfl) (Nat.le_of_ble_eq_true rfl) ?_
    refine r_ifB_ne (b := sBetween v (nI 0) (nI 63)) (tgt := 13) E dX4_sink_6 (by decide) (fun c2 => ?_) (fun c2 => ?_)
    · refine r_iconst E (nI 0) dX4_sink_13 (by decide) ?_
      refine r_top (v' := .int (bI (!sBetween v (nI 0) (nI 63)))) (by rw [show (!sBetween v (nI 0) (nI 63)) = false by simp [c2]]; rfl) ?_
      exact j1
    · refine r_iconst E (nI 1) dX4_sink_9 (by decide) ?_
      refine r_goto (tgt := 14) E dX4_sink_10 (by decide) ?_
      refine r_top (v' := .int (bI (!sBetween v (nI 0) (nI 63)))) (by rw [show (!sBetween v (nI 0) (nI 63)) = true by simp [c2]]; rfl) ?_
      exact j1
  refine r_callV1 (v1 := .int (bI (!sBetween v (nI 0) (nI 63)))) E (ct_X4_fails G hl m S h0 (nI 1) (!sBetween v (nI 0) (nI 63))) mX4_fails q1965 q1967 qs33 (fun H a1 => fm_rc (ci := 0) (C := RX4) (T := TX4) (N := 21) a1 rfl E.v mdl_o) rfl rfl (Nat.le_of_ble_eq_true rfl) (Nat.le_of_ble_eq_true rfl) (Nat.le_of_ble_eq_true rfl) dX4_sink_14 0 0 (Nat.le_of_ble_eq_true rfl) (Nat.le_of_ble_eq_true rfl) ?_
  refine r_ifB_ne (b := !sBetween v (nI 0) (nI 63)) (tgt := 101) E dX4_sink_17 (by decide) (fun c3 => ?_) (fun c3 => ?_)
  · refine r_hp (h' := mdl m (upd S.1 0 (nI 1), S.2) h0) (by rw [nt1 c3]) ?_
    refine r_iconst E (nI 0) dX4_sink_101 (by decide) ?_
    have hs : aSink (S.2 1) v K pk = aThr 1 := (aG_t c3).trans (rfl)
    exact r_ireturn E P rfl dX4_sink_102 ⟨by rw [hs]; rfl, by rw [hs]; rfl⟩
  · refine r_hp (h' := mdl m (upd S.1 0 (nI 0), S.2) h0) (by rw [nf1 c3]) ?_
    obtain ⟨c, hc, rfl⟩ := sCell_of c3
    have hcn : cN (nI c) = c := cN_n (by omega)
    refine r_aload_n E dX4_sink_20 rfl ?_
    refine r_iconst E (nI 2) dX4_sink_21 (by decide) ?_
    refine r_aload_n E dX4_sink_22 rfl ?_
    suffices j4 : fmW G Γ (mdl m (upd S.1 0 (nI 0), S.2) h0) 0 0 41 [some (.ref m), some (.int (nI c)), none] [.int (bI (decide (K = 8))), .ref m, .int (nI 2), .ref m] by
      refine r_aload_n E dX4_sink_23 rfl ?_
      refine r_getf E cl_X4 1 (by decide) q1887 mdl_o rfl dX4_sink_24 ?_
      refine r_sipush E (nI 350) dX4_sink_27 (by decide) ?_
      refine r_iald E mdl_1 (by omega) (by omega) dX4_sink_30 ?_
      refine r_top (v' := .int (nI K)) (congrArg Value.int hK) ?_
      refine r_bipush E (nI 8) dX4_sink_31 (by decide) ?_
      refine r_icmpN_ne (tgt := 40) E dX4_sink_33 (by decide) (by omega) (by omega) (fun c5 => ?_) (fun c5 => ?_)
      · refine r_iconst E (nI 0) dX4_sink_40 (by decide) ?_
        refine r_top (v' := .int (bI (decide (K = 8)))) (by rw [show (decide (K = 8)) = false by simp [c5]]; rfl) ?_
        exact j4
      · refine r_iconst E (nI 1) dX4_sink_36 (by decide) ?_
        refine r_goto (tgt := 41) E dX4_sink_37 (by decide) ?_
        refine r_top (v' := .int (bI (decide (K = 8)))) (by rw [show (decide (K = 8)) = true by simp [c5]]; rfl) ?_
        exact j4
    refine r_bipush E (nI 8) dX4_sink_41 (by decide) ?_
    refine r_bipush E (nI 8) dX4_sink_43 (by decide) ?_
    refine r_callV1 (v1 := .int (bI (decide (K = 8)))) E (ct_X4_refuse G hl m (upd S.1 0 (nI 0), S.2) h0 (decide (K = 8)) (nI 8) (nI 8)) mX4_refuse q1973 q1975 qs35 (fun H a1 => fm_rc (ci := 0) (C := RX4) (T := TX4) (N := 21) a1 rfl E.v mdl_o) rfl rfl (Nat.le_of_ble_eq_true rfl) (Nat.le_of_ble_eq_true rfl) (Nat.le_of_ble_eq_true rfl) dX4_sink_45 0 0 (Nat.le_of_ble_eq_true rfl) (Nat.le_of_ble_eq_true rfl) ?_
    refine r_ifB_ne (b := decide (K = 8)) (tgt := 90) E dX4_sink_48 (by decide) (fun c6 => ?_) (fun c6 => ?_)
    · refine r_hp (h' := mdl m (refO (upd S.1 0 (nI 0)) (some (nI 8, nI 8)), S.2) h0) (by rw [refF_p c6]) ?_
      refine r_iconst E (nI 1) dX4_sink_90 (by decide) ?_
      refine r_goto (tgt := 95) E dX4_sink_91 (by decide) ?_
      refine r_callV1 (v1 := .int (bI true)) E (ct_X4_fails G hl m (refO (upd S.1 0 (nI 0)) (some (nI 8, nI 8)), S.2) h0 (nI 2) (true)) mX4_fails q1965 q1967 qs33 (fun H a1 => fm_rc (ci := 0) (C := RX4) (T := TX4) (N := 21) a1 rfl E.v mdl_o) rfl rfl (Nat.le_of_ble_eq_true rfl) (Nat.le_of_ble_eq_true rfl) (Nat.le_of_ble_eq_true rfl) dX4_sink_95 0 0 (Nat.le_of_ble_eq_true rfl) (Nat.le_of_ble_eq_true rfl) ?_
      refine r_ifB_eq (b := true) (tgt := 103) E dX4_sink_98 (by decide) (fun c => absurd c (by decide)) (fun _ => ?_)
      refine r_hp (h' := mdl m (upd (refO (upd S.1 0 (nI 0)) (some (nI 8, nI 8))) 0 (nI 2), S.2) h0) (by rw [nt1 rfl]) ?_
      refine r_iconst E (nI 0) dX4_sink_101 (by decide) ?_
      have hs : aSink (S.2 1) (nI c) K pk = aRef (nI 8) (nI 8) := by
        unfold aSink; rw [hcn]
        exact (aG_f c3).trans ((aG_t c6).trans (rfl))
      exact r_ireturn E P rfl dX4_sink_102 ⟨by rw [hs]; rfl, by rw [hs]; rfl⟩
    · refine r_hp (h' := mdl m (upd S.1 0 (nI 0), S.2) h0) (by rw [refF_n c6]) ?_
      refine r_aload_n E dX4_sink_51 rfl ?_
      suffices j8 : fmW G Γ (mdl m (upd S.1 0 (nI 0), S.2) h0) 0 0 65 [some (.ref m), some (.int (nI c)), none] [.int (bI (!sChalk (S.2 1) c)), .ref m, .int (nI 2), .ref m] by
        refine r_aload_n E dX4_sink_52 rfl ?_
        refine r_iload_n E dX4_sink_53 rfl ?_
        refine r_callV1 (v1 := .int (bI (sChalk (S.2 1) c))) E (ct_X4_isChalk G hl m (upd S.1 0 (nI 0), S.2) h0 c (by omega)) mX4_isChalk q1969 q1971 qs34 (fun H a1 => fm_rc (ci := 0) (C := RX4) (T := TX4) (N := 21) a1 rfl E.v mdl_o) rfl rfl (Nat.le_of_ble_eq_true rfl) (Nat.le_of_ble_eq_true rfl) (Nat.le_of_ble_eq_true rfl) dX4_sink_54 0 0 (Nat.le_of_ble_eq_true rfl) (Nat.le_of_ble_eq_true rfl) ?_
        refine r_ifB_ne (b := sChalk (S.2 1) c) (tgt := 64) E dX4_sink_57 (by decide) (fun c9 => ?_) (fun c9 => ?_)
        · refine r_iconst E (nI 0) dX4_sink_64 (by decide) ?_
          refine r_top (v' := .int (bI (!sChalk (S.2 1) c))) (by rw [show (!sChalk (S.2 1) c) = false by simp [c9]]; rfl) ?_
          exact j8
        · refine r_iconst E (nI 1) dX4_sink_60 (by decide) ?_
          refine r_goto (tgt := 65) E dX4_sink_61 (by decide) ?_
          refine r_top (v' := .int (bI (!sChalk (S.2 1) c))) (by rw [show (!sChalk (S.2 1) c) = true by simp [c9]]; rfl) ?_
          exact j8
      refine r_iconst E (nI 1) dX4_sink_65 (by decide) ?_
      refine r_iload_n E dX4_sink_66 rfl ?_
      refine r_callV1 (v1 := .int (bI (!sChalk (S.2 1) c))) E (ct_X4_refuse G hl m (upd S.1 0 (nI 0), S.2) h0 (!sChalk (S.2 1) c) (nI 1) (nI c)) mX4_refuse q1973 q1975 qs35 (fun H a1 => fm_rc (ci := 0) (C := RX4) (T := TX4) (N := 21) a1 rfl E.v mdl_o) rfl rfl (Nat.le_of_ble_eq_true rfl) (Nat.le_of_ble_eq_true rfl) (Nat.le_of_ble_eq_true rfl) dX4_sink_67 0 0 (Nat.le_of_ble_eq_true rfl) (Nat.le_of_ble_eq_true rfl) ?_
      refine r_ifB_ne (b := !sChalk (S.2 1) c) (tgt := 90) E dX4_sink_70 (by decide) (fun c10 => ?_) (fun c10 => ?_)
      · refine r_hp (h' := mdl m (refO (upd S.1 0 (nI 0)) (some (nI 1, nI c)), S.2) h0) (by rw [refF_p c10]) ?_
        refine r_iconst E (nI 1) dX4_sink_90 (by decide) ?_
        refine r_goto (tgt := 95) E dX4_sink_91 (by decide) ?_
        refine r_callV1 (v1 := .int (bI true)) E (ct_X4_fails G hl m (refO (upd S.1 0 (nI 0)) (some (nI 1, nI c)), S.2) h0 (nI 2) (true)) mX4_fails q1965 q1967 qs33 (fun H a1 => fm_rc (ci := 0) (C := RX4) (T := TX4) (N := 21) a1 rfl E.v mdl_o) rfl rfl (Nat.le_of_ble_eq_true rfl) (Nat.le_of_ble_eq_true rfl) (Nat.le_of_ble_eq_true rfl) dX4_sink_95 0 0 (Nat.le_of_ble_eq_true rfl) (Nat.le_of_ble_eq_true rfl) ?_
        refine r_ifB_eq (b := true) (tgt := 103) E dX4_sink_98 (by decide) (fun c => absurd c (by decide)) (fun _ => ?_)
        refine r_hp (h' := mdl m (upd (refO (upd S.1 0 (nI 0)) (some (nI 1, nI c))) 0 (nI 2), S.2) h0) (by rw [nt1 rfl]) ?_
        refine r_iconst E (nI 0) dX4_sink_101 (by decide) ?_
        have hs : aSink (S.2 1) (nI c) K pk = aRef (nI 1) (nI c) := by
          unfold aSink; rw [hcn]
          exact (aG_f c3).trans ((aG_f c6).trans ((aG_t c10).trans (rfl)))
        exact r_ireturn E P rfl dX4_sink_102 ⟨by rw [hs]; rfl, by rw [hs]; rfl⟩
      · refine r_hp (h' := mdl m (upd S.1 0 (nI 0), S.2) h0) (by rw [refF_n c10]) ?_
        refine r_aload_n E dX4_sink_73 rfl ?_
        refine r_iload_n E dX4_sink_74 rfl ?_
        refine r_iconst E (-1) dX4_sink_75 (by decide) ?_
        refine r_callV1 (v1 := .int (bI ((sMeet (S.2 1) c (-1) K).isSome))) E (ct_X4_isBesideOther G hl m (upd S.1 0 (nI 0), S.2) h0 c (-1) K hK hK8 (by omega)) mX4_isBesideOther q2075 q2077 qs50 (fun H a1 => fm_rc (ci := 0) (C := RX4) (T := TX4) (N := 21) a1 rfl E.v mdl_o) rfl rfl (Nat.le_of_ble_eq_true rfl) (Nat.le_of_ble_eq_true rfl) (Nat.le_of_ble_eq_true rfl) dX4_sink_76 0 0 (Nat.le_of_ble_eq_true rfl) (Nat.le_of_ble_eq_true rfl) ?_
        refine r_ifB_ne (b := (sMeet (S.2 1) c (-1) K).isSome) (tgt := 90) E dX4_sink_79 (by decide) (fun c12 => ?_) (fun c12 => ?_)
        · refine r_hp (h' := mdl m (refO (upd S.1 0 (nI 0)) (some (nI 3, cI (sMeet (S.2 1) c (-1) K))), S.2) h0) (by rw [refF_p c12]) ?_
          refine r_iconst E (nI 1) dX4_sink_90 (by decide) ?_
          refine r_goto (tgt := 95) E dX4_sink_91 (by decide) ?_
          refine r_callV1 (v1 := .int (bI true)) E (ct_X4_fails G hl m (refO (upd S.1 0 (nI 0)) (some (nI 3, cI (sMeet (S.2 1) c (-1) K))), S.2) h0 (nI 2) (true)) mX4_fails q1965 q1967 qs33 (fun H a1 => fm_rc (ci := 0) (C := RX4) (T := TX4) (N := 21) a1 rfl E.v mdl_o) rfl rfl (Nat.le_of_ble_eq_true rfl) (Nat.le_of_ble_eq_true rfl) (Nat.le_of_ble_eq_true rfl) dX4_sink_95 0 0 (Nat.le_of_ble_eq_true rfl) (Nat.le_of_ble_eq_true rfl) ?_
          refine r_ifB_eq (b := true) (tgt := 103) E dX4_sink_98 (by decide) (fun c => absurd c (by decide)) (fun _ => ?_)
          refine r_hp (h' := mdl m (upd (refO (upd S.1 0 (nI 0)) (some (nI 3, cI (sMeet (S.2 1) c (-1) K)))) 0 (nI 2), S.2) h0) (by rw [nt1 rfl]) ?_
          refine r_iconst E (nI 0) dX4_sink_101 (by decide) ?_
          have hs : aSink (S.2 1) (nI c) K pk = aRef (nI 3) (cI (sMeet (S.2 1) c (-1) K)) := by
            unfold aSink; rw [hcn]
            exact (aG_f c3).trans ((aG_f c6).trans ((aG_f c10).trans ((aG_t c12).trans (rfl))))
          exact r_ireturn E P rfl dX4_sink_102 ⟨by rw [hs]; rfl, by rw [hs]; rfl⟩
        · refine r_hp (h' := mdl m (upd S.1 0 (nI 0), S.2) h0) (by rw [refF_n c12]) ?_
          refine r_aload_n E dX4_sink_82 rfl ?_
          refine r_iload_n E dX4_sink_83 rfl ?_
          refine r_callV1 (v1 := .int (bI ((sPickK (S.2 1) (sStrokes (S.2 1) c) pk).isNone))) E (ct_X4_isTooHard G hl m (upd S.1 0 (nI 0), S.2) h0 c pk hP hP6 (by omega)) mX4_isTooHard q2079 q2081 qs51 (fun H a1 => fm_rc (ci := 0) (C := RX4) (T := TX4) (N := 21) a1 rfl E.v mdl_o) rfl rfl (Nat.le_of_ble_eq_true rfl) (Nat.le_of_ble_eq_true rfl) (Nat.le_of_ble_eq_true rfl) dX4_sink_84 0 0 (Nat.le_of_ble_eq_true rfl) (Nat.le_of_ble_eq_true rfl) ?_
          refine r_ifB_eq (b := (sPickK (S.2 1) (sStrokes (S.2 1) c) pk).isNone) (tgt := 94) E dX4_sink_87 (by decide) (fun c14 => ?_) (fun c14 => ?_)
          · refine r_hp (h' := mdl m (upd S.1 0 (nI 0), S.2) h0) (by rw [refF_n c14]) ?_
            refine r_iconst E (nI 0) dX4_sink_94 (by decide) ?_
            refine r_callV1 (v1 := .int (bI false)) E (ct_X4_fails G hl m (upd S.1 0 (nI 0), S.2) h0 (nI 2) (false)) mX4_fails q1965 q1967 qs33 (fun H a1 => fm_rc (ci := 0) (C := RX4) (T := TX4) (N := 21) a1 rfl E.v mdl_o) rfl rfl (Nat.le_of_ble_eq_true rfl) (Nat.le_of_ble_eq_true rfl) (Nat.le_of_ble_eq_true rfl) dX4_sink_95 0 0 (Nat.le_of_ble_eq_true rfl) (Nat.le_of_ble_eq_true rfl) ?_
            refine r_ifB_eq (b := false) (tgt := 103) E dX4_sink_98 (by decide) (fun _ => ?_) (fun c => absurd c (by decide))
            refine r_hp (h' := mdl m (upd S.1 0 (nI 0), S.2) h0) (by rw [nf1 rfl, upd_uu]) ?_
            have hK7 : K < 8 := by have := of_decide_eq_false c6; omega
            obtain ⟨x, hx⟩ := Option.isSome_iff_exists.mp (by simpa using c14 : (sPickK (S.2 1) (sStrokes (S.2 1) c) pk).isSome = true)
            refine r_aload_n E dX4_sink_103 rfl ?_
            refine r_callV0 E (ct_X4_change G hl m (upd S.1 0 (nI 0), S.2) h0 tx h8 kp h4 hk8) mX4_change q2023 q2025 qs44 (fun H a1 => fm_rc (ci := 0) (C := RX4) (T := TX4) (N := 21) a1 rfl E.v mdl_o) rfl rfl (Nat.le_of_ble_eq_true rfl) (Nat.le_of_ble_eq_true rfl) (Nat.le_of_ble_eq_true rfl) dX4_sink_104 0 0 (Nat.le_of_ble_eq_true rfl) (Nat.le_of_ble_eq_true rfl) ?_
            refine r_aload_n E dX4_sink_107 rfl ?_
            refine r_getf E cl_X4 1 (by decide) q1887 mdl_o rfl dX4_sink_108 ?_
            refine r_sipush E (nI 350) dX4_sink_111 (by decide) ?_
            refine r_iald E mdl_1 (by omega) (by omega) dX4_sink_114 ?_
            refine r_top (v' := .int (nI K)) (congrArg Value.int hK) ?_
            refine r_istore_n E [some (.ref m), some (.int (nI c)), some (.int (nI K))] dX4_sink_115 rfl rfl ?_
            refine r_aload_n E dX4_sink_116 rfl ?_
            refine r_getf E cl_X4 1 (by decide) q1887 mdl_o rfl dX4_sink_117 ?_
            refine r_sipush E (nI 320) dX4_sink_120 (by decide) ?_
            refine r_iload_n E dX4_sink_123 rfl ?_
            refine r_iaddN E dX4_sink_124 ?_
            refine r_iload_n E dX4_sink_125 rfl ?_
            refine r_iast E mdl_1 (by omega) (by omega) dX4_sink_126 ?_
            refine r_hp (h' := mdl m ((sChg (upd S.1 0 (nI 0), S.2) tx kp).1, va_up ((sChg (upd S.1 0 (nI 0), S.2) tx kp).2) 1 (upd (S.2 1) (320 + K) (nI c))) h0) (mdl_b1 _) ?_
            refine r_aload_n E dX4_sink_127 rfl ?_
            refine r_getf E cl_X4 1 (by decide) q1887 mdl_o rfl dX4_sink_128 ?_
            refine r_sipush E (nI 328) dX4_sink_131 (by decide) ?_
            refine r_iload_n E dX4_sink_134 rfl ?_
            refine r_iaddN E dX4_sink_135 ?_
            refine r_iconst E (nI 0) dX4_sink_136 (by decide) ?_
            refine r_iast E mdl_1 (by omega) (by omega) dX4_sink_137 ?_
            refine r_hp (h' := mdl m ((sChg (upd S.1 0 (nI 0), S.2) tx kp).1, va_up ((sChg (upd S.1 0 (nI 0), S.2) tx kp).2) 1 (upd (upd (S.2 1) (320 + K) (nI c)) (328 + K) (nI 0))) h0) (mdl_b1 _) ?_
            refine r_aload_n E dX4_sink_138 rfl ?_
            refine r_getf E cl_X4 1 (by decide) q1887 mdl_o rfl dX4_sink_139 ?_
            refine r_sipush E (nI 336) dX4_sink_142 (by decide) ?_
            refine r_iload_n E dX4_sink_145 rfl ?_
            refine r_iaddN E dX4_sink_146 ?_
            refine r_iconst E (nI 0) dX4_sink_147 (by decide) ?_
            refine r_iast E mdl_1 (by omega) (by omega) dX4_sink_148 ?_
            refine r_hp (h' := mdl m ((sChg (upd S.1 0 (nI 0), S.2) tx kp).1, va_up ((sChg (upd S.1 0 (nI 0), S.2) tx kp).2) 1 (upd (upd (upd (S.2 1) (320 + K) (nI c)) (328 + K) (nI 0)) (336 + K) (nI 0))) h0) (mdl_b1 _) ?_
            refine r_hp (h' := mdl m ((sChg (upd S.1 0 (nI 0), S.2) tx kp).1, va_up ((sChg (upd S.1 0 (nI 0), S.2) tx kp).2) 1 (sSink3 (S.2 1) c K)) h0) rfl ?_
            refine r_aload_n E dX4_sink_149 rfl ?_
            refine r_getf E cl_X4 1 (by decide) q1887 mdl_o rfl dX4_sink_150 ?_
            refine r_sipush E (nI 350) dX4_sink_153 (by decide) ?_
            refine r_dup2 E dX4_sink_156 rfl rfl ?_
            refine r_iald E mdl_1 (by omega) (by omega) dX4_sink_157 ?_
            refine r_top (v' := .int (nI K)) (congrArg Value.int ((sSink3_o hK7 (by omega)).trans hK)) ?_
            refine r_iconst E (nI 1) dX4_sink_158 (by decide) ?_
            refine r_iaddN E dX4_sink_159 ?_
            refine r_iast E mdl_1 (by omega) (by omega) dX4_sink_160 ?_
            refine r_hp (h' := mdl m ((sChg (upd S.1 0 (nI 0), S.2) tx kp).1, va_up ((sChg (upd S.1 0 (nI 0), S.2) tx kp).2) 1 (upd (sSink3 (S.2 1) c K) 350 (nI (K + 1)))) h0) (mdl_b1 _) ?_
            refine r_hp (h' := mdl m ((sChg (upd S.1 0 (nI 0), S.2) tx kp).1, va_up ((sChg (upd S.1 0 (nI 0), S.2) tx kp).2) 1 (sSink4 (S.2 1) c K)) h0) rfl ?_
            refine r_aload_n E dX4_sink_161 rfl ?_
            refine r_iload_n E dX4_sink_162 rfl ?_
            refine r_iload_n E dX4_sink_163 rfl ?_
            refine r_callV0 E (ct_X4_open G hl m ((sChg (upd S.1 0 (nI 0), S.2) tx kp).1, va_up ((sChg (upd S.1 0 (nI 0), S.2) tx kp).2) 1 (sSink4 (S.2 1) c K)) h0 c K x pk ((sSink4_o hK7 (by omega) (by omega)).trans hP) hP6 ((sSink4_p hK7 hc hP6).trans hx) (by omega) (by omega)) mX4_open q2087 q2089 qs53 (fun H a1 => fm_rc (ci := 0) (C := RX4) (T := TX4) (N := 21) a1 rfl E.v mdl_o) rfl rfl (Nat.le_of_ble_eq_true rfl) (Nat.le_of_ble_eq_true rfl) (Nat.le_of_ble_eq_true rfl) dX4_sink_164 0 0 (Nat.le_of_ble_eq_true rfl) (Nat.le_of_ble_eq_true rfl) ?_
            refine r_hp (h' := mdl m ((sChg (upd S.1 0 (nI 0), S.2) tx kp).1, va_up ((sChg (upd S.1 0 (nI 0), S.2) tx kp).2) 1 (sOpenUp (sSink4 (S.2 1) c K) c K pk)) h0) (mdl_vv 1 _ _) ?_
            refine r_iload_n E dX4_sink_167 rfl ?_
            have hs : aSink (S.2 1) (nI c) K pk = aDon (nI K) (sOpenUp (sSink4 (S.2 1) c K) c K pk) := by
              unfold aSink; rw [hcn]
              exact (aG_f c3).trans ((aG_f c6).trans ((aG_f c10).trans ((aG_f c12).trans ((aG_f c14).trans (rfl)))))
            exact r_ireturn E P rfl dX4_sink_168 ⟨by rw [hs]; rfl, by rw [hs]; rfl⟩
          · refine r_hp (h' := mdl m (refO (upd S.1 0 (nI 0)) (some (nI 5, sStrokes (S.2 1) c)), S.2) h0) (by rw [refF_p c14]) ?_
            refine r_iconst E (nI 1) dX4_sink_90 (by decide) ?_
            refine r_goto (tgt := 95) E dX4_sink_91 (by decide) ?_
            refine r_callV1 (v1 := .int (bI true)) E (ct_X4_fails G hl m (refO (upd S.1 0 (nI 0)) (some (nI 5, sStrokes (S.2 1) c)), S.2) h0 (nI 2) (true)) mX4_fails q1965 q1967 qs33 (fun H a1 => fm_rc (ci := 0) (C := RX4) (T := TX4) (N := 21) a1 rfl E.v mdl_o) rfl rfl (Nat.le_of_ble_eq_true rfl) (Nat.le_of_ble_eq_true rfl) (Nat.le_of_ble_eq_true rfl) dX4_sink_95 0 0 (Nat.le_of_ble_eq_true rfl) (Nat.le_of_ble_eq_true rfl) ?_
            refine r_ifB_eq (b := true) (tgt := 103) E dX4_sink_98 (by decide) (fun c => absurd c (by decide)) (fun _ => ?_)
            refine r_hp (h' := mdl m (upd (refO (upd S.1 0 (nI 0)) (some (nI 5, sStrokes (S.2 1) c))) 0 (nI 2), S.2) h0) (by rw [nt1 rfl]) ?_
            refine r_iconst E (nI 0) dX4_sink_101 (by decide) ?_
            have hs : aSink (S.2 1) (nI c) K pk = aRef (nI 5) (sStrokes (S.2 1) c) := by
              unfold aSink; rw [hcn]
              exact (aG_f c3).trans ((aG_f c6).trans ((aG_f c10).trans ((aG_f c12).trans ((aG_t c14).trans (rfl)))))
            exact r_ireturn E P rfl dX4_sink_102 ⟨by rw [hs]; rfl, by rw [hs]; rfl⟩

