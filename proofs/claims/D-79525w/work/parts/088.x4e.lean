set_option maxHeartbeats 4000000 in
theorem ct_X4_change (G : fmG) (hl : (fmLn G).stackTraces = false) (m : Nat) (S : MSt) (h0 : fmHp) (tx : Bool) (h8 : S.1 8 = bI tx) (kp : Nat) (h4 : S.1 4 = nI kp) (hk8 : kp ≤ 8) : Ct G yX4_change (ws_ yX4_change cX4_change 1 none) { frames := 2, cells := 0, slots := 0, locals := 52 } [.ref m] (mdl m S h0) (fmRet none (mdl m ((sChg S tx kp).1, va_up (sChg S tx kp).2 1 (S.2 1)) h0)) fmNo := by
  refine Ct.of hl (by decide +kernel) (Nat.le_of_ble_eq_true rfl) (fun Γ E P => ?_)
  refine r_aload_n E dX4_change_0 rfl ?_
  refine r_getf E cl_X4 8 (by decide) q1894 mdl_o rfl dX4_change_1 ?_
  refine r_top (v' := .int (bI tx)) (congrArg Value.int h8) ?_
  refine r_ifB_ne (b := tx) (tgt := 15) E dX4_change_4 (by decide) (fun c1 => ?_) (fun c1 => ?_)
  · exact r_return E P rfl dX4_change_15 ⟨rfl, congrArg (fun s => mdl m s h0) (sChg_t c1)⟩
  · refine r_aload_n E dX4_change_7 rfl ?_
    refine r_aload_n E dX4_change_8 rfl ?_
    refine r_getf E cl_X4 1 (by decide) q1887 mdl_o rfl dX4_change_9 ?_
    refine r_callV0 E (ct_X4_remember_1 G hl m S h0 kp h4 hk8) mX4_remember q1977 q1979 qs36 (fun H a1 => fm_rc (ci := 0) (C := RX4) (T := TX4) (N := 21) a1 rfl E.v mdl_o) rfl rfl (Nat.le_of_ble_eq_true rfl) (Nat.le_of_ble_eq_true rfl) (Nat.le_of_ble_eq_true rfl) dX4_change_12 0 0 (Nat.le_of_ble_eq_true rfl) (Nat.le_of_ble_eq_true rfl) ?_
    refine r_hp (h' := mdl m ((sChg S false kp).1, va_up ((sChg S false kp).2) 1 (S.2 1)) h0) (congrArg (fun s => mdl m s h0) (sChg_f hk8 rfl)) ?_
    exact r_return E P rfl dX4_change_15 ⟨rfl, by rw [c1]⟩

set_option maxHeartbeats 4000000 in
theorem ct_X4_strike (G : fmG) (hl : (fmLn G).stackTraces = false) (m : Nat) (S : MSt) (h0 : fmHp) (j : Nat) (n : Int32) (pk : Nat) (hP : S.2 1 351 = nI pk) (hP6 : pk ≤ 6) (hj : j < pk) : Ct G yX4_strike (ws_ yX4_strike cX4_strike 4 none) { frames := 0, cells := 0, slots := 0, locals := 0 } [.ref m, .int (nI j), .int n] (mdl m S h0) (fmRet none (mdl m (S.1, va_up S.2 1 (sStrike (S.2 1) j n pk)) h0)) fmNo := by
  refine Ct.of hl (by decide +kernel) (Nat.le_of_ble_eq_true rfl) (fun Γ E P => ?_)
  refine r_aload_n E dX4_strike_0 rfl ?_
  refine r_getf E cl_X4 1 (by decide) q1887 mdl_o rfl dX4_strike_1 ?_
  refine r_sipush E (nI 354) dX4_strike_4 (by decide) ?_
  refine r_dup2 E dX4_strike_7 rfl rfl ?_
  refine r_iald E mdl_1 (by omega) (by omega) dX4_strike_8 ?_
  refine r_iload_n E dX4_strike_9 rfl ?_
  refine r_iadd E dX4_strike_10 ?_
  refine r_iast E mdl_1 (by omega) (by omega) dX4_strike_11 ?_
  refine r_hp (h' := mdl m (S.1, va_up S.2 1 (upd (S.2 1) 354 (((S.2 1) 354) + n))) h0) (mdl_a1 _) ?_
  refine r_aload_n E dX4_strike_12 rfl ?_
  refine r_getf E cl_X4 1 (by decide) q1887 mdl_o rfl dX4_strike_13 ?_
  refine r_sipush E (nI 344) dX4_strike_16 (by decide) ?_
  refine r_iload_n E dX4_strike_19 rfl ?_
  refine r_iaddN E dX4_strike_20 ?_
  refine r_dup2 E dX4_strike_21 rfl rfl ?_
  refine r_iald E mdl_1 (by omega) (by omega) dX4_strike_22 ?_
  refine r_top (v' := .int ((upd (S.2 1) 354 (((S.2 1) 354) + n)) (344 + j))) rfl ?_
  refine r_iload_n E dX4_strike_23 rfl ?_
  refine r_isub E dX4_strike_24 ?_
  refine r_iast E mdl_1 (by omega) (by omega) dX4_strike_25 ?_
  refine r_hp (h' := mdl m (S.1, va_up S.2 1 (upd (upd (S.2 1) 354 (((S.2 1) 354) + n)) (344 + j) (((upd (S.2 1) 354 (((S.2 1) 354) + n)) (344 + j)) - n))) h0) (mdl_b1 _) ?_
  refine r_hp (h' := mdl m (S.1, va_up S.2 1 (sStr1 (S.2 1) j n)) h0) (by rw [sStr1_e (by omega)]) ?_
  refine r_aload_n E dX4_strike_26 rfl ?_
  refine r_getf E cl_X4 1 (by decide) q1887 mdl_o rfl dX4_strike_27 ?_
  refine r_sipush E (nI 344) dX4_strike_30 (by decide) ?_
  refine r_iload_n E dX4_strike_33 rfl ?_
  refine r_iaddN E dX4_strike_34 ?_
  refine r_iald E mdl_1 (by omega) (by omega) dX4_strike_35 ?_
  refine r_top (v' := .int (S.2 1 (344 + j) - n)) (congrArg Value.int sStr1_j) ?_
  refine r_if_ne (tgt := 111) E dX4_strike_36 (by decide) (fun c1 => ?_) (fun c1 => ?_)
  · exact r_return E P rfl dX4_strike_111 ⟨rfl, by unfold sStrike; rw [if_neg (by rw [nI_0]; exact c1)]⟩
  · refine r_aload_n E dX4_strike_39 rfl ?_
    refine r_getf E cl_X4 1 (by decide) q1887 mdl_o rfl dX4_strike_40 ?_
    refine r_sipush E (nI 351) dX4_strike_43 (by decide) ?_
    refine r_dup2 E dX4_strike_46 rfl rfl ?_
    refine r_iald E mdl_1 (by omega) (by omega) dX4_strike_47 ?_
    refine r_top (v' := .int (nI pk)) (congrArg Value.int ((sStr1_351 (by omega)).trans hP)) ?_
    refine r_iconst E (nI 1) dX4_strike_48 (by decide) ?_
    refine r_isubN E dX4_strike_49 (by omega) ?_
    refine r_iast E mdl_1 (by omega) (by omega) dX4_strike_50 ?_
    refine r_hp (h' := mdl m (S.1, va_up S.2 1 (upd (sStr1 (S.2 1) j n) 351 (nI (pk - 1)))) h0) (mdl_b1 _) ?_
    refine r_iload_n E dX4_strike_51 rfl ?_
    refine r_istore_n E [some (.ref m), some (.int (nI j)), some (.int n), some (.int (nI j))] dX4_strike_52 rfl rfl ?_
    refine r_hp (h' := mdl m (S.1, va_up S.2 1 (sShift (upd (sStr1 (S.2 1) j n) 351 (nI (pk - 1))) j j)) h0) (by rw [sShift_0]) ?_
    have lp2 : ∀ (n2 i2 : Nat), i2 + n2 = pk - 1 → (j ≤ i2) → fmW G Γ (mdl m (S.1, va_up S.2 1 (sShift (upd (sStr1 (S.2 1) j n) 351 (nI (pk - 1))) j i2)) h0) 0 0 53 [some (.ref m), some (.int (nI j)), some (.int n), some (.int (nI i2))] [] := by
      intro n2
      induction n2 with
      | zero =>
        intro i2 hi2 hv2
        refine r_iload_n E dX4_strike_53 rfl ?_
        refine r_aload_n E dX4_strike_54 rfl ?_
        refine r_getf E cl_X4 1 (by decide) q1887 mdl_o rfl dX4_strike_55 ?_
        refine r_sipush E (nI 351) dX4_strike_58 (by decide) ?_
        refine r_iald E mdl_1 (by omega) (by omega) dX4_strike_61 ?_
        refine r_top (v' := .int (nI (pk - 1))) (congrArg Value.int (sSh_351 (by omega))) ?_
        refine r_icmpN_ge (tgt := 93) E dX4_strike_62 (by decide) (by omega) (by omega) (fun c3 => ?_) (fun c3 => ?_)
        · obtain rfl : i2 = pk - 1 := by omega
          refine r_aload_n E dX4_strike_93 rfl ?_
          refine r_getf E cl_X4 1 (by decide) q1887 mdl_o rfl dX4_strike_94 ?_
          refine r_sipush E (nI 344) dX4_strike_97 (by decide) ?_
          refine r_aload_n E dX4_strike_100 rfl ?_
          refine r_getf E cl_X4 1 (by decide) q1887 mdl_o rfl dX4_strike_101 ?_
          refine r_sipush E (nI 351) dX4_strike_104 (by decide) ?_
          refine r_iald E mdl_1 (by omega) (by omega) dX4_strike_107 ?_
          refine r_top (v' := .int (nI (pk - 1))) (congrArg Value.int (sSh_351 (by omega))) ?_
          refine r_iaddN E dX4_strike_108 ?_
          refine r_iconst E (nI 0) dX4_strike_109 (by decide) ?_
          refine r_iast E mdl_1 (by omega) (by omega) dX4_strike_110 ?_
          refine r_hp (h' := mdl m (S.1, va_up S.2 1 (upd (sShift (upd (sStr1 (S.2 1) j n) 351 (nI (pk - 1))) j (pk - 1)) (344 + (pk - 1)) (nI 0))) h0) (mdl_b1 _) ?_
          exact r_return E P rfl dX4_strike_111 ⟨rfl, by unfold sStrike; rw [if_pos (by rw [nI_0]; exact c1)]⟩
        · exfalso; omega
      | succ n2 ih =>
        intro i2 hi2 hv2
        refine r_iload_n E dX4_strike_53 rfl ?_
        refine r_aload_n E dX4_strike_54 rfl ?_
        refine r_getf E cl_X4 1 (by decide) q1887 mdl_o rfl dX4_strike_55 ?_
        refine r_sipush E (nI 351) dX4_strike_58 (by decide) ?_
        refine r_iald E mdl_1 (by omega) (by omega) dX4_strike_61 ?_
        refine r_top (v' := .int (nI (pk - 1))) (congrArg Value.int (sSh_351 (by omega))) ?_
        refine r_icmpN_ge (tgt := 93) E dX4_strike_62 (by decide) (by omega) (by omega) (fun c4 => ?_) (fun c4 => ?_)
        · exfalso; omega
        · refine r_aload_n E dX4_strike_65 rfl ?_
          refine r_getf E cl_X4 1 (by decide) q1887 mdl_o rfl dX4_strike_66 ?_
          refine r_sipush E (nI 344) dX4_strike_69 (by decide) ?_
          refine r_iload_n E dX4_strike_72 rfl ?_
          refine r_iaddN E dX4_strike_73 ?_
          refine r_aload_n E dX4_strike_74 rfl ?_
          refine r_getf E cl_X4 1 (by decide) q1887 mdl_o rfl dX4_strike_75 ?_
          refine r_sipush E (nI 344) dX4_strike_78 (by decide) ?_
          refine r_iload_n E dX4_strike_81 rfl ?_
          refine r_iaddN E dX4_strike_82 ?_
          refine r_iconst E (nI 1) dX4_strike_83 (by decide) ?_
          refine r_iaddN E dX4_strike_84 ?_
          refine r_iald E mdl_1 (by omega) (by omega) dX4_strike_85 ?_
          refine r_top (v' := .int ((sShift (upd (sStr1 (S.2 1) j n) 351 (nI (pk - 1))) j i2) (344 + i2 + 1))) rfl ?_
          refine r_iast E mdl_1 (by omega) (by omega) dX4_strike_86 ?_
          refine r_hp (h' := mdl m (S.1, va_up S.2 1 (upd (sShift (upd (sStr1 (S.2 1) j n) 351 (nI (pk - 1))) j i2) (344 + i2) ((sShift (upd (sStr1 (S.2 1) j n) 351 (nI (pk - 1))) j i2) (344 + i2 + 1)))) h0) (mdl_b1 _) ?_
          refine r_hp (h' := mdl m (S.1, va_up S.2 1 (sShift (upd (sStr1 (S.2 1) j n) 351 (nI (pk - 1))) j (i2 + 1))) h0) (by rw [sShift_1 _ hv2]) ?_
          refine r_iinc E (nI (i2 + 1)) [some (.ref m), some (.int (nI j)), some (.int n), some (.int (nI (i2 + 1)))] dX4_strike_87 rfl (nI_1 i2) rfl rfl ?_
          refine r_goto (tgt := 53) E dX4_strike_90 (by decide) ?_
          exact ih (i2 + 1) (by omega) (by omega)
    exact lp2 (pk - 1 - j) j (by omega) (Nat.le_refl _)

set_option maxHeartbeats 4000000 in
theorem ct_X4_open (G : fmG) (hl : (fmLn G).stackTraces = false) (m : Nat) (S : MSt) (h0 : fmHp) (c j x : Nat) (pk : Nat) (hP : S.2 1 351 = nI pk) (hP6 : pk ≤ 6) (hx : sPickK (S.2 1) (sStrokes (S.2 1) c) pk = some x) (hc : c < 64) (hj : j < 8) : Ct G yX4_open (ws_ yX4_open cX4_open 4 none) { frames := 1, cells := 0, slots := 0, locals := 24 } [.ref m, .int (nI c), .int (nI j)] (mdl m S h0) (fmRet none (mdl m (S.1, va_up S.2 1 (sOpenUp (S.2 1) c j pk)) h0)) fmNo := by
  refine Ct.of hl (by decide +kernel) (Nat.le_of_ble_eq_true rfl) (fun Γ E P => ?_)
  refine r_aload_n E dX4_open_0 rfl ?_
  refine r_iload_n E dX4_open_1 rfl ?_
  refine r_callV1 (v1 := .int (sStrokes (S.2 1) c)) E (ct_X4_strokesOf G hl m S h0 c (by omega)) mX4_strokesOf q1984 q1986 qs37 (fun H a1 => fm_rc (ci := 0) (C := RX4) (T := TX4) (N := 21) a1 rfl E.v mdl_o) rfl rfl (Nat.le_of_ble_eq_true rfl) (Nat.le_of_ble_eq_true rfl) (Nat.le_of_ble_eq_true rfl) dX4_open_2 0 0 (Nat.le_of_ble_eq_true rfl) (Nat.le_of_ble_eq_true rfl) ?_
  refine r_istore_n E [some (.ref m), some (.int (nI c)), some (.int (nI j)), some (.int (sStrokes (S.2 1) c))] dX4_open_5 rfl rfl ?_
  refine r_aload_n E dX4_open_6 rfl ?_
  refine r_aload_n E dX4_open_7 rfl ?_
  refine r_iload_n E dX4_open_8 rfl ?_
  refine r_callV1 (v1 := .int (cI (sPickK (S.2 1) (sStrokes (S.2 1) c) pk))) E (ct_X4_pickFor G hl m S h0 (sStrokes (S.2 1) c) pk hP hP6) mX4_pickFor q2083 q2085 qs52 (fun H a1 => fm_rc (ci := 0) (C := RX4) (T := TX4) (N := 21) a1 rfl E.v mdl_o) rfl rfl (Nat.le_of_ble_eq_true rfl) (Nat.le_of_ble_eq_true rfl) (Nat.le_of_ble_eq_true rfl) dX4_open_9 0 0 (Nat.le_of_ble_eq_true rfl) (Nat.le_of_ble_eq_true rfl) ?_
  refine r_top (v' := .int (nI x)) (congrArg Value.int (by rw [hx]; rfl)) ?_
  refine r_iload_n E dX4_open_12 rfl ?_
  refine r_callV0 E (ct_X4_strike G hl m S h0 x (sStrokes (S.2 1) c) pk hP hP6 (sPickK_lt hx)) mX4_strike q2091 q2093 qs54 (fun H a1 => fm_rc (ci := 0) (C := RX4) (T := TX4) (N := 21) a1 rfl E.v mdl_o) rfl rfl (Nat.le_of_ble_eq_true rfl) (Nat.le_of_ble_eq_true rfl) (Nat.le_of_ble_eq_true rfl) dX4_open_13 0 0 (Nat.le_of_ble_eq_true rfl) (Nat.le_of_ble_eq_true rfl) ?_
  refine r_aload_n E dX4_open_16 rfl ?_
  refine r_getf E cl_X4 1 (by decide) q1887 mdl_o rfl dX4_open_17 ?_
  refine r_iconst E (nI 0) dX4_open_20 (by decide) ?_
  refine r_iload_n E dX4_open_21 rfl ?_
  refine r_iaddN E dX4_open_22 ?_
  refine r_topi (congrArg nI (Nat.zero_add _)) ?_
  refine r_iconst E (nI 1) dX4_open_23 (by decide) ?_
  refine r_iast E mdl_1 (by omega) (by omega) dX4_open_24 ?_
  refine r_hp (h' := mdl m (S.1, va_up S.2 1 (upd (sStrike (S.2 1) x (sStrokes (S.2 1) c) pk) c (nI 1))) h0) (mdl_b1 _) ?_
  refine r_aload_n E dX4_open_25 rfl ?_
  refine r_getf E cl_X4 1 (by decide) q1887 mdl_o rfl dX4_open_26 ?_
  refine r_sipush E (nI 192) dX4_open_29 (by decide) ?_
  refine r_iload_n E dX4_open_32 rfl ?_
  refine r_iaddN E dX4_open_33 ?_
  refine r_iload_n E dX4_open_34 rfl ?_
  refine r_iast E mdl_1 (by omega) (by omega) dX4_open_35 ?_
  refine r_hp (h' := mdl m (S.1, va_up S.2 1 (upd (upd (sStrike (S.2 1) x (sStrokes (S.2 1) c) pk) c (nI 1)) (192 + c) (nI j))) h0) (mdl_b1 _) ?_
  refine r_aload_n E dX4_open_36 rfl ?_
  refine r_getf E cl_X4 1 (by decide) q1887 mdl_o rfl dX4_open_37 ?_
  refine r_sipush E (nI 336) dX4_open_40 (by decide) ?_
  refine r_iload_n E dX4_open_43 rfl ?_
  refine r_iaddN E dX4_open_44 ?_
  refine r_dup2 E dX4_open_45 rfl rfl ?_
  refine r_iald E mdl_1 (by omega) (by omega) dX4_open_46 ?_
  refine r_top (v' := .int ((upd (upd (sStrike (S.2 1) x (sStrokes (S.2 1) c) pk) c (nI 1)) (192 + c) (nI j)) (336 + j))) rfl ?_
  refine r_aload_n E dX4_open_47 rfl ?_
  refine r_getf E cl_X4 1 (by decide) q1887 mdl_o rfl dX4_open_48 ?_
  refine r_sipush E (nI 128) dX4_open_51 (by decide) ?_
  refine r_iload_n E dX4_open_54 rfl ?_
  refine r_iaddN E dX4_open_55 ?_
  refine r_iald E mdl_1 (by omega) (by omega) dX4_open_56 ?_
  refine r_top (v' := .int ((upd (upd (sStrike (S.2 1) x (sStrokes (S.2 1) c) pk) c (nI 1)) (192 + c) (nI j)) (128 + c))) rfl ?_
  refine r_iadd E dX4_open_57 ?_
  refine r_iast E mdl_1 (by omega) (by omega) dX4_open_58 ?_
  refine r_hp (h' := mdl m (S.1, va_up S.2 1 (upd (upd (upd (sStrike (S.2 1) x (sStrokes (S.2 1) c) pk) c (nI 1)) (192 + c) (nI j)) (336 + j) (((upd (upd (sStrike (S.2 1) x (sStrokes (S.2 1) c) pk) c (nI 1)) (192 + c) (nI j)) (336 + j)) + ((upd (upd (sStrike (S.2 1) x (sStrokes (S.2 1) c) pk) c (nI 1)) (192 + c) (nI j)) (128 + c))))) h0) (mdl_b1 _) ?_
  refine r_aload_n E dX4_open_59 rfl ?_
  refine r_getf E cl_X4 1 (by decide) q1887 mdl_o rfl dX4_open_60 ?_
  refine r_sipush E (nI 353) dX4_open_63 (by decide) ?_
  refine r_dup2 E dX4_open_66 rfl rfl ?_
  refine r_iald E mdl_1 (by omega) (by omega) dX4_open_67 ?_
  refine r_top (v' := .int ((upd (upd (upd (sStrike (S.2 1) x (sStrokes (S.2 1) c) pk) c (nI 1)) (192 + c) (nI j)) (336 + j) (((upd (upd (sStrike (S.2 1) x (sStrokes (S.2 1) c) pk) c (nI 1)) (192 + c) (nI j)) (336 + j)) + ((upd (upd (sStrike (S.2 1) x (sStrokes (S.2 1) c) pk) c (nI 1)) (192 + c) (nI j)) (128 + c)))) 353)) rfl ?_
  refine r_iconst E (nI 1) dX4_open_68 (by decide) ?_
  refine r_iadd E dX4_open_69 ?_
  refine r_iast E mdl_1 (by omega) (by omega) dX4_open_70 ?_
  refine r_hp (h' := mdl m (S.1, va_up S.2 1 (upd (upd (upd (upd (sStrike (S.2 1) x (sStrokes (S.2 1) c) pk) c (nI 1)) (192 + c) (nI j)) (336 + j) (((upd (upd (sStrike (S.2 1) x (sStrokes (S.2 1) c) pk) c (nI 1)) (192 + c) (nI j)) (336 + j)) + ((upd (upd (sStrike (S.2 1) x (sStrokes (S.2 1) c) pk) c (nI 1)) (192 + c) (nI j)) (128 + c)))) 353 (((upd (upd (upd (sStrike (S.2 1) x (sStrokes (S.2 1) c) pk) c (nI 1)) (192 + c) (nI j)) (336 + j) (((upd (upd (sStrike (S.2 1) x (sStrokes (S.2 1) c) pk) c (nI 1)) (192 + c) (nI j)) (336 + j)) + ((upd (upd (sStrike (S.2 1) x (sStrokes (S.2 1) c) pk) c (nI 1)) (192 + c) (nI j)) (128 + c)))) 353) + (nI 1)))) h0) (mdl_b1 _) ?_
  exact r_return E P rfl dX4_open_71 ⟨rfl, by unfold sOpenUp; rw [hx]; rfl⟩

