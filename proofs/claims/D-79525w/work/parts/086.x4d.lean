set_option maxHeartbeats 4000000 in
theorem ct_X4_isDigRefused (G : fmG) (hl : (fmLn G).stackTraces = false) (m : Nat) (S : MSt) (h0 : fmHp) (j c : Nat) (p : Bool) (K : Nat) (hK : S.2 1 350 = nI K) (hK8 : K ≤ 8) (pk : Nat) (hP : S.2 1 351 = nI pk) (hP6 : pk ≤ 6) (hj : j < 8) (hc : c < 64) : Ct G yX4_isDigRefused (ws_ yX4_isDigRefused cX4_isDigRefused 4 (some .boolean)) { frames := 6, cells := 0, slots := 0, locals := 136 } [.ref m, .int (nI j), .int (nI c), .int (bI p)] (mdl m S h0) (fmRet (some (.int (bI ((sDigRef (S.2 1) j c p K pk).isSome)))) (mdl m (refO S.1 (sDigRef (S.2 1) j c p K pk), S.2) h0)) fmNo := by
  refine Ct.of hl (by decide +kernel) (Nat.le_of_ble_eq_true rfl) (fun Γ E P => ?_)
  cases p with
  | false =>
    refine r_aload_n E dX4_isDigRefused_0 rfl ?_
    suffices j1 : fmW G Γ (mdl m S h0) 0 0 20 [some (.ref m), some (.int (nI j)), some (.int (nI c)), some (.int (bI false))] [.int (bI (decide ((S.2 1) (328 + j) = nI 1))), .ref m] by
      refine r_aload_n E dX4_isDigRefused_1 rfl ?_
      refine r_getf E cl_X4 1 (by decide) q1887 mdl_o rfl dX4_isDigRefused_2 ?_
      refine r_sipush E (nI 328) dX4_isDigRefused_5 (by decide) ?_
      refine r_iload_n E dX4_isDigRefused_8 rfl ?_
      refine r_iaddN E dX4_isDigRefused_9 ?_
      refine r_iald E mdl_1 (by omega) (by omega) dX4_isDigRefused_10 ?_
      refine r_iconst E (nI 1) dX4_isDigRefused_11 (by decide) ?_
      refine r_icmp_ne (x := (S.2 1) (328 + j)) (y := nI 1) (tgt := 19) E dX4_isDigRefused_12 (by decide) (fun c2 => ?_) (fun c2 => ?_)
      · refine r_iconst E (nI 0) dX4_isDigRefused_19 (by decide) ?_
        refine r_top (v' := .int (bI (decide ((S.2 1) (328 + j) = nI 1)))) (by rw [show (decide ((S.2 1) (328 + j) = nI 1)) = false by simp [c2, nI_1]]; rfl) ?_
        exact j1
      · refine r_iconst E (nI 1) dX4_isDigRefused_15 (by decide) ?_
        refine r_goto (tgt := 20) E dX4_isDigRefused_16 (by decide) ?_
        refine r_top (v' := .int (bI (decide ((S.2 1) (328 + j) = nI 1)))) (by rw [show (decide ((S.2 1) (328 + j) = nI 1)) = true by simp [c2, nI_1]]; rfl) ?_
        exact j1
    refine r_bipush E (nI 6) dX4_isDigRefused_20 (by decide) ?_
    refine r_iload_n E dX4_isDigRefused_22 rfl ?_
    refine r_callV1 (v1 := .int (bI (decide ((S.2 1) (328 + j) = nI 1)))) E (ct_X4_refuse G hl m S h0 (decide ((S.2 1) (328 + j) = nI 1)) (nI 6) (nI j)) mX4_refuse q1973 q1975 qs35 (fun H a1 => fm_rc (ci := 0) (C := RX4) (T := TX4) (N := 21) a1 rfl E.v mdl_o) rfl rfl (Nat.le_of_ble_eq_true rfl) (Nat.le_of_ble_eq_true rfl) (Nat.le_of_ble_eq_true rfl) dX4_isDigRefused_23 0 0 (Nat.le_of_ble_eq_true rfl) (Nat.le_of_ble_eq_true rfl) ?_
    refine r_ifB_ne (b := decide ((S.2 1) (328 + j) = nI 1)) (tgt := 83) E dX4_isDigRefused_26 (by decide) (fun c3 => ?_) (fun c3 => ?_)
    · refine r_hp (h' := mdl m (refO S.1 (some ((nI 6), (nI j))), S.2) h0) (by rw [refF_p c3]) ?_
      have hs : sDigRef (S.2 1) j c false K pk = some ((nI 6), (nI j)) := sChk_t c3
      refine r_iconst E (nI 1) dX4_isDigRefused_83 (by decide) ?_
      refine r_top (v' := .int (bI true)) rfl ?_
      exact r_zreturn E P rfl dX4_isDigRefused_84 ⟨by rw [hs]; rfl, by rw [hs]⟩
    · refine r_hp (h' := mdl m S h0) (by rw [refF_n c3]) ?_
      refine r_aload_n E dX4_isDigRefused_29 rfl ?_
      suffices j4 : fmW G Γ (mdl m S h0) 0 0 43 [some (.ref m), some (.int (nI j)), some (.int (nI c)), some (.int (bI false))] [.int (bI (!sChalk (S.2 1) c)), .ref m] by
        refine r_aload_n E dX4_isDigRefused_30 rfl ?_
        refine r_iload_n E dX4_isDigRefused_31 rfl ?_
        refine r_callV1 (v1 := .int (bI (sChalk (S.2 1) c))) E (ct_X4_isChalk G hl m S h0 c (by omega)) mX4_isChalk q1969 q1971 qs34 (fun H a1 => fm_rc (ci := 0) (C := RX4) (T := TX4) (N := 21) a1 rfl E.v mdl_o) rfl rfl (Nat.le_of_ble_eq_true rfl) (Nat.le_of_ble_eq_true rfl) (Nat.le_of_ble_eq_true rfl) dX4_isDigRefused_32 0 0 (Nat.le_of_ble_eq_true rfl) (Nat.le_of_ble_eq_true rfl) ?_
        refine r_ifB_ne (b := sChalk (S.2 1) c) (tgt := 42) E dX4_isDigRefused_35 (by decide) (fun c5 => ?_) (fun c5 => ?_)
        · refine r_iconst E (nI 0) dX4_isDigRefused_42 (by decide) ?_
          refine r_top (v' := .int (bI (!sChalk (S.2 1) c))) (by rw [show (!sChalk (S.2 1) c) = false by simp [c5]]; rfl) ?_
          exact j4
        · refine r_iconst E (nI 1) dX4_isDigRefused_38 (by decide) ?_
          refine r_goto (tgt := 43) E dX4_isDigRefused_39 (by decide) ?_
          refine r_top (v' := .int (bI (!sChalk (S.2 1) c))) (by rw [show (!sChalk (S.2 1) c) = true by simp [c5]]; rfl) ?_
          exact j4
      refine r_iconst E (nI 1) dX4_isDigRefused_43 (by decide) ?_
      refine r_iload_n E dX4_isDigRefused_44 rfl ?_
      refine r_callV1 (v1 := .int (bI (!sChalk (S.2 1) c))) E (ct_X4_refuse G hl m S h0 (!sChalk (S.2 1) c) (nI 1) (nI c)) mX4_refuse q1973 q1975 qs35 (fun H a1 => fm_rc (ci := 0) (C := RX4) (T := TX4) (N := 21) a1 rfl E.v mdl_o) rfl rfl (Nat.le_of_ble_eq_true rfl) (Nat.le_of_ble_eq_true rfl) (Nat.le_of_ble_eq_true rfl) dX4_isDigRefused_45 0 0 (Nat.le_of_ble_eq_true rfl) (Nat.le_of_ble_eq_true rfl) ?_
      refine r_ifB_ne (b := !sChalk (S.2 1) c) (tgt := 83) E dX4_isDigRefused_48 (by decide) (fun c6 => ?_) (fun c6 => ?_)
      · refine r_hp (h' := mdl m (refO S.1 (some ((nI 1), (nI c))), S.2) h0) (by rw [refF_p c6]) ?_
        have hs : sDigRef (S.2 1) j c false K pk = some ((nI 1), (nI c)) := (sChk_f c3).trans (sChk_t c6)
        refine r_iconst E (nI 1) dX4_isDigRefused_83 (by decide) ?_
        refine r_top (v' := .int (bI true)) rfl ?_
        exact r_zreturn E P rfl dX4_isDigRefused_84 ⟨by rw [hs]; rfl, by rw [hs]⟩
      · refine r_hp (h' := mdl m S h0) (by rw [refF_n c6]) ?_
        refine r_aload_n E dX4_isDigRefused_51 rfl ?_
        suffices j7 : fmW G Γ (mdl m S h0) 0 0 66 [some (.ref m), some (.int (nI j)), some (.int (nI c)), some (.int (bI false))] [.int (bI (!sNext (S.2 1) c (nI j))), .ref m] by
          refine r_aload_n E dX4_isDigRefused_52 rfl ?_
          refine r_iload_n E dX4_isDigRefused_53 rfl ?_
          refine r_iload_n E dX4_isDigRefused_54 rfl ?_
          refine r_callV1 (v1 := .int (bI (sNext (S.2 1) c (nI j)))) E (ct_X4_isNextTo G hl m S h0 c (nI j) (by omega)) mX4_isNextTo q2063 q2065 qs48 (fun H a1 => fm_rc (ci := 0) (C := RX4) (T := TX4) (N := 21) a1 rfl E.v mdl_o) rfl rfl (Nat.le_of_ble_eq_true rfl) (Nat.le_of_ble_eq_true rfl) (Nat.le_of_ble_eq_true rfl) dX4_isDigRefused_55 0 0 (Nat.le_of_ble_eq_true rfl) (Nat.le_of_ble_eq_true rfl) ?_
          refine r_ifB_ne (b := sNext (S.2 1) c (nI j)) (tgt := 65) E dX4_isDigRefused_58 (by decide) (fun c8 => ?_) (fun c8 => ?_)
          · refine r_iconst E (nI 0) dX4_isDigRefused_65 (by decide) ?_
            refine r_top (v' := .int (bI (!sNext (S.2 1) c (nI j)))) (by rw [show (!sNext (S.2 1) c (nI j)) = false by simp [c8]]; rfl) ?_
            exact j7
          · refine r_iconst E (nI 1) dX4_isDigRefused_61 (by decide) ?_
            refine r_goto (tgt := 66) E dX4_isDigRefused_62 (by decide) ?_
            refine r_top (v' := .int (bI (!sNext (S.2 1) c (nI j)))) (by rw [show (!sNext (S.2 1) c (nI j)) = true by simp [c8]]; rfl) ?_
            exact j7
        refine r_iconst E (nI 2) dX4_isDigRefused_66 (by decide) ?_
        refine r_iload_n E dX4_isDigRefused_67 rfl ?_
        refine r_callV1 (v1 := .int (bI (!sNext (S.2 1) c (nI j)))) E (ct_X4_refuse G hl m S h0 (!sNext (S.2 1) c (nI j)) (nI 2) (nI c)) mX4_refuse q1973 q1975 qs35 (fun H a1 => fm_rc (ci := 0) (C := RX4) (T := TX4) (N := 21) a1 rfl E.v mdl_o) rfl rfl (Nat.le_of_ble_eq_true rfl) (Nat.le_of_ble_eq_true rfl) (Nat.le_of_ble_eq_true rfl) dX4_isDigRefused_68 0 0 (Nat.le_of_ble_eq_true rfl) (Nat.le_of_ble_eq_true rfl) ?_
        refine r_ifB_ne (b := !sNext (S.2 1) c (nI j)) (tgt := 83) E dX4_isDigRefused_71 (by decide) (fun c9 => ?_) (fun c9 => ?_)
        · refine r_hp (h' := mdl m (refO S.1 (some ((nI 2), (nI c))), S.2) h0) (by rw [refF_p c9]) ?_
          have hs : sDigRef (S.2 1) j c false K pk = some ((nI 2), (nI c)) := (sChk_f c3).trans ((sChk_f c6).trans (sChk_t c9))
          refine r_iconst E (nI 1) dX4_isDigRefused_83 (by decide) ?_
          refine r_top (v' := .int (bI true)) rfl ?_
          exact r_zreturn E P rfl dX4_isDigRefused_84 ⟨by rw [hs]; rfl, by rw [hs]⟩
        · refine r_hp (h' := mdl m S h0) (by rw [refF_n c9]) ?_
          refine r_aload_n E dX4_isDigRefused_74 rfl ?_
          refine r_iload_n E dX4_isDigRefused_75 rfl ?_
          refine r_iload_n E dX4_isDigRefused_76 rfl ?_
          refine r_callV1 (v1 := .int (bI ((sMeet (S.2 1) c (nI j) K).isSome))) E (ct_X4_isBesideOther G hl m S h0 c (nI j) K hK hK8 (by omega)) mX4_isBesideOther q2075 q2077 qs50 (fun H a1 => fm_rc (ci := 0) (C := RX4) (T := TX4) (N := 21) a1 rfl E.v mdl_o) rfl rfl (Nat.le_of_ble_eq_true rfl) (Nat.le_of_ble_eq_true rfl) (Nat.le_of_ble_eq_true rfl) dX4_isDigRefused_77 0 0 (Nat.le_of_ble_eq_true rfl) (Nat.le_of_ble_eq_true rfl) ?_
          refine r_ifB_eq (b := (sMeet (S.2 1) c (nI j) K).isSome) (tgt := 85) E dX4_isDigRefused_80 (by decide) (fun c10 => ?_) (fun c10 => ?_)
          · refine r_hp (h' := mdl m S h0) (by rw [refF_n c10]) ?_
            refine r_aload_n E dX4_isDigRefused_85 rfl ?_
            refine r_iload_n E dX4_isDigRefused_86 rfl ?_
            refine r_ifB_eq (b := false) (tgt := 105) E dX4_isDigRefused_87 (by decide) (fun _ => ?_) (fun c => absurd c (by decide))
            refine r_iconst E (nI 0) dX4_isDigRefused_105 (by decide) ?_
            refine r_top (v' := .int (bI false)) rfl ?_
            refine r_bipush E (nI 7) dX4_isDigRefused_106 (by decide) ?_
            refine r_iconst E (nI 0) dX4_isDigRefused_108 (by decide) ?_
            refine r_callV1 (v1 := .int (bI false)) E (ct_X4_refuse G hl m S h0 (false) (nI 7) (nI 0)) mX4_refuse q1973 q1975 qs35 (fun H a1 => fm_rc (ci := 0) (C := RX4) (T := TX4) (N := 21) a1 rfl E.v mdl_o) rfl rfl (Nat.le_of_ble_eq_true rfl) (Nat.le_of_ble_eq_true rfl) (Nat.le_of_ble_eq_true rfl) dX4_isDigRefused_109 0 0 (Nat.le_of_ble_eq_true rfl) (Nat.le_of_ble_eq_true rfl) ?_
            refine r_hp (h' := mdl m S h0) (by rw [refF_n rfl]) ?_
            refine r_ifB_ne (b := false) (tgt := 135) E dX4_isDigRefused_112 (by decide) (fun c => absurd c (by decide)) (fun _ => ?_)
            refine r_iload_n E dX4_isDigRefused_115 rfl ?_
            refine r_ifB_ne (b := false) (tgt := 127) E dX4_isDigRefused_116 (by decide) (fun c => absurd c (by decide)) (fun _ => ?_)
            refine r_aload_n E dX4_isDigRefused_119 rfl ?_
            refine r_iload_n E dX4_isDigRefused_120 rfl ?_
            refine r_callV1 (v1 := .int (bI (decide ((S.2 1) 355 < nI (sWide (S.2 1) c))))) E (ct_X4_isSpanTooLong G hl m S h0 c (by omega)) mX4_isSpanTooLong q2107 q2109 qs57 (fun H a1 => fm_rc (ci := 0) (C := RX4) (T := TX4) (N := 21) a1 rfl E.v mdl_o) rfl rfl (Nat.le_of_ble_eq_true rfl) (Nat.le_of_ble_eq_true rfl) (Nat.le_of_ble_eq_true rfl) dX4_isDigRefused_121 0 0 (Nat.le_of_ble_eq_true rfl) (Nat.le_of_ble_eq_true rfl) ?_
            refine r_ifB_ne (b := (decide ((S.2 1) 355 < nI (sWide (S.2 1) c)))) (tgt := 135) E dX4_isDigRefused_124 (by decide) (fun c14 => ?_) (fun c14 => ?_)
            · refine r_hp (h' := mdl m (refO S.1 (some ((nI 4), (nI (sWide (S.2 1) c)))), S.2) h0) (by rw [refF_p c14]) ?_
              have hs : sDigRef (S.2 1) j c false K pk = some ((nI 4), (nI (sWide (S.2 1) c))) := (sChk_f c3).trans ((sChk_f c6).trans ((sChk_f c9).trans ((sChk_f c10).trans ((sChk_f rfl).trans (sChk_t c14)))))
              refine r_iconst E (nI 1) dX4_isDigRefused_135 (by decide) ?_
              refine r_goto (tgt := 140) E dX4_isDigRefused_136 (by decide) ?_
              refine r_top (v' := .int (bI true)) rfl ?_
              exact r_zreturn E P rfl dX4_isDigRefused_140 ⟨by rw [hs]; rfl, by rw [hs]⟩
            · refine r_hp (h' := mdl m S h0) (by rw [refF_n c14]) ?_
              refine r_aload_n E dX4_isDigRefused_127 rfl ?_
              refine r_iload_n E dX4_isDigRefused_128 rfl ?_
              refine r_callV1 (v1 := .int (bI ((sPickK (S.2 1) (sStrokes (S.2 1) c) pk).isNone))) E (ct_X4_isTooHard G hl m S h0 c pk hP hP6 (by omega)) mX4_isTooHard q2079 q2081 qs51 (fun H a1 => fm_rc (ci := 0) (C := RX4) (T := TX4) (N := 21) a1 rfl E.v mdl_o) rfl rfl (Nat.le_of_ble_eq_true rfl) (Nat.le_of_ble_eq_true rfl) (Nat.le_of_ble_eq_true rfl) dX4_isDigRefused_129 0 0 (Nat.le_of_ble_eq_true rfl) (Nat.le_of_ble_eq_true rfl) ?_
              refine r_ifB_eq (b := (sPickK (S.2 1) (sStrokes (S.2 1) c) pk).isNone) (tgt := 139) E dX4_isDigRefused_132 (by decide) (fun c15 => ?_) (fun c15 => ?_)
              · refine r_hp (h' := mdl m S h0) (by rw [refF_n c15]) ?_
                have hs : sDigRef (S.2 1) j c false K pk = none := (sChk_f c3).trans ((sChk_f c6).trans ((sChk_f c9).trans ((sChk_f c10).trans ((sChk_f rfl).trans ((sChk_f c14).trans ((sChk_f c15).trans (rfl)))))))
                refine r_iconst E (nI 0) dX4_isDigRefused_139 (by decide) ?_
                refine r_top (v' := .int (bI false)) rfl ?_
                exact r_zreturn E P rfl dX4_isDigRefused_140 ⟨by rw [hs]; rfl, by rw [hs]; rfl⟩
              · refine r_hp (h' := mdl m (refO S.1 (some ((nI 5), (sStrokes (S.2 1) c))), S.2) h0) (by rw [refF_p c15]) ?_
                have hs : sDigRef (S.2 1) j c false K pk = some ((nI 5), (sStrokes (S.2 1) c)) := (sChk_f c3).trans ((sChk_f c6).trans ((sChk_f c9).trans ((sChk_f c10).trans ((sChk_f rfl).trans ((sChk_f c14).trans (sChk_t c15))))))
                refine r_iconst E (nI 1) dX4_isDigRefused_135 (by decide) ?_
                refine r_goto (tgt := 140) E dX4_isDigRefused_136 (by decide) ?_
                refine r_top (v' := .int (bI true)) rfl ?_
                exact r_zreturn E P rfl dX4_isDigRefused_140 ⟨by rw [hs]; rfl, by rw [hs]⟩
          · refine r_hp (h' := mdl m (refO S.1 (some ((nI 3), (cI (sMeet (S.2 1) c (nI j) K)))), S.2) h0) (by rw [refF_p c10]) ?_
            have hs : sDigRef (S.2 1) j c false K pk = some ((nI 3), (cI (sMeet (S.2 1) c (nI j) K))) := (sChk_f c3).trans ((sChk_f c6).trans ((sChk_f c9).trans (sChk_t c10)))
            refine r_iconst E (nI 1) dX4_isDigRefused_83 (by decide) ?_
            refine r_top (v' := .int (bI true)) rfl ?_
            exact r_zreturn E P rfl dX4_isDigRefused_84 ⟨by rw [hs]; rfl, by rw [hs]⟩
  | true =>
    refine r_aload_n E dX4_isDigRefused_0 rfl ?_
    suffices j1 : fmW G Γ (mdl m S h0) 0 0 20 [some (.ref m), some (.int (nI j)), some (.int (nI c)), some (.int (bI true))] [.int (bI (decide ((S.2 1) (328 + j) = nI 1))), .ref m] by
      refine r_aload_n E dX4_isDigRefused_1 rfl ?_
      refine r_getf E cl_X4 1 (by decide) q1887 mdl_o rfl dX4_isDigRefused_2 ?_
      refine r_sipush E (nI 328) dX4_isDigRefused_5 (by decide) ?_
      refine r_iload_n E dX4_isDigRefused_8 rfl ?_
      refine r_iaddN E dX4_isDigRefused_9 ?_
      refine r_iald E mdl_1 (by omega) (by omega) dX4_isDigRefused_10 ?_
      refine r_iconst E (nI 1) dX4_isDigRefused_11 (by decide) ?_
      refine r_icmp_ne (x := (S.2 1) (328 + j)) (y := nI 1) (tgt := 19) E dX4_isDigRefused_12 (by decide) (fun c2 => ?_) (fun c2 => ?_)
      · refine r_iconst E (nI 0) dX4_isDigRefused_19 (by decide) ?_
        refine r_top (v' := .int (bI (decide ((S.2 1) (328 + j) = nI 1)))) (by rw [show (decide ((S.2 1) (328 + j) = nI 1)) = false by simp [c2, nI_1]]; rfl) ?_
        exact j1
      · refine r_iconst E (nI 1) dX4_isDigRefused_15 (by decide) ?_
        refine r_goto (tgt := 20) E dX4_isDigRefused_16 (by decide) ?_
        refine r_top (v' := .int (bI (decide ((S.2 1) (328 + j) = nI 1)))) (by rw [show (decide ((S.2 1) (328 + j) = nI 1)) = true by simp [c2, nI_1]]; rfl) ?_
        exact j1
    refine r_bipush E (nI 6) dX4_isDigRefused_20 (by decide) ?_
    refine r_iload_n E dX4_isDigRefused_22 rfl ?_
    refine r_callV1 (v1 := .int (bI (decide ((S.2 1) (328 + j) = nI 1)))) E (ct_X4_refuse G hl m S h0 (decide ((S.2 1) (328 + j) = nI 1)) (nI 6) (nI j)) mX4_refuse q1973 q1975 qs35 (fun H a1 => fm_rc (ci := 0) (C := RX4) (T := TX4) (N := 21) a1 rfl E.v mdl_o) rfl rfl (Nat.le_of_ble_eq_true rfl) (Nat.le_of_ble_eq_true rfl) (Nat.le_of_ble_eq_true rfl) dX4_isDigRefused_23 0 0 (Nat.le_of_ble_eq_true rfl) (Nat.le_of_ble_eq_true rfl) ?_
    refine r_ifB_ne (b := decide ((S.2 1) (328 + j) = nI 1)) (tgt := 83) E dX4_isDigRefused_26 (by decide) (fun c3 => ?_) (fun c3 => ?_)
    · refine r_hp (h' := mdl m (refO S.1 (some ((nI 6), (nI j))), S.2) h0) (by rw [refF_p c3]) ?_
      have hs : sDigRef (S.2 1) j c true K pk = some ((nI 6), (nI j)) := sChk_t c3
      refine r_iconst E (nI 1) dX4_isDigRefused_83 (by decide) ?_
      refine r_top (v' := .int (bI true)) rfl ?_
      exact r_zreturn E P rfl dX4_isDigRefused_84 ⟨by rw [hs]; rfl, by rw [hs]⟩
    · refine r_hp (h' := mdl m S h0) (by rw [refF_n c3]) ?_
      refine r_aload_n E dX4_isDigRefused_29 rfl ?_
      suffices j4 : fmW G Γ (mdl m S h0) 0 0 43 [some (.ref m), some (.int (nI j)), some (.int (nI c)), some (.int (bI true))] [.int (bI (!sChalk (S.2 1) c)), .ref m] by
        refine r_aload_n E dX4_isDigRefused_30 rfl ?_
        refine r_iload_n E dX4_isDigRefused_31 rfl ?_
        refine r_callV1 (v1 := .int (bI (sChalk (S.2 1) c))) E (ct_X4_isChalk G hl m S h0 c (by omega)) mX4_isChalk q1969 q1971 qs34 (fun H a1 => fm_rc (ci := 0) (C := RX4) (T := TX4) (N := 21) a1 rfl E.v mdl_o) rfl rfl (Nat.le_of_ble_eq_true rfl) (Nat.le_of_ble_eq_true rfl) (Nat.le_of_ble_eq_true rfl) dX4_isDigRefused_32 0 0 (Nat.le_of_ble_eq_true rfl) (Nat.le_of_ble_eq_true rfl) ?_
        refine r_ifB_ne (b := sChalk (S.2 1) c) (tgt := 42) E dX4_isDigRefused_35 (by decide) (fun c5 => ?_) (fun c5 => ?_)
        · refine r_iconst E (nI 0) dX4_isDigRefused_42 (by decide) ?_
          refine r_top (v' := .int (bI (!sChalk (S.2 1) c))) (by rw [show (!sChalk (S.2 1) c) = false by simp [c5]]; rfl) ?_
          exact j4
        · refine r_iconst E (nI 1) dX4_isDigRefused_38 (by decide) ?_
          refine r_goto (tgt := 43) E dX4_isDigRefused_39 (by decide) ?_
          refine r_top (v' := .int (bI (!sChalk (S.2 1) c))) (by rw [show (!sChalk (S.2 1) c) = true by simp [c5]]; rfl) ?_
          exact j4
      refine r_iconst E (nI 1) dX4_isDigRefused_43 (by decide) ?_
      refine r_iload_n E dX4_isDigRefused_44 rfl ?_
      refine r_callV1 (v1 := .int (bI (!sChalk (S.2 1) c))) E (ct_X4_refuse G hl m S h0 (!sChalk (S.2 1) c) (nI 1) (nI c)) mX4_refuse q1973 q1975 qs35 (fun H a1 => fm_rc (ci := 0) (C := RX4) (T := TX4) (N := 21) a1 rfl E.v mdl_o) rfl rfl (Nat.le_of_ble_eq_true rfl) (Nat.le_of_ble_eq_true rfl) (Nat.le_of_ble_eq_true rfl) dX4_isDigRefused_45 0 0 (Nat.le_of_ble_eq_true rfl) (Nat.le_of_ble_eq_true rfl) ?_
      refine r_ifB_ne (b := !sChalk (S.2 1) c) (tgt := 83) E dX4_isDigRefused_48 (by decide) (fun c6 => ?_) (fun c6 => ?_)
      · refine r_hp (h' := mdl m (refO S.1 (some ((nI 1), (nI c))), S.2) h0) (by rw [refF_p c6]) ?_
        have hs : sDigRef (S.2 1) j c true K pk = some ((nI 1), (nI c)) := (sChk_f c3).trans (sChk_t c6)
        refine r_iconst E (nI 1) dX4_isDigRefused_83 (by decide) ?_
        refine r_top (v' := .int (bI true)) rfl ?_
        exact r_zreturn E P rfl dX4_isDigRefused_84 ⟨by rw [hs]; rfl, by rw [hs]⟩
      · refine r_hp (h' := mdl m S h0) (by rw [refF_n c6]) ?_
        refine r_aload_n E dX4_isDigRefused_51 rfl ?_
        suffices j7 : fmW G Γ (mdl m S h0) 0 0 66 [some (.ref m), some (.int (nI j)), some (.int (nI c)), some (.int (bI true))] [.int (bI (!sNext (S.2 1) c (nI j))), .ref m] by
          refine r_aload_n E dX4_isDigRefused_52 rfl ?_
          refine r_iload_n E dX4_isDigRefused_53 rfl ?_
          refine r_iload_n E dX4_isDigRefused_54 rfl ?_
          refine r_callV1 (v1 := .int (bI (sNext (S.2 1) c (nI j)))) E (ct_X4_isNextTo G hl m S h0 c (nI j) (by omega)) mX4_isNextTo q2063 q2065 qs48 (fun H a1 => fm_rc (ci := 0) (C := RX4) (T := TX4) (N := 21) a1 rfl E.v mdl_o) rfl rfl (Nat.le_of_ble_eq_true rfl) (Nat.le_of_ble_eq_true rfl) (Nat.le_of_ble_eq_true rfl) dX4_isDigRefused_55 0 0 (Nat.le_of_ble_eq_true rfl) (Nat.le_of_ble_eq_true rfl) ?_
          refine r_ifB_ne (b := sNext (S.2 1) c (nI j)) (tgt := 65) E dX4_isDigRefused_58 (by decide) (fun c8 => ?_) (fun c8 => ?_)
          · refine r_iconst E (nI 0) dX4_isDigRefused_65 (by decide) ?_
            refine r_top (v' := .int (bI (!sNext (S.2 1) c (nI j)))) (by rw [show (!sNext (S.2 1) c (nI j)) = false by simp [c8]]; rfl) ?_
            exact j7
          · refine r_iconst E (nI 1) dX4_isDigRefused_61 (by decide) ?_
            refine r_goto (tgt := 66) E dX4_isDigRefused_62 (by decide) ?_
            refine r_top (v' := .int (bI (!sNext (S.2 1) c (nI j)))) (by rw [show (!sNext (S.2 1) c (nI j)) = true by simp [c8]]; rfl) ?_
            exact j7
        refine r_iconst E (nI 2) dX4_isDigRefused_66 (by decide) ?_
        refine r_iload_n E dX4_isDigRefused_67 rfl ?_
        refine r_callV1 (v1 := .int (bI (!sNext (S.2 1) c (nI j)))) E (ct_X4_refuse G hl m S h0 (!sNext (S.2 1) c (nI j)) (nI 2) (nI c)) mX4_refuse q1973 q1975 qs35 (fun H a1 => fm_rc (ci := 0) (C := RX4) (T := TX4) (N := 21) a1 rfl E.v mdl_o) rfl rfl (Nat.le_of_ble_eq_true rfl) (Nat.le_of_ble_eq_true rfl) (Nat.le_of_ble_eq_true rfl) dX4_isDigRefused_68 0 0 (Nat.le_of_ble_eq_true rfl) (Nat.le_of_ble_eq_true rfl) ?_
        refine r_ifB_ne (b := !sNext (S.2 1) c (nI j)) (tgt := 83) E dX4_isDigRefused_71 (by decide) (fun c9 => ?_) (fun c9 => ?_)
        · refine r_hp (h' := mdl m (refO S.1 (some ((nI 2), (nI c))), S.2) h0) (by rw [refF_p c9]) ?_
          have hs : sDigRef (S.2 1) j c true K pk = some ((nI 2), (nI c)) := (sChk_f c3).trans ((sChk_f c6).trans (sChk_t c9))
          refine r_iconst E (nI 1) dX4_isDigRefused_83 (by decide) ?_
          refine r_top (v' := .int (bI true)) rfl ?_
          exact r_zreturn E P rfl dX4_isDigRefused_84 ⟨by rw [hs]; rfl, by rw [hs]⟩
        · refine r_hp (h' := mdl m S h0) (by rw [refF_n c9]) ?_
          refine r_aload_n E dX4_isDigRefused_74 rfl ?_
          refine r_iload_n E dX4_isDigRefused_75 rfl ?_
          refine r_iload_n E dX4_isDigRefused_76 rfl ?_
          refine r_callV1 (v1 := .int (bI ((sMeet (S.2 1) c (nI j) K).isSome))) E (ct_X4_isBesideOther G hl m S h0 c (nI j) K hK hK8 (by omega)) mX4_isBesideOther q2075 q2077 qs50 (fun H a1 => fm_rc (ci := 0) (C := RX4) (T := TX4) (N := 21) a1 rfl E.v mdl_o) rfl rfl (Nat.le_of_ble_eq_true rfl) (Nat.le_of_ble_eq_true rfl) (Nat.le_of_ble_eq_true rfl) dX4_isDigRefused_77 0 0 (Nat.le_of_ble_eq_true rfl) (Nat.le_of_ble_eq_true rfl) ?_
          refine r_ifB_eq (b := (sMeet (S.2 1) c (nI j) K).isSome) (tgt := 85) E dX4_isDigRefused_80 (by decide) (fun c10 => ?_) (fun c10 => ?_)
          · refine r_hp (h' := mdl m S h0) (by rw [refF_n c10]) ?_
            refine r_aload_n E dX4_isDigRefused_85 rfl ?_
            refine r_iload_n E dX4_isDigRefused_86 rfl ?_
            refine r_ifB_eq (b := true) (tgt := 105) E dX4_isDigRefused_87 (by decide) (fun c => absurd c (by decide)) (fun _ => ?_)
            suffices j12 : fmW G Γ (mdl m S h0) 0 0 106 [some (.ref m), some (.int (nI j)), some (.int (nI c)), some (.int (bI true))] [.int (bI (decide ((S.2 1) 352 = nI 0))), .ref m] by
              refine r_aload_n E dX4_isDigRefused_90 rfl ?_
              refine r_getf E cl_X4 1 (by decide) q1887 mdl_o rfl dX4_isDigRefused_91 ?_
              refine r_sipush E (nI 352) dX4_isDigRefused_94 (by decide) ?_
              refine r_iald E mdl_1 (by omega) (by omega) dX4_isDigRefused_97 ?_
              refine r_if_ne (tgt := 105) E dX4_isDigRefused_98 (by decide) (fun c13 => ?_) (fun c13 => ?_)
              · refine r_iconst E (nI 0) dX4_isDigRefused_105 (by decide) ?_
                refine r_top (v' := .int (bI (decide ((S.2 1) 352 = nI 0)))) (by rw [show (decide ((S.2 1) 352 = nI 0)) = false by simp [c13, nI_0]]; rfl) ?_
                exact j12
              · refine r_iconst E (nI 1) dX4_isDigRefused_101 (by decide) ?_
                refine r_goto (tgt := 106) E dX4_isDigRefused_102 (by decide) ?_
                refine r_top (v' := .int (bI (decide ((S.2 1) 352 = nI 0)))) (by rw [show (decide ((S.2 1) 352 = nI 0)) = true by simp [c13, nI_0]]; rfl) ?_
                exact j12
            refine r_bipush E (nI 7) dX4_isDigRefused_106 (by decide) ?_
            refine r_iconst E (nI 0) dX4_isDigRefused_108 (by decide) ?_
            refine r_callV1 (v1 := .int (bI (decide ((S.2 1) 352 = nI 0)))) E (ct_X4_refuse G hl m S h0 (decide ((S.2 1) 352 = nI 0)) (nI 7) (nI 0)) mX4_refuse q1973 q1975 qs35 (fun H a1 => fm_rc (ci := 0) (C := RX4) (T := TX4) (N := 21) a1 rfl E.v mdl_o) rfl rfl (Nat.le_of_ble_eq_true rfl) (Nat.le_of_ble_eq_true rfl) (Nat.le_of_ble_eq_true rfl) dX4_isDigRefused_109 0 0 (Nat.le_of_ble_eq_true rfl) (Nat.le_of_ble_eq_true rfl) ?_
            refine r_ifB_ne (b := decide ((S.2 1) 352 = nI 0)) (tgt := 135) E dX4_isDigRefused_112 (by decide) (fun c14 => ?_) (fun c14 => ?_)
            · refine r_hp (h' := mdl m (refO S.1 (some ((nI 7), (nI 0))), S.2) h0) (by rw [refF_p c14]) ?_
              have hs : sDigRef (S.2 1) j c true K pk = some ((nI 7), (nI 0)) := (sChk_f c3).trans ((sChk_f c6).trans ((sChk_f c9).trans ((sChk_f c10).trans (sChk_t c14))))
              refine r_iconst E (nI 1) dX4_isDigRefused_135 (by decide) ?_
              refine r_goto (tgt := 140) E dX4_isDigRefused_136 (by decide) ?_
              refine r_top (v' := .int (bI true)) rfl ?_
              exact r_zreturn E P rfl dX4_isDigRefused_140 ⟨by rw [hs]; rfl, by rw [hs]⟩
            · refine r_hp (h' := mdl m S h0) (by rw [refF_n c14]) ?_
              refine r_iload_n E dX4_isDigRefused_115 rfl ?_
              refine r_ifB_ne (b := true) (tgt := 127) E dX4_isDigRefused_116 (by decide) (fun _ => ?_) (fun c => absurd c (by decide))
              refine r_aload_n E dX4_isDigRefused_127 rfl ?_
              refine r_iload_n E dX4_isDigRefused_128 rfl ?_
              refine r_callV1 (v1 := .int (bI ((sPickK (S.2 1) (sStrokes (S.2 1) c) pk).isNone))) E (ct_X4_isTooHard G hl m S h0 c pk hP hP6 (by omega)) mX4_isTooHard q2079 q2081 qs51 (fun H a1 => fm_rc (ci := 0) (C := RX4) (T := TX4) (N := 21) a1 rfl E.v mdl_o) rfl rfl (Nat.le_of_ble_eq_true rfl) (Nat.le_of_ble_eq_true rfl) (Nat.le_of_ble_eq_true rfl) dX4_isDigRefused_129 0 0 (Nat.le_of_ble_eq_true rfl) (Nat.le_of_ble_eq_true rfl) ?_
              refine r_ifB_eq (b := (sPickK (S.2 1) (sStrokes (S.2 1) c) pk).isNone) (tgt := 139) E dX4_isDigRefused_132 (by decide) (fun c16 => ?_) (fun c16 => ?_)
              · refine r_hp (h' := mdl m S h0) (by rw [refF_n c16]) ?_
                have hs : sDigRef (S.2 1) j c true K pk = none := (sChk_f c3).trans ((sChk_f c6).trans ((sChk_f c9).trans ((sChk_f c10).trans ((sChk_f c14).trans ((sChk_f rfl).trans ((sChk_f c16).trans (rfl)))))))
                refine r_iconst E (nI 0) dX4_isDigRefused_139 (by decide) ?_
                refine r_top (v' := .int (bI false)) rfl ?_
                exact r_zreturn E P rfl dX4_isDigRefused_140 ⟨by rw [hs]; rfl, by rw [hs]; rfl⟩
              · refine r_hp (h' := mdl m (refO S.1 (some ((nI 5), (sStrokes (S.2 1) c))), S.2) h0) (by rw [refF_p c16]) ?_
                have hs : sDigRef (S.2 1) j c true K pk = some ((nI 5), (sStrokes (S.2 1) c)) := (sChk_f c3).trans ((sChk_f c6).trans ((sChk_f c9).trans ((sChk_f c10).trans ((sChk_f c14).trans ((sChk_f rfl).trans (sChk_t c16))))))
                refine r_iconst E (nI 1) dX4_isDigRefused_135 (by decide) ?_
                refine r_goto (tgt := 140) E dX4_isDigRefused_136 (by decide) ?_
                refine r_top (v' := .int (bI true)) rfl ?_
                exact r_zreturn E P rfl dX4_isDigRefused_140 ⟨by rw [hs]; rfl, by rw [hs]⟩
          · refine r_hp (h' := mdl m (refO S.1 (some ((nI 3), (cI (sMeet (S.2 1) c (nI j) K)))), S.2) h0) (by rw [refF_p c10]) ?_
            have hs : sDigRef (S.2 1) j c true K pk = some ((nI 3), (cI (sMeet (S.2 1) c (nI j) K))) := (sChk_f c3).trans ((sChk_f c6).trans ((sChk_f c9).trans (sChk_t c10)))
            refine r_iconst E (nI 1) dX4_isDigRefused_83 (by decide) ?_
            refine r_top (v' := .int (bI true)) rfl ?_
            exact r_zreturn E P rfl dX4_isDigRefused_84 ⟨by rw [hs]; rfl, by rw [hs]⟩

set_option maxHeartbeats 4000000 in
theorem ct_X4_addProps (G : fmG) (hl : (fmLn G).stackTraces = false) (m : Nat) (S : MSt) (h0 : fmHp) (n : Int32) : Ct G yX4_addProps (ws_ yX4_addProps cX4_addProps 2 none) { frames := 0, cells := 0, slots := 0, locals := 0 } [.ref m, .int n] (mdl m S h0) (fmRet none (mdl m (S.1, va_up S.2 1 (sAddP (S.2 1) n)) h0)) fmNo := by
  refine Ct.of hl (by decide +kernel) (Nat.le_of_ble_eq_true rfl) (fun Γ E P => ?_)
  refine r_aload_n E dX4_addProps_0 rfl ?_
  refine r_getf E cl_X4 1 (by decide) q1887 mdl_o rfl dX4_addProps_1 ?_
  refine r_sipush E (nI 352) dX4_addProps_4 (by decide) ?_
  suffices j1 : fmW G Γ (mdl m S h0) 0 0 37 [some (.ref m), some (.int n)] [.int (if nI 99 < S.2 1 352 + n then nI 99 else S.2 1 352 + n), .int (nI 352), .ref (m + 1)] by
    refine r_aload_n E dX4_addProps_7 rfl ?_
    refine r_getf E cl_X4 1 (by decide) q1887 mdl_o rfl dX4_addProps_8 ?_
    refine r_sipush E (nI 352) dX4_addProps_11 (by decide) ?_
    refine r_iald E mdl_1 (by omega) (by omega) dX4_addProps_14 ?_
    refine r_iload_n E dX4_addProps_15 rfl ?_
    refine r_iadd E dX4_addProps_16 ?_
    refine r_bipush E (nI 99) dX4_addProps_17 (by decide) ?_
    refine r_icmp_le (x := ((S.2 1) 352) + n) (y := nI 99) (tgt := 27) E dX4_addProps_19 (by decide) (fun c2 => ?_) (fun c2 => ?_)
    · refine r_aload_n E dX4_addProps_27 rfl ?_
      refine r_getf E cl_X4 1 (by decide) q1887 mdl_o rfl dX4_addProps_28 ?_
      refine r_sipush E (nI 352) dX4_addProps_31 (by decide) ?_
      refine r_iald E mdl_1 (by omega) (by omega) dX4_addProps_34 ?_
      refine r_iload_n E dX4_addProps_35 rfl ?_
      refine r_iadd E dX4_addProps_36 ?_
      refine r_top (v' := .int (if nI 99 < S.2 1 352 + n then nI 99 else S.2 1 352 + n)) (congrArg Value.int ((if_neg (Int32.not_lt.mpr c2)).symm)) ?_
      exact j1
    · refine r_bipush E (nI 99) dX4_addProps_22 (by decide) ?_
      refine r_goto (tgt := 37) E dX4_addProps_24 (by decide) ?_
      refine r_top (v' := .int (if nI 99 < S.2 1 352 + n then nI 99 else S.2 1 352 + n)) (congrArg Value.int ((if_pos (Int32.not_le.mp c2)).symm)) ?_
      exact j1
  refine r_iast E mdl_1 (by omega) (by omega) dX4_addProps_37 ?_
  refine r_hp (h' := mdl m (S.1, va_up S.2 1 (upd (S.2 1) 352 (if nI 99 < S.2 1 352 + n then nI 99 else S.2 1 352 + n))) h0) (mdl_a1 _) ?_
  exact r_return E P rfl dX4_addProps_38 ⟨rfl, rfl⟩

set_option maxHeartbeats 4000000 in
theorem ct_X4_copyRow (G : fmG) (hl : (fmLn G).stackTraces = false) (h : fmHp) (a b : Nat) (fl : Bool) (f g : Nat → Int32) (ha : h a = some (fl, .inl (0, 356, .inl f))) (hb : h b = some (true, .inl (0, 356, .inl g))) (hab : a ≠ b) : Ct G yX4_copyRow (ws_ yX4_copyRow cX4_copyRow 3 none) { frames := 0, cells := 0, slots := 0, locals := 0 } [.ref a, .ref b] h (fmRet none (fmUp h b (true, .inl (0, 356, .inl f)))) fmNo := by
  refine Ct.of hl (by decide +kernel) (Nat.le_of_ble_eq_true rfl) (fun Γ E P => ?_)
  refine r_iconst E (nI 0) dX4_copyRow_0 (by decide) ?_
  refine r_istore_n E [some (.ref a), some (.ref b), some (.int (nI 0))] dX4_copyRow_1 rfl rfl ?_
  refine r_hp (h' := fmUp h b (true, .inl (0, 356, .inl (sCop f g 0)))) (by rw [sCop_0]; exact (fmUp_id hb).symm) ?_
  have lp : ∀ (n i : Nat), i + n = 356 → fmW G Γ (fmUp h b (true, .inl (0, 356, .inl (sCop f g i)))) 0 0 2 [some (.ref a), some (.ref b), some (.int (nI i))] [] := by
    intro n
    induction n with
    | zero =>
      intro i hi
      refine r_iload_n E dX4_copyRow_2 rfl ?_
      refine r_sipush E (nI 356) dX4_copyRow_3 (by decide) ?_
      refine r_icmpN_ge (tgt := 21) E dX4_copyRow_6 (by decide) (by omega) (by omega) (fun c1 => ?_) (fun c1 => ?_)
      · obtain rfl : i = 356 := by omega
        refine r_arx f fmUp_s (fun j hj => if_pos hj) ?_
        exact r_return E P rfl dX4_copyRow_21 ⟨rfl, fmUp_uu _ _ _ _⟩
      · exfalso; omega
    | succ n ih =>
      intro i hi
      refine r_iload_n E dX4_copyRow_2 rfl ?_
      refine r_sipush E (nI 356) dX4_copyRow_3 (by decide) ?_
      refine r_icmpN_ge (tgt := 21) E dX4_copyRow_6 (by decide) (by omega) (by omega) (fun c1 => ?_) (fun c1 => ?_)
      · exfalso; omega
      · refine r_aload_n E dX4_copyRow_9 rfl ?_
        refine r_iload_n E dX4_copyRow_10 rfl ?_
        refine r_aload_n E dX4_copyRow_11 rfl ?_
        refine r_iload_n E dX4_copyRow_12 rfl ?_
        refine r_iald E ((fmUp_n hab).trans ha) (by omega) (by omega) dX4_copyRow_13 ?_
        refine r_iast E fmUp_s (by omega) (by omega) dX4_copyRow_14 ?_
        refine r_hp (h' := fmUp h b (true, .inl (0, 356, .inl (sCop f g (i + 1))))) (by rw [fmUp_uu, sCop_1]) ?_
        refine r_iinc E (nI (i + 1)) [some (.ref a), some (.ref b), some (.int (nI (i + 1)))] dX4_copyRow_15 rfl (nI_1 i) rfl rfl ?_
        refine r_goto (tgt := 2) E dX4_copyRow_18 (by decide) ?_
        exact ih (i + 1) (by omega)
  exact lp 356 0 (by omega)

set_option maxHeartbeats 4000000 in
theorem ct_X4_remember_1 (G : fmG) (hl : (fmLn G).stackTraces = false) (m : Nat) (S : MSt) (h0 : fmHp) (kp : Nat) (h4 : S.1 4 = nI kp) (hk8 : kp ≤ 8) : Ct G yX4_remember (ws_ yX4_remember cX4_remember 3 none) { frames := 1, cells := 0, slots := 0, locals := 30 } [.ref m, .ref (m + 1)] (mdl m S h0) (fmRet none (mdl m (sRem S (S.2 1) kp) h0)) fmNo := by
  refine Ct.of hl (by decide +kernel) (Nat.le_of_ble_eq_true rfl) (fun Γ E P => ?_)
  by_cases e8 : kp = 8
  · subst e8
    refine r_aload_n E dX4_remember_0 rfl ?_
    refine r_getf E cl_X4 4 (by decide) q1890 mdl_o rfl dX4_remember_1 ?_
    refine r_top (v' := .int (nI 8)) (congrArg Value.int h4) ?_
    refine r_bipush E (nI 8) dX4_remember_4 (by decide) ?_
    refine r_icmpN_ne (tgt := 52) E dX4_remember_6 (by decide) (by omega) (by omega) (fun c => absurd rfl c) (fun _ => ?_)
    refine r_aload_n E dX4_remember_9 rfl ?_
    refine r_dup E dX4_remember_10 rfl ?_
    refine r_getf E cl_X4 4 (by decide) q1890 mdl_o rfl dX4_remember_11 ?_
    refine r_top (v' := .int (nI 8)) (congrArg Value.int h4) ?_
    refine r_iconst E (nI 1) dX4_remember_14 (by decide) ?_
    refine r_isubN E dX4_remember_15 (by omega) ?_
    refine r_putf E cl_X4 4 (by decide) rfl q1890 (fun _ z => z) mdl_o (Nat.le_of_ble_eq_true rfl) rfl rfl dX4_remember_16 ?_
    refine r_hp (h' := mdl m (upd S.1 4 (nI (8 - 1)), S.2) h0) (mdl_s4 _) ?_
    refine r_iconst E (nI 0) dX4_remember_19 (by decide) ?_
    refine r_istore_n E [some (.ref m), some (.ref (m + 1)), some (.int (nI 0))] dX4_remember_20 rfl rfl ?_
    refine r_hp (h' := mdl m (upd S.1 4 (nI (8 - 1)), sShH S.2 0) h0) (by rw [sShH_0]) ?_
    have lp1 : ∀ (n1 i1 : Nat), i1 + n1 = 7 → fmW G Γ (mdl m (upd S.1 4 (nI (8 - 1)), sShH S.2 i1) h0) 0 0 21 [some (.ref m), some (.ref (m + 1)), some (.int (nI i1))] [] := by
      intro n1
      induction n1 with
      | zero =>
        intro i1 hi1
        refine r_iload_n E dX4_remember_21 rfl ?_
        refine r_aload_n E dX4_remember_22 rfl ?_
        refine r_getf E cl_X4 4 (by decide) q1890 mdl_o rfl dX4_remember_23 ?_
        refine r_top (v' := .int (nI 7)) (congrArg Value.int rfl) ?_
        refine r_icmpN_ge (tgt := 52) E dX4_remember_26 (by decide) (by omega) (by omega) (fun c2 => ?_) (fun c2 => ?_)
        · obtain rfl : i1 = 7 := by omega
          refine r_aload_n E dX4_remember_52 rfl ?_
          refine r_aload_n E dX4_remember_53 rfl ?_
          refine r_getf E cl_X4 3 (by decide) q1889 mdl_o rfl dX4_remember_54 ?_
          refine r_aload_n E dX4_remember_57 rfl ?_
          refine r_getf E cl_X4 4 (by decide) q1890 mdl_o rfl dX4_remember_58 ?_
          refine r_top (v' := .int (nI 7)) (congrArg Value.int rfl) ?_
          refine r_aald E mdl_3 rfl rfl (by omega) (by omega) dX4_remember_61 ?_
          refine r_callS0 E (ct_X4_copyRow G hl (mdl m (upd S.1 4 (nI (8 - 1)), sShH S.2 7) h0) (m + 1) (m + 4 + 7) true (S.2 1) ((sShH S.2 7) (4 + 7)) mdl_1 (mdl_r (by omega)) (by omega)) mX4_copyRow q89 q1981 q1982 rfl rfl (Nat.le_of_ble_eq_true rfl) (Nat.le_of_ble_eq_true rfl) (Nat.le_of_ble_eq_true rfl) dX4_remember_62 0 0 (Nat.le_of_ble_eq_true rfl) (Nat.le_of_ble_eq_true rfl) ?_
          refine r_hp (h' := mdl m (upd S.1 4 (nI (8 - 1)), va_up (sShH S.2 7) (4 + 7) (S.2 1)) h0) (mdl_ur (by omega) _) ?_
          refine r_aload_n E dX4_remember_65 rfl ?_
          refine r_dup E dX4_remember_66 rfl ?_
          refine r_getf E cl_X4 4 (by decide) q1890 mdl_o rfl dX4_remember_67 ?_
          refine r_top (v' := .int (nI 7)) (congrArg Value.int rfl) ?_
          refine r_iconst E (nI 1) dX4_remember_70 (by decide) ?_
          refine r_iaddN E dX4_remember_71 ?_
          refine r_putf E cl_X4 4 (by decide) rfl q1890 (fun _ z => z) mdl_o (Nat.le_of_ble_eq_true rfl) rfl rfl dX4_remember_72 ?_
          refine r_hp (h' := mdl m (upd (upd S.1 4 (nI (8 - 1))) 4 (nI (7 + 1)), va_up (sShH S.2 7) (4 + 7) (S.2 1)) h0) (mdl_s4 _) ?_
          exact r_return E P rfl dX4_remember_75 ⟨rfl, by rw [sShH_7]; show mdl m (upd (upd S.1 4 _) 4 _, _) h0 = mdl m (upd S.1 4 _, _) h0; rw [upd_uu]; rfl⟩
        · exfalso; omega
      | succ n1 ih =>
        intro i1 hi1
        refine r_iload_n E dX4_remember_21 rfl ?_
        refine r_aload_n E dX4_remember_22 rfl ?_
        refine r_getf E cl_X4 4 (by decide) q1890 mdl_o rfl dX4_remember_23 ?_
        refine r_top (v' := .int (nI 7)) (congrArg Value.int rfl) ?_
        refine r_icmpN_ge (tgt := 52) E dX4_remember_26 (by decide) (by omega) (by omega) (fun c3 => ?_) (fun c3 => ?_)
        · exfalso; omega
        · refine r_aload_n E dX4_remember_29 rfl ?_
          refine r_getf E cl_X4 3 (by decide) q1889 mdl_o rfl dX4_remember_30 ?_
          refine r_iload_n E dX4_remember_33 rfl ?_
          refine r_iconst E (nI 1) dX4_remember_34 (by decide) ?_
          refine r_iaddN E dX4_remember_35 ?_
          refine r_aald E mdl_3 rfl rfl (by omega) (by omega) dX4_remember_36 ?_
          refine r_aload_n E dX4_remember_37 rfl ?_
          refine r_getf E cl_X4 3 (by decide) q1889 mdl_o rfl dX4_remember_38 ?_
          refine r_iload_n E dX4_remember_41 rfl ?_
          refine r_aald E mdl_3 rfl rfl (by omega) (by omega) dX4_remember_42 ?_
          refine r_callS0 E (ct_X4_copyRow G hl (mdl m (upd S.1 4 (nI (8 - 1)), sShH S.2 i1) h0) (m + 4 + (i1 + 1)) (m + 4 + i1) true ((sShH S.2 i1) (4 + (i1 + 1))) ((sShH S.2 i1) (4 + i1)) (mdl_r (by omega)) (mdl_r (by omega)) (by omega)) mX4_copyRow q89 q1981 q1982 rfl rfl (Nat.le_of_ble_eq_true rfl) (Nat.le_of_ble_eq_true rfl) (Nat.le_of_ble_eq_true rfl) dX4_remember_43 0 0 (Nat.le_of_ble_eq_true rfl) (Nat.le_of_ble_eq_true rfl) ?_
          refine r_hp (h' := mdl m (upd S.1 4 (nI (8 - 1)), sShH S.2 (i1 + 1)) h0) ((mdl_ur (by omega) _).trans (by rw [sShH_1])) ?_
          refine r_iinc E (nI (i1 + 1)) [some (.ref m), some (.ref (m + 1)), some (.int (nI (i1 + 1)))] dX4_remember_46 rfl (nI_1 i1) rfl rfl ?_
          refine r_goto (tgt := 21) E dX4_remember_49 (by decide) ?_
          exact ih (i1 + 1) (by omega)
    exact lp1 7 0 (by omega)
  · have e7 : kp < 8 := by omega
    refine r_aload_n E dX4_remember_0 rfl ?_
    refine r_getf E cl_X4 4 (by decide) q1890 mdl_o rfl dX4_remember_1 ?_
    refine r_top (v' := .int (nI kp)) (congrArg Value.int h4) ?_
    refine r_bipush E (nI 8) dX4_remember_4 (by decide) ?_
    refine r_icmpN_ne (tgt := 52) E dX4_remember_6 (by decide) (by omega) (by omega) (fun _ => ?_) (fun c => absurd c (by omega))
    refine r_aload_n E dX4_remember_52 rfl ?_
    refine r_aload_n E dX4_remember_53 rfl ?_
    refine r_getf E cl_X4 3 (by decide) q1889 mdl_o rfl dX4_remember_54 ?_
    refine r_aload_n E dX4_remember_57 rfl ?_
    refine r_getf E cl_X4 4 (by decide) q1890 mdl_o rfl dX4_remember_58 ?_
    refine r_top (v' := .int (nI kp)) (congrArg Value.int h4) ?_
    refine r_aald E mdl_3 rfl rfl (by omega) (by omega) dX4_remember_61 ?_
    refine r_callS0 E (ct_X4_copyRow G hl (mdl m S h0) (m + 1) (m + 4 + kp) true (S.2 1) (S.2 (4 + kp)) mdl_1 (mdl_r (by omega)) (by omega)) mX4_copyRow q89 q1981 q1982 rfl rfl (Nat.le_of_ble_eq_true rfl) (Nat.le_of_ble_eq_true rfl) (Nat.le_of_ble_eq_true rfl) dX4_remember_62 0 0 (Nat.le_of_ble_eq_true rfl) (Nat.le_of_ble_eq_true rfl) ?_
    refine r_hp (h' := mdl m (S.1, va_up S.2 (4 + kp) (S.2 1)) h0) (mdl_ur (by omega) _) ?_
    refine r_aload_n E dX4_remember_65 rfl ?_
    refine r_dup E dX4_remember_66 rfl ?_
    refine r_getf E cl_X4 4 (by decide) q1890 mdl_o rfl dX4_remember_67 ?_
    refine r_top (v' := .int (nI kp)) (congrArg Value.int h4) ?_
    refine r_iconst E (nI 1) dX4_remember_70 (by decide) ?_
    refine r_iaddN E dX4_remember_71 ?_
    refine r_putf E cl_X4 4 (by decide) rfl q1890 (fun _ z => z) mdl_o (Nat.le_of_ble_eq_true rfl) rfl rfl dX4_remember_72 ?_
    refine r_hp (h' := mdl m (upd S.1 4 (nI (kp + 1)), va_up S.2 (4 + kp) (S.2 1)) h0) (mdl_s4 _) ?_
    exact r_return E P rfl dX4_remember_75 ⟨rfl, by unfold sRem sHist kp1; rw [if_neg e8, if_neg e8]⟩

set_option maxHeartbeats 4000000 in
theorem ct_X4_remember_15 (G : fmG) (hl : (fmLn G).stackTraces = false) (m : Nat) (S : MSt) (h0 : fmHp) (kp : Nat) (h4 : S.1 4 = nI kp) (hk8 : kp ≤ 8) : Ct G yX4_remember (ws_ yX4_remember cX4_remember 3 none) { frames := 1, cells := 0, slots := 0, locals := 30 } [.ref m, .ref (m + 15)] (mdl m S h0) (fmRet none (mdl m (sRem S (S.2 15) kp) h0)) fmNo := by
  refine Ct.of hl (by decide +kernel) (Nat.le_of_ble_eq_true rfl) (fun Γ E P => ?_)
  by_cases e8 : kp = 8
  · subst e8
    refine r_aload_n E dX4_remember_0 rfl ?_
    refine r_getf E cl_X4 4 (by decide) q1890 mdl_o rfl dX4_remember_1 ?_
    refine r_top (v' := .int (nI 8)) (congrArg Value.int h4) ?_
    refine r_bipush E (nI 8) dX4_remember_4 (by decide) ?_
    refine r_icmpN_ne (tgt := 52) E dX4_remember_6 (by decide) (by omega) (by omega) (fun c => absurd rfl c) (fun _ => ?_)
    refine r_aload_n E dX4_remember_9 rfl ?_
    refine r_dup E dX4_remember_10 rfl ?_
    refine r_getf E cl_X4 4 (by decide) q1890 mdl_o rfl dX4_remember_11 ?_
    refine r_top (v' := .int (nI 8)) (congrArg Value.int h4) ?_
    refine r_iconst E (nI 1) dX4_remember_14 (by decide) ?_
    refine r_isubN E dX4_remember_15 (by omega) ?_
    refine r_putf E cl_X4 4 (by decide) rfl q1890 (fun _ z => z) mdl_o (Nat.le_of_ble_eq_true rfl) rfl rfl dX4_remember_16 ?_
    refine r_hp (h' := mdl m (upd S.1 4 (nI (8 - 1)), S.2) h0) (mdl_s4 _) ?_
    refine r_iconst E (nI 0) dX4_remember_19 (by decide) ?_
    refine r_istore_n E [some (.ref m), some (.ref (m + 15)), some (.int (nI 0))] dX4_remember_20 rfl rfl ?_
    refine r_hp (h' := mdl m (upd S.1 4 (nI (8 - 1)), sShH S.2 0) h0) (by rw [sShH_0]) ?_
    have lp1 : ∀ (n1 i1 : Nat), i1 + n1 = 7 → fmW G Γ (mdl m (upd S.1 4 (nI (8 - 1)), sShH S.2 i1) h0) 0 0 21 [some (.ref m), some (.ref (m + 15)), some (.int (nI i1))] [] := by
      intro n1
      induction n1 with
      | zero =>
        intro i1 hi1
        refine r_iload_n E dX4_remember_21 rfl ?_
        refine r_aload_n E dX4_remember_22 rfl ?_
        refine r_getf E cl_X4 4 (by decide) q1890 mdl_o rfl dX4_remember_23 ?_
        refine r_top (v' := .int (nI 7)) (congrArg Value.int rfl) ?_
        refine r_icmpN_ge (tgt := 52) E dX4_remember_26 (by decide) (by omega) (by omega) (fun c2 => ?_) (fun c2 => ?_)
        · obtain rfl : i1 = 7 := by omega
          refine r_aload_n E dX4_remember_52 rfl ?_
          refine r_aload_n E dX4_remember_53 rfl ?_
          refine r_getf E cl_X4 3 (by decide) q1889 mdl_o rfl dX4_remember_54 ?_
          refine r_aload_n E dX4_remember_57 rfl ?_
          refine r_getf E cl_X4 4 (by decide) q1890 mdl_o rfl dX4_remember_58 ?_
          refine r_top (v' := .int (nI 7)) (congrArg Value.int rfl) ?_
          refine r_aald E mdl_3 rfl rfl (by omega) (by omega) dX4_remember_61 ?_
          refine r_callS0 E (ct_X4_copyRow G hl (mdl m (upd S.1 4 (nI (8 - 1)), sShH S.2 7) h0) (m + 15) (m + 4 + 7) true (S.2 15) ((sShH S.2 7) (4 + 7)) mdl_15 (mdl_r (by omega)) (by omega)) mX4_copyRow q89 q1981 q1982 rfl rfl (Nat.le_of_ble_eq_true rfl) (Nat.le_of_ble_eq_true rfl) (Nat.le_of_ble_eq_true rfl) dX4_remember_62 0 0 (Nat.le_of_ble_eq_true rfl) (Nat.le_of_ble_eq_true rfl) ?_
          refine r_hp (h' := mdl m (upd S.1 4 (nI (8 - 1)), va_up (sShH S.2 7) (4 + 7) (S.2 15)) h0) (mdl_ur (by omega) _) ?_
          refine r_aload_n E dX4_remember_65 rfl ?_
          refine r_dup E dX4_remember_66 rfl ?_
          refine r_getf E cl_X4 4 (by decide) q1890 mdl_o rfl dX4_remember_67 ?_
          refine r_top (v' := .int (nI 7)) (congrArg Value.int rfl) ?_
          refine r_iconst E (nI 1) dX4_remember_70 (by decide) ?_
          refine r_iaddN E dX4_remember_71 ?_
          refine r_putf E cl_X4 4 (by decide) rfl q1890 (fun _ z => z) mdl_o (Nat.le_of_ble_eq_true rfl) rfl rfl dX4_remember_72 ?_
          refine r_hp (h' := mdl m (upd (upd S.1 4 (nI (8 - 1))) 4 (nI (7 + 1)), va_up (sShH S.2 7) (4 + 7) (S.2 15)) h0) (mdl_s4 _) ?_
          exact r_return E P rfl dX4_remember_75 ⟨rfl, by rw [sShH_7]; show mdl m (upd (upd S.1 4 _) 4 _, _) h0 = mdl m (upd S.1 4 _, _) h0; rw [upd_uu]; rfl⟩
        · exfalso; omega
      | succ n1 ih =>
        intro i1 hi1
        refine r_iload_n E dX4_remember_21 rfl ?_
        refine r_aload_n E dX4_remember_22 rfl ?_
        refine r_getf E cl_X4 4 (by decide) q1890 mdl_o rfl dX4_remember_23 ?_
        refine r_top (v' := .int (nI 7)) (congrArg Value.int rfl) ?_
        refine r_icmpN_ge (tgt := 52) E dX4_remember_26 (by decide) (by omega) (by omega) (fun c3 => ?_) (fun c3 => ?_)
        · exfalso; omega
        · refine r_aload_n E dX4_remember_29 rfl ?_
          refine r_getf E cl_X4 3 (by decide) q1889 mdl_o rfl dX4_remember_30 ?_
          refine r_iload_n E dX4_remember_33 rfl ?_
          refine r_iconst E (nI 1) dX4_remember_34 (by decide) ?_
          refine r_iaddN E dX4_remember_35 ?_
          refine r_aald E mdl_3 rfl rfl (by omega) (by omega) dX4_remember_36 ?_
          refine r_aload_n E dX4_remember_37 rfl ?_
          refine r_getf E cl_X4 3 (by decide) q1889 mdl_o rfl dX4_remember_38 ?_
          refine r_iload_n E dX4_remember_41 rfl ?_
          refine r_aald E mdl_3 rfl rfl (by omega) (by omega) dX4_remember_42 ?_
          refine r_callS0 E (ct_X4_copyRow G hl (mdl m (upd S.1 4 (nI (8 - 1)), sShH S.2 i1) h0) (m + 4 + (i1 + 1)) (m + 4 + i1) true ((sShH S.2 i1) (4 + (i1 + 1))) ((sShH S.2 i1) (4 + i1)) (mdl_r (by omega)) (mdl_r (by omega)) (by omega)) mX4_copyRow q89 q1981 q1982 rfl rfl (Nat.le_of_ble_eq_true rfl) (Nat.le_of_ble_eq_true rfl) (Nat.le_of_ble_eq_true rfl) dX4_remember_43 0 0 (Nat.le_of_ble_eq_true rfl) (Nat.le_of_ble_eq_true rfl) ?_
          refine r_hp (h' := mdl m (upd S.1 4 (nI (8 - 1)), sShH S.2 (i1 + 1)) h0) ((mdl_ur (by omega) _).trans (by rw [sShH_1])) ?_
          refine r_iinc E (nI (i1 + 1)) [some (.ref m), some (.ref (m + 15)), some (.int (nI (i1 + 1)))] dX4_remember_46 rfl (nI_1 i1) rfl rfl ?_
          refine r_goto (tgt := 21) E dX4_remember_49 (by decide) ?_
          exact ih (i1 + 1) (by omega)
    exact lp1 7 0 (by omega)
  · have e7 : kp < 8 := by omega
    refine r_aload_n E dX4_remember_0 rfl ?_
    refine r_getf E cl_X4 4 (by decide) q1890 mdl_o rfl dX4_remember_1 ?_
    refine r_top (v' := .int (nI kp)) (congrArg Value.int h4) ?_
    refine r_bipush E (nI 8) dX4_remember_4 (by decide) ?_
    refine r_icmpN_ne (tgt := 52) E dX4_remember_6 (by decide) (by omega) (by omega) (fun _ => ?_) (fun c => absurd c (by omega))
    refine r_aload_n E dX4_remember_52 rfl ?_
    refine r_aload_n E dX4_remember_53 rfl ?_
    refine r_getf E cl_X4 3 (by decide) q1889 mdl_o rfl dX4_remember_54 ?_
    refine r_aload_n E dX4_remember_57 rfl ?_
    refine r_getf E cl_X4 4 (by decide) q1890 mdl_o rfl dX4_remember_58 ?_
    refine r_top (v' := .int (nI kp)) (congrArg Value.int h4) ?_
    refine r_aald E mdl_3 rfl rfl (by omega) (by omega) dX4_remember_61 ?_
    refine r_callS0 E (ct_X4_copyRow G hl (mdl m S h0) (m + 15) (m + 4 + kp) true (S.2 15) (S.2 (4 + kp)) mdl_15 (mdl_r (by omega)) (by omega)) mX4_copyRow q89 q1981 q1982 rfl rfl (Nat.le_of_ble_eq_true rfl) (Nat.le_of_ble_eq_true rfl) (Nat.le_of_ble_eq_true rfl) dX4_remember_62 0 0 (Nat.le_of_ble_eq_true rfl) (Nat.le_of_ble_eq_true rfl) ?_
    refine r_hp (h' := mdl m (S.1, va_up S.2 (4 + kp) (S.2 15)) h0) (mdl_ur (by omega) _) ?_
    refine r_aload_n E dX4_remember_65 rfl ?_
    refine r_dup E dX4_remember_66 rfl ?_
    refine r_getf E cl_X4 4 (by decide) q1890 mdl_o rfl dX4_remember_67 ?_
    refine r_top (v' := .int (nI kp)) (congrArg Value.int h4) ?_
    refine r_iconst E (nI 1) dX4_remember_70 (by decide) ?_
    refine r_iaddN E dX4_remember_71 ?_
    refine r_putf E cl_X4 4 (by decide) rfl q1890 (fun _ z => z) mdl_o (Nat.le_of_ble_eq_true rfl) rfl rfl dX4_remember_72 ?_
    refine r_hp (h' := mdl m (upd S.1 4 (nI (kp + 1)), va_up S.2 (4 + kp) (S.2 15)) h0) (mdl_s4 _) ?_
    exact r_return E P rfl dX4_remember_75 ⟨rfl, by unfold sRem sHist kp1; rw [if_neg e8, if_neg e8]⟩

