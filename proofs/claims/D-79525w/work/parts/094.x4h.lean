set_option maxHeartbeats 4000000 in
theorem ct_X4_edge (G : fmG) (hl : (fmLn G).stackTraces = false) (m : Nat) (S : MSt) (h0 : fmHp) (v : Int32) (pk : Nat) (hP : S.2 1 351 = nI pk) (hP6 : pk ≤ 6) : Ct G yX4_edge (ws_ yX4_edge cX4_edge 2 (some .int)) { frames := 1, cells := 0, slots := 0, locals := 22 } [.ref m, .int v] (mdl m S h0) (fmRet (some (.int (aAns (aEdge (S.2 1) v pk)))) (mdl m (qSt S (aEdge (S.2 1) v pk)) h0)) fmNo := by
  refine Ct.of hl (by decide +kernel) (Nat.le_of_ble_eq_true rfl) (fun Γ E P => ?_)
  refine r_aload_n E dX4_edge_0 rfl ?_
  refine r_iconst E (nI 1) dX4_edge_1 (by decide) ?_
  suffices j1 : fmW G Γ (mdl m S h0) 0 0 25 [some (.ref m), some (.int v)] [.int (bI (!sBetween v (nI 0) (nI pk - nI 1))), .int (nI 1), .ref m] by
    refine r_iload_n E dX4_edge_2 rfl ?_
    refine r_iconst E (nI 0) dX4_edge_3 (by decide) ?_
    refine r_aload_n E dX4_edge_4 rfl ?_
    refine r_getf E cl_X4 1 (by decide) q1887 mdl_o rfl dX4_edge_5 ?_
    refine r_sipush E (nI 351) dX4_edge_8 (by decide) ?_
    refine r_iald E mdl_1 (by omega) (by omega) dX4_edge_11 ?_
    refine r_top (v' := .int (nI pk)) (congrArg Value.int hP) ?_
    refine r_iconst E (nI 1) dX4_edge_12 (by decide) ?_
    refine r_isub E dX4_edge_13 ?_
    refine r_callS1 (v1 := .int (bI (sBetween v (nI 0) ((nI pk) - (nI 1))))) E (ct_X4_isBetween G hl (mdl m S h0) (v) (nI 0) ((nI pk) - (nI 1))) mX4_isBetween q89 q1962 q1963 rfl rfl (Nat.le_of_ble_eq_true rfl) (Nat.le_of_ble_eq_true rfl) (Nat.le_of_ble_eq_true rfl) dX4_edge_14 0 0 (Nat.le_of_ble_eq_true rfl) (Nat.le_of_ble_eq_true rfl) ?_
    refine r_ifB_ne (b := sBetween v (nI 0) ((nI pk) - (nI 1))) (tgt := 24) E dX4_edge_17 (by decide) (fun c2 => ?_) (fun c2 => ?_)
    · refine r_iconst E (nI 0) dX4_edge_24 (by decide) ?_
      refine r_top (v' := .int (bI (!sBetween v (nI 0) (nI pk - nI 1)))) (by rw [show (!sBetween v (nI 0) (nI pk - nI 1)) = false by simp [c2]]; rfl) ?_
      exact j1
    · refine r_iconst E (nI 1) dX4_edge_20 (by decide) ?_
      refine r_goto (tgt := 25) E dX4_edge_21 (by decide) ?_
      refine r_top (v' := .int (bI (!sBetween v (nI 0) (nI pk - nI 1)))) (by rw [show (!sBetween v (nI 0) (nI pk - nI 1)) = true by simp [c2]]; rfl) ?_
      exact j1
  refine r_callV1 (v1 := .int (bI (!sBetween v (nI 0) (nI pk - nI 1)))) E (ct_X4_fails G hl m S h0 (nI 1) (!sBetween v (nI 0) (nI pk - nI 1))) mX4_fails q1965 q1967 qs33 (fun H a1 => fm_rc (ci := 0) (C := RX4) (T := TX4) (N := 21) a1 rfl E.v mdl_o) rfl rfl (Nat.le_of_ble_eq_true rfl) (Nat.le_of_ble_eq_true rfl) (Nat.le_of_ble_eq_true rfl) dX4_edge_25 0 0 (Nat.le_of_ble_eq_true rfl) (Nat.le_of_ble_eq_true rfl) ?_
  refine r_ifB_eq (b := !sBetween v (nI 0) (nI pk - nI 1)) (tgt := 35) E dX4_edge_28 (by decide) (fun c3 => ?_) (fun c3 => ?_)
  · refine r_hp (h' := mdl m (upd S.1 0 (nI 0), S.2) h0) (by rw [nf1 c3]) ?_
    obtain ⟨k, hk, rfl⟩ := sShaft_f (by omega) c3
    have hcn : cN (nI k) = k := cN_n (by omega)
    refine r_aload_n E dX4_edge_35 rfl ?_
    refine r_getf E cl_X4 1 (by decide) q1887 mdl_o rfl dX4_edge_36 ?_
    refine r_sipush E (nI 344) dX4_edge_39 (by decide) ?_
    refine r_iload_n E dX4_edge_42 rfl ?_
    refine r_iaddN E dX4_edge_43 ?_
    refine r_iald E mdl_1 (by omega) (by omega) dX4_edge_44 ?_
    refine r_top (v' := .int ((S.2 1) (344 + k))) rfl ?_
    have hs : aEdge (S.2 1) (nI k) pk = aDon (S.2 1 (344 + k)) (S.2 1) := by
      unfold aEdge; rw [hcn]
      exact (aG_f c3).trans (rfl)
    exact r_ireturn E P rfl dX4_edge_45 ⟨by rw [hs]; rfl, by rw [hs]; rfl⟩
  · refine r_hp (h' := mdl m (upd S.1 0 (nI 1), S.2) h0) (by rw [nt1 c3]) ?_
    refine r_iconst E (nI 0) dX4_edge_31 (by decide) ?_
    refine r_goto (tgt := 45) E dX4_edge_32 (by decide) ?_
    have hs : aEdge (S.2 1) v pk = aThr 1 := by
      unfold aEdge
      exact (aG_t c3).trans (rfl)
    exact r_ireturn E P rfl dX4_edge_45 ⟨by rw [hs]; rfl, by rw [hs]; rfl⟩

set_option maxHeartbeats 4000000 in
theorem ct_X4_cell (G : fmG) (hl : (fmLn G).stackTraces = false) (m : Nat) (S : MSt) (h0 : fmHp) (v u : Int32)  : Ct G yX4_cell (ws_ yX4_cell cX4_cell 3 (some .int)) { frames := 2, cells := 0, slots := 0, locals := 42 } [.ref m, .int v, .int u] (mdl m S h0) (fmRet (some (.int (aAns (aCell (S.2 1) v u)))) (mdl m (qSt S (aCell (S.2 1) v u)) h0)) fmNo := by
  refine Ct.of hl (by decide +kernel) (Nat.le_of_ble_eq_true rfl) (fun Γ E P => ?_)
  refine r_aload_n E dX4_cell_0 rfl ?_
  refine r_iconst E (nI 1) dX4_cell_1 (by decide) ?_
  suffices j1 : fmW G Γ (mdl m S h0) 0 0 14 [some (.ref m), some (.int v), some (.int u)] [.int (bI (!sBetween v (nI 0) (nI 63))), .int (nI 1), .ref m] by
    refine r_iload_n E dX4_cell_2 rfl ?_
    refine r_callS1 (v1 := .int (bI (sBetween v (nI 0) (nI 63)))) E (ct_X4_isCell G hl (mdl m S h0) (v)) mX4_isCell q89 q1959 q1960 rfl rfl (Nat.le_of_ble_eq_true rfl) (Nat.le_of_ble_eq_true rfl) (Nat.le_of_ble_eq_true rfl) dX4_cell_3 0 0 (Nat.le_of_ble_eq_true rfl) (Nat.le_of_ble_eq_true rfl) ?_
    refine r_ifB_ne (b := sBetween v (nI 0) (nI 63)) (tgt := 13) E dX4_cell_6 (by decide) (fun c2 => ?_) (fun c2 => ?_)
    · refine r_iconst E (nI 0) dX4_cell_13 (by decide) ?_
      refine r_top (v' := .int (bI (!sBetween v (nI 0) (nI 63)))) (by rw [show (!sBetween v (nI 0) (nI 63)) = false by simp [c2]]; rfl) ?_
      exact j1
    · refine r_iconst E (nI 1) dX4_cell_9 (by decide) ?_
      refine r_goto (tgt := 14) E dX4_cell_10 (by decide) ?_
      refine r_top (v' := .int (bI (!sBetween v (nI 0) (nI 63)))) (by rw [show (!sBetween v (nI 0) (nI 63)) = true by simp [c2]]; rfl) ?_
      exact j1
  refine r_callV1 (v1 := .int (bI (!sBetween v (nI 0) (nI 63)))) E (ct_X4_fails G hl m S h0 (nI 1) (!sBetween v (nI 0) (nI 63))) mX4_fails q1965 q1967 qs33 (fun H a1 => fm_rc (ci := 0) (C := RX4) (T := TX4) (N := 21) a1 rfl E.v mdl_o) rfl rfl (Nat.le_of_ble_eq_true rfl) (Nat.le_of_ble_eq_true rfl) (Nat.le_of_ble_eq_true rfl) dX4_cell_14 0 0 (Nat.le_of_ble_eq_true rfl) (Nat.le_of_ble_eq_true rfl) ?_
  refine r_ifB_ne (b := !sBetween v (nI 0) (nI 63)) (tgt := 42) E dX4_cell_17 (by decide) (fun c3 => ?_) (fun c3 => ?_)
  · refine r_hp (h' := mdl m (upd S.1 0 (nI 1), S.2) h0) (by rw [nt1 c3]) ?_
    refine r_iconst E (nI 0) dX4_cell_42 (by decide) ?_
    have hs : aCell (S.2 1) v u = aThr 1 := by
      unfold aCell
      exact (aG_t c3).trans (rfl)
    exact r_ireturn E P rfl dX4_cell_43 ⟨by rw [hs]; rfl, by rw [hs]; rfl⟩
  · refine r_hp (h' := mdl m (upd S.1 0 (nI 0), S.2) h0) (by rw [nf1 c3]) ?_
    obtain ⟨c, hc, rfl⟩ := sCell_of c3
    have hcn : cN (nI c) = c := cN_n (by omega)
    refine r_aload_n E dX4_cell_20 rfl ?_
    refine r_iconst E (nI 2) dX4_cell_21 (by decide) ?_
    suffices j4 : fmW G Γ (mdl m (upd S.1 0 (nI 0), S.2) h0) 0 0 36 [some (.ref m), some (.int (nI c)), some (.int u)] [.int (bI (!sBetween u (nI 0) (nI 5))), .int (nI 2), .ref m] by
      refine r_iload_n E dX4_cell_22 rfl ?_
      refine r_iconst E (nI 0) dX4_cell_23 (by decide) ?_
      refine r_iconst E (nI 5) dX4_cell_24 (by decide) ?_
      refine r_callS1 (v1 := .int (bI (sBetween u (nI 0) (nI 5)))) E (ct_X4_isBetween G hl (mdl m (upd S.1 0 (nI 0), S.2) h0) (u) (nI 0) (nI 5)) mX4_isBetween q89 q1962 q1963 rfl rfl (Nat.le_of_ble_eq_true rfl) (Nat.le_of_ble_eq_true rfl) (Nat.le_of_ble_eq_true rfl) dX4_cell_25 0 0 (Nat.le_of_ble_eq_true rfl) (Nat.le_of_ble_eq_true rfl) ?_
      refine r_ifB_ne (b := sBetween u (nI 0) (nI 5)) (tgt := 35) E dX4_cell_28 (by decide) (fun c5 => ?_) (fun c5 => ?_)
      · refine r_iconst E (nI 0) dX4_cell_35 (by decide) ?_
        refine r_top (v' := .int (bI (!sBetween u (nI 0) (nI 5)))) (by rw [show (!sBetween u (nI 0) (nI 5)) = false by simp [c5]]; rfl) ?_
        exact j4
      · refine r_iconst E (nI 1) dX4_cell_31 (by decide) ?_
        refine r_goto (tgt := 36) E dX4_cell_32 (by decide) ?_
        refine r_top (v' := .int (bI (!sBetween u (nI 0) (nI 5)))) (by rw [show (!sBetween u (nI 0) (nI 5)) = true by simp [c5]]; rfl) ?_
        exact j4
    refine r_callV1 (v1 := .int (bI (!sBetween u (nI 0) (nI 5)))) E (ct_X4_fails G hl m (upd S.1 0 (nI 0), S.2) h0 (nI 2) (!sBetween u (nI 0) (nI 5))) mX4_fails q1965 q1967 qs33 (fun H a1 => fm_rc (ci := 0) (C := RX4) (T := TX4) (N := 21) a1 rfl E.v mdl_o) rfl rfl (Nat.le_of_ble_eq_true rfl) (Nat.le_of_ble_eq_true rfl) (Nat.le_of_ble_eq_true rfl) dX4_cell_36 0 0 (Nat.le_of_ble_eq_true rfl) (Nat.le_of_ble_eq_true rfl) ?_
    refine r_ifB_eq (b := !sBetween u (nI 0) (nI 5)) (tgt := 44) E dX4_cell_39 (by decide) (fun c6 => ?_) (fun c6 => ?_)
    · refine r_hp (h' := mdl m (upd S.1 0 (nI 0), S.2) h0) (by rw [nf1 c6, upd_uu]) ?_
      obtain ⟨q, hq, rfl⟩ := sNum_f (by decide) c6
      have hqn : cN (nI q) = q := cN_n (by omega)
      refine r_iload_n E dX4_cell_44 rfl ?_
      rcases (by omega : q = 0 ∨ q = 1 ∨ q = 2 ∨ q = 3 ∨ q = 4 ∨ q = 5) with rfl | rfl | rfl | rfl | rfl | rfl
      · refine r_tableIn (tgt := 80) E dX4_cell_45 (by decide) (by decide) rfl (by decide) ?_
        refine r_aload_n E dX4_cell_80 rfl ?_
        refine r_getf E cl_X4 1 (by decide) q1887 mdl_o rfl dX4_cell_81 ?_
        refine r_iconst E (nI 0) dX4_cell_84 (by decide) ?_
        refine r_iload_n E dX4_cell_85 rfl ?_
        refine r_iaddN E dX4_cell_86 ?_
        refine r_topi (congrArg nI (Nat.zero_add _)) ?_
        refine r_iald E mdl_1 (by omega) (by omega) dX4_cell_87 ?_
        refine r_top (v' := .int ((S.2 1) c)) rfl ?_
        have hs : aCell (S.2 1) (nI c) (nI 0) = aDon ((S.2 1) c) (S.2 1) := by
          unfold aCell; rw [hcn, hqn]
          exact (aG_f c3).trans ((aG_f c6).trans (rfl))
        exact r_ireturn E P rfl dX4_cell_88 ⟨by rw [hs]; rfl, by rw [hs]; rfl⟩
      · refine r_tableIn (tgt := 89) E dX4_cell_45 (by decide) (by decide) rfl (by decide) ?_
        refine r_aload_n E dX4_cell_89 rfl ?_
        refine r_iload_n E dX4_cell_90 rfl ?_
        refine r_callV1 (v1 := .int (bI (sChalk (S.2 1) c))) E (ct_X4_isChalk G hl m (upd S.1 0 (nI 0), S.2) h0 c (by omega)) mX4_isChalk q1969 q1971 qs34 (fun H a1 => fm_rc (ci := 0) (C := RX4) (T := TX4) (N := 21) a1 rfl E.v mdl_o) rfl rfl (Nat.le_of_ble_eq_true rfl) (Nat.le_of_ble_eq_true rfl) (Nat.le_of_ble_eq_true rfl) dX4_cell_91 0 0 (Nat.le_of_ble_eq_true rfl) (Nat.le_of_ble_eq_true rfl) ?_
        refine r_ifB_eq (b := sChalk (S.2 1) c) (tgt := 109) E dX4_cell_94 (by decide) (fun c7 => ?_) (fun c7 => ?_)
        · refine r_iconst E (nI 0) dX4_cell_109 (by decide) ?_
          have hs : aCell (S.2 1) (nI c) (nI 1) = aDon (nI 0) (S.2 1) := by
            unfold aCell; rw [hcn, hqn]
            exact (aG_f c3).trans ((aG_f c6).trans (congrArg (fun z => aDon z (S.2 1)) (if_neg (by rw [c7]; exact Bool.false_ne_true))))
          exact r_ireturn E P rfl dX4_cell_110 ⟨by rw [hs]; rfl, by rw [hs]; rfl⟩
        · refine r_aload_n E dX4_cell_97 rfl ?_
          refine r_getf E cl_X4 1 (by decide) q1887 mdl_o rfl dX4_cell_98 ?_
          refine r_bipush E (nI 64) dX4_cell_101 (by decide) ?_
          refine r_iload_n E dX4_cell_103 rfl ?_
          refine r_iaddN E dX4_cell_104 ?_
          refine r_iald E mdl_1 (by omega) (by omega) dX4_cell_105 ?_
          refine r_top (v' := .int ((S.2 1) (64 + c))) rfl ?_
          refine r_goto (tgt := 110) E dX4_cell_106 (by decide) ?_
          have hs : aCell (S.2 1) (nI c) (nI 1) = aDon ((S.2 1) (64 + c)) (S.2 1) := by
            unfold aCell; rw [hcn, hqn]
            exact (aG_f c3).trans ((aG_f c6).trans (congrArg (fun z => aDon z (S.2 1)) (if_pos c7)))
          exact r_ireturn E P rfl dX4_cell_110 ⟨by rw [hs]; rfl, by rw [hs]; rfl⟩
      · refine r_tableIn (tgt := 111) E dX4_cell_45 (by decide) (by decide) rfl (by decide) ?_
        refine r_aload_n E dX4_cell_111 rfl ?_
        refine r_iload_n E dX4_cell_112 rfl ?_
        refine r_callV1 (v1 := .int (bI (sChalk (S.2 1) c))) E (ct_X4_isChalk G hl m (upd S.1 0 (nI 0), S.2) h0 c (by omega)) mX4_isChalk q1969 q1971 qs34 (fun H a1 => fm_rc (ci := 0) (C := RX4) (T := TX4) (N := 21) a1 rfl E.v mdl_o) rfl rfl (Nat.le_of_ble_eq_true rfl) (Nat.le_of_ble_eq_true rfl) (Nat.le_of_ble_eq_true rfl) dX4_cell_113 0 0 (Nat.le_of_ble_eq_true rfl) (Nat.le_of_ble_eq_true rfl) ?_
        refine r_ifB_eq (b := sChalk (S.2 1) c) (tgt := 132) E dX4_cell_116 (by decide) (fun c8 => ?_) (fun c8 => ?_)
        · refine r_iconst E (nI 0) dX4_cell_132 (by decide) ?_
          have hs : aCell (S.2 1) (nI c) (nI 2) = aDon (nI 0) (S.2 1) := by
            unfold aCell; rw [hcn, hqn]
            exact (aG_f c3).trans ((aG_f c6).trans (congrArg (fun z => aDon z (S.2 1)) (if_neg (by rw [c8]; exact Bool.false_ne_true))))
          exact r_ireturn E P rfl dX4_cell_133 ⟨by rw [hs]; rfl, by rw [hs]; rfl⟩
        · refine r_aload_n E dX4_cell_119 rfl ?_
          refine r_getf E cl_X4 1 (by decide) q1887 mdl_o rfl dX4_cell_120 ?_
          refine r_sipush E (nI 128) dX4_cell_123 (by decide) ?_
          refine r_iload_n E dX4_cell_126 rfl ?_
          refine r_iaddN E dX4_cell_127 ?_
          refine r_iald E mdl_1 (by omega) (by omega) dX4_cell_128 ?_
          refine r_top (v' := .int ((S.2 1) (128 + c))) rfl ?_
          refine r_goto (tgt := 133) E dX4_cell_129 (by decide) ?_
          have hs : aCell (S.2 1) (nI c) (nI 2) = aDon ((S.2 1) (128 + c)) (S.2 1) := by
            unfold aCell; rw [hcn, hqn]
            exact (aG_f c3).trans ((aG_f c6).trans (congrArg (fun z => aDon z (S.2 1)) (if_pos c8)))
          exact r_ireturn E P rfl dX4_cell_133 ⟨by rw [hs]; rfl, by rw [hs]; rfl⟩
      · refine r_tableIn (tgt := 134) E dX4_cell_45 (by decide) (by decide) rfl (by decide) ?_
        refine r_aload_n E dX4_cell_134 rfl ?_
        refine r_iload_n E dX4_cell_135 rfl ?_
        refine r_callV1 (v1 := .int (bI (sChalk (S.2 1) c))) E (ct_X4_isChalk G hl m (upd S.1 0 (nI 0), S.2) h0 c (by omega)) mX4_isChalk q1969 q1971 qs34 (fun H a1 => fm_rc (ci := 0) (C := RX4) (T := TX4) (N := 21) a1 rfl E.v mdl_o) rfl rfl (Nat.le_of_ble_eq_true rfl) (Nat.le_of_ble_eq_true rfl) (Nat.le_of_ble_eq_true rfl) dX4_cell_136 0 0 (Nat.le_of_ble_eq_true rfl) (Nat.le_of_ble_eq_true rfl) ?_
        refine r_ifB_eq (b := sChalk (S.2 1) c) (tgt := 150) E dX4_cell_139 (by decide) (fun c9 => ?_) (fun c9 => ?_)
        · refine r_iconst E (nI 0) dX4_cell_150 (by decide) ?_
          have hs : aCell (S.2 1) (nI c) (nI 3) = aDon (nI 0) (S.2 1) := by
            unfold aCell; rw [hcn, hqn]
            exact (aG_f c3).trans ((aG_f c6).trans (congrArg (fun z => aDon z (S.2 1)) (if_neg (by rw [c9]; exact Bool.false_ne_true))))
          exact r_ireturn E P rfl dX4_cell_151 ⟨by rw [hs]; rfl, by rw [hs]; rfl⟩
        · refine r_aload_n E dX4_cell_142 rfl ?_
          refine r_iload_n E dX4_cell_143 rfl ?_
          refine r_callV1 (v1 := .int (sStrokes (S.2 1) c)) E (ct_X4_strokesOf G hl m (upd S.1 0 (nI 0), S.2) h0 c (by omega)) mX4_strokesOf q1984 q1986 qs37 (fun H a1 => fm_rc (ci := 0) (C := RX4) (T := TX4) (N := 21) a1 rfl E.v mdl_o) rfl rfl (Nat.le_of_ble_eq_true rfl) (Nat.le_of_ble_eq_true rfl) (Nat.le_of_ble_eq_true rfl) dX4_cell_144 0 0 (Nat.le_of_ble_eq_true rfl) (Nat.le_of_ble_eq_true rfl) ?_
          refine r_goto (tgt := 151) E dX4_cell_147 (by decide) ?_
          have hs : aCell (S.2 1) (nI c) (nI 3) = aDon (sStrokes (S.2 1) c) (S.2 1) := by
            unfold aCell; rw [hcn, hqn]
            exact (aG_f c3).trans ((aG_f c6).trans (congrArg (fun z => aDon z (S.2 1)) (if_pos c9)))
          exact r_ireturn E P rfl dX4_cell_151 ⟨by rw [hs]; rfl, by rw [hs]; rfl⟩
      · refine r_tableIn (tgt := 152) E dX4_cell_45 (by decide) (by decide) rfl (by decide) ?_
        refine r_aload_n E dX4_cell_152 rfl ?_
        refine r_getf E cl_X4 1 (by decide) q1887 mdl_o rfl dX4_cell_153 ?_
        refine r_sipush E (nI 192) dX4_cell_156 (by decide) ?_
        refine r_iload_n E dX4_cell_159 rfl ?_
        refine r_iaddN E dX4_cell_160 ?_
        refine r_iald E mdl_1 (by omega) (by omega) dX4_cell_161 ?_
        refine r_top (v' := .int ((S.2 1) (192 + c))) rfl ?_
        have hs : aCell (S.2 1) (nI c) (nI 4) = aDon ((S.2 1) (192 + c)) (S.2 1) := by
          unfold aCell; rw [hcn, hqn]
          exact (aG_f c3).trans ((aG_f c6).trans (rfl))
        exact r_ireturn E P rfl dX4_cell_162 ⟨by rw [hs]; rfl, by rw [hs]; rfl⟩
      · refine r_tableOut (tgt := 163) E dX4_cell_45 (by decide) (by decide) ?_
        refine r_aload_n E dX4_cell_163 rfl ?_
        refine r_getf E cl_X4 1 (by decide) q1887 mdl_o rfl dX4_cell_164 ?_
        refine r_sipush E (nI 256) dX4_cell_167 (by decide) ?_
        refine r_iload_n E dX4_cell_170 rfl ?_
        refine r_iaddN E dX4_cell_171 ?_
        refine r_iald E mdl_1 (by omega) (by omega) dX4_cell_172 ?_
        refine r_top (v' := .int ((S.2 1) (256 + c))) rfl ?_
        have hs : aCell (S.2 1) (nI c) (nI 5) = aDon ((S.2 1) (256 + c)) (S.2 1) := by
          unfold aCell; rw [hcn, hqn]
          exact (aG_f c3).trans ((aG_f c6).trans (rfl))
        exact r_ireturn E P rfl dX4_cell_173 ⟨by rw [hs]; rfl, by rw [hs]; rfl⟩
    · refine r_hp (h' := mdl m (upd S.1 0 (nI 2), S.2) h0) (by rw [nt1 c6, upd_uu]) ?_
      refine r_iconst E (nI 0) dX4_cell_42 (by decide) ?_
      have hs : aCell (S.2 1) (nI c) u = aThr 2 := by
        unfold aCell; rw [hcn]
        exact (aG_f c3).trans ((aG_t c6).trans (rfl))
      exact r_ireturn E P rfl dX4_cell_43 ⟨by rw [hs]; rfl, by rw [hs]; rfl⟩

set_option maxHeartbeats 4000000 in
theorem ct_X4_span (G : fmG) (hl : (fmLn G).stackTraces = false) (m : Nat) (S : MSt) (h0 : fmHp) (v : Int32) (b : Bool)  : Ct G yX4_span (ws_ yX4_span cX4_span 3 (some .int)) { frames := 5, cells := 0, slots := 0, locals := 113 } [.ref m, .int v, .int (bI b)] (mdl m S h0) (fmRet (some (.int (aAns (aSpan (S.2 1) v b)))) (mdl m (qSt S (aSpan (S.2 1) v b)) h0)) fmNo := by
  refine Ct.of hl (by decide +kernel) (Nat.le_of_ble_eq_true rfl) (fun Γ E P => ?_)
  refine r_aload_n E dX4_span_0 rfl ?_
  refine r_iconst E (nI 1) dX4_span_1 (by decide) ?_
  suffices j1 : fmW G Γ (mdl m S h0) 0 0 14 [some (.ref m), some (.int v), some (.int (bI b))] [.int (bI (!sBetween v (nI 0) (nI 63))), .int (nI 1), .ref m] by
    refine r_iload_n E dX4_span_2 rfl ?_
    refine r_callS1 (v1 := .int (bI (sBetween v (nI 0) (nI 63)))) E (ct_X4_isCell G hl (mdl m S h0) (v)) mX4_isCell q89 q1959 q1960 rfl rfl (Nat.le_of_ble_eq_true rfl) (Nat.le_of_ble_eq_true rfl) (Nat.le_of_ble_eq_true rfl) dX4_span_3 0 0 (Nat.le_of_ble_eq_true rfl) (Nat.le_of_ble_eq_true rfl) ?_
    refine r_ifB_ne (b := sBetween v (nI 0) (nI 63)) (tgt := 13) E dX4_span_6 (by decide) (fun c2 => ?_) (fun c2 => ?_)
    · refine r_iconst E (nI 0) dX4_span_13 (by decide) ?_
      refine r_top (v' := .int (bI (!sBetween v (nI 0) (nI 63)))) (by rw [show (!sBetween v (nI 0) (nI 63)) = false by simp [c2]]; rfl) ?_
      exact j1
    · refine r_iconst E (nI 1) dX4_span_9 (by decide) ?_
      refine r_goto (tgt := 14) E dX4_span_10 (by decide) ?_
      refine r_top (v' := .int (bI (!sBetween v (nI 0) (nI 63)))) (by rw [show (!sBetween v (nI 0) (nI 63)) = true by simp [c2]]; rfl) ?_
      exact j1
  refine r_callV1 (v1 := .int (bI (!sBetween v (nI 0) (nI 63)))) E (ct_X4_fails G hl m S h0 (nI 1) (!sBetween v (nI 0) (nI 63))) mX4_fails q1965 q1967 qs33 (fun H a1 => fm_rc (ci := 0) (C := RX4) (T := TX4) (N := 21) a1 rfl E.v mdl_o) rfl rfl (Nat.le_of_ble_eq_true rfl) (Nat.le_of_ble_eq_true rfl) (Nat.le_of_ble_eq_true rfl) dX4_span_14 0 0 (Nat.le_of_ble_eq_true rfl) (Nat.le_of_ble_eq_true rfl) ?_
  refine r_ifB_eq (b := !sBetween v (nI 0) (nI 63)) (tgt := 24) E dX4_span_17 (by decide) (fun c3 => ?_) (fun c3 => ?_)
  · refine r_hp (h' := mdl m (upd S.1 0 (nI 0), S.2) h0) (by rw [nf1 c3]) ?_
    obtain ⟨c, hc, rfl⟩ := sCell_of c3
    have hcn : cN (nI c) = c := cN_n (by omega)
    refine r_aload_n E dX4_span_24 rfl ?_
    refine r_iload_n E dX4_span_25 rfl ?_
    refine r_iload_n E dX4_span_26 rfl ?_
    refine r_callV1 (v1 := .int (nI (sSpan (S.2 1) c b))) E (ct_X4_spanOf G hl m (upd S.1 0 (nI 0), S.2) h0 c b (by omega)) mX4_spanOf q2047 q2049 qs46 (fun H a1 => fm_rc (ci := 0) (C := RX4) (T := TX4) (N := 21) a1 rfl E.v mdl_o) rfl rfl (Nat.le_of_ble_eq_true rfl) (Nat.le_of_ble_eq_true rfl) (Nat.le_of_ble_eq_true rfl) dX4_span_27 0 0 (Nat.le_of_ble_eq_true rfl) (Nat.le_of_ble_eq_true rfl) ?_
    have hs : aSpan (S.2 1) (nI c) b = aDon (nI (sSpan (S.2 1) c b)) (S.2 1) := by
      unfold aSpan; rw [hcn]
      exact (aG_f c3).trans (rfl)
    exact r_ireturn E P rfl dX4_span_30 ⟨by rw [hs]; rfl, by rw [hs]; rfl⟩
  · refine r_hp (h' := mdl m (upd S.1 0 (nI 1), S.2) h0) (by rw [nt1 c3]) ?_
    refine r_iconst E (nI 0) dX4_span_20 (by decide) ?_
    refine r_goto (tgt := 30) E dX4_span_21 (by decide) ?_
    have hs : aSpan (S.2 1) v b = aThr 1 := by
      unfold aSpan
      exact (aG_t c3).trans (rfl)
    exact r_ireturn E P rfl dX4_span_30 ⟨by rw [hs]; rfl, by rw [hs]; rfl⟩

set_option maxHeartbeats 4000000 in
theorem ct_X4_longest (G : fmG) (hl : (fmLn G).stackTraces = false) (m : Nat) (S : MSt) (h0 : fmHp)  : Ct G yX4_longest (ws_ yX4_longest cX4_longest 1 (some .int)) { frames := 6, cells := 0, slots := 0, locals := 137 } [.ref m] (mdl m S h0) (fmRet (some (.int (nI (sLong (S.2 1))))) (mdl m (upd S.1 0 (nI 0), S.2) h0)) fmNo := by
  refine Ct.of hl (by decide +kernel) (Nat.le_of_ble_eq_true rfl) (fun Γ E P => ?_)
  refine r_aload_n E dX4_longest_0 rfl ?_
  refine r_iconst E (nI 0) dX4_longest_1 (by decide) ?_
  refine r_putf E cl_X4 0 (by decide) rfl q1886 (fun _ z => z) mdl_o (Nat.le_of_ble_eq_true rfl) rfl rfl dX4_longest_2 ?_
  refine r_hp (h' := mdl m (upd S.1 0 (nI 0), S.2) h0) (mdl_s0 _) ?_
  refine r_aload_n E dX4_longest_5 rfl ?_
  refine r_callV1 (v1 := .int (nI (sLong (S.2 1)))) E (ct_X4_longestSpan G hl m (upd S.1 0 (nI 0), S.2) h0) mX4_longestSpan q1992 q1994 qs38 (fun H a1 => fm_rc (ci := 0) (C := RX4) (T := TX4) (N := 21) a1 rfl E.v mdl_o) rfl rfl (Nat.le_of_ble_eq_true rfl) (Nat.le_of_ble_eq_true rfl) (Nat.le_of_ble_eq_true rfl) dX4_longest_6 0 0 (Nat.le_of_ble_eq_true rfl) (Nat.le_of_ble_eq_true rfl) ?_
  exact r_ireturn E P rfl dX4_longest_9 ⟨rfl, rfl⟩

set_option maxHeartbeats 4000000 in
theorem ct_X4_knock (G : fmG) (hl : (fmLn G).stackTraces = false) (m : Nat) (S : MSt) (h0 : fmHp) (v : Int32) (K : Nat) (hK : S.2 1 350 = nI K) (hK8 : K ≤ 8) : Ct G yX4_knock (ws_ yX4_knock cX4_knock 5 (some .int)) { frames := 4, cells := 0, slots := 0, locals := 92 } [.ref m, .int v] (mdl m S h0) (fmRet (some (.int (aAns (aKnock (S.2 1) v K)))) (mdl m (qSt S (aKnock (S.2 1) v K)) h0)) fmNo := by
  refine Ct.of hl (by decide +kernel) (Nat.le_of_ble_eq_true rfl) (fun Γ E P => ?_)
  refine r_aload_n E dX4_knock_0 rfl ?_
  refine r_iconst E (nI 1) dX4_knock_1 (by decide) ?_
  suffices j1 : fmW G Γ (mdl m S h0) 0 0 14 [some (.ref m), some (.int v), none, none, none] [.int (bI (!sBetween v (nI 0) (nI 63))), .int (nI 1), .ref m] by
    refine r_iload_n E dX4_knock_2 rfl ?_
    refine r_callS1 (v1 := .int (bI (sBetween v (nI 0) (nI 63)))) E (ct_X4_isCell G hl (mdl m S h0) (v)) mX4_isCell q89 q1959 q1960 rfl rfl (Nat.le_of_ble_eq_true rfl) (Nat.le_of_ble_eq_true rfl) (Nat.le_of_ble_eq_true rfl) dX4_knock_3 0 0 (Nat.le_of_ble_eq_true rfl) (Nat.le_of_ble_eq_true rfl) ?_
    refine r_ifB_ne (b := sBetween v (nI 0) (nI 63)) (tgt := 13) E dX4_knock_6 (by decide) (fun c2 => ?_) (fun c2 => ?_)
    · refine r_iconst E (nI 0) dX4_knock_13 (by decide) ?_
      refine r_top (v' := .int (bI (!sBetween v (nI 0) (nI 63)))) (by rw [show (!sBetween v (nI 0) (nI 63)) = false by simp [c2]]; rfl) ?_
      exact j1
    · refine r_iconst E (nI 1) dX4_knock_9 (by decide) ?_
      refine r_goto (tgt := 14) E dX4_knock_10 (by decide) ?_
      refine r_top (v' := .int (bI (!sBetween v (nI 0) (nI 63)))) (by rw [show (!sBetween v (nI 0) (nI 63)) = true by simp [c2]]; rfl) ?_
      exact j1
  refine r_callV1 (v1 := .int (bI (!sBetween v (nI 0) (nI 63)))) E (ct_X4_fails G hl m S h0 (nI 1) (!sBetween v (nI 0) (nI 63))) mX4_fails q1965 q1967 qs33 (fun H a1 => fm_rc (ci := 0) (C := RX4) (T := TX4) (N := 21) a1 rfl E.v mdl_o) rfl rfl (Nat.le_of_ble_eq_true rfl) (Nat.le_of_ble_eq_true rfl) (Nat.le_of_ble_eq_true rfl) dX4_knock_14 0 0 (Nat.le_of_ble_eq_true rfl) (Nat.le_of_ble_eq_true rfl) ?_
  refine r_ifB_ne (b := !sBetween v (nI 0) (nI 63)) (tgt := 50) E dX4_knock_17 (by decide) (fun c3 => ?_) (fun c3 => ?_)
  · refine r_hp (h' := mdl m (upd S.1 0 (nI 1), S.2) h0) (by rw [nt1 c3]) ?_
    refine r_iconst E (nI 0) dX4_knock_50 (by decide) ?_
    have hs : aKnock (S.2 1) v K = aThr 1 := by
      unfold aKnock
      exact (aG_t c3).trans (rfl)
    exact r_ireturn E P rfl dX4_knock_51 ⟨by rw [hs]; rfl, by rw [hs]; rfl⟩
  · refine r_hp (h' := mdl m (upd S.1 0 (nI 0), S.2) h0) (by rw [nf1 c3]) ?_
    obtain ⟨c, hc, rfl⟩ := sCell_of c3
    have hcn : cN (nI c) = c := cN_n (by omega)
    refine r_aload_n E dX4_knock_20 rfl ?_
    refine r_iconst E (nI 2) dX4_knock_21 (by decide) ?_
    suffices j4 : fmW G Γ (mdl m (upd S.1 0 (nI 0), S.2) h0) 0 0 44 [some (.ref m), some (.int (nI c)), none, none, none] [.int (bI (!(sChalk (S.2 1) c && (sMeet (S.2 1) c (-1) K).isSome))), .int (nI 2), .ref m] by
      refine r_aload_n E dX4_knock_22 rfl ?_
      refine r_iload_n E dX4_knock_23 rfl ?_
      refine r_callV1 (v1 := .int (bI (sChalk (S.2 1) c))) E (ct_X4_isChalk G hl m (upd S.1 0 (nI 0), S.2) h0 c (by omega)) mX4_isChalk q1969 q1971 qs34 (fun H a1 => fm_rc (ci := 0) (C := RX4) (T := TX4) (N := 21) a1 rfl E.v mdl_o) rfl rfl (Nat.le_of_ble_eq_true rfl) (Nat.le_of_ble_eq_true rfl) (Nat.le_of_ble_eq_true rfl) dX4_knock_24 0 0 (Nat.le_of_ble_eq_true rfl) (Nat.le_of_ble_eq_true rfl) ?_
      refine r_ifB_eq (b := sChalk (S.2 1) c) (tgt := 39) E dX4_knock_27 (by decide) (fun c5 => ?_) (fun c5 => ?_)
      · refine r_iconst E (nI 1) dX4_knock_39 (by decide) ?_
        refine r_goto (tgt := 44) E dX4_knock_40 (by decide) ?_
        refine r_top (v' := .int (bI (!(sChalk (S.2 1) c && (sMeet (S.2 1) c (-1) K).isSome)))) (by rw [show (!(sChalk (S.2 1) c && (sMeet (S.2 1) c (-1) K).isSome)) = true by simp [c5, Option.isSome_iff_ne_none]]; rfl) ?_
        exact j4
      · refine r_aload_n E dX4_knock_30 rfl ?_
        refine r_iload_n E dX4_knock_31 rfl ?_
        refine r_iconst E (-1) dX4_knock_32 (by decide) ?_
        refine r_callV1 (v1 := .int (cI (sMeet (S.2 1) c (-1) K))) E (ct_X4_otherShaftBeside G hl m (upd S.1 0 (nI 0), S.2) h0 c (-1) K hK hK8 (by omega)) mX4_otherShaftBeside q2059 q2061 qs47 (fun H a1 => fm_rc (ci := 0) (C := RX4) (T := TX4) (N := 21) a1 rfl E.v mdl_o) rfl rfl (Nat.le_of_ble_eq_true rfl) (Nat.le_of_ble_eq_true rfl) (Nat.le_of_ble_eq_true rfl) dX4_knock_33 0 0 (Nat.le_of_ble_eq_true rfl) (Nat.le_of_ble_eq_true rfl) ?_
        refine r_ifC_ge (o := sMeet (S.2 1) c (-1) K) (tgt := 43) E dX4_knock_36 (by decide) (sMeet_31 hK8) (fun c6 => ?_) (fun c6 => ?_)
        · refine r_iconst E (nI 0) dX4_knock_43 (by decide) ?_
          refine r_top (v' := .int (bI (!(sChalk (S.2 1) c && (sMeet (S.2 1) c (-1) K).isSome)))) (by rw [show (!(sChalk (S.2 1) c && (sMeet (S.2 1) c (-1) K).isSome)) = false by simp [c5, c6, Option.isSome_iff_ne_none]]; rfl) ?_
          exact j4
        · refine r_iconst E (nI 1) dX4_knock_39 (by decide) ?_
          refine r_goto (tgt := 44) E dX4_knock_40 (by decide) ?_
          refine r_top (v' := .int (bI (!(sChalk (S.2 1) c && (sMeet (S.2 1) c (-1) K).isSome)))) (by rw [show (!(sChalk (S.2 1) c && (sMeet (S.2 1) c (-1) K).isSome)) = true by simp [c5, c6, Option.isSome_iff_ne_none]]; rfl) ?_
          exact j4
    refine r_callV1 (v1 := .int (bI (!(sChalk (S.2 1) c && (sMeet (S.2 1) c (-1) K).isSome)))) E (ct_X4_fails G hl m (upd S.1 0 (nI 0), S.2) h0 (nI 2) (!(sChalk (S.2 1) c && (sMeet (S.2 1) c (-1) K).isSome))) mX4_fails q1965 q1967 qs33 (fun H a1 => fm_rc (ci := 0) (C := RX4) (T := TX4) (N := 21) a1 rfl E.v mdl_o) rfl rfl (Nat.le_of_ble_eq_true rfl) (Nat.le_of_ble_eq_true rfl) (Nat.le_of_ble_eq_true rfl) dX4_knock_44 0 0 (Nat.le_of_ble_eq_true rfl) (Nat.le_of_ble_eq_true rfl) ?_
    refine r_ifB_eq (b := !(sChalk (S.2 1) c && (sMeet (S.2 1) c (-1) K).isSome)) (tgt := 52) E dX4_knock_47 (by decide) (fun c7 => ?_) (fun c7 => ?_)
    · refine r_hp (h' := mdl m (upd S.1 0 (nI 0), S.2) h0) (by rw [nf1 c7, upd_uu]) ?_
      refine r_iconst E (nI 2) dX4_knock_52 (by decide) ?_
      refine r_aload_n E dX4_knock_53 rfl ?_
      refine r_getf E cl_X4 1 (by decide) q1887 mdl_o rfl dX4_knock_54 ?_
      refine r_sipush E (nI 128) dX4_knock_57 (by decide) ?_
      refine r_iload_n E dX4_knock_60 rfl ?_
      refine r_iaddN E dX4_knock_61 ?_
      refine r_iald E mdl_1 (by omega) (by omega) dX4_knock_62 ?_
      refine r_top (v' := .int ((S.2 1) (128 + c))) rfl ?_
      refine r_imul E dX4_knock_63 ?_
      refine r_istore_n E [some (.ref m), some (.int (nI c)), some (.int ((nI 2) * ((S.2 1) (128 + c)))), none, none] dX4_knock_64 rfl rfl ?_
      refine r_iconst E (nI 0) dX4_knock_65 (by decide) ?_
      refine r_istore_n E [some (.ref m), some (.int (nI c)), some (.int ((nI 2) * ((S.2 1) (128 + c)))), some (.int (nI 0)), none] dX4_knock_66 rfl rfl ?_
      show fmW G Γ _ _ _ _ [some (.ref m), some (.int (nI c)), some (.int (sKnK (S.2 1) c 0)), some (.int (nI 0)), none] []
      have lp8 : ∀ (n8 i8 : Nat), i8 + n8 = 4 → fmW G Γ (mdl m (upd S.1 0 (nI 0), S.2) h0) 0 0 67 [some (.ref m), some (.int (nI c)), some (.int (sKnK (S.2 1) c i8)), some (.int (nI i8)), none] [] := by
        intro n8
        induction n8 with
        | zero =>
          intro i8 hi8
          refine r_iload_n E dX4_knock_67 rfl ?_
          refine r_iconst E (nI 4) dX4_knock_68 (by decide) ?_
          refine r_icmpN_ge (tgt := 117) E dX4_knock_69 (by decide) (by omega) (by omega) (fun c9 => ?_) (fun c9 => ?_)
          · have h4 : i8 = 4 := by omega
            refine r_iload_n E dX4_knock_117 rfl ?_
            have hs : aKnock (S.2 1) (nI c) K = aDon (sKnK (S.2 1) c i8) (S.2 1) := by
              unfold aKnock; rw [hcn, h4]
              exact (aG_f c3).trans ((aG_f c7).trans (rfl))
            exact r_ireturn E P rfl dX4_knock_118 ⟨by rw [hs]; rfl, by rw [hs]; rfl⟩
          · exfalso; omega
        | succ n8 ih =>
          intro i8 hi8
          refine r_iload_n E dX4_knock_67 rfl ?_
          refine r_iconst E (nI 4) dX4_knock_68 (by decide) ?_
          refine r_icmpN_ge (tgt := 117) E dX4_knock_69 (by decide) (by omega) (by omega) (fun c10 => ?_) (fun c10 => ?_)
          · exfalso; omega
          · refine r_iload_n E dX4_knock_72 rfl ?_
            refine r_iload_n E dX4_knock_73 rfl ?_
            refine r_callS1 (v1 := .int (cI (sBsd c i8))) E (ct_X4_beside G hl (mdl m (upd S.1 0 (nI 0), S.2) h0) (c) (i8) (by omega) (by omega)) mX4_beside q89 q2016 q2017 rfl rfl (Nat.le_of_ble_eq_true rfl) (Nat.le_of_ble_eq_true rfl) (Nat.le_of_ble_eq_true rfl) dX4_knock_74 0 0 (Nat.le_of_ble_eq_true rfl) (Nat.le_of_ble_eq_true rfl) ?_
            refine r_istore E [some (.ref m), some (.int (nI c)), some (.int (sKnK (S.2 1) c i8)), some (.int (nI i8)), some (.int (cI (sBsd c i8)))] dX4_knock_77 rfl rfl ?_
            refine r_iload_n E dX4_knock_79 rfl ?_
            have hb31 : ∀ x, sBsd c i8 = some x → x < 2 ^ 31 := fun x hx => Nat.lt_trans (sBsd_lt hc hx) (by decide)
            refine r_iload E dX4_knock_80 rfl ?_
            refine r_ifC_lt (o := sBsd c i8) (tgt := 108) E dX4_knock_82 (by decide) (by intro x hx; first | exact Nat.lt_of_lt_of_le (sBsd_lt (by omega) hx) (by decide) | exact Nat.lt_of_lt_of_le (ho x hx) (by decide)) (fun c11 => ?_) (fun c11 => ?_)
            · refine r_iconst E (nI 0) dX4_knock_108 (by decide) ?_
              refine r_top (v' := .int (nI 0)) rfl ?_
              refine r_top (v' := .int (sNodB (S.2 1) c i8)) (by unfold sNodB; rw [c11]) ?_
              refine r_iadd E dX4_knock_109 ?_
              refine r_istore_n E [some (.ref m), some (.int (nI c)), some (.int ((sKnK (S.2 1) c i8) + (sNodB (S.2 1) c i8))), some (.int (nI i8)), some (.int (cI (sBsd c i8)))] dX4_knock_110 rfl rfl ?_
              refine r_iinc E (nI (i8 + 1)) [some (.ref m), some (.int (nI c)), some (.int ((sKnK (S.2 1) c i8) + (sNodB (S.2 1) c i8))), some (.int (nI (i8 + 1))), some (.int (cI (sBsd c i8)))] dX4_knock_111 rfl (nI_1 i8) rfl rfl ?_
              refine r_goto (tgt := 67) E dX4_knock_114 (by decide) ?_
              refine fmW.few (L' := [some (.ref m), some (.int (nI c)), some (.int ((sKnK (S.2 1) c i8) + (sNodB (S.2 1) c i8))), some (.int (nI (i8 + 1))), none]) (fmFew_n (L := [some (.ref m), some (.int (nI c)), some (.int ((sKnK (S.2 1) c i8) + (sNodB (S.2 1) c i8))), some (.int (nI (i8 + 1))), some (.int (cI (sBsd c i8)))]) 4) ?_
              exact ih (i8 + 1) (by omega)
            · obtain ⟨x, hx⟩ := Option.ne_none_iff_exists'.mp c11
              have hx2 := sBsd_lt hc hx
              refine r_aload_n E dX4_knock_85 rfl ?_
              refine r_iload E dX4_knock_86 rfl ?_
              refine r_top (v' := .int (nI x)) (congrArg Value.int (by rw [hx]; rfl)) ?_
              refine r_callV1 (v1 := .int (bI (sChalk (S.2 1) x))) E (ct_X4_isChalk G hl m (upd S.1 0 (nI 0), S.2) h0 x (by omega)) mX4_isChalk q1969 q1971 qs34 (fun H a1 => fm_rc (ci := 0) (C := RX4) (T := TX4) (N := 21) a1 rfl E.v mdl_o) rfl rfl (Nat.le_of_ble_eq_true rfl) (Nat.le_of_ble_eq_true rfl) (Nat.le_of_ble_eq_true rfl) dX4_knock_88 0 0 (Nat.le_of_ble_eq_true rfl) (Nat.le_of_ble_eq_true rfl) ?_
              refine r_ifB_eq (b := sChalk (S.2 1) x) (tgt := 108) E dX4_knock_91 (by decide) (fun c12 => ?_) (fun c12 => ?_)
              · refine r_iconst E (nI 0) dX4_knock_108 (by decide) ?_
                refine r_top (v' := .int (nI 0)) rfl ?_
                refine r_top (v' := .int (sNodB (S.2 1) c i8)) (by unfold sNodB; rw [hx]; simp [c12]) ?_
                refine r_iadd E dX4_knock_109 ?_
                refine r_istore_n E [some (.ref m), some (.int (nI c)), some (.int ((sKnK (S.2 1) c i8) + (sNodB (S.2 1) c i8))), some (.int (nI i8)), some (.int (cI (sBsd c i8)))] dX4_knock_110 rfl rfl ?_
                refine r_iinc E (nI (i8 + 1)) [some (.ref m), some (.int (nI c)), some (.int ((sKnK (S.2 1) c i8) + (sNodB (S.2 1) c i8))), some (.int (nI (i8 + 1))), some (.int (cI (sBsd c i8)))] dX4_knock_111 rfl (nI_1 i8) rfl rfl ?_
                refine r_goto (tgt := 67) E dX4_knock_114 (by decide) ?_
                refine fmW.few (L' := [some (.ref m), some (.int (nI c)), some (.int ((sKnK (S.2 1) c i8) + (sNodB (S.2 1) c i8))), some (.int (nI (i8 + 1))), none]) (fmFew_n (L := [some (.ref m), some (.int (nI c)), some (.int ((sKnK (S.2 1) c i8) + (sNodB (S.2 1) c i8))), some (.int (nI (i8 + 1))), some (.int (cI (sBsd c i8)))]) 4) ?_
                exact ih (i8 + 1) (by omega)
              · refine r_aload_n E dX4_knock_94 rfl ?_
                refine r_getf E cl_X4 1 (by decide) q1887 mdl_o rfl dX4_knock_95 ?_
                refine r_sipush E (nI 128) dX4_knock_98 (by decide) ?_
                refine r_iload E dX4_knock_101 rfl ?_
                refine r_top (v' := .int (nI x)) (congrArg Value.int (by rw [hx]; rfl)) ?_
                refine r_iaddN E dX4_knock_103 ?_
                refine r_iald E mdl_1 (by omega) (by omega) dX4_knock_104 ?_
                refine r_top (v' := .int ((S.2 1) (128 + x))) rfl ?_
                refine r_goto (tgt := 109) E dX4_knock_105 (by decide) ?_
                refine r_top (v' := .int (sNodB (S.2 1) c i8)) (by unfold sNodB; rw [hx]; simp [c12]) ?_
                refine r_iadd E dX4_knock_109 ?_
                refine r_istore_n E [some (.ref m), some (.int (nI c)), some (.int ((sKnK (S.2 1) c i8) + (sNodB (S.2 1) c i8))), some (.int (nI i8)), some (.int (cI (sBsd c i8)))] dX4_knock_110 rfl rfl ?_
                refine r_iinc E (nI (i8 + 1)) [some (.ref m), some (.int (nI c)), some (.int ((sKnK (S.2 1) c i8) + (sNodB (S.2 1) c i8))), some (.int (nI (i8 + 1))), some (.int (cI (sBsd c i8)))] dX4_knock_111 rfl (nI_1 i8) rfl rfl ?_
                refine r_goto (tgt := 67) E dX4_knock_114 (by decide) ?_
                refine fmW.few (L' := [some (.ref m), some (.int (nI c)), some (.int ((sKnK (S.2 1) c i8) + (sNodB (S.2 1) c i8))), some (.int (nI (i8 + 1))), none]) (fmFew_n (L := [some (.ref m), some (.int (nI c)), some (.int ((sKnK (S.2 1) c i8) + (sNodB (S.2 1) c i8))), some (.int (nI (i8 + 1))), some (.int (cI (sBsd c i8)))]) 4) ?_
                exact ih (i8 + 1) (by omega)
      exact lp8 4 0 (by omega)
    · refine r_hp (h' := mdl m (upd S.1 0 (nI 2), S.2) h0) (by rw [nt1 c7, upd_uu]) ?_
      refine r_iconst E (nI 0) dX4_knock_50 (by decide) ?_
      have hs : aKnock (S.2 1) (nI c) K = aThr 2 := by
        unfold aKnock; rw [hcn]
        exact (aG_f c3).trans ((aG_t c7).trans (rfl))
      exact r_ireturn E P rfl dX4_knock_51 ⟨by rw [hs]; rfl, by rw [hs]; rfl⟩

set_option maxHeartbeats 4000000 in
theorem ct_X4_best (G : fmG) (hl : (fmLn G).stackTraces = false) (m : Nat) (S : MSt) (h0 : fmHp) (s : Int32) (K : Nat) (hK : S.2 1 350 = nI K) (hK8 : K ≤ 8) (pk : Nat) (hP : S.2 1 351 = nI pk) (hP6 : pk ≤ 6) : Ct G yX4_best (ws_ yX4_best cX4_best 4 (some .int)) { frames := 6, cells := 0, slots := 0, locals := 137 } [.ref m, .int s] (mdl m S h0) (fmRet (some (.int (aAns (aBest (S.2 1) s K pk)))) (mdl m (qSt S (aBest (S.2 1) s K pk)) h0)) fmNo := by
  refine Ct.of hl (by decide +kernel) (Nat.le_of_ble_eq_true rfl) (fun Γ E P => ?_)
  refine r_aload_n E dX4_best_0 rfl ?_
  refine r_iconst E (nI 1) dX4_best_1 (by decide) ?_
  suffices j1 : fmW G Γ (mdl m S h0) 0 0 15 [some (.ref m), some (.int s), none, none] [.int (bI (!sBetween s (nI 0) (nI K - nI 1))), .int (nI 1), .ref m] by
    refine r_aload_n E dX4_best_2 rfl ?_
    refine r_iload_n E dX4_best_3 rfl ?_
    refine r_callV1 (v1 := .int (bI (sBetween s (nI 0) (nI K - nI 1)))) E (ct_X4_isShaft G hl m S h0 s K hK) mX4_isShaft q2099 q2101 qs55 (fun H a1 => fm_rc (ci := 0) (C := RX4) (T := TX4) (N := 21) a1 rfl E.v mdl_o) rfl rfl (Nat.le_of_ble_eq_true rfl) (Nat.le_of_ble_eq_true rfl) (Nat.le_of_ble_eq_true rfl) dX4_best_4 0 0 (Nat.le_of_ble_eq_true rfl) (Nat.le_of_ble_eq_true rfl) ?_
    refine r_ifB_ne (b := sBetween s (nI 0) (nI K - nI 1)) (tgt := 14) E dX4_best_7 (by decide) (fun c2 => ?_) (fun c2 => ?_)
    · refine r_iconst E (nI 0) dX4_best_14 (by decide) ?_
      refine r_top (v' := .int (bI (!sBetween s (nI 0) (nI K - nI 1)))) (by rw [show (!sBetween s (nI 0) (nI K - nI 1)) = false by simp [c2]]; rfl) ?_
      exact j1
    · refine r_iconst E (nI 1) dX4_best_10 (by decide) ?_
      refine r_goto (tgt := 15) E dX4_best_11 (by decide) ?_
      refine r_top (v' := .int (bI (!sBetween s (nI 0) (nI K - nI 1)))) (by rw [show (!sBetween s (nI 0) (nI K - nI 1)) = true by simp [c2]]; rfl) ?_
      exact j1
  refine r_callV1 (v1 := .int (bI (!sBetween s (nI 0) (nI K - nI 1)))) E (ct_X4_fails G hl m S h0 (nI 1) (!sBetween s (nI 0) (nI K - nI 1))) mX4_fails q1965 q1967 qs33 (fun H a1 => fm_rc (ci := 0) (C := RX4) (T := TX4) (N := 21) a1 rfl E.v mdl_o) rfl rfl (Nat.le_of_ble_eq_true rfl) (Nat.le_of_ble_eq_true rfl) (Nat.le_of_ble_eq_true rfl) dX4_best_15 0 0 (Nat.le_of_ble_eq_true rfl) (Nat.le_of_ble_eq_true rfl) ?_
  refine r_ifB_eq (b := !sBetween s (nI 0) (nI K - nI 1)) (tgt := 23) E dX4_best_18 (by decide) (fun c3 => ?_) (fun c3 => ?_)
  · refine r_hp (h' := mdl m (upd S.1 0 (nI 0), S.2) h0) (by rw [nf1 c3]) ?_
    obtain ⟨j, hj, rfl⟩ := sShaft_f hK8 c3
    have hcn : cN (nI j) = j := cN_n (by omega)
    refine r_iconst E (-1) dX4_best_23 (by decide) ?_
    refine r_istore_n E [some (.ref m), some (.int (nI j)), some (.int (-1)), none] dX4_best_24 rfl rfl ?_
    refine r_iconst E (nI 0) dX4_best_25 (by decide) ?_
    refine r_istore_n E [some (.ref m), some (.int (nI j)), some (.int (-1)), some (.int (nI 0))] dX4_best_26 rfl rfl ?_
    have aft : ∀ (q : Option Value), fmW G Γ (mdl m (upd S.1 0 (nI 0), S.2) h0) 0 0 80 [some (.ref m), some (.int (nI j)), some (.int (cI (sBest (S.2 1) j K pk))), q] [] := by
      intro q
      refine fmW.few (L' := [some (.ref m), some (.int (nI j)), some (.int (cI (sBest (S.2 1) j K pk))), none]) (fmFew_n (L := [some (.ref m), some (.int (nI j)), some (.int (cI (sBest (S.2 1) j K pk))), q]) 3) ?_
      refine r_aload_n E dX4_best_80 rfl ?_
      refine r_iconst E (nI 2) dX4_best_81 (by decide) ?_
      suffices j4 : fmW G Γ (mdl m (upd S.1 0 (nI 0), S.2) h0) 0 0 91 [some (.ref m), some (.int (nI j)), some (.int (cI (sBest (S.2 1) j K pk))), none] [.int (bI ((sBest (S.2 1) j K pk).isNone)), .int (nI 2), .ref m] by
        refine r_iload_n E dX4_best_82 rfl ?_
        refine r_ifC_ge (o := sBest (S.2 1) j K pk) (tgt := 90) E dX4_best_83 (by decide) sBest_31 (fun c5 => ?_) (fun c5 => ?_)
        · refine r_iconst E (nI 0) dX4_best_90 (by decide) ?_
          refine r_top (v' := .int (bI ((sBest (S.2 1) j K pk).isNone))) (by rw [show ((sBest (S.2 1) j K pk).isNone) = false by simp [c5, Option.isSome_iff_ne_none]]; rfl) ?_
          exact j4
        · refine r_iconst E (nI 1) dX4_best_86 (by decide) ?_
          refine r_goto (tgt := 91) E dX4_best_87 (by decide) ?_
          refine r_top (v' := .int (bI ((sBest (S.2 1) j K pk).isNone))) (by rw [show ((sBest (S.2 1) j K pk).isNone) = true by simp [c5, Option.isSome_iff_ne_none]]; rfl) ?_
          exact j4
      refine r_callV1 (v1 := .int (bI ((sBest (S.2 1) j K pk).isNone))) E (ct_X4_fails G hl m (upd S.1 0 (nI 0), S.2) h0 (nI 2) ((sBest (S.2 1) j K pk).isNone)) mX4_fails q1965 q1967 qs33 (fun H a1 => fm_rc (ci := 0) (C := RX4) (T := TX4) (N := 21) a1 rfl E.v mdl_o) rfl rfl (Nat.le_of_ble_eq_true rfl) (Nat.le_of_ble_eq_true rfl) (Nat.le_of_ble_eq_true rfl) dX4_best_91 0 0 (Nat.le_of_ble_eq_true rfl) (Nat.le_of_ble_eq_true rfl) ?_
      refine r_ifB_eq (b := (sBest (S.2 1) j K pk).isNone) (tgt := 101) E dX4_best_94 (by decide) (fun c6 => ?_) (fun c6 => ?_)
      · refine r_hp (h' := mdl m (upd S.1 0 (nI 0), S.2) h0) (by rw [nf1 c6, upd_uu]) ?_
        refine r_iload_n E dX4_best_101 rfl ?_
        have hs : aBest (S.2 1) (nI j) K pk = aDon (cI (sBest (S.2 1) j K pk)) (S.2 1) := by
          unfold aBest; rw [hcn]
          exact (aG_f c3).trans ((aG_f c6).trans (rfl))
        exact r_ireturn E P rfl dX4_best_102 ⟨by rw [hs]; rfl, by rw [hs]; rfl⟩
      · refine r_hp (h' := mdl m (upd S.1 0 (nI 2), S.2) h0) (by rw [nt1 c6, upd_uu]) ?_
        refine r_iconst E (nI 0) dX4_best_97 (by decide) ?_
        refine r_goto (tgt := 102) E dX4_best_98 (by decide) ?_
        have hs : aBest (S.2 1) (nI j) K pk = aThr 2 := by
          unfold aBest; rw [hcn]
          exact (aG_f c3).trans ((aG_t c6).trans (rfl))
        exact r_ireturn E P rfl dX4_best_102 ⟨by rw [hs]; rfl, by rw [hs]; rfl⟩
    by_cases hz : (S.2 1) (328 + j) = nI 0
    · have hB : sBest (S.2 1) j K pk = sBestK (S.2 1) j K pk 64 := if_pos hz
      have lp7 : ∀ (n7 i7 : Nat), i7 + n7 = 64 → fmW G Γ (mdl m (upd S.1 0 (nI 0), S.2) h0) 0 0 27 [some (.ref m), some (.int (nI j)), some (.int (cI (sBestK (S.2 1) j K pk i7))), some (.int (nI i7))] [] := by
        intro n7
        induction n7 with
        | zero =>
          intro i7 hi7
          refine r_iload_n E dX4_best_27 rfl ?_
          refine r_bipush E (nI 64) dX4_best_28 (by decide) ?_
          refine r_icmpN_ge (tgt := 80) E dX4_best_30 (by decide) (by omega) (by omega) (fun c8 => ?_) (fun c8 => ?_)
          · have h64 : i7 = 64 := by omega
            have := aft (some (.int (nI i7)))
            rw [hB, ← h64] at this
            exact this
          · exfalso; omega
        | succ n7 ih =>
          intro i7 hi7
          refine r_iload_n E dX4_best_27 rfl ?_
          refine r_bipush E (nI 64) dX4_best_28 (by decide) ?_
          refine r_icmpN_ge (tgt := 80) E dX4_best_30 (by decide) (by omega) (by omega) (fun c9 => ?_) (fun c9 => ?_)
          · exfalso; omega
          · refine r_aload_n E dX4_best_33 rfl ?_
            refine r_getf E cl_X4 1 (by decide) q1887 mdl_o rfl dX4_best_34 ?_
            refine r_sipush E (nI 328) dX4_best_37 (by decide) ?_
            refine r_iload_n E dX4_best_40 rfl ?_
            refine r_iaddN E dX4_best_41 ?_
            refine r_iald E mdl_1 (by omega) (by omega) dX4_best_42 ?_
            refine r_top (v' := .int ((S.2 1) (328 + j))) rfl ?_
            refine r_top (v' := .int (nI 0)) (congrArg Value.int hz) ?_
            refine r_if_ne (tgt := 80) E dX4_best_43 (by decide) (fun c => absurd rfl c) (fun _ => ?_)
            refine r_aload_n E dX4_best_46 rfl ?_
            refine r_iload_n E dX4_best_47 rfl ?_
            refine r_iload_n E dX4_best_48 rfl ?_
            refine r_callV1 (v1 := .int (bI (sDigs (S.2 1) (nI j) i7 K pk))) E (ct_X4_isDiggable G hl m (upd S.1 0 (nI 0), S.2) h0 (nI j) i7 K hK hK8 pk hP hP6 (by omega)) mX4_isDiggable q2147 q2149 qs62 (fun H a1 => fm_rc (ci := 0) (C := RX4) (T := TX4) (N := 21) a1 rfl E.v mdl_o) rfl rfl (Nat.le_of_ble_eq_true rfl) (Nat.le_of_ble_eq_true rfl) (Nat.le_of_ble_eq_true rfl) dX4_best_49 0 0 (Nat.le_of_ble_eq_true rfl) (Nat.le_of_ble_eq_true rfl) ?_
            refine r_ifB_eq (b := sDigs (S.2 1) (nI j) i7 K pk) (tgt := 72) E dX4_best_52 (by decide) (fun c10 => ?_) (fun c10 => ?_)
            · have hs1 := sBestK_no c10
              refine r_iload_n E dX4_best_72 rfl ?_
              refine r_top (v' := .int (cI (sBestK (S.2 1) j K pk (i7 + 1)))) (by rw [hs1]) ?_
              refine r_istore_n E [some (.ref m), some (.int (nI j)), some (.int (cI (sBestK (S.2 1) j K pk (i7 + 1)))), some (.int (nI i7))] dX4_best_73 rfl rfl ?_
              refine r_iinc E (nI (i7 + 1)) [some (.ref m), some (.int (nI j)), some (.int (cI (sBestK (S.2 1) j K pk (i7 + 1)))), some (.int (nI (i7 + 1)))] dX4_best_74 rfl (nI_1 i7) rfl rfl ?_
              refine r_goto (tgt := 27) E dX4_best_77 (by decide) ?_
              exact ih (i7 + 1) (by omega)
            · refine r_iload_n E dX4_best_55 rfl ?_
              refine r_ifC_lt (o := sBestK (S.2 1) j K pk i7) (tgt := 68) E dX4_best_56 (by decide) (fun x hx => Nat.lt_trans (sBestK_lt hx) (by omega)) (fun c11 => ?_) (fun c11 => ?_)
              · have hs1 := sBestK_first c10 c11
                refine r_iload_n E dX4_best_68 rfl ?_
                refine r_goto (tgt := 73) E dX4_best_69 (by decide) ?_
                refine r_top (v' := .int (cI (sBestK (S.2 1) j K pk (i7 + 1)))) (by rw [hs1]; rfl) ?_
                refine r_istore_n E [some (.ref m), some (.int (nI j)), some (.int (cI (sBestK (S.2 1) j K pk (i7 + 1)))), some (.int (nI i7))] dX4_best_73 rfl rfl ?_
                refine r_iinc E (nI (i7 + 1)) [some (.ref m), some (.int (nI j)), some (.int (cI (sBestK (S.2 1) j K pk (i7 + 1)))), some (.int (nI (i7 + 1)))] dX4_best_74 rfl (nI_1 i7) rfl rfl ?_
                refine r_goto (tgt := 27) E dX4_best_77 (by decide) ?_
                exact ih (i7 + 1) (by omega)
              · obtain ⟨x, hx⟩ := Option.ne_none_iff_exists'.mp c11
                have hx2 := sBestK_lt hx
                refine r_aload_n E dX4_best_59 rfl ?_
                refine r_iload_n E dX4_best_60 rfl ?_
                refine r_iload_n E dX4_best_61 rfl ?_
                refine r_top (v' := .int (nI x)) (congrArg Value.int (by rw [hx]; rfl)) ?_
                refine r_callV1 (v1 := .int (bI (sBetter (S.2 1) i7 x))) E (ct_X4_isBetter G hl m (upd S.1 0 (nI 0), S.2) h0 i7 x (by omega) (by omega)) mX4_isBetter q2151 q2153 qs63 (fun H a1 => fm_rc (ci := 0) (C := RX4) (T := TX4) (N := 21) a1 rfl E.v mdl_o) rfl rfl (Nat.le_of_ble_eq_true rfl) (Nat.le_of_ble_eq_true rfl) (Nat.le_of_ble_eq_true rfl) dX4_best_62 0 0 (Nat.le_of_ble_eq_true rfl) (Nat.le_of_ble_eq_true rfl) ?_
                refine r_ifB_eq (b := sBetter (S.2 1) i7 x) (tgt := 72) E dX4_best_65 (by decide) (fun c12 => ?_) (fun c12 => ?_)
                · have hs1 := sBestK_keep hx c12
                  refine r_iload_n E dX4_best_72 rfl ?_
                  refine r_top (v' := .int (cI (sBestK (S.2 1) j K pk (i7 + 1)))) (by rw [hs1]) ?_
                  refine r_istore_n E [some (.ref m), some (.int (nI j)), some (.int (cI (sBestK (S.2 1) j K pk (i7 + 1)))), some (.int (nI i7))] dX4_best_73 rfl rfl ?_
                  refine r_iinc E (nI (i7 + 1)) [some (.ref m), some (.int (nI j)), some (.int (cI (sBestK (S.2 1) j K pk (i7 + 1)))), some (.int (nI (i7 + 1)))] dX4_best_74 rfl (nI_1 i7) rfl rfl ?_
                  refine r_goto (tgt := 27) E dX4_best_77 (by decide) ?_
                  exact ih (i7 + 1) (by omega)
                · have hs1 := sBestK_take c10 hx c12
                  refine r_iload_n E dX4_best_68 rfl ?_
                  refine r_goto (tgt := 73) E dX4_best_69 (by decide) ?_
                  refine r_top (v' := .int (cI (sBestK (S.2 1) j K pk (i7 + 1)))) (by rw [hs1]; rfl) ?_
                  refine r_istore_n E [some (.ref m), some (.int (nI j)), some (.int (cI (sBestK (S.2 1) j K pk (i7 + 1)))), some (.int (nI i7))] dX4_best_73 rfl rfl ?_
                  refine r_iinc E (nI (i7 + 1)) [some (.ref m), some (.int (nI j)), some (.int (cI (sBestK (S.2 1) j K pk (i7 + 1)))), some (.int (nI (i7 + 1)))] dX4_best_74 rfl (nI_1 i7) rfl rfl ?_
                  refine r_goto (tgt := 27) E dX4_best_77 (by decide) ?_
                  exact ih (i7 + 1) (by omega)
      exact lp7 64 0 (by omega)
    · have hB : sBest (S.2 1) j K pk = none := if_neg hz
      refine r_iload_n E dX4_best_27 rfl ?_
      refine r_bipush E (nI 64) dX4_best_28 (by decide) ?_
      refine r_icmpN_ge (tgt := 80) E dX4_best_30 (by decide) (by omega) (by omega) (fun c => absurd c (by decide)) (fun _ => ?_)
      refine r_aload_n E dX4_best_33 rfl ?_
      refine r_getf E cl_X4 1 (by decide) q1887 mdl_o rfl dX4_best_34 ?_
      refine r_sipush E (nI 328) dX4_best_37 (by decide) ?_
      refine r_iload_n E dX4_best_40 rfl ?_
      refine r_iaddN E dX4_best_41 ?_
      refine r_iald E mdl_1 (by omega) (by omega) dX4_best_42 ?_
      refine r_top (v' := .int ((S.2 1) (328 + j))) rfl ?_
      refine r_if_ne (tgt := 80) E dX4_best_43 (by decide) (fun _ => ?_) (fun c => absurd c hz)
      have := aft (some (.int (nI 0)))
      rw [hB] at this
      exact this
  · refine r_hp (h' := mdl m (upd S.1 0 (nI 1), S.2) h0) (by rw [nt1 c3]) ?_
    refine r_iconst E (nI 0) dX4_best_21 (by decide) ?_
    have hs : aBest (S.2 1) s K pk = aThr 1 := by
      unfold aBest
      exact (aG_t c3).trans (rfl)
    exact r_ireturn E P rfl dX4_best_22 ⟨by rw [hs]; rfl, by rw [hs]; rfl⟩

