set_option maxHeartbeats 4000000 in
theorem ct_X4_carryOut (G : fmG) (hl : (fmLn G).stackTraces = false) (m : Nat) (S : MSt) (h0 : fmHp) (tx : Bool) (h8 : S.1 8 = bI tx) (kp : Nat) (h4 : S.1 4 = nI kp) (hk8 : kp ≤ 8) (hRI : RI (S.2 1)) (p : Bool) (h16 : S.1 16 = bI p) (hs : sLet (S.1 17) = true) : Ct G yX4_carryOut (ws_ yX4_carryOut cX4_carryOut 1 none) { frames := 8, cells := 0, slots := 0, locals := 182 } [.ref m] (mdl m S h0) (fmRet none (mdl m (aSt S tx kp 1 1 2 (aCmd (S.2 1) (S.1 17) (S.1 18) (S.1 19) p)) h0)) fmNo := by
  refine Ct.of hl (by decide +kernel) (Nat.le_of_ble_eq_true rfl) (fun Γ E P => ?_)
  have h7 : S.1 17 = nI 115 ∨ S.1 17 = nI 100 ∨ S.1 17 = nI 112 ∨ S.1 17 = nI 117 ∨ S.1 17 = nI 99 ∨ S.1 17 = nI 116 ∨ S.1 17 = nI 110 := by simpa [sLet] using hs
  refine r_aload_n E dX4_carryOut_0 rfl ?_
  refine r_getf E cl_X4 17 (by decide) q1903 mdl_o rfl dX4_carryOut_1 ?_
  rcases h7 with e | e | e | e | e | e | e
  · refine r_top (v' := .int (nI 115)) (congrArg Value.int e) ?_
    refine r_tableIn (tgt := 96) E dX4_carryOut_4 (by decide) (by decide) rfl (by decide) ?_
    refine r_aload_n E dX4_carryOut_96 rfl ?_
    refine r_aload_n E dX4_carryOut_97 rfl ?_
    refine r_getf E cl_X4 18 (by decide) q1904 mdl_o rfl dX4_carryOut_98 ?_
    refine r_callV1 (v1 := .int (aAns (aSink (S.2 1) (S.1 18) (rK (S.2 1)) (rP (S.2 1))))) E (ct_X4_sink G hl m S h0 (S.1 18) tx h8 kp h4 hk8 (rK (S.2 1)) hRI.1.1 hRI.1.2 (rP (S.2 1)) hRI.2.1 hRI.2.2) mX4_sink q2245 q2072 q2073 (fun H a1 => fm_rc (ci := 0) (C := RX4) (T := TX4) (N := 21) a1 rfl E.v mdl_o) rfl rfl (Nat.le_of_ble_eq_true rfl) (Nat.le_of_ble_eq_true rfl) (Nat.le_of_ble_eq_true rfl) dX4_carryOut_101 0 0 (Nat.le_of_ble_eq_true rfl) (Nat.le_of_ble_eq_true rfl) ?_
    refine r_pop E dX4_carryOut_104 rfl ?_
    refine r_goto (tgt := 185) E dX4_carryOut_105 (by decide) ?_
    have ha : (aCmd (S.2 1) (S.1 17) (S.1 18) (S.1 19) p) = aSink (S.2 1) (S.1 18) (rK (S.2 1)) (rP (S.2 1)) := by
      unfold aCmd; rw [e, if_pos rfl]
    exact r_return E P rfl dX4_carryOut_185 ⟨rfl, by rw [ha, ← aSt_s aSink_c]⟩
  · refine r_top (v' := .int (nI 100)) (congrArg Value.int e) ?_
    refine r_tableIn (tgt := 108) E dX4_carryOut_4 (by decide) (by decide) rfl (by decide) ?_
    refine r_aload_n E dX4_carryOut_108 rfl ?_
    refine r_aload_n E dX4_carryOut_109 rfl ?_
    refine r_getf E cl_X4 18 (by decide) q1904 mdl_o rfl dX4_carryOut_110 ?_
    refine r_aload_n E dX4_carryOut_113 rfl ?_
    refine r_getf E cl_X4 19 (by decide) q1905 mdl_o rfl dX4_carryOut_114 ?_
    refine r_aload_n E dX4_carryOut_117 rfl ?_
    refine r_getf E cl_X4 16 (by decide) q1902 mdl_o rfl dX4_carryOut_118 ?_
    refine r_top (v' := .int (bI p)) (congrArg Value.int h16) ?_
    refine r_callV1 (v1 := .int (aAns (aDig (S.2 1) (S.1 18) (S.1 19) p (rK (S.2 1)) (rP (S.2 1))))) E (ct_X4_dig G hl m S h0 (S.1 18) (S.1 19) p tx h8 kp h4 hk8 (rK (S.2 1)) hRI.1.1 hRI.1.2 (rP (S.2 1)) hRI.2.1 hRI.2.2) mX4_dig q2246 q2096 q2097 (fun H a1 => fm_rc (ci := 0) (C := RX4) (T := TX4) (N := 21) a1 rfl E.v mdl_o) rfl rfl (Nat.le_of_ble_eq_true rfl) (Nat.le_of_ble_eq_true rfl) (Nat.le_of_ble_eq_true rfl) dX4_carryOut_121 0 0 (Nat.le_of_ble_eq_true rfl) (Nat.le_of_ble_eq_true rfl) ?_
    refine r_pop E dX4_carryOut_124 rfl ?_
    refine r_goto (tgt := 185) E dX4_carryOut_125 (by decide) ?_
    have ha : (aCmd (S.2 1) (S.1 17) (S.1 18) (S.1 19) p) = aDig (S.2 1) (S.1 18) (S.1 19) p (rK (S.2 1)) (rP (S.2 1)) := by
      unfold aCmd; rw [e, if_neg (by decide), if_pos rfl]
    exact r_return E P rfl dX4_carryOut_185 ⟨rfl, by rw [ha, ← aSt_s aDig_c]⟩
  · refine r_top (v' := .int (nI 112)) (congrArg Value.int e) ?_
    refine r_tableIn (tgt := 128) E dX4_carryOut_4 (by decide) (by decide) rfl (by decide) ?_
    refine r_aload_n E dX4_carryOut_128 rfl ?_
    refine r_aload_n E dX4_carryOut_129 rfl ?_
    refine r_getf E cl_X4 18 (by decide) q1904 mdl_o rfl dX4_carryOut_130 ?_
    refine r_callV1 (v1 := .int (aAns (aProp (S.2 1) (S.1 18)))) E (ct_X4_prop G hl m S h0 (S.1 18) tx h8 kp h4 hk8) mX4_prop q2247 q2112 q2113 (fun H a1 => fm_rc (ci := 0) (C := RX4) (T := TX4) (N := 21) a1 rfl E.v mdl_o) rfl rfl (Nat.le_of_ble_eq_true rfl) (Nat.le_of_ble_eq_true rfl) (Nat.le_of_ble_eq_true rfl) dX4_carryOut_133 0 0 (Nat.le_of_ble_eq_true rfl) (Nat.le_of_ble_eq_true rfl) ?_
    refine r_pop E dX4_carryOut_136 rfl ?_
    refine r_goto (tgt := 185) E dX4_carryOut_137 (by decide) ?_
    have ha : (aCmd (S.2 1) (S.1 17) (S.1 18) (S.1 19) p) = aProp (S.2 1) (S.1 18) := by
      unfold aCmd; rw [e, if_neg (by decide), if_neg (by decide), if_pos rfl]
    exact r_return E P rfl dX4_carryOut_185 ⟨rfl, by rw [ha, ← aSt_s aProp_c]⟩
  · refine r_top (v' := .int (nI 117)) (congrArg Value.int e) ?_
    refine r_tableIn (tgt := 140) E dX4_carryOut_4 (by decide) (by decide) rfl (by decide) ?_
    refine r_aload_n E dX4_carryOut_140 rfl ?_
    refine r_aload_n E dX4_carryOut_141 rfl ?_
    refine r_getf E cl_X4 18 (by decide) q1904 mdl_o rfl dX4_carryOut_142 ?_
    refine r_callV1 (v1 := .int (aAns (aUnprop (S.2 1) (S.1 18)))) E (ct_X4_unprop G hl m S h0 (S.1 18) tx h8 kp h4 hk8) mX4_unprop q2248 q2116 q2117 (fun H a1 => fm_rc (ci := 0) (C := RX4) (T := TX4) (N := 21) a1 rfl E.v mdl_o) rfl rfl (Nat.le_of_ble_eq_true rfl) (Nat.le_of_ble_eq_true rfl) (Nat.le_of_ble_eq_true rfl) dX4_carryOut_145 0 0 (Nat.le_of_ble_eq_true rfl) (Nat.le_of_ble_eq_true rfl) ?_
    refine r_pop E dX4_carryOut_148 rfl ?_
    refine r_goto (tgt := 185) E dX4_carryOut_149 (by decide) ?_
    have ha : (aCmd (S.2 1) (S.1 17) (S.1 18) (S.1 19) p) = aUnprop (S.2 1) (S.1 18) := by
      unfold aCmd; rw [e, if_neg (by decide), if_neg (by decide), if_neg (by decide), if_pos rfl]
    exact r_return E P rfl dX4_carryOut_185 ⟨rfl, by rw [ha, ← aSt_s aUnprop_c]⟩
  · refine r_top (v' := .int (nI 99)) (congrArg Value.int e) ?_
    refine r_tableIn (tgt := 152) E dX4_carryOut_4 (by decide) (by decide) rfl (by decide) ?_
    refine r_aload_n E dX4_carryOut_152 rfl ?_
    refine r_aload_n E dX4_carryOut_153 rfl ?_
    refine r_getf E cl_X4 18 (by decide) q1904 mdl_o rfl dX4_carryOut_154 ?_
    refine r_callV1 (v1 := .int (aAns (aClose (S.2 1) (S.1 18) (rK (S.2 1))))) E (ct_X4_close G hl m S h0 (S.1 18) tx h8 kp h4 hk8 (rK (S.2 1)) hRI.1.1 hRI.1.2) mX4_close q2249 q2120 q2121 (fun H a1 => fm_rc (ci := 0) (C := RX4) (T := TX4) (N := 21) a1 rfl E.v mdl_o) rfl rfl (Nat.le_of_ble_eq_true rfl) (Nat.le_of_ble_eq_true rfl) (Nat.le_of_ble_eq_true rfl) dX4_carryOut_157 0 0 (Nat.le_of_ble_eq_true rfl) (Nat.le_of_ble_eq_true rfl) ?_
    refine r_pop E dX4_carryOut_160 rfl ?_
    refine r_goto (tgt := 185) E dX4_carryOut_161 (by decide) ?_
    have ha : (aCmd (S.2 1) (S.1 17) (S.1 18) (S.1 19) p) = aClose (S.2 1) (S.1 18) (rK (S.2 1)) := by
      unfold aCmd; rw [e, if_neg (by decide), if_neg (by decide), if_neg (by decide), if_neg (by decide), if_pos rfl]
    exact r_return E P rfl dX4_carryOut_185 ⟨rfl, by rw [ha, ← aSt_s aClose_c]⟩
  · refine r_top (v' := .int (nI 116)) (congrArg Value.int e) ?_
    refine r_tableIn (tgt := 164) E dX4_carryOut_4 (by decide) (by decide) rfl (by decide) ?_
    refine r_aload_n E dX4_carryOut_164 rfl ?_
    refine r_aload_n E dX4_carryOut_165 rfl ?_
    refine r_getf E cl_X4 18 (by decide) q1904 mdl_o rfl dX4_carryOut_166 ?_
    refine r_callV1 (v1 := .int (aAns (aPick (S.2 1) (S.1 18) (rP (S.2 1))))) E (ct_X4_pick G hl m S h0 (S.1 18) tx h8 kp h4 hk8 (rP (S.2 1)) hRI.2.1 hRI.2.2) mX4_pick q2250 q2032 q2033 (fun H a1 => fm_rc (ci := 0) (C := RX4) (T := TX4) (N := 21) a1 rfl E.v mdl_o) rfl rfl (Nat.le_of_ble_eq_true rfl) (Nat.le_of_ble_eq_true rfl) (Nat.le_of_ble_eq_true rfl) dX4_carryOut_169 0 0 (Nat.le_of_ble_eq_true rfl) (Nat.le_of_ble_eq_true rfl) ?_
    refine r_pop E dX4_carryOut_172 rfl ?_
    refine r_goto (tgt := 185) E dX4_carryOut_173 (by decide) ?_
    have ha : (aCmd (S.2 1) (S.1 17) (S.1 18) (S.1 19) p) = aPick (S.2 1) (S.1 18) (rP (S.2 1)) := by
      unfold aCmd; rw [e, if_neg (by decide), if_neg (by decide), if_neg (by decide), if_neg (by decide), if_neg (by decide), if_pos rfl]
    exact r_return E P rfl dX4_carryOut_185 ⟨rfl, by rw [ha, ← aSt_p aPick_c]⟩
  · refine r_top (v' := .int (nI 110)) (congrArg Value.int e) ?_
    refine r_tableIn (tgt := 176) E dX4_carryOut_4 (by decide) (by decide) rfl (by decide) ?_
    refine r_aload_n E dX4_carryOut_176 rfl ?_
    refine r_aload_n E dX4_carryOut_177 rfl ?_
    refine r_getf E cl_X4 18 (by decide) q1904 mdl_o rfl dX4_carryOut_178 ?_
    refine r_callV1 (v1 := .int (aAns (aProps (S.2 1) (S.1 18)))) E (ct_X4_props G hl m S h0 (S.1 18) tx h8 kp h4 hk8) mX4_props q2251 q2020 q2021 (fun H a1 => fm_rc (ci := 0) (C := RX4) (T := TX4) (N := 21) a1 rfl E.v mdl_o) rfl rfl (Nat.le_of_ble_eq_true rfl) (Nat.le_of_ble_eq_true rfl) (Nat.le_of_ble_eq_true rfl) dX4_carryOut_181 0 0 (Nat.le_of_ble_eq_true rfl) (Nat.le_of_ble_eq_true rfl) ?_
    refine r_pop E dX4_carryOut_184 rfl ?_
    have ha : (aCmd (S.2 1) (S.1 17) (S.1 18) (S.1 19) p) = aProps (S.2 1) (S.1 18) := by
      unfold aCmd; rw [e, if_neg (by decide), if_neg (by decide), if_neg (by decide), if_neg (by decide), if_neg (by decide), if_neg (by decide)]
    exact r_return E P rfl dX4_carryOut_185 ⟨rfl, by rw [ha, ← aSt_q aProps_c]⟩

