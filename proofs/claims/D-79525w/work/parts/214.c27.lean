set_option maxHeartbeats 4000000 in
theorem ct_X9_cell (G : fmG) (hl : (fmLn G).stackTraces = false) (F : Nat → Nat) (b : Nat) (n : Nat) : ∀ (h : fmHp) (a i : Nat) (hi : i ≤ n) (hn : n < 100) (hT : TrL h F b n a), Ct G yX9_cell (ws_ yX9_cell cX9_cell 2 (some .int)) { frames := n + 2, cells := 0, slots := 0, locals := 22 * n + 40 } [.ref a, .int (nI i)] h (fmRet (some (.int (nI (sWalk F b i)))) h) fmNo := by
  induction n with
  | zero =>
    intro h a i hi hn hT
    refine Ct.of hl (by decide +kernel) (Nat.le_of_ble_eq_true rfl) (fun Γ E P => ?_)
    obtain ⟨ah, hta, hn0, hn1⟩ := hT.top
    refine r_iload_n E dX9_cell_0 rfl ?_
    refine r_aload_n E dX9_cell_1 rfl ?_
    refine r_getf E cl_X9 2 (by decide) q1240 hta rfl dX9_cell_2 ?_
    refine r_iconst E (nI 1) dX9_cell_5 (by decide) ?_
    refine r_isubN E dX9_cell_6 (by omega) ?_
    refine r_icmpN_ne (tgt := 17) E dX9_cell_7 (by decide) (by omega) (by omega) (fun c => absurd (show i = 0 + 1 - 1 by omega) c) (fun _ => ?_)
    refine r_aload_n E dX9_cell_10 rfl ?_
    refine r_getf E cl_X9 0 (by decide) q1237 hta rfl dX9_cell_11 ?_
    refine r_goto (tgt := 25) E dX9_cell_14 (by decide) ?_
    refine r_top (v' := .int (nI (sWalk F b i))) (congrArg (fun z => Value.int (nI (sWalk F b z))) (by omega)) ?_
    exact r_ireturn E P rfl dX9_cell_25 ⟨rfl, rfl⟩
  | succ n ih =>
    intro h a i hi hn hT
    refine Ct.of hl (by decide +kernel) (Nat.le_of_ble_eq_true rfl) (fun Γ E P => ?_)
    obtain ⟨ah, hta, hn0, hn1⟩ := hT.top
    refine r_iload_n E dX9_cell_0 rfl ?_
    refine r_aload_n E dX9_cell_1 rfl ?_
    refine r_getf E cl_X9 2 (by decide) q1240 hta rfl dX9_cell_2 ?_
    refine r_iconst E (nI 1) dX9_cell_5 (by decide) ?_
    refine r_isubN E dX9_cell_6 (by omega) ?_
    refine r_icmpN_ne (tgt := 17) E dX9_cell_7 (by decide) (by omega) (by omega) (fun c => ?_) (fun c => ?_)
    · obtain ⟨a1, rfl, hT1⟩ := hn1 (by omega)
      refine r_aload_n E dX9_cell_17 rfl ?_
      refine r_getf E cl_X9 1 (by decide) q1239 hta rfl dX9_cell_18 ?_
      refine r_iload_n E dX9_cell_21 rfl ?_
      have hT1' : TrL h F b n a1 := hT1
      obtain ⟨ah2, hta2, -, -⟩ := hT1'.top
      refine r_callV1 (v1 := .int (nI (sWalk F b i))) E (ih h a1 i (by omega) (by omega) hT1') mX9_cell q1311 q1308 q1309 (fun H a1 => fm_rc (ci := 7) (C := RX9) (T := TX9) (N := 3) a1 rfl E.v hta2) rfl rfl (by show n + 2 + 1 ≤ n + 1 + 2; omega) (by show 8 + (2 + 11) + (22 * n + 40) ≤ 22 * (n + 1) + 40; omega) (Nat.le_of_ble_eq_true rfl) dX9_cell_22 0 0 (Nat.le_of_ble_eq_true rfl) (Nat.le_of_ble_eq_true rfl) ?_
      exact r_ireturn E P rfl dX9_cell_25 ⟨rfl, rfl⟩
    · refine r_aload_n E dX9_cell_10 rfl ?_
      refine r_getf E cl_X9 0 (by decide) q1237 hta rfl dX9_cell_11 ?_
      refine r_goto (tgt := 25) E dX9_cell_14 (by decide) ?_
      refine r_top (v' := .int (nI (sWalk F b i))) (congrArg (fun z => Value.int (nI (sWalk F b z))) (by omega)) ?_
      exact r_ireturn E P rfl dX9_cell_25 ⟨rfl, rfl⟩

set_option maxHeartbeats 4000000 in
theorem ct_X9_strokes (G : fmG) (hl : (fmLn G).stackTraces = false) {d g sl se pl pe : Nat} {gf sf pf : Nat → Nat} {N : Nat → Int32} {K pk : Nat} (F : Nat → Nat) (hp : bPre F) (hch : ∀ x, F x ≠ 0 → sChalk N x = true) (b : Nat) (hb : b < 64) (n : Nat) : ∀ (h : fmHp) (hC : CC G h) (hM : MineAt G h d g sl se pl pe gf sf pf N K pk) (a : Nat) (hn : n < F b) (hT : TrL h F b n a), Ct G yX9_strokes (ws_ yX9_strokes cX9_strokes 2 (some .int)) { frames := n + 4, cells := 0, slots := 0, locals := 22 * n + 100 } [.ref a, .ref d] h (fmRet (some (.int (sWayS N F b (n + 1)))) h) fmNo := by
  induction n with
  | zero =>
    intro h hC hM a hn hT
    refine Ct.of hl (by decide +kernel) (Nat.le_of_ble_eq_true rfl) (fun Γ E P => ?_)
    obtain ⟨ah, hta, hn0, hn1⟩ := hT.top
    obtain ⟨hd, -⟩ := id hM
    obtain ⟨hw6, hwF⟩ := sWalk_ok hp hb (0) (by omega)
    have hchk : sChalk N (sWalk F b (0)) = true := hch _ (by omega)
    refine r_aload_n E dX9_strokes_0 rfl ?_
    refine r_aload_n E dX9_strokes_1 rfl ?_
    refine r_getf E cl_X9 0 (by decide) q1237 hta rfl dX9_strokes_2 ?_
    refine r_callV1 (v1 := .int (sStrO N (sWalk F b (0)))) E (ct_X2_strokes G hl h hC hM (sWalk F b (0)) hw6) mX2_strokes q1323 q1108 q1109 (fun H a1 => fm_rc (ci := 2) (C := RX2) (T := TX2) (N := 7) a1 rfl E.v hd) rfl rfl (Nat.le_of_ble_eq_true rfl) (Nat.le_of_ble_eq_true rfl) (Nat.le_of_ble_eq_true rfl) dX9_strokes_5 0 0 (Nat.le_of_ble_eq_true rfl) (Nat.le_of_ble_eq_true rfl) ?_
    refine r_top (v' := .int (sStrokes N (sWalk F b (0)))) (congrArg Value.int (sStrO_ch hchk)) ?_
    obtain rfl := hn0 rfl
    refine r_aload_n E dX9_strokes_8 rfl ?_
    refine r_getf E cl_X9 1 (by decide) q1239 hta rfl dX9_strokes_9 ?_
    refine r_ifnonnullN E dX9_strokes_12 ?_
    refine r_iconst E (nI 0) dX9_strokes_15 (by decide) ?_
    refine r_goto (tgt := 27) E dX9_strokes_16 (by decide) ?_
    refine r_iadd E dX9_strokes_27 ?_
    refine r_top (v' := .int (sWayS N F b (0 + 1))) (congrArg Value.int (by show sStrokes N (sWalk F b 0) + nI 0 = nI 0 + sStrokes N (sWalk F b 0); exact Int32.add_comm _ _)) ?_
    exact r_ireturn E P rfl dX9_strokes_28 ⟨rfl, rfl⟩
  | succ n ih =>
    intro h hC hM a hn hT
    refine Ct.of hl (by decide +kernel) (Nat.le_of_ble_eq_true rfl) (fun Γ E P => ?_)
    obtain ⟨ah, hta, hn0, hn1⟩ := hT.top
    obtain ⟨hd, -⟩ := id hM
    obtain ⟨hw6, hwF⟩ := sWalk_ok hp hb (n + 1) (by omega)
    have hchk : sChalk N (sWalk F b (n + 1)) = true := hch _ (by omega)
    refine r_aload_n E dX9_strokes_0 rfl ?_
    refine r_aload_n E dX9_strokes_1 rfl ?_
    refine r_getf E cl_X9 0 (by decide) q1237 hta rfl dX9_strokes_2 ?_
    refine r_callV1 (v1 := .int (sStrO N (sWalk F b (n + 1)))) E (ct_X2_strokes G hl h hC hM (sWalk F b (n + 1)) hw6) mX2_strokes q1323 q1108 q1109 (fun H a1 => fm_rc (ci := 2) (C := RX2) (T := TX2) (N := 7) a1 rfl E.v hd) rfl rfl (Nat.le_of_ble_eq_true rfl) (Nat.le_of_ble_eq_true rfl) (Nat.le_of_ble_eq_true rfl) dX9_strokes_5 0 0 (Nat.le_of_ble_eq_true rfl) (Nat.le_of_ble_eq_true rfl) ?_
    refine r_top (v' := .int (sStrokes N (sWalk F b (n + 1)))) (congrArg Value.int (sStrO_ch hchk)) ?_
    obtain ⟨a1, rfl, hT1⟩ := hn1 (by omega)
    refine r_aload_n E dX9_strokes_8 rfl ?_
    refine r_getf E cl_X9 1 (by decide) q1239 hta rfl dX9_strokes_9 ?_
    refine r_ifnonnull (tgt := 19) E dX9_strokes_12 (by decide) ?_
    refine r_aload_n E dX9_strokes_19 rfl ?_
    refine r_getf E cl_X9 1 (by decide) q1239 hta rfl dX9_strokes_20 ?_
    refine r_aload_n E dX9_strokes_23 rfl ?_
    have hT1' : TrL h F b n a1 := hT1
    obtain ⟨ah2, hta2, -, -⟩ := hT1'.top
    refine r_callV1 (v1 := .int (sWayS N F b (n + 1))) E (ih h hC hM a1 (by omega) hT1') mX9_strokes q1324 q1320 q1321 (fun H a1 => fm_rc (ci := 7) (C := RX9) (T := TX9) (N := 3) a1 rfl E.v hta2) rfl rfl (by show n + 4 + 1 ≤ n + 1 + 4; omega) (by show 8 + (2 + 11) + (22 * n + 100) ≤ 22 * (n + 1) + 100; omega) (Nat.le_of_ble_eq_true rfl) dX9_strokes_24 0 0 (Nat.le_of_ble_eq_true rfl) (Nat.le_of_ble_eq_true rfl) ?_
    refine r_iadd E dX9_strokes_27 ?_
    refine r_top (v' := .int (sWayS N F b (n + 1 + 1))) (congrArg Value.int (by show sStrokes N (sWalk F b (n + 1)) + sWayS N F b (n + 1) = sWayS N F b (n + 1) + sStrokes N (sWalk F b (n + 1)); exact Int32.add_comm _ _)) ?_
    exact r_ireturn E P rfl dX9_strokes_28 ⟨rfl, rfl⟩

