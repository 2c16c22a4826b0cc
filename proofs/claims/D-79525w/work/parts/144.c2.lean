set_option maxHeartbeats 4000000 in
theorem ct_X1_inRange (G : fmG) (hl : (fmLn G).stackTraces = false) (h : fmHp) (v a b : Int32) : Ct G yX1_inRange (ws_ yX1_inRange cX1_inRange 3 (some .boolean)) { frames := 0, cells := 0, slots := 0, locals := 0 } [.int v, .int a, .int b] h (fmRet (some (.int (bI (sBetween v a b)))) h) fmNo := by
  refine Ct.of hl (by decide +kernel) (Nat.le_of_ble_eq_true rfl) (fun Γ E P => ?_)
  refine r_iload_n E dX1_inRange_0 rfl ?_
  refine r_iload_n E dX1_inRange_1 rfl ?_
  refine r_icmp_lt (x := v) (y := a) (tgt := 14) E dX1_inRange_2 (by decide) (fun c1 => ?_) (fun c1 => ?_)
  · refine r_iconst E (nI 0) dX1_inRange_14 (by decide) ?_
    refine r_top (v' := .int (bI (sBetween v a b))) (by rw [show sBetween v a b = false by unfold sBetween; rw [decide_eq_true c1]; rfl]; rfl) ?_
    exact r_zreturn E P rfl dX1_inRange_15 ⟨rfl, rfl⟩
  · refine r_iload_n E dX1_inRange_5 rfl ?_
    refine r_iload_n E dX1_inRange_6 rfl ?_
    refine r_icmp_gt (x := v) (y := b) (tgt := 14) E dX1_inRange_7 (by decide) (fun c2 => ?_) (fun c2 => ?_)
    · refine r_iconst E (nI 0) dX1_inRange_14 (by decide) ?_
      refine r_top (v' := .int (bI (sBetween v a b))) (by rw [show sBetween v a b = false by unfold sBetween; rw [decide_eq_false c1, decide_eq_true c2]; rfl]; rfl) ?_
      exact r_zreturn E P rfl dX1_inRange_15 ⟨rfl, rfl⟩
    · refine r_iconst E (nI 1) dX1_inRange_10 (by decide) ?_
      refine r_goto (tgt := 15) E dX1_inRange_11 (by decide) ?_
      refine r_top (v' := .int (bI (sBetween v a b))) (by rw [show sBetween v a b = true by unfold sBetween; rw [decide_eq_false c1, decide_eq_false c2]; rfl]; rfl) ?_
      exact r_zreturn E P rfl dX1_inRange_15 ⟨rfl, rfl⟩

set_option maxHeartbeats 4000000 in
theorem ctT_X1_requireIndex (G : fmG) (hl : (fmLn G).stackTraces = false) (h : fmHp)  : Ct G yX1_requireIndex (ws_ yX1_requireIndex cX1_requireIndex 1 none) { frames := 0, cells := 0, slots := 0, locals := 0 } [.int (bI true)] h (fmRet none h) fmNo := by
  refine Ct.of hl (by decide +kernel) (Nat.le_of_ble_eq_true rfl) (fun Γ E P => ?_)
  refine r_iload_n E dX1_requireIndex_0 rfl ?_
  refine r_ifB_ne (b := true) (tgt := 12) E dX1_requireIndex_1 (by decide) (fun _ => ?_) (fun c => absurd c (by decide))
  exact r_return E P rfl dX1_requireIndex_12 ⟨rfl, rfl⟩

set_option maxHeartbeats 4000000 in
theorem ctT_X1_requireState (G : fmG) (hl : (fmLn G).stackTraces = false) (h : fmHp)  : Ct G yX1_requireState (ws_ yX1_requireState cX1_requireState 1 none) { frames := 0, cells := 0, slots := 0, locals := 0 } [.int (bI true)] h (fmRet none h) fmNo := by
  refine Ct.of hl (by decide +kernel) (Nat.le_of_ble_eq_true rfl) (fun Γ E P => ?_)
  refine r_iload_n E dX1_requireState_0 rfl ?_
  refine r_ifB_ne (b := true) (tgt := 12) E dX1_requireState_1 (by decide) (fun _ => ?_) (fun c => absurd c (by decide))
  exact r_return E P rfl dX1_requireState_12 ⟨rfl, rfl⟩

set_option maxHeartbeats 4000000 in
theorem ctT_X1_requireElement (G : fmG) (hl : (fmLn G).stackTraces = false) (h : fmHp)  : Ct G yX1_requireElement (ws_ yX1_requireElement cX1_requireElement 1 none) { frames := 0, cells := 0, slots := 0, locals := 0 } [.int (bI true)] h (fmRet none h) fmNo := by
  refine Ct.of hl (by decide +kernel) (Nat.le_of_ble_eq_true rfl) (fun Γ E P => ?_)
  refine r_iload_n E dX1_requireElement_0 rfl ?_
  refine r_ifB_ne (b := true) (tgt := 12) E dX1_requireElement_1 (by decide) (fun _ => ?_) (fun c => absurd c (by decide))
  exact r_return E P rfl dX1_requireElement_12 ⟨rfl, rfl⟩

set_option maxHeartbeats 4000000 in
theorem ctT_X1_allow (G : fmG) (hl : (fmLn G).stackTraces = false) (h : fmHp) (x y : Int32) : Ct G yX1_allow (ws_ yX1_allow cX1_allow 3 none) { frames := 0, cells := 0, slots := 0, locals := 0 } [.int (bI true), .int x, .int y] h (fmRet none h) fmNo := by
  refine Ct.of hl (by decide +kernel) (Nat.le_of_ble_eq_true rfl) (fun Γ E P => ?_)
  refine r_iload_n E dX1_allow_0 rfl ?_
  refine r_ifB_ne (b := true) (tgt := 14) E dX1_allow_1 (by decide) (fun _ => ?_) (fun c => absurd c (by decide))
  exact r_return E P rfl dX1_allow_14 ⟨rfl, rfl⟩

