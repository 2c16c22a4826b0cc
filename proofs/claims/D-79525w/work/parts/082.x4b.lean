set_option maxHeartbeats 4000000 in
theorem ct_X4_bareFrom (G : fmG) (hl : (fmLn G).stackTraces = false) (m : Nat) (S : MSt) (h0 : fmHp) (c d : Nat) (hc : c < 64) (hd : d < 4) : Ct G yX4_bareFrom (ws_ yX4_bareFrom cX4_bareFrom 5 (some .int)) { frames := 2, cells := 0, slots := 0, locals := 45 } [.ref m, .int (nI c), .int (nI d)] (mdl m S h0) (fmRet (some (.int (nI (sRun (S.2 1) c d)))) (mdl m S h0)) fmNo := by
  refine Ct.of hl (by decide +kernel) (Nat.le_of_ble_eq_true rfl) (fun Γ E P => ?_)
  refine r_iconst E (nI 0) dX4_bareFrom_0 (by decide) ?_
  refine r_istore_n E [some (.ref m), some (.int (nI c)), some (.int (nI d)), some (.int (nI 0)), none] dX4_bareFrom_1 rfl rfl ?_
  refine r_iload_n E dX4_bareFrom_2 rfl ?_
  refine r_iload_n E dX4_bareFrom_3 rfl ?_
  refine r_callS1 (v1 := .int (cI (sBsd c d))) E (ct_X4_beside G hl (mdl m S h0) (c) (d) (by omega) (by omega)) mX4_beside q89 q2016 q2017 rfl rfl (Nat.le_of_ble_eq_true rfl) (Nat.le_of_ble_eq_true rfl) (Nat.le_of_ble_eq_true rfl) dX4_bareFrom_4 0 0 (Nat.le_of_ble_eq_true rfl) (Nat.le_of_ble_eq_true rfl) ?_
  refine r_istore E [some (.ref m), some (.int (nI c)), some (.int (nI d)), some (.int (nI 0)), some (.int (cI (sBsd c d)))] dX4_bareFrom_7 rfl rfl ?_
  have lp : ∀ (n j : Nat) (o : Option Nat), (∀ x, o = some x → x < 64 ∧ sLeft x d < n) → j + sRunF (S.2 1) d n o = sRun (S.2 1) c d → fmW G Γ (mdl m S h0) 0 0 9 [some (.ref m), some (.int (nI c)), some (.int (nI d)), some (.int (nI j)), some (.int (cI o))] [] := by
    intro n
    induction n with
    | zero =>
      intro j o ho hv
      refine r_aload_n E dX4_bareFrom_9 rfl ?_
      refine r_iload E dX4_bareFrom_10 rfl ?_
      refine r_callV1 (v1 := .int (bI (sBare (S.2 1) o))) E (ct_X4_isBare G hl m S h0 o (by intro x hx; first | exact sBsd_lt (by omega) hx | exact (ho x hx).1 | exact ho x hx | (cases hx; omega) | cases hx)) mX4_isBare q1996 q1998 qs39 (fun H a1 => fm_rc (ci := 0) (C := RX4) (T := TX4) (N := 21) a1 rfl E.v mdl_o) rfl rfl (Nat.le_of_ble_eq_true rfl) (Nat.le_of_ble_eq_true rfl) (Nat.le_of_ble_eq_true rfl) dX4_bareFrom_12 0 0 (Nat.le_of_ble_eq_true rfl) (Nat.le_of_ble_eq_true rfl) ?_
      refine r_ifB_eq (b := sBare (S.2 1) o) (tgt := 32) E dX4_bareFrom_15 (by decide) (fun c1 => ?_) (fun c1 => ?_)
      · refine r_iload_n E dX4_bareFrom_32 rfl ?_
        exact r_ireturn E P rfl dX4_bareFrom_33 ⟨by rw [← hv, sRunF_0 c1]; rfl, rfl⟩
      · obtain ⟨x, rfl⟩ := sBare_some c1; exact absurd (ho x rfl).2 (Nat.not_lt_zero _)
    | succ n ih =>
      intro j o ho hv
      refine r_aload_n E dX4_bareFrom_9 rfl ?_
      refine r_iload E dX4_bareFrom_10 rfl ?_
      refine r_callV1 (v1 := .int (bI (sBare (S.2 1) o))) E (ct_X4_isBare G hl m S h0 o (by intro x hx; first | exact sBsd_lt (by omega) hx | exact (ho x hx).1 | exact ho x hx | (cases hx; omega) | cases hx)) mX4_isBare q1996 q1998 qs39 (fun H a1 => fm_rc (ci := 0) (C := RX4) (T := TX4) (N := 21) a1 rfl E.v mdl_o) rfl rfl (Nat.le_of_ble_eq_true rfl) (Nat.le_of_ble_eq_true rfl) (Nat.le_of_ble_eq_true rfl) dX4_bareFrom_12 0 0 (Nat.le_of_ble_eq_true rfl) (Nat.le_of_ble_eq_true rfl) ?_
      refine r_ifB_eq (b := sBare (S.2 1) o) (tgt := 32) E dX4_bareFrom_15 (by decide) (fun c1 => ?_) (fun c1 => ?_)
      · refine r_iload_n E dX4_bareFrom_32 rfl ?_
        exact r_ireturn E P rfl dX4_bareFrom_33 ⟨by rw [← hv, sRunF_0 c1]; rfl, rfl⟩
      · obtain ⟨x, rfl⟩ := sBare_some c1
        obtain ⟨hx, hx2⟩ := ho x rfl
        refine r_iinc E (nI (j + 1)) [some (.ref m), some (.int (nI c)), some (.int (nI d)), some (.int (nI (j + 1))), some (.int (nI x))] dX4_bareFrom_18 rfl (nI_1 j) rfl rfl ?_
        refine r_iload E dX4_bareFrom_21 rfl ?_
        refine r_iload_n E dX4_bareFrom_23 rfl ?_
        refine r_callS1 (v1 := .int (cI (sBsd x d))) E (ct_X4_beside G hl (mdl m S h0) (x) (d) (by omega) (by omega)) mX4_beside q89 q2016 q2017 rfl rfl (Nat.le_of_ble_eq_true rfl) (Nat.le_of_ble_eq_true rfl) (Nat.le_of_ble_eq_true rfl) dX4_bareFrom_24 0 0 (Nat.le_of_ble_eq_true rfl) (Nat.le_of_ble_eq_true rfl) ?_
        refine r_istore E [some (.ref m), some (.int (nI c)), some (.int (nI d)), some (.int (nI (j + 1))), some (.int (cI (sBsd x d)))] dX4_bareFrom_27 rfl rfl ?_
        refine r_goto (tgt := 9) E dX4_bareFrom_29 (by decide) ?_
        exact ih (j + 1) _ (fun y hy => ⟨sBsd_lt hx hy, by have := sLeft_bsd hx hy; omega⟩) (by rw [sRunF_1 c1] at hv; omega)
  exact lp 8 0 _ (fun y hy => ⟨sBsd_lt hc hy, by have := sLeft_le (d := d) (sBsd_lt hc hy); omega⟩) (Nat.zero_add _)

set_option maxHeartbeats 4000000 in
theorem ct_X4_spanWith (G : fmG) (hl : (fmLn G).stackTraces = false) (m : Nat) (S : MSt) (h0 : fmHp) (c : Nat) (b : Bool) (hc : c < 64) : Ct G yX4_spanWith (ws_ yX4_spanWith cX4_spanWith 3 (some .int)) { frames := 3, cells := 0, slots := 0, locals := 69 } [.ref m, .int (nI c), .int (bI b)] (mdl m S h0) (fmRet (some (.int (nI (sSpanWith (S.2 1) c b)))) (mdl m S h0)) fmNo := by
  refine Ct.of hl (by decide +kernel) (Nat.le_of_ble_eq_true rfl) (fun Γ E P => ?_)
  cases b with
  | false =>
    refine r_iconst E (nI 1) dX4_spanWith_0 (by decide) ?_
    refine r_aload_n E dX4_spanWith_1 rfl ?_
    refine r_iload_n E dX4_spanWith_2 rfl ?_
    refine r_iload_n E dX4_spanWith_3 rfl ?_
    refine r_ifB_eq (b := false) (tgt := 11) E dX4_spanWith_4 (by decide) (fun _ => ?_) (fun c => absurd c (by decide))
    refine r_iconst E (nI 1) dX4_spanWith_11 (by decide) ?_
    refine r_callV1 (v1 := .int (nI (sRun (S.2 1) c 1))) E (ct_X4_bareFrom G hl m S h0 c 1 (by omega) (by omega)) mX4_bareFrom q2012 q2014 qs43 (fun H a1 => fm_rc (ci := 0) (C := RX4) (T := TX4) (N := 21) a1 rfl E.v mdl_o) rfl rfl (Nat.le_of_ble_eq_true rfl) (Nat.le_of_ble_eq_true rfl) (Nat.le_of_ble_eq_true rfl) dX4_spanWith_12 0 0 (Nat.le_of_ble_eq_true rfl) (Nat.le_of_ble_eq_true rfl) ?_
    refine r_iaddN E dX4_spanWith_15 ?_
    refine r_aload_n E dX4_spanWith_16 rfl ?_
    refine r_iload_n E dX4_spanWith_17 rfl ?_
    refine r_iload_n E dX4_spanWith_18 rfl ?_
    refine r_ifB_eq (b := false) (tgt := 26) E dX4_spanWith_19 (by decide) (fun _ => ?_) (fun c => absurd c (by decide))
    refine r_iconst E (nI 2) dX4_spanWith_26 (by decide) ?_
    refine r_callV1 (v1 := .int (nI (sRun (S.2 1) c 2))) E (ct_X4_bareFrom G hl m S h0 c 2 (by omega) (by omega)) mX4_bareFrom q2012 q2014 qs43 (fun H a1 => fm_rc (ci := 0) (C := RX4) (T := TX4) (N := 21) a1 rfl E.v mdl_o) rfl rfl (Nat.le_of_ble_eq_true rfl) (Nat.le_of_ble_eq_true rfl) (Nat.le_of_ble_eq_true rfl) dX4_spanWith_27 0 0 (Nat.le_of_ble_eq_true rfl) (Nat.le_of_ble_eq_true rfl) ?_
    refine r_iaddN E dX4_spanWith_30 ?_
    exact r_ireturn E P rfl dX4_spanWith_31 ⟨rfl, rfl⟩
  | true =>
    refine r_iconst E (nI 1) dX4_spanWith_0 (by decide) ?_
    refine r_aload_n E dX4_spanWith_1 rfl ?_
    refine r_iload_n E dX4_spanWith_2 rfl ?_
    refine r_iload_n E dX4_spanWith_3 rfl ?_
    refine r_ifB_eq (b := true) (tgt := 11) E dX4_spanWith_4 (by decide) (fun c => absurd c (by decide)) (fun _ => ?_)
    refine r_iconst E (nI 0) dX4_spanWith_7 (by decide) ?_
    refine r_goto (tgt := 12) E dX4_spanWith_8 (by decide) ?_
    refine r_callV1 (v1 := .int (nI (sRun (S.2 1) c 0))) E (ct_X4_bareFrom G hl m S h0 c 0 (by omega) (by omega)) mX4_bareFrom q2012 q2014 qs43 (fun H a1 => fm_rc (ci := 0) (C := RX4) (T := TX4) (N := 21) a1 rfl E.v mdl_o) rfl rfl (Nat.le_of_ble_eq_true rfl) (Nat.le_of_ble_eq_true rfl) (Nat.le_of_ble_eq_true rfl) dX4_spanWith_12 0 0 (Nat.le_of_ble_eq_true rfl) (Nat.le_of_ble_eq_true rfl) ?_
    refine r_iaddN E dX4_spanWith_15 ?_
    refine r_aload_n E dX4_spanWith_16 rfl ?_
    refine r_iload_n E dX4_spanWith_17 rfl ?_
    refine r_iload_n E dX4_spanWith_18 rfl ?_
    refine r_ifB_eq (b := true) (tgt := 26) E dX4_spanWith_19 (by decide) (fun c => absurd c (by decide)) (fun _ => ?_)
    refine r_iconst E (nI 3) dX4_spanWith_22 (by decide) ?_
    refine r_goto (tgt := 27) E dX4_spanWith_23 (by decide) ?_
    refine r_callV1 (v1 := .int (nI (sRun (S.2 1) c 3))) E (ct_X4_bareFrom G hl m S h0 c 3 (by omega) (by omega)) mX4_bareFrom q2012 q2014 qs43 (fun H a1 => fm_rc (ci := 0) (C := RX4) (T := TX4) (N := 21) a1 rfl E.v mdl_o) rfl rfl (Nat.le_of_ble_eq_true rfl) (Nat.le_of_ble_eq_true rfl) (Nat.le_of_ble_eq_true rfl) dX4_spanWith_27 0 0 (Nat.le_of_ble_eq_true rfl) (Nat.le_of_ble_eq_true rfl) ?_
    refine r_iaddN E dX4_spanWith_30 ?_
    exact r_ireturn E P rfl dX4_spanWith_31 ⟨rfl, rfl⟩

set_option maxHeartbeats 4000000 in
theorem ct_X4_spanOf (G : fmG) (hl : (fmLn G).stackTraces = false) (m : Nat) (S : MSt) (h0 : fmHp) (c : Nat) (b : Bool) (hc : c < 64) : Ct G yX4_spanOf (ws_ yX4_spanOf cX4_spanOf 3 (some .int)) { frames := 4, cells := 0, slots := 0, locals := 91 } [.ref m, .int (nI c), .int (bI b)] (mdl m S h0) (fmRet (some (.int (nI (sSpan (S.2 1) c b)))) (mdl m S h0)) fmNo := by
  refine Ct.of hl (by decide +kernel) (Nat.le_of_ble_eq_true rfl) (fun Γ E P => ?_)
  suffices j1 : fmW G Γ (mdl m S h0) 0 0 18 [some (.ref m), some (.int (nI c)), some (.int (bI b))] [.int (nI (sSpan (S.2 1) c b))] by
    refine r_aload_n E dX4_spanOf_0 rfl ?_
    refine r_iload_n E dX4_spanOf_1 rfl ?_
    refine r_callV1 (v1 := .int (bI (sBare (S.2 1) (some c)))) E (ct_X4_isBare G hl m S h0 (some c) (by intro x hx; first | exact sBsd_lt (by omega) hx | exact (ho x hx).1 | exact ho x hx | (cases hx; omega) | cases hx)) mX4_isBare q1996 q1998 qs39 (fun H a1 => fm_rc (ci := 0) (C := RX4) (T := TX4) (N := 21) a1 rfl E.v mdl_o) rfl rfl (Nat.le_of_ble_eq_true rfl) (Nat.le_of_ble_eq_true rfl) (Nat.le_of_ble_eq_true rfl) dX4_spanOf_2 0 0 (Nat.le_of_ble_eq_true rfl) (Nat.le_of_ble_eq_true rfl) ?_
    refine r_ifB_eq (b := sBare (S.2 1) (some c)) (tgt := 17) E dX4_spanOf_5 (by decide) (fun c2 => ?_) (fun c2 => ?_)
    · refine r_iconst E (nI 0) dX4_spanOf_17 (by decide) ?_
      refine r_top (v' := .int (nI (sSpan (S.2 1) c b))) (by simp [c2, sSpan]) ?_
      exact j1
    · refine r_aload_n E dX4_spanOf_8 rfl ?_
      refine r_iload_n E dX4_spanOf_9 rfl ?_
      refine r_iload_n E dX4_spanOf_10 rfl ?_
      refine r_callV1 (v1 := .int (nI (sSpanWith (S.2 1) c b))) E (ct_X4_spanWith G hl m S h0 c b (by omega)) mX4_spanWith q2008 q2010 qs42 (fun H a1 => fm_rc (ci := 0) (C := RX4) (T := TX4) (N := 21) a1 rfl E.v mdl_o) rfl rfl (Nat.le_of_ble_eq_true rfl) (Nat.le_of_ble_eq_true rfl) (Nat.le_of_ble_eq_true rfl) dX4_spanOf_11 0 0 (Nat.le_of_ble_eq_true rfl) (Nat.le_of_ble_eq_true rfl) ?_
      refine r_goto (tgt := 18) E dX4_spanOf_14 (by decide) ?_
      refine r_top (v' := .int (nI (sSpan (S.2 1) c b))) (by simp [c2, sSpan]) ?_
      exact j1
  exact r_ireturn E P rfl dX4_spanOf_18 ⟨rfl, rfl⟩

set_option maxHeartbeats 4000000 in
theorem ct_X4_longerSpanWith (G : fmG) (hl : (fmLn G).stackTraces = false) (m : Nat) (S : MSt) (h0 : fmHp) (c : Nat) (hc : c < 64) : Ct G yX4_longerSpanWith (ws_ yX4_longerSpanWith cX4_longerSpanWith 4 (some .int)) { frames := 4, cells := 0, slots := 0, locals := 91 } [.ref m, .int (nI c)] (mdl m S h0) (fmRet (some (.int (nI (sWide (S.2 1) c)))) (mdl m S h0)) fmNo := by
  refine Ct.of hl (by decide +kernel) (Nat.le_of_ble_eq_true rfl) (fun Γ E P => ?_)
  have h1 := sSpanWith_le (S.2 1) c false
  have h2 := sSpanWith_le (S.2 1) c true
  refine r_aload_n E dX4_longerSpanWith_0 rfl ?_
  refine r_iload_n E dX4_longerSpanWith_1 rfl ?_
  refine r_iconst E (nI 0) dX4_longerSpanWith_2 (by decide) ?_
  refine r_callV1 (v1 := .int (nI (sSpanWith (S.2 1) c false))) E (ct_X4_spanWith G hl m S h0 c false (by omega)) mX4_spanWith q2008 q2010 qs42 (fun H a1 => fm_rc (ci := 0) (C := RX4) (T := TX4) (N := 21) a1 rfl E.v mdl_o) rfl rfl (Nat.le_of_ble_eq_true rfl) (Nat.le_of_ble_eq_true rfl) (Nat.le_of_ble_eq_true rfl) dX4_longerSpanWith_3 0 0 (Nat.le_of_ble_eq_true rfl) (Nat.le_of_ble_eq_true rfl) ?_
  refine r_istore_n E [some (.ref m), some (.int (nI c)), some (.int (nI (sSpanWith (S.2 1) c false))), none] dX4_longerSpanWith_6 rfl rfl ?_
  refine r_aload_n E dX4_longerSpanWith_7 rfl ?_
  refine r_iload_n E dX4_longerSpanWith_8 rfl ?_
  refine r_iconst E (nI 1) dX4_longerSpanWith_9 (by decide) ?_
  refine r_callV1 (v1 := .int (nI (sSpanWith (S.2 1) c true))) E (ct_X4_spanWith G hl m S h0 c true (by omega)) mX4_spanWith q2008 q2010 qs42 (fun H a1 => fm_rc (ci := 0) (C := RX4) (T := TX4) (N := 21) a1 rfl E.v mdl_o) rfl rfl (Nat.le_of_ble_eq_true rfl) (Nat.le_of_ble_eq_true rfl) (Nat.le_of_ble_eq_true rfl) dX4_longerSpanWith_10 0 0 (Nat.le_of_ble_eq_true rfl) (Nat.le_of_ble_eq_true rfl) ?_
  refine r_istore_n E [some (.ref m), some (.int (nI c)), some (.int (nI (sSpanWith (S.2 1) c false))), some (.int (nI (sSpanWith (S.2 1) c true)))] dX4_longerSpanWith_13 rfl rfl ?_
  suffices j1 : fmW G Γ (mdl m S h0) 0 0 24 [some (.ref m), some (.int (nI c)), some (.int (nI (sSpanWith (S.2 1) c false))), some (.int (nI (sSpanWith (S.2 1) c true)))] [.int (nI (sWide (S.2 1) c))] by
    refine r_iload_n E dX4_longerSpanWith_14 rfl ?_
    refine r_iload_n E dX4_longerSpanWith_15 rfl ?_
    refine r_icmpN_le (tgt := 23) E dX4_longerSpanWith_16 (by decide) (by omega) (by omega) (fun c2 => ?_) (fun c2 => ?_)
    · refine r_iload_n E dX4_longerSpanWith_23 rfl ?_
      refine r_top (v' := .int (nI (sWide (S.2 1) c))) ((congrArg (fun z => Value.int (nI z)) (by unfold sWide; omega))) ?_
      exact j1
    · refine r_iload_n E dX4_longerSpanWith_19 rfl ?_
      refine r_goto (tgt := 24) E dX4_longerSpanWith_20 (by decide) ?_
      refine r_top (v' := .int (nI (sWide (S.2 1) c))) ((congrArg (fun z => Value.int (nI z)) (by unfold sWide; omega))) ?_
      exact j1
  exact r_ireturn E P rfl dX4_longerSpanWith_24 ⟨rfl, rfl⟩

set_option maxHeartbeats 4000000 in
theorem ct_X4_longestSpan (G : fmG) (hl : (fmLn G).stackTraces = false) (m : Nat) (S : MSt) (h0 : fmHp)  : Ct G yX4_longestSpan (ws_ yX4_longestSpan cX4_longestSpan 4 (some .int)) { frames := 5, cells := 0, slots := 0, locals := 114 } [.ref m] (mdl m S h0) (fmRet (some (.int (nI (sLong (S.2 1))))) (mdl m S h0)) fmNo := by
  refine Ct.of hl (by decide +kernel) (Nat.le_of_ble_eq_true rfl) (fun Γ E P => ?_)
  refine r_iconst E (nI 0) dX4_longestSpan_0 (by decide) ?_
  refine r_istore_n E [some (.ref m), some (.int (nI 0)), none, none] dX4_longestSpan_1 rfl rfl ?_
  refine r_iconst E (nI 0) dX4_longestSpan_2 (by decide) ?_
  refine r_istore_n E [some (.ref m), some (.int (nI 0)), some (.int (nI 0)), none] dX4_longestSpan_3 rfl rfl ?_
  have lp1 : ∀ (n1 i1 : Nat), i1 + n1 = 64 → fmW G Γ (mdl m S h0) 0 0 4 [some (.ref m), some (.int (nI (sLongK (S.2 1) i1))), some (.int (nI i1)), none] [] := by
    intro n1
    induction n1 with
    | zero =>
      intro i1 hi1
      refine r_iload_n E dX4_longestSpan_4 rfl ?_
      refine r_bipush E (nI 64) dX4_longestSpan_5 (by decide) ?_
      refine r_icmpN_ge (tgt := 45) E dX4_longestSpan_7 (by decide) (by omega) (by omega) (fun c2 => ?_) (fun c2 => ?_)
      · obtain rfl : i1 = 64 := by omega
        refine r_iload_n E dX4_longestSpan_45 rfl ?_
        exact r_ireturn E P rfl dX4_longestSpan_46 ⟨rfl, rfl⟩
      · exfalso; omega
    | succ n1 ih =>
      intro i1 hi1
      refine r_iload_n E dX4_longestSpan_4 rfl ?_
      refine r_bipush E (nI 64) dX4_longestSpan_5 (by decide) ?_
      refine r_icmpN_ge (tgt := 45) E dX4_longestSpan_7 (by decide) (by omega) (by omega) (fun c3 => ?_) (fun c3 => ?_)
      · exfalso; omega
      · have h1 := sLongK_le (S.2 1) i1
        have h2 := sWide_le (S.2 1) i1
        suffices j4 : fmW G Γ (mdl m S h0) 0 0 27 [some (.ref m), some (.int (nI (sLongK (S.2 1) i1))), some (.int (nI i1)), none] [.int (nI (if sBare (S.2 1) (some i1) = true then sWide (S.2 1) i1 else 0))] by
          refine r_aload_n E dX4_longestSpan_10 rfl ?_
          refine r_iload_n E dX4_longestSpan_11 rfl ?_
          refine r_callV1 (v1 := .int (bI (sBare (S.2 1) (some i1)))) E (ct_X4_isBare G hl m S h0 (some i1) (by intro x hx; first | exact sBsd_lt (by omega) hx | exact (ho x hx).1 | exact ho x hx | (cases hx; omega) | cases hx)) mX4_isBare q1996 q1998 qs39 (fun H a1 => fm_rc (ci := 0) (C := RX4) (T := TX4) (N := 21) a1 rfl E.v mdl_o) rfl rfl (Nat.le_of_ble_eq_true rfl) (Nat.le_of_ble_eq_true rfl) (Nat.le_of_ble_eq_true rfl) dX4_longestSpan_12 0 0 (Nat.le_of_ble_eq_true rfl) (Nat.le_of_ble_eq_true rfl) ?_
          refine r_ifB_eq (b := sBare (S.2 1) (some i1)) (tgt := 26) E dX4_longestSpan_15 (by decide) (fun c5 => ?_) (fun c5 => ?_)
          · refine r_iconst E (nI 0) dX4_longestSpan_26 (by decide) ?_
            refine r_top (v' := .int (nI (if sBare (S.2 1) (some i1) = true then sWide (S.2 1) i1 else 0))) (by simp [c5]) ?_
            exact j4
          · refine r_aload_n E dX4_longestSpan_18 rfl ?_
            refine r_iload_n E dX4_longestSpan_19 rfl ?_
            refine r_callV1 (v1 := .int (nI (sWide (S.2 1) i1))) E (ct_X4_longerSpanWith G hl m S h0 i1 (by omega)) mX4_longerSpanWith q2004 q2006 qs41 (fun H a1 => fm_rc (ci := 0) (C := RX4) (T := TX4) (N := 21) a1 rfl E.v mdl_o) rfl rfl (Nat.le_of_ble_eq_true rfl) (Nat.le_of_ble_eq_true rfl) (Nat.le_of_ble_eq_true rfl) dX4_longestSpan_20 0 0 (Nat.le_of_ble_eq_true rfl) (Nat.le_of_ble_eq_true rfl) ?_
            refine r_goto (tgt := 27) E dX4_longestSpan_23 (by decide) ?_
            refine r_top (v' := .int (nI (if sBare (S.2 1) (some i1) = true then sWide (S.2 1) i1 else 0))) (by simp [c5]) ?_
            exact j4
        have h3 : (if sBare (S.2 1) (some i1) = true then sWide (S.2 1) i1 else 0) ≤ 17 := by split <;> omega
        generalize hg : (if sBare (S.2 1) (some i1) = true then sWide (S.2 1) i1 else 0) = g at h3 ⊢
        refine r_istore_n E [some (.ref m), some (.int (nI (sLongK (S.2 1) i1))), some (.int (nI i1)), some (.int (nI g))] dX4_longestSpan_27 rfl rfl ?_
        suffices j6 : fmW G Γ (mdl m S h0) 0 0 38 [some (.ref m), some (.int (nI (sLongK (S.2 1) i1))), some (.int (nI i1)), some (.int (nI g))] [.int (nI (sLongK (S.2 1) (i1 + 1)))] by
          refine r_iload_n E dX4_longestSpan_28 rfl ?_
          refine r_iload_n E dX4_longestSpan_29 rfl ?_
          refine r_icmpN_le (tgt := 37) E dX4_longestSpan_30 (by decide) (by omega) (by omega) (fun c7 => ?_) (fun c7 => ?_)
          · refine r_iload_n E dX4_longestSpan_37 rfl ?_
            refine r_top (v' := .int (nI (sLongK (S.2 1) (i1 + 1)))) ((congrArg (fun z => Value.int (nI z)) (by show _ = max (sLongK (S.2 1) i1) (if sBare (S.2 1) (some i1) = true then sWide (S.2 1) i1 else 0); rw [hg]; omega))) ?_
            exact j6
          · refine r_iload_n E dX4_longestSpan_33 rfl ?_
            refine r_goto (tgt := 38) E dX4_longestSpan_34 (by decide) ?_
            refine r_top (v' := .int (nI (sLongK (S.2 1) (i1 + 1)))) ((congrArg (fun z => Value.int (nI z)) (by show _ = max (sLongK (S.2 1) i1) (if sBare (S.2 1) (some i1) = true then sWide (S.2 1) i1 else 0); rw [hg]; omega))) ?_
            exact j6
        refine r_istore_n E [some (.ref m), some (.int (nI (sLongK (S.2 1) (i1 + 1)))), some (.int (nI i1)), some (.int (nI g))] dX4_longestSpan_38 rfl rfl ?_
        refine r_iinc E (nI (i1 + 1)) [some (.ref m), some (.int (nI (sLongK (S.2 1) (i1 + 1)))), some (.int (nI (i1 + 1))), some (.int (nI g))] dX4_longestSpan_39 rfl (nI_1 i1) rfl rfl ?_
        refine r_goto (tgt := 4) E dX4_longestSpan_42 (by decide) ?_
        refine fmW.few (L' := [some (.ref m), some (.int (nI (sLongK (S.2 1) (i1 + 1)))), some (.int (nI (i1 + 1))), none]) (fmFew_n (L := [some (.ref m), some (.int (nI (sLongK (S.2 1) (i1 + 1)))), some (.int (nI (i1 + 1))), some (.int (nI g))]) 3) ?_
        exact ih (i1 + 1) (by omega)
  exact lp1 64 0 (by omega)

set_option maxHeartbeats 4000000 in
theorem ct_X4_isShaft (G : fmG) (hl : (fmLn G).stackTraces = false) (m : Nat) (S : MSt) (h0 : fmHp) (v : Int32) (K : Nat) (hK : S.2 1 350 = nI K) : Ct G yX4_isShaft (ws_ yX4_isShaft cX4_isShaft 2 (some .boolean)) { frames := 1, cells := 0, slots := 0, locals := 22 } [.ref m, .int v] (mdl m S h0) (fmRet (some (.int (bI (sBetween v (nI 0) (nI K - nI 1))))) (mdl m S h0)) fmNo := by
  refine Ct.of hl (by decide +kernel) (Nat.le_of_ble_eq_true rfl) (fun Γ E P => ?_)
  refine r_iload_n E dX4_isShaft_0 rfl ?_
  refine r_iconst E (nI 0) dX4_isShaft_1 (by decide) ?_
  refine r_aload_n E dX4_isShaft_2 rfl ?_
  refine r_getf E cl_X4 1 (by decide) q1887 mdl_o rfl dX4_isShaft_3 ?_
  refine r_sipush E (nI 350) dX4_isShaft_6 (by decide) ?_
  refine r_iald E mdl_1 (by omega) (by omega) dX4_isShaft_9 ?_
  refine r_top (v' := .int (nI K)) (congrArg Value.int hK) ?_
  refine r_iconst E (nI 1) dX4_isShaft_10 (by decide) ?_
  refine r_isub E dX4_isShaft_11 ?_
  refine r_callS1 (v1 := .int (bI (sBetween v (nI 0) ((nI K) - (nI 1))))) E (ct_X4_isBetween G hl (mdl m S h0) (v) (nI 0) ((nI K) - (nI 1))) mX4_isBetween q89 q1962 q1963 rfl rfl (Nat.le_of_ble_eq_true rfl) (Nat.le_of_ble_eq_true rfl) (Nat.le_of_ble_eq_true rfl) dX4_isShaft_12 0 0 (Nat.le_of_ble_eq_true rfl) (Nat.le_of_ble_eq_true rfl) ?_
  exact r_zreturn E P rfl dX4_isShaft_15 ⟨rfl, rfl⟩

set_option maxHeartbeats 4000000 in
theorem ct_X4_isFree (G : fmG) (hl : (fmLn G).stackTraces = false) (m : Nat) (S : MSt) (h0 : fmHp) (c : Nat) (s : Int32) (K : Nat) (hK : S.2 1 350 = nI K) (hK8 : K ≤ 8) (hc : c < 64) : Ct G yX4_isFree (ws_ yX4_isFree cX4_isFree 3 (some .boolean)) { frames := 4, cells := 0, slots := 0, locals := 92 } [.ref m, .int (nI c), .int s] (mdl m S h0) (fmRet (some (.int (bI (sFree (S.2 1) c s K)))) (mdl m S h0)) fmNo := by
  refine Ct.of hl (by decide +kernel) (Nat.le_of_ble_eq_true rfl) (fun Γ E P => ?_)
  suffices j1 : fmW G Γ (mdl m S h0) 0 0 22 [some (.ref m), some (.int (nI c)), some (.int s)] [.int (bI (sFree (S.2 1) c s K))] by
    refine r_aload_n E dX4_isFree_0 rfl ?_
    refine r_iload_n E dX4_isFree_1 rfl ?_
    refine r_callV1 (v1 := .int (bI (sChalk (S.2 1) c))) E (ct_X4_isChalk G hl m S h0 c (by omega)) mX4_isChalk q1969 q1971 qs34 (fun H a1 => fm_rc (ci := 0) (C := RX4) (T := TX4) (N := 21) a1 rfl E.v mdl_o) rfl rfl (Nat.le_of_ble_eq_true rfl) (Nat.le_of_ble_eq_true rfl) (Nat.le_of_ble_eq_true rfl) dX4_isFree_2 0 0 (Nat.le_of_ble_eq_true rfl) (Nat.le_of_ble_eq_true rfl) ?_
    refine r_ifB_eq (b := sChalk (S.2 1) c) (tgt := 21) E dX4_isFree_5 (by decide) (fun c2 => ?_) (fun c2 => ?_)
    · refine r_iconst E (nI 0) dX4_isFree_21 (by decide) ?_
      refine r_top (v' := .int (bI (sFree (S.2 1) c s K))) (by rw [show (sFree (S.2 1) c s K) = false by simp [c2, sFree, Option.isSome_iff_ne_none]]; rfl) ?_
      exact j1
    · refine r_aload_n E dX4_isFree_8 rfl ?_
      refine r_iload_n E dX4_isFree_9 rfl ?_
      refine r_iload_n E dX4_isFree_10 rfl ?_
      refine r_callV1 (v1 := .int (cI (sMeet (S.2 1) c s K))) E (ct_X4_otherShaftBeside G hl m S h0 c s K hK hK8 (by omega)) mX4_otherShaftBeside q2059 q2061 qs47 (fun H a1 => fm_rc (ci := 0) (C := RX4) (T := TX4) (N := 21) a1 rfl E.v mdl_o) rfl rfl (Nat.le_of_ble_eq_true rfl) (Nat.le_of_ble_eq_true rfl) (Nat.le_of_ble_eq_true rfl) dX4_isFree_11 0 0 (Nat.le_of_ble_eq_true rfl) (Nat.le_of_ble_eq_true rfl) ?_
      refine r_ifC_ge (o := sMeet (S.2 1) c s K) (tgt := 21) E dX4_isFree_14 (by decide) (sMeet_31 hK8) (fun c3 => ?_) (fun c3 => ?_)
      · refine r_iconst E (nI 0) dX4_isFree_21 (by decide) ?_
        refine r_top (v' := .int (bI (sFree (S.2 1) c s K))) (by rw [show (sFree (S.2 1) c s K) = false by simp [c2, c3, sFree, Option.isSome_iff_ne_none]]; rfl) ?_
        exact j1
      · refine r_iconst E (nI 1) dX4_isFree_17 (by decide) ?_
        refine r_goto (tgt := 22) E dX4_isFree_18 (by decide) ?_
        refine r_top (v' := .int (bI (sFree (S.2 1) c s K))) (by rw [show (sFree (S.2 1) c s K) = true by simp [c2, c3, sFree, Option.isSome_iff_ne_none]]; rfl) ?_
        exact j1
  exact r_zreturn E P rfl dX4_isFree_22 ⟨rfl, rfl⟩

set_option maxHeartbeats 4000000 in
theorem ct_X4_pickFor (G : fmG) (hl : (fmLn G).stackTraces = false) (m : Nat) (S : MSt) (h0 : fmHp) (need : Int32) (pk : Nat) (hP : S.2 1 351 = nI pk) (hP6 : pk ≤ 6) : Ct G yX4_pickFor (ws_ yX4_pickFor cX4_pickFor 5 (some .int)) { frames := 0, cells := 0, slots := 0, locals := 0 } [.ref m, .int need] (mdl m S h0) (fmRet (some (.int (cI (sPickK (S.2 1) need pk)))) (mdl m S h0)) fmNo := by
  refine Ct.of hl (by decide +kernel) (Nat.le_of_ble_eq_true rfl) (fun Γ E P => ?_)
  refine r_iconst E (-1) dX4_pickFor_0 (by decide) ?_
  refine r_istore_n E [some (.ref m), some (.int need), some (.int (-1)), none, none] dX4_pickFor_1 rfl rfl ?_
  refine r_iconst E (nI 0) dX4_pickFor_2 (by decide) ?_
  refine r_istore_n E [some (.ref m), some (.int need), some (.int (-1)), some (.int (nI 0)), none] dX4_pickFor_3 rfl rfl ?_
  have lp1 : ∀ (n1 i1 : Nat), i1 + n1 = pk → fmW G Γ (mdl m S h0) 0 0 4 [some (.ref m), some (.int need), some (.int (cI (sPickK (S.2 1) need i1))), some (.int (nI i1)), none] [] := by
    intro n1
    induction n1 with
    | zero =>
      intro i1 hi1
      refine r_iload_n E dX4_pickFor_4 rfl ?_
      refine r_aload_n E dX4_pickFor_5 rfl ?_
      refine r_getf E cl_X4 1 (by decide) q1887 mdl_o rfl dX4_pickFor_6 ?_
      refine r_sipush E (nI 351) dX4_pickFor_9 (by decide) ?_
      refine r_iald E mdl_1 (by omega) (by omega) dX4_pickFor_12 ?_
      refine r_top (v' := .int (nI pk)) (congrArg Value.int hP) ?_
      refine r_icmpN_ge (tgt := 81) E dX4_pickFor_13 (by decide) (by omega) (by omega) (fun c2 => ?_) (fun c2 => ?_)
      · obtain rfl : i1 = pk := by omega
        refine r_iload_n E dX4_pickFor_81 rfl ?_
        exact r_ireturn E P rfl dX4_pickFor_82 ⟨rfl, rfl⟩
      · exfalso; omega
    | succ n1 ih =>
      intro i1 hi1
      refine r_iload_n E dX4_pickFor_4 rfl ?_
      refine r_aload_n E dX4_pickFor_5 rfl ?_
      refine r_getf E cl_X4 1 (by decide) q1887 mdl_o rfl dX4_pickFor_6 ?_
      refine r_sipush E (nI 351) dX4_pickFor_9 (by decide) ?_
      refine r_iald E mdl_1 (by omega) (by omega) dX4_pickFor_12 ?_
      refine r_top (v' := .int (nI pk)) (congrArg Value.int hP) ?_
      refine r_icmpN_ge (tgt := 81) E dX4_pickFor_13 (by decide) (by omega) (by omega) (fun c3 => ?_) (fun c3 => ?_)
      · exfalso; omega
      · suffices j4 : fmW G Γ (mdl m S h0) 0 0 35 [some (.ref m), some (.int need), some (.int (cI (sPickK (S.2 1) need i1))), some (.int (nI i1)), none] [.int (bI (decide ((S.2 1) (344 + i1) ≥ need)))] by
          refine r_aload_n E dX4_pickFor_16 rfl ?_
          refine r_getf E cl_X4 1 (by decide) q1887 mdl_o rfl dX4_pickFor_17 ?_
          refine r_sipush E (nI 344) dX4_pickFor_20 (by decide) ?_
          refine r_iload_n E dX4_pickFor_23 rfl ?_
          refine r_iaddN E dX4_pickFor_24 ?_
          refine r_iald E mdl_1 (by omega) (by omega) dX4_pickFor_25 ?_
          refine r_iload_n E dX4_pickFor_26 rfl ?_
          refine r_icmp_lt (x := (S.2 1) (344 + i1)) (y := need) (tgt := 34) E dX4_pickFor_27 (by decide) (fun c5 => ?_) (fun c5 => ?_)
          · refine r_iconst E (nI 0) dX4_pickFor_34 (by decide) ?_
            refine r_top (v' := .int (bI (decide ((S.2 1) (344 + i1) ≥ need)))) (congrArg (fun b => Value.int (bI b)) (decide_eq_false (Int32.not_le.mpr c5)).symm) ?_
            exact j4
          · refine r_iconst E (nI 1) dX4_pickFor_30 (by decide) ?_
            refine r_goto (tgt := 35) E dX4_pickFor_31 (by decide) ?_
            refine r_top (v' := .int (bI (decide ((S.2 1) (344 + i1) ≥ need)))) (congrArg (fun b => Value.int (bI b)) (decide_eq_true (Int32.not_lt.mp c5)).symm) ?_
            exact j4
        refine r_istore E [some (.ref m), some (.int need), some (.int (cI (sPickK (S.2 1) need i1))), some (.int (nI i1)), some (.int (bI (decide ((S.2 1) (344 + i1) ≥ need))))] dX4_pickFor_35 rfl rfl ?_
        refine r_iload E dX4_pickFor_37 rfl ?_
        refine r_ifB_eq (b := decide ((S.2 1) (344 + i1) ≥ need)) (tgt := 73) E dX4_pickFor_39 (by decide) (fun c6 => ?_) (fun c6 => ?_)
        · have hs := sPickK_no c6
          refine r_iload_n E dX4_pickFor_73 rfl ?_
          refine r_istore_n E [some (.ref m), some (.int need), some (.int (cI (sPickK (S.2 1) need i1))), some (.int (nI i1)), some (.int (bI (decide ((S.2 1) (344 + i1) ≥ need))))] dX4_pickFor_74 rfl rfl ?_
          refine r_iinc E (nI (i1 + 1)) [some (.ref m), some (.int need), some (.int (cI (sPickK (S.2 1) need i1))), some (.int (nI (i1 + 1))), some (.int (bI (decide ((S.2 1) (344 + i1) ≥ need))))] dX4_pickFor_75 rfl (nI_1 i1) rfl rfl ?_
          refine r_goto (tgt := 4) E dX4_pickFor_78 (by decide) ?_
          refine fmW.few (L' := [some (.ref m), some (.int need), some (.int (cI (sPickK (S.2 1) need i1))), some (.int (nI (i1 + 1))), none]) (fmFew_n (L := [some (.ref m), some (.int need), some (.int (cI (sPickK (S.2 1) need i1))), some (.int (nI (i1 + 1))), some (.int (bI (decide ((S.2 1) (344 + i1) ≥ need))))]) 4) ?_
          rw [← hs]
          exact ih (i1 + 1) (by omega)
        · refine r_iload_n E dX4_pickFor_42 rfl ?_
          refine r_ifC_lt (o := sPickK (S.2 1) need i1) (tgt := 69) E dX4_pickFor_43 (by decide) (sPickK_31 (by omega)) (fun c7 => ?_) (fun c7 => ?_)
          · have hs := sPickK_first c6 c7
            refine r_iload_n E dX4_pickFor_69 rfl ?_
            refine r_goto (tgt := 74) E dX4_pickFor_70 (by decide) ?_
            refine r_top (v' := .int (cI (sPickK (S.2 1) need (i1 + 1)))) (by rw [hs]; rfl) ?_
            refine r_istore_n E [some (.ref m), some (.int need), some (.int (cI (sPickK (S.2 1) need (i1 + 1)))), some (.int (nI i1)), some (.int (bI (decide ((S.2 1) (344 + i1) ≥ need))))] dX4_pickFor_74 rfl rfl ?_
            refine r_iinc E (nI (i1 + 1)) [some (.ref m), some (.int need), some (.int (cI (sPickK (S.2 1) need (i1 + 1)))), some (.int (nI (i1 + 1))), some (.int (bI (decide ((S.2 1) (344 + i1) ≥ need))))] dX4_pickFor_75 rfl (nI_1 i1) rfl rfl ?_
            refine r_goto (tgt := 4) E dX4_pickFor_78 (by decide) ?_
            refine fmW.few (L' := [some (.ref m), some (.int need), some (.int (cI (sPickK (S.2 1) need (i1 + 1)))), some (.int (nI (i1 + 1))), none]) (fmFew_n (L := [some (.ref m), some (.int need), some (.int (cI (sPickK (S.2 1) need (i1 + 1)))), some (.int (nI (i1 + 1))), some (.int (bI (decide ((S.2 1) (344 + i1) ≥ need))))]) 4) ?_
            exact ih (i1 + 1) (by omega)
          · obtain ⟨k, hk⟩ := Option.ne_none_iff_exists'.mp c7
            have hk2 := sPickK_lt hk
            refine r_aload_n E dX4_pickFor_46 rfl ?_
            refine r_getf E cl_X4 1 (by decide) q1887 mdl_o rfl dX4_pickFor_47 ?_
            refine r_sipush E (nI 344) dX4_pickFor_50 (by decide) ?_
            refine r_iload_n E dX4_pickFor_53 rfl ?_
            refine r_iaddN E dX4_pickFor_54 ?_
            refine r_iald E mdl_1 (by omega) (by omega) dX4_pickFor_55 ?_
            refine r_aload_n E dX4_pickFor_56 rfl ?_
            refine r_getf E cl_X4 1 (by decide) q1887 mdl_o rfl dX4_pickFor_57 ?_
            refine r_sipush E (nI 344) dX4_pickFor_60 (by decide) ?_
            refine r_iload_n E dX4_pickFor_63 rfl ?_
            refine r_top (v' := .int (nI k)) (congrArg Value.int (by rw [hk]; rfl)) ?_
            refine r_iaddN E dX4_pickFor_64 ?_
            refine r_iald E mdl_1 (by omega) (by omega) dX4_pickFor_65 ?_
            refine r_icmp_ge (x := (S.2 1) (344 + i1)) (y := (S.2 1) (344 + k)) (tgt := 73) E dX4_pickFor_66 (by decide) (fun c8 => ?_) (fun c8 => ?_)
            · have hs := sPickK_keep hk c8
              refine r_iload_n E dX4_pickFor_73 rfl ?_
              refine r_istore_n E [some (.ref m), some (.int need), some (.int (cI (sPickK (S.2 1) need i1))), some (.int (nI i1)), some (.int (bI (decide ((S.2 1) (344 + i1) ≥ need))))] dX4_pickFor_74 rfl rfl ?_
              refine r_iinc E (nI (i1 + 1)) [some (.ref m), some (.int need), some (.int (cI (sPickK (S.2 1) need i1))), some (.int (nI (i1 + 1))), some (.int (bI (decide ((S.2 1) (344 + i1) ≥ need))))] dX4_pickFor_75 rfl (nI_1 i1) rfl rfl ?_
              refine r_goto (tgt := 4) E dX4_pickFor_78 (by decide) ?_
              refine fmW.few (L' := [some (.ref m), some (.int need), some (.int (cI (sPickK (S.2 1) need i1))), some (.int (nI (i1 + 1))), none]) (fmFew_n (L := [some (.ref m), some (.int need), some (.int (cI (sPickK (S.2 1) need i1))), some (.int (nI (i1 + 1))), some (.int (bI (decide ((S.2 1) (344 + i1) ≥ need))))]) 4) ?_
              rw [← hs]
              exact ih (i1 + 1) (by omega)
            · have hs := sPickK_take c6 hk c8
              refine r_iload_n E dX4_pickFor_69 rfl ?_
              refine r_goto (tgt := 74) E dX4_pickFor_70 (by decide) ?_
              refine r_top (v' := .int (cI (sPickK (S.2 1) need (i1 + 1)))) (by rw [hs]; rfl) ?_
              refine r_istore_n E [some (.ref m), some (.int need), some (.int (cI (sPickK (S.2 1) need (i1 + 1)))), some (.int (nI i1)), some (.int (bI (decide ((S.2 1) (344 + i1) ≥ need))))] dX4_pickFor_74 rfl rfl ?_
              refine r_iinc E (nI (i1 + 1)) [some (.ref m), some (.int need), some (.int (cI (sPickK (S.2 1) need (i1 + 1)))), some (.int (nI (i1 + 1))), some (.int (bI (decide ((S.2 1) (344 + i1) ≥ need))))] dX4_pickFor_75 rfl (nI_1 i1) rfl rfl ?_
              refine r_goto (tgt := 4) E dX4_pickFor_78 (by decide) ?_
              refine fmW.few (L' := [some (.ref m), some (.int need), some (.int (cI (sPickK (S.2 1) need (i1 + 1)))), some (.int (nI (i1 + 1))), none]) (fmFew_n (L := [some (.ref m), some (.int need), some (.int (cI (sPickK (S.2 1) need (i1 + 1)))), some (.int (nI (i1 + 1))), some (.int (bI (decide ((S.2 1) (344 + i1) ≥ need))))]) 4) ?_
              exact ih (i1 + 1) (by omega)
  exact lp1 pk 0 (by omega)

