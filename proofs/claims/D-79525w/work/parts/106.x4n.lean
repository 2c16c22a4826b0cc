set_option maxHeartbeats 4000000 in
theorem ct_X4_way (G : fmG) (hl : (fmLn G).stackTraces = false) (m : Nat) (S : MSt) (h0 : fmHp) (s v : Int32) (K : Nat) (hK : S.2 1 350 = nI K) (hK8 : K ≤ 8) : Ct G yX4_way (ws_ yX4_way cX4_way 4 (some .int)) { frames := 7, cells := 0, slots := 0, locals := 163 } [.ref m, .int s, .int v] (mdl m S h0) (eSt m S h0 (aWay (S.2 1) s v K).1 (aAns (aWay (S.2 1) s v K))) fmNo := by
  refine Ct.of hl (by decide +kernel) (Nat.le_of_ble_eq_true rfl) (fun Γ E P => ?_)
  refine r_aload_n E dX4_way_0 rfl ?_
  refine r_iload_n E dX4_way_1 rfl ?_
  refine r_iload_n E dX4_way_2 rfl ?_
  refine r_callV E (ct_X4_wayFor G hl m S h0 s v K hK hK8) mX4_wayFor q2159 q2161 qs64 (fun H a1 => fm_rc (ci := 0) (C := RX4) (T := TX4) (N := 21) a1 rfl E.v mdl_o) rfl rfl (Nat.le_of_ble_eq_true rfl) (Nat.le_of_ble_eq_true rfl) (Nat.le_of_ble_eq_true rfl) dX4_way_3 0 0 (Nat.le_of_ble_eq_true rfl) (Nat.le_of_ble_eq_true rfl) (fun v' h' q => ?_) (fun _ _ _ q => q.elim)
  obtain ⟨rfl, X, W, rfl, hX⟩ := q
  show fmW G Γ (mdl m (upd S.1 0 (nI (wRes (S.2 1) s v K).1), va_up (va_up S.2 12 X) 13 W) h0) 0 0 6 [some (.ref m), some (.int s), some (.int v), none] [.int (cI ((wRes (S.2 1) s v K).2))]
  refine r_istore_n E [some (.ref m), some (.int s), some (.int v), some (.int (cI ((wRes (S.2 1) s v K).2)))] dX4_way_6 rfl rfl ?_
  refine r_iload_n E dX4_way_7 rfl ?_
  refine r_ifC_ge (o := (wRes (S.2 1) s v K).2) (tgt := 15) E dX4_way_8 (by decide) (wRes_31 hK8) (fun c1 => ?_) (fun c1 => ?_)
  · obtain ⟨x, hx⟩ := Option.ne_none_iff_exists'.mp c1
    have hX2 := hX (by rw [hx]; exact Option.some_ne_none _)
    subst hX2
    obtain ⟨j, c, hj, hc, hs, hv, e1, e2, e3, e4, e5⟩ := wRes_some hK8 hx
    have hcv : cN v < 64 := by rw [e2]; exact hc
    have e6 : sFirst (S.2 1) (cN s) (cN v) K = some x := by rw [e1, e2]; exact e3
    have hx6 := sFirst_lt e6
    have hxF : 0 < (bFar (S.2 1) (cN s) (cN v) K).1 x := sFirst_F e6
    have hFok := bFar_ok (N := S.2 1) (j := cN s) (K := K) hcv
    have hpre := bFar_pre (N := S.2 1) (j := cN s) (K := K) hcv
    have hFx := hFok.f x
    rw [e4]
    refine r_aload_n E dX4_way_15 rfl ?_
    refine r_getf E cl_X4 9 (by decide) q1895 mdl_o rfl dX4_way_16 ?_
    refine r_iload_n E dX4_way_19 rfl ?_
    refine r_top (v' := .int (nI x)) (congrArg Value.int (by rw [hx]; rfl)) ?_
    refine r_iald E mdl_12 (by omega) (by omega) dX4_way_20 ?_
    refine r_top (v' := .int (nI ((bFar (S.2 1) (cN s) (cN v) K).1 x))) (congrArg Value.int rfl) ?_
    have ha : aWay (S.2 1) s v K = aDon _ _ := aWayG_0 hK8 hx
    exact r_ireturn E P rfl dX4_way_21 ⟨by rw [ha]; rfl, _, W, by rw [ha]; rfl⟩
  · have ha : aWay (S.2 1) s v K = aThr _ := aWayG_n c1
    refine r_iconst E (nI 0) dX4_way_11 (by decide) ?_
    refine r_goto (tgt := 21) E dX4_way_12 (by decide) ?_
    exact r_ireturn E P rfl dX4_way_21 ⟨by rw [ha]; rfl, X, W, by rw [ha]; rfl⟩

set_option maxHeartbeats 4000000 in
theorem ct_X4_wayAgain (G : fmG) (hl : (fmLn G).stackTraces = false) (m : Nat) (S : MSt) (h0 : fmHp) (s v : Int32) (K : Nat) (hK : S.2 1 350 = nI K) (hK8 : K ≤ 8) : Ct G yX4_wayAgain (ws_ yX4_wayAgain cX4_wayAgain 3 (some .int)) { frames := 8, cells := 0, slots := 0, locals := 186 } [.ref m, .int s, .int v] (mdl m S h0) (eSt m S h0 (aWay (S.2 1) s v K).1 (aAns (aWay (S.2 1) s v K))) fmNo := by
  refine Ct.of hl (by decide +kernel) (Nat.le_of_ble_eq_true rfl) (fun Γ E P => ?_)
  refine r_aload_n E dX4_wayAgain_0 rfl ?_
  refine r_iload_n E dX4_wayAgain_1 rfl ?_
  refine r_iload_n E dX4_wayAgain_2 rfl ?_
  refine r_callV E (ct_X4_way G hl m S h0 s v K hK hK8) mX4_way q2175 q2156 q2157 (fun H a1 => fm_rc (ci := 0) (C := RX4) (T := TX4) (N := 21) a1 rfl E.v mdl_o) rfl rfl (Nat.le_of_ble_eq_true rfl) (Nat.le_of_ble_eq_true rfl) (Nat.le_of_ble_eq_true rfl) dX4_wayAgain_3 0 0 (Nat.le_of_ble_eq_true rfl) (Nat.le_of_ble_eq_true rfl) (fun v' h' q => ?_) (fun _ _ _ q => q.elim)
  obtain ⟨rfl, X, W, rfl⟩ := q
  show fmW G Γ (mdl m (upd S.1 0 (nI (aWay (S.2 1) s v K).1), va_up (va_up S.2 12 X) 13 W) h0) 0 0 6 [some (.ref m), some (.int s), some (.int v)] [.int (aAns (aWay (S.2 1) s v K))]
  exact r_ireturn E P rfl dX4_wayAgain_6 ⟨rfl, X, W, rfl⟩

set_option maxHeartbeats 4000000 in
theorem ct_X4_step (G : fmG) (hl : (fmLn G).stackTraces = false) (m : Nat) (S : MSt) (h0 : fmHp) (s v i : Int32) (K : Nat) (hK : S.2 1 350 = nI K) (hK8 : K ≤ 8) : Ct G yX4_step (ws_ yX4_step cX4_step 7 (some .int)) { frames := 7, cells := 0, slots := 0, locals := 163 } [.ref m, .int s, .int v, .int i] (mdl m S h0) (eSt m S h0 (aStep (S.2 1) s v i K).1 (aAns (aStep (S.2 1) s v i K))) fmNo := by
  refine Ct.of hl (by decide +kernel) (Nat.le_of_ble_eq_true rfl) (fun Γ E P => ?_)
  refine r_aload_n E dX4_step_0 rfl ?_
  refine r_iload_n E dX4_step_1 rfl ?_
  refine r_iload_n E dX4_step_2 rfl ?_
  refine r_callV E (ct_X4_wayFor G hl m S h0 s v K hK hK8) mX4_wayFor q2159 q2161 qs64 (fun H a1 => fm_rc (ci := 0) (C := RX4) (T := TX4) (N := 21) a1 rfl E.v mdl_o) rfl rfl (Nat.le_of_ble_eq_true rfl) (Nat.le_of_ble_eq_true rfl) (Nat.le_of_ble_eq_true rfl) dX4_step_3 0 0 (Nat.le_of_ble_eq_true rfl) (Nat.le_of_ble_eq_true rfl) (fun v' h' q => ?_) (fun _ _ _ q => q.elim)
  obtain ⟨rfl, X, W, rfl, hX⟩ := q
  show fmW G Γ (mdl m (upd S.1 0 (nI (wRes (S.2 1) s v K).1), va_up (va_up S.2 12 X) 13 W) h0) 0 0 6 [some (.ref m), some (.int s), some (.int v), some (.int i), none, none, none] [.int (cI ((wRes (S.2 1) s v K).2))]
  refine r_istore E [some (.ref m), some (.int s), some (.int v), some (.int i), some (.int (cI ((wRes (S.2 1) s v K).2))), none, none] dX4_step_6 rfl rfl ?_
  refine r_iload E dX4_step_8 rfl ?_
  refine r_ifC_lt (o := (wRes (S.2 1) s v K).2) (tgt := 43) E dX4_step_10 (by decide) (wRes_31 hK8) (fun c1 => ?_) (fun c1 => ?_)
  · have ha : aStep (S.2 1) s v i K = aThr _ := aWayG_n c1
    refine r_iconst E (nI 0) dX4_step_43 (by decide) ?_
    exact r_ireturn E P rfl dX4_step_44 ⟨by rw [ha]; rfl, X, W, by rw [ha]; rfl⟩
  · obtain ⟨x, hx⟩ := Option.ne_none_iff_exists'.mp c1
    have hX2 := hX (by rw [hx]; exact Option.some_ne_none _)
    subst hX2
    obtain ⟨j, c, hj, hc, hs, hv, e1, e2, e3, e4, e5⟩ := wRes_some hK8 hx
    have hcv : cN v < 64 := by rw [e2]; exact hc
    have e6 : sFirst (S.2 1) (cN s) (cN v) K = some x := by rw [e1, e2]; exact e3
    have hx6 := sFirst_lt e6
    have hxF : 0 < (bFar (S.2 1) (cN s) (cN v) K).1 x := sFirst_F e6
    have hFok := bFar_ok (N := S.2 1) (j := cN s) (K := K) hcv
    have hpre := bFar_pre (N := S.2 1) (j := cN s) (K := K) hcv
    have hFx := hFok.f x
    rw [e4]
    refine r_aload_n E dX4_step_13 rfl ?_
    refine r_iconst E (nI 2) dX4_step_14 (by decide) ?_
    suffices j2 : fmW G Γ (mdl m (upd S.1 0 (nI 0), va_up (va_up S.2 12 (fun zz => nI ((bFar (S.2 1) (cN s) (cN v) K).1 zz))) 13 W) h0) 0 0 37 [some (.ref m), some (.int s), some (.int v), some (.int i), some (.int (cI ((wRes (S.2 1) s v K).2))), none, none] [.int (bI (!sBetween i (nI 0) (nI ((bFar (S.2 1) (cN s) (cN v) K).1 x - 1)))), .int (nI 2), .ref m] by
      refine r_iload_n E dX4_step_15 rfl ?_
      refine r_iconst E (nI 0) dX4_step_16 (by decide) ?_
      refine r_aload_n E dX4_step_17 rfl ?_
      refine r_getf E cl_X4 9 (by decide) q1895 mdl_o rfl dX4_step_18 ?_
      refine r_iload E dX4_step_21 rfl ?_
      refine r_top (v' := .int (nI x)) (congrArg Value.int (by rw [hx]; rfl)) ?_
      refine r_iald E mdl_12 (by omega) (by omega) dX4_step_23 ?_
      refine r_top (v' := .int (nI ((bFar (S.2 1) (cN s) (cN v) K).1 x))) (congrArg Value.int rfl) ?_
      refine r_iconst E (nI 1) dX4_step_24 (by decide) ?_
      refine r_isubN E dX4_step_25 (by omega) ?_
      refine r_callS1 (v1 := .int (bI (sBetween i (nI 0) (nI (((bFar (S.2 1) (cN s) (cN v) K).1 x) - 1))))) E (ct_X4_isBetween G hl (mdl m (upd S.1 0 (nI 0), va_up (va_up S.2 12 (fun zz => nI ((bFar (S.2 1) (cN s) (cN v) K).1 zz))) 13 W) h0) (i) (nI 0) (nI (((bFar (S.2 1) (cN s) (cN v) K).1 x) - 1))) mX4_isBetween q89 q1962 q1963 rfl rfl (Nat.le_of_ble_eq_true rfl) (Nat.le_of_ble_eq_true rfl) (Nat.le_of_ble_eq_true rfl) dX4_step_26 0 0 (Nat.le_of_ble_eq_true rfl) (Nat.le_of_ble_eq_true rfl) ?_
      refine r_ifB_ne (b := sBetween i (nI 0) (nI (((bFar (S.2 1) (cN s) (cN v) K).1 x) - 1))) (tgt := 36) E dX4_step_29 (by decide) (fun c3 => ?_) (fun c3 => ?_)
      · refine r_iconst E (nI 0) dX4_step_36 (by decide) ?_
        refine r_top (v' := .int (bI (!sBetween i (nI 0) (nI ((bFar (S.2 1) (cN s) (cN v) K).1 x - 1))))) (by rw [show (!sBetween i (nI 0) (nI ((bFar (S.2 1) (cN s) (cN v) K).1 x - 1))) = false by simp [c3]]; rfl) ?_
        exact j2
      · refine r_iconst E (nI 1) dX4_step_32 (by decide) ?_
        refine r_goto (tgt := 37) E dX4_step_33 (by decide) ?_
        refine r_top (v' := .int (bI (!sBetween i (nI 0) (nI ((bFar (S.2 1) (cN s) (cN v) K).1 x - 1))))) (by rw [show (!sBetween i (nI 0) (nI ((bFar (S.2 1) (cN s) (cN v) K).1 x - 1))) = true by simp [c3]]; rfl) ?_
        exact j2
    refine r_callV1 (v1 := .int (bI (!sBetween i (nI 0) (nI ((bFar (S.2 1) (cN s) (cN v) K).1 x - 1))))) E (ct_X4_fails G hl m (upd S.1 0 (nI 0), va_up (va_up S.2 12 (fun zz => nI ((bFar (S.2 1) (cN s) (cN v) K).1 zz))) 13 W) h0 (nI 2) (!sBetween i (nI 0) (nI ((bFar (S.2 1) (cN s) (cN v) K).1 x - 1)))) mX4_fails q1965 q1967 qs33 (fun H a1 => fm_rc (ci := 0) (C := RX4) (T := TX4) (N := 21) a1 rfl E.v mdl_o) rfl rfl (Nat.le_of_ble_eq_true rfl) (Nat.le_of_ble_eq_true rfl) (Nat.le_of_ble_eq_true rfl) dX4_step_37 0 0 (Nat.le_of_ble_eq_true rfl) (Nat.le_of_ble_eq_true rfl) ?_
    refine r_ifB_eq (b := !sBetween i (nI 0) (nI ((bFar (S.2 1) (cN s) (cN v) K).1 x - 1))) (tgt := 45) E dX4_step_40 (by decide) (fun c4 => ?_) (fun c4 => ?_)
    · refine r_hp (h' := mdl m (upd S.1 0 (nI 0), va_up (va_up S.2 12 (fun zz => nI ((bFar (S.2 1) (cN s) (cN v) K).1 zz))) 13 W) h0) (by rw [nf1 c4, upd_uu]) ?_
      have ha : aStep (S.2 1) s v i K = aDon _ _ := (aWayG_0 hK8 hx).trans (aG_f c4)
      obtain ⟨q, hq, rfl⟩ := sNum_f (by omega) c4
      have hqn : cN (nI q) = q := cN_n (by omega)
      rw [hqn] at ha
      refine r_iload E dX4_step_45 rfl ?_
      refine r_top (v' := .int (nI x)) (congrArg Value.int (by rw [hx]; rfl)) ?_
      refine r_istore E [some (.ref m), some (.int s), some (.int v), some (.int (nI q)), some (.int (cI ((wRes (S.2 1) s v K).2))), some (.int (nI x)), none] dX4_step_47 rfl rfl ?_
      refine r_iconst E (nI 0) dX4_step_49 (by decide) ?_
      refine r_istore E [some (.ref m), some (.int s), some (.int v), some (.int (nI q)), some (.int (cI ((wRes (S.2 1) s v K).2))), some (.int (nI x)), some (.int (nI 0))] dX4_step_50 rfl rfl ?_
      have e0 : sWalk (bFar (S.2 1) (cN s) (cN v) K).1 x 0 = x := rfl
      show fmW G Γ (mdl m (upd S.1 0 (nI 0), va_up (va_up S.2 12 (fun zz => nI ((bFar (S.2 1) (cN s) (cN v) K).1 zz))) 13 W) h0) 0 0 52 [some (.ref m), some (.int s), some (.int v), some (.int (nI q)), some (.int (cI ((wRes (S.2 1) s v K).2))), some (.int (nI (sWalk (bFar (S.2 1) (cN s) (cN v) K).1 x 0))), some (.int (nI 0))] []
      have lp5 : ∀ (n5 i5 : Nat), i5 + n5 = q → fmW G Γ (mdl m (upd S.1 0 (nI 0), va_up (va_up S.2 12 (fun zz => nI ((bFar (S.2 1) (cN s) (cN v) K).1 zz))) 13 W) h0) 0 0 52 [some (.ref m), some (.int s), some (.int v), some (.int (nI q)), some (.int (cI ((wRes (S.2 1) s v K).2))), some (.int (nI (sWalk (bFar (S.2 1) (cN s) (cN v) K).1 x i5))), some (.int (nI i5))] [] := by
        intro n5
        induction n5 with
        | zero =>
          intro i5 hi5
          refine r_iload E dX4_step_52 rfl ?_
          refine r_iload_n E dX4_step_54 rfl ?_
          refine r_icmpN_ge (tgt := 72) E dX4_step_55 (by decide) (by omega) (by omega) (fun c6 => ?_) (fun c6 => ?_)
          · have hiq : i5 = q := by omega
            refine r_iload E dX4_step_72 rfl ?_
            exact r_ireturn E P rfl dX4_step_74 ⟨by rw [ha, hiq]; rfl, _, W, by rw [ha]; rfl⟩
          · exfalso; omega
        | succ n5 ih =>
          intro i5 hi5
          refine r_iload E dX4_step_52 rfl ?_
          refine r_iload_n E dX4_step_54 rfl ?_
          refine r_icmpN_ge (tgt := 72) E dX4_step_55 (by decide) (by omega) (by omega) (fun c7 => ?_) (fun c7 => ?_)
          · exfalso; omega
          · obtain ⟨w1, w2⟩ := sWalk_ok hpre hx6 i5 (by omega)
            obtain ⟨y, hy⟩ := sNxt_pre hpre w1 (by omega)
            refine r_aload_n E dX4_step_58 rfl ?_
            refine r_iload E dX4_step_59 rfl ?_
            refine r_callV1 (v1 := .int (cI (sNxt (bFar (S.2 1) (cN s) (cN v) K).1 (sWalk (bFar (S.2 1) (cN s) (cN v) K).1 x i5) 4))) E (ct_X4_nextOfWay G hl m (upd S.1 0 (nI 0), va_up (va_up S.2 12 (fun zz => nI ((bFar (S.2 1) (cN s) (cN v) K).1 zz))) 13 W) h0 (sWalk (bFar (S.2 1) (cN s) (cN v) K).1 x i5) (bFar (S.2 1) (cN s) (cN v) K).1 rfl hFok.f (by omega) (by omega)) mX4_nextOfWay q2180 q2182 qs67 (fun H a1 => fm_rc (ci := 0) (C := RX4) (T := TX4) (N := 21) a1 rfl E.v mdl_o) rfl rfl (Nat.le_of_ble_eq_true rfl) (Nat.le_of_ble_eq_true rfl) (Nat.le_of_ble_eq_true rfl) dX4_step_61 0 0 (Nat.le_of_ble_eq_true rfl) (Nat.le_of_ble_eq_true rfl) ?_
            refine r_top (v' := .int (nI y)) (congrArg Value.int (by rw [hy]; rfl)) ?_
            refine r_top (v' := .int (nI (sWalk (bFar (S.2 1) (cN s) (cN v) K).1 x (i5 + 1)))) (by rw [sWalk_1 hy]) ?_
            refine r_istore E [some (.ref m), some (.int s), some (.int v), some (.int (nI q)), some (.int (cI ((wRes (S.2 1) s v K).2))), some (.int (nI (sWalk (bFar (S.2 1) (cN s) (cN v) K).1 x (i5 + 1)))), some (.int (nI i5))] dX4_step_64 rfl rfl ?_
            refine r_iinc E (nI (i5 + 1)) [some (.ref m), some (.int s), some (.int v), some (.int (nI q)), some (.int (cI ((wRes (S.2 1) s v K).2))), some (.int (nI (sWalk (bFar (S.2 1) (cN s) (cN v) K).1 x (i5 + 1)))), some (.int (nI (i5 + 1)))] dX4_step_66 rfl (nI_1 i5) rfl rfl ?_
            refine r_goto (tgt := 52) E dX4_step_69 (by decide) ?_
            exact ih (i5 + 1) (by omega)
      exact lp5 q 0 (by omega)
    · refine r_hp (h' := mdl m (upd S.1 0 (nI 2), va_up (va_up S.2 12 (fun zz => nI ((bFar (S.2 1) (cN s) (cN v) K).1 zz))) 13 W) h0) (by rw [nt1 c4, upd_uu]) ?_
      refine r_iconst E (nI 0) dX4_step_43 (by decide) ?_
      have ha : aStep (S.2 1) s v i K = aThr 2 := (aWayG_0 hK8 hx).trans (aG_t c4)
      exact r_ireturn E P rfl dX4_step_44 ⟨by rw [ha]; rfl, _, W, by rw [ha]; rfl⟩

set_option maxHeartbeats 4000000 in
theorem ct_X4_strokes (G : fmG) (hl : (fmLn G).stackTraces = false) (m : Nat) (S : MSt) (h0 : fmHp) (s v : Int32) (K : Nat) (hK : S.2 1 350 = nI K) (hK8 : K ≤ 8) : Ct G yX4_strokes (ws_ yX4_strokes cX4_strokes 5 (some .int)) { frames := 7, cells := 0, slots := 0, locals := 163 } [.ref m, .int s, .int v] (mdl m S h0) (eSt m S h0 (aStrokes (S.2 1) s v K).1 (aAns (aStrokes (S.2 1) s v K))) fmNo := by
  refine Ct.of hl (by decide +kernel) (Nat.le_of_ble_eq_true rfl) (fun Γ E P => ?_)
  refine r_aload_n E dX4_strokes_0 rfl ?_
  refine r_iload_n E dX4_strokes_1 rfl ?_
  refine r_iload_n E dX4_strokes_2 rfl ?_
  refine r_callV E (ct_X4_wayFor G hl m S h0 s v K hK hK8) mX4_wayFor q2159 q2161 qs64 (fun H a1 => fm_rc (ci := 0) (C := RX4) (T := TX4) (N := 21) a1 rfl E.v mdl_o) rfl rfl (Nat.le_of_ble_eq_true rfl) (Nat.le_of_ble_eq_true rfl) (Nat.le_of_ble_eq_true rfl) dX4_strokes_3 0 0 (Nat.le_of_ble_eq_true rfl) (Nat.le_of_ble_eq_true rfl) (fun v' h' q => ?_) (fun _ _ _ q => q.elim)
  obtain ⟨rfl, X, W, rfl, hX⟩ := q
  show fmW G Γ (mdl m (upd S.1 0 (nI (wRes (S.2 1) s v K).1), va_up (va_up S.2 12 X) 13 W) h0) 0 0 6 [some (.ref m), some (.int s), some (.int v), none, none] [.int (cI ((wRes (S.2 1) s v K).2))]
  refine r_istore_n E [some (.ref m), some (.int s), some (.int v), some (.int (cI ((wRes (S.2 1) s v K).2))), none] dX4_strokes_6 rfl rfl ?_
  refine r_iconst E (nI 0) dX4_strokes_7 (by decide) ?_
  refine r_istore E [some (.ref m), some (.int s), some (.int v), some (.int (cI ((wRes (S.2 1) s v K).2))), some (.int (nI 0))] dX4_strokes_8 rfl rfl ?_
  cases hx : (wRes (S.2 1) s v K).2 with
  | none =>
    have ha : aStrokes (S.2 1) s v K = aThr _ := aWayG_n hx
    refine r_iload_n E dX4_strokes_10 rfl ?_
    refine r_ifC_lt (o := none) (tgt := 33) E dX4_strokes_11 (by decide) (fun x hx => by cases hx) (fun _ => ?_) (fun c => absurd rfl c)
    refine r_iload E dX4_strokes_33 rfl ?_
    exact r_ireturn E P rfl dX4_strokes_35 ⟨by rw [ha]; rfl, X, W, by rw [ha]; rfl⟩
  | some x =>
    have hX2 := hX (by rw [hx]; exact Option.some_ne_none _)
    subst hX2
    obtain ⟨j, c, hj, hc, hs, hv, e1, e2, e3, e4, e5⟩ := wRes_some hK8 hx
    have hcv : cN v < 64 := by rw [e2]; exact hc
    have e6 : sFirst (S.2 1) (cN s) (cN v) K = some x := by rw [e1, e2]; exact e3
    have hx6 := sFirst_lt e6
    have hxF : 0 < (bFar (S.2 1) (cN s) (cN v) K).1 x := sFirst_F e6
    have hFok := bFar_ok (N := S.2 1) (j := cN s) (K := K) hcv
    have hpre := bFar_pre (N := S.2 1) (j := cN s) (K := K) hcv
    have hFx := hFok.f x
    rw [e4]
    have lp : ∀ (n i : Nat), i + n = (bFar (S.2 1) (cN s) (cN v) K).1 x → fmW G Γ (mdl m (upd S.1 0 (nI 0), va_up (va_up S.2 12 (fun zz => nI ((bFar (S.2 1) (cN s) (cN v) K).1 zz))) 13 W) h0) 0 0 10 [some (.ref m), some (.int s), some (.int v), some (.int (cI (sAt (bFar (S.2 1) (cN s) (cN v) K).1 x i))), some (.int (sWayS (S.2 1) (bFar (S.2 1) (cN s) (cN v) K).1 x i))] [] := by
      intro n
      induction n with
      | zero =>
        intro i hi
        refine r_iload_n E dX4_strokes_10 rfl ?_
        refine r_ifC_lt (o := sAt (bFar (S.2 1) (cN s) (cN v) K).1 x i) (tgt := 33) E dX4_strokes_11 (by decide) (fun z hz => by rw [sAt_n (by omega)] at hz; cases hz) (fun _ => ?_) (fun c => absurd (sAt_n (by omega)) c)
        refine r_iload E dX4_strokes_33 rfl ?_
        have ha : aStrokes (S.2 1) s v K = aDon _ _ := aWayG_0 hK8 hx
        have hi2 : i = (bFar (S.2 1) (cN s) (cN v) K).1 x := by omega
        exact r_ireturn E P rfl dX4_strokes_35 ⟨by rw [ha, hi2]; rfl, _, W, by rw [ha]; rfl⟩
      | succ n ih =>
        intro i hi
        obtain ⟨w1, w2⟩ := sWalk_ok hpre hx6 i (by omega)
        refine r_iload_n E dX4_strokes_10 rfl ?_
        refine r_top (v' := .int (nI (sWalk (bFar (S.2 1) (cN s) (cN v) K).1 x i))) (congrArg Value.int (by rw [sAt_p (by omega)]; rfl)) ?_
        refine r_if_lt (tgt := 33) E dX4_strokes_11 (by decide) (fun c => absurd c (nI_pos (by omega))) (fun _ => ?_)
        refine r_iload E dX4_strokes_14 rfl ?_
        refine r_aload_n E dX4_strokes_16 rfl ?_
        refine r_iload_n E dX4_strokes_17 rfl ?_
        refine r_top (v' := .int (nI (sWalk (bFar (S.2 1) (cN s) (cN v) K).1 x i))) (congrArg Value.int (by rw [sAt_p (by omega)]; rfl)) ?_
        refine r_callV1 (v1 := .int (sStrokes (S.2 1) (sWalk (bFar (S.2 1) (cN s) (cN v) K).1 x i))) E (ct_X4_strokesOf G hl m (upd S.1 0 (nI 0), va_up (va_up S.2 12 (fun zz => nI ((bFar (S.2 1) (cN s) (cN v) K).1 zz))) 13 W) h0 (sWalk (bFar (S.2 1) (cN s) (cN v) K).1 x i) (by omega)) mX4_strokesOf q1984 q1986 qs37 (fun H a1 => fm_rc (ci := 0) (C := RX4) (T := TX4) (N := 21) a1 rfl E.v mdl_o) rfl rfl (Nat.le_of_ble_eq_true rfl) (Nat.le_of_ble_eq_true rfl) (Nat.le_of_ble_eq_true rfl) dX4_strokes_18 0 0 (Nat.le_of_ble_eq_true rfl) (Nat.le_of_ble_eq_true rfl) ?_
        refine r_iadd E dX4_strokes_21 ?_
        refine r_istore E [some (.ref m), some (.int s), some (.int v), some (.int (cI (sAt (bFar (S.2 1) (cN s) (cN v) K).1 x i))), some (.int ((sWayS (S.2 1) (bFar (S.2 1) (cN s) (cN v) K).1 x i) + (sStrokes (S.2 1) (sWalk (bFar (S.2 1) (cN s) (cN v) K).1 x i))))] dX4_strokes_22 rfl rfl ?_
        refine r_aload_n E dX4_strokes_24 rfl ?_
        refine r_iload_n E dX4_strokes_25 rfl ?_
        refine r_top (v' := .int (nI (sWalk (bFar (S.2 1) (cN s) (cN v) K).1 x i))) (congrArg Value.int (by rw [sAt_p (by omega)]; rfl)) ?_
        refine r_callV1 (v1 := .int (cI (sNxt (bFar (S.2 1) (cN s) (cN v) K).1 (sWalk (bFar (S.2 1) (cN s) (cN v) K).1 x i) 4))) E (ct_X4_nextOfWay G hl m (upd S.1 0 (nI 0), va_up (va_up S.2 12 (fun zz => nI ((bFar (S.2 1) (cN s) (cN v) K).1 zz))) 13 W) h0 (sWalk (bFar (S.2 1) (cN s) (cN v) K).1 x i) (bFar (S.2 1) (cN s) (cN v) K).1 rfl hFok.f (by omega) (by omega)) mX4_nextOfWay q2180 q2182 qs67 (fun H a1 => fm_rc (ci := 0) (C := RX4) (T := TX4) (N := 21) a1 rfl E.v mdl_o) rfl rfl (Nat.le_of_ble_eq_true rfl) (Nat.le_of_ble_eq_true rfl) (Nat.le_of_ble_eq_true rfl) dX4_strokes_26 0 0 (Nat.le_of_ble_eq_true rfl) (Nat.le_of_ble_eq_true rfl) ?_
        refine r_top (v' := .int (cI (sAt (bFar (S.2 1) (cN s) (cN v) K).1 x (i + 1)))) (by rw [sAt_1 hpre hx6 (by omega)]) ?_
        refine r_istore_n E [some (.ref m), some (.int s), some (.int v), some (.int (cI (sAt (bFar (S.2 1) (cN s) (cN v) K).1 x (i + 1)))), some (.int ((sWayS (S.2 1) (bFar (S.2 1) (cN s) (cN v) K).1 x i) + (sStrokes (S.2 1) (sWalk (bFar (S.2 1) (cN s) (cN v) K).1 x i))))] dX4_strokes_29 rfl rfl ?_
        refine r_goto (tgt := 10) E dX4_strokes_30 (by decide) ?_
        exact ih (i + 1) (by omega)
    have h0s : sAt (bFar (S.2 1) (cN s) (cN v) K).1 x 0 = some x := sAt_p hxF
    have := lp ((bFar (S.2 1) (cN s) (cN v) K).1 x) 0 (by omega)
    rw [h0s] at this
    exact this

set_option maxHeartbeats 4000000 in
theorem ct_X4_shaft (G : fmG) (hl : (fmLn G).stackTraces = false) (m : Nat) (S : MSt) (h0 : fmHp) (s u : Int32) (K : Nat) (hK : S.2 1 350 = nI K) (hK8 : K ≤ 8) : Ct G yX4_shaft (ws_ yX4_shaft cX4_shaft 3 (some .int)) { frames := 6, cells := 0, slots := 0, locals := 139 } [.ref m, .int s, .int u] (mdl m S h0) (eSt m S h0 (aShaft (S.2 1) s u K).1 (aAns (aShaft (S.2 1) s u K))) fmNo := by
  refine Ct.of hl (by decide +kernel) (Nat.le_of_ble_eq_true rfl) (fun Γ E P => ?_)
  refine r_aload_n E dX4_shaft_0 rfl ?_
  refine r_iconst E (nI 1) dX4_shaft_1 (by decide) ?_
  suffices j1 : fmW G Γ (mdl m S h0) 0 0 15 [some (.ref m), some (.int s), some (.int u)] [.int (bI (!sBetween s (nI 0) (nI K - nI 1))), .int (nI 1), .ref m] by
    refine r_aload_n E dX4_shaft_2 rfl ?_
    refine r_iload_n E dX4_shaft_3 rfl ?_
    refine r_callV1 (v1 := .int (bI (sBetween s (nI 0) (nI K - nI 1)))) E (ct_X4_isShaft G hl m S h0 s K hK) mX4_isShaft q2099 q2101 qs55 (fun H a1 => fm_rc (ci := 0) (C := RX4) (T := TX4) (N := 21) a1 rfl E.v mdl_o) rfl rfl (Nat.le_of_ble_eq_true rfl) (Nat.le_of_ble_eq_true rfl) (Nat.le_of_ble_eq_true rfl) dX4_shaft_4 0 0 (Nat.le_of_ble_eq_true rfl) (Nat.le_of_ble_eq_true rfl) ?_
    refine r_ifB_ne (b := sBetween s (nI 0) (nI K - nI 1)) (tgt := 14) E dX4_shaft_7 (by decide) (fun c2 => ?_) (fun c2 => ?_)
    · refine r_iconst E (nI 0) dX4_shaft_14 (by decide) ?_
      refine r_top (v' := .int (bI (!sBetween s (nI 0) (nI K - nI 1)))) (by rw [show (!sBetween s (nI 0) (nI K - nI 1)) = false by simp [c2]]; rfl) ?_
      exact j1
    · refine r_iconst E (nI 1) dX4_shaft_10 (by decide) ?_
      refine r_goto (tgt := 15) E dX4_shaft_11 (by decide) ?_
      refine r_top (v' := .int (bI (!sBetween s (nI 0) (nI K - nI 1)))) (by rw [show (!sBetween s (nI 0) (nI K - nI 1)) = true by simp [c2]]; rfl) ?_
      exact j1
  refine r_callV1 (v1 := .int (bI (!sBetween s (nI 0) (nI K - nI 1)))) E (ct_X4_fails G hl m S h0 (nI 1) (!sBetween s (nI 0) (nI K - nI 1))) mX4_fails q1965 q1967 qs33 (fun H a1 => fm_rc (ci := 0) (C := RX4) (T := TX4) (N := 21) a1 rfl E.v mdl_o) rfl rfl (Nat.le_of_ble_eq_true rfl) (Nat.le_of_ble_eq_true rfl) (Nat.le_of_ble_eq_true rfl) dX4_shaft_15 0 0 (Nat.le_of_ble_eq_true rfl) (Nat.le_of_ble_eq_true rfl) ?_
  refine r_ifB_ne (b := !sBetween s (nI 0) (nI K - nI 1)) (tgt := 43) E dX4_shaft_18 (by decide) (fun c3 => ?_) (fun c3 => ?_)
  · refine r_hp (h' := mdl m (upd S.1 0 (nI 1), S.2) h0) (by rw [nt1 c3]) ?_
    refine r_iconst E (nI 0) dX4_shaft_43 (by decide) ?_
    have hs : aShaft (S.2 1) s u K = aThr 1 := by
      unfold aShaft
      exact (aG_t c3).trans (rfl)
    exact r_ireturn E P rfl dX4_shaft_44 (by rw [hs]; exact eSt_i rfl)
  · refine r_hp (h' := mdl m (upd S.1 0 (nI 0), S.2) h0) (by rw [nf1 c3]) ?_
    obtain ⟨j, hj, rfl⟩ := sShaft_f hK8 c3
    have hcn : cN (nI j) = j := cN_n (by omega)
    refine r_aload_n E dX4_shaft_21 rfl ?_
    refine r_iconst E (nI 2) dX4_shaft_22 (by decide) ?_
    suffices j4 : fmW G Γ (mdl m (upd S.1 0 (nI 0), S.2) h0) 0 0 37 [some (.ref m), some (.int (nI j)), some (.int u)] [.int (bI (!sBetween u (nI 0) (nI 5))), .int (nI 2), .ref m] by
      refine r_iload_n E dX4_shaft_23 rfl ?_
      refine r_iconst E (nI 0) dX4_shaft_24 (by decide) ?_
      refine r_iconst E (nI 5) dX4_shaft_25 (by decide) ?_
      refine r_callS1 (v1 := .int (bI (sBetween u (nI 0) (nI 5)))) E (ct_X4_isBetween G hl (mdl m (upd S.1 0 (nI 0), S.2) h0) (u) (nI 0) (nI 5)) mX4_isBetween q89 q1962 q1963 rfl rfl (Nat.le_of_ble_eq_true rfl) (Nat.le_of_ble_eq_true rfl) (Nat.le_of_ble_eq_true rfl) dX4_shaft_26 0 0 (Nat.le_of_ble_eq_true rfl) (Nat.le_of_ble_eq_true rfl) ?_
      refine r_ifB_ne (b := sBetween u (nI 0) (nI 5)) (tgt := 36) E dX4_shaft_29 (by decide) (fun c5 => ?_) (fun c5 => ?_)
      · refine r_iconst E (nI 0) dX4_shaft_36 (by decide) ?_
        refine r_top (v' := .int (bI (!sBetween u (nI 0) (nI 5)))) (by rw [show (!sBetween u (nI 0) (nI 5)) = false by simp [c5]]; rfl) ?_
        exact j4
      · refine r_iconst E (nI 1) dX4_shaft_32 (by decide) ?_
        refine r_goto (tgt := 37) E dX4_shaft_33 (by decide) ?_
        refine r_top (v' := .int (bI (!sBetween u (nI 0) (nI 5)))) (by rw [show (!sBetween u (nI 0) (nI 5)) = true by simp [c5]]; rfl) ?_
        exact j4
    refine r_callV1 (v1 := .int (bI (!sBetween u (nI 0) (nI 5)))) E (ct_X4_fails G hl m (upd S.1 0 (nI 0), S.2) h0 (nI 2) (!sBetween u (nI 0) (nI 5))) mX4_fails q1965 q1967 qs33 (fun H a1 => fm_rc (ci := 0) (C := RX4) (T := TX4) (N := 21) a1 rfl E.v mdl_o) rfl rfl (Nat.le_of_ble_eq_true rfl) (Nat.le_of_ble_eq_true rfl) (Nat.le_of_ble_eq_true rfl) dX4_shaft_37 0 0 (Nat.le_of_ble_eq_true rfl) (Nat.le_of_ble_eq_true rfl) ?_
    refine r_ifB_eq (b := !sBetween u (nI 0) (nI 5)) (tgt := 45) E dX4_shaft_40 (by decide) (fun c6 => ?_) (fun c6 => ?_)
    · refine r_hp (h' := mdl m (upd S.1 0 (nI 0), S.2) h0) (by rw [nf1 c6, upd_uu]) ?_
      obtain ⟨q, hq, rfl⟩ := sNum_f (by decide) c6
      have hqn : cN (nI q) = q := cN_n (by omega)
      refine r_iload_n E dX4_shaft_45 rfl ?_
      rcases (by omega : q = 0 ∨ q = 1 ∨ q = 2 ∨ q = 3 ∨ q = 4 ∨ q = 5) with rfl | rfl | rfl | rfl | rfl | rfl
      · refine r_tableIn (tgt := 80) E dX4_shaft_46 (by decide) (by decide) rfl (by decide) ?_
        refine r_aload_n E dX4_shaft_80 rfl ?_
        refine r_getf E cl_X4 1 (by decide) q1887 mdl_o rfl dX4_shaft_81 ?_
        refine r_sipush E (nI 320) dX4_shaft_84 (by decide) ?_
        refine r_iload_n E dX4_shaft_87 rfl ?_
        refine r_iaddN E dX4_shaft_88 ?_
        refine r_iald E mdl_1 (by omega) (by omega) dX4_shaft_89 ?_
        refine r_top (v' := .int ((S.2 1) (320 + j))) rfl ?_
        have hs : aShaft (S.2 1) (nI j) (nI 0) K = aDon (sShaftQ (S.2 1) j K 0) (S.2 1) := by
          unfold aShaft; rw [hcn, hqn]
          exact (aG_f c3).trans ((aG_f c6).trans (rfl))
        exact r_ireturn E P rfl dX4_shaft_90 (by rw [hs]; exact eSt_i rfl)
      · refine r_tableIn (tgt := 91) E dX4_shaft_46 (by decide) (by decide) rfl (by decide) ?_
        refine r_aload_n E dX4_shaft_91 rfl ?_
        refine r_iload_n E dX4_shaft_92 rfl ?_
        refine r_callV1 (v1 := .int (nI (sCount (fun c => sOpenOf (S.2 1) (some c) (nI j)) 64))) E (ct_X4_openCells G hl m (upd S.1 0 (nI 0), S.2) h0 (nI j)) mX4_openCells q2123 q2125 qs58 (fun H a1 => fm_rc (ci := 0) (C := RX4) (T := TX4) (N := 21) a1 rfl E.v mdl_o) rfl rfl (Nat.le_of_ble_eq_true rfl) (Nat.le_of_ble_eq_true rfl) (Nat.le_of_ble_eq_true rfl) dX4_shaft_93 0 0 (Nat.le_of_ble_eq_true rfl) (Nat.le_of_ble_eq_true rfl) ?_
        have hs : aShaft (S.2 1) (nI j) (nI 1) K = aDon (sShaftQ (S.2 1) j K 1) (S.2 1) := by
          unfold aShaft; rw [hcn, hqn]
          exact (aG_f c3).trans ((aG_f c6).trans (rfl))
        exact r_ireturn E P rfl dX4_shaft_96 (by rw [hs]; exact eSt_i rfl)
      · refine r_tableIn (tgt := 97) E dX4_shaft_46 (by decide) (by decide) rfl (by decide) ?_
        refine r_aload_n E dX4_shaft_97 rfl ?_
        refine r_getf E cl_X4 1 (by decide) q1887 mdl_o rfl dX4_shaft_98 ?_
        refine r_sipush E (nI 336) dX4_shaft_101 (by decide) ?_
        refine r_iload_n E dX4_shaft_104 rfl ?_
        refine r_iaddN E dX4_shaft_105 ?_
        refine r_iald E mdl_1 (by omega) (by omega) dX4_shaft_106 ?_
        refine r_top (v' := .int ((S.2 1) (336 + j))) rfl ?_
        have hs : aShaft (S.2 1) (nI j) (nI 2) K = aDon (sShaftQ (S.2 1) j K 2) (S.2 1) := by
          unfold aShaft; rw [hcn, hqn]
          exact (aG_f c3).trans ((aG_f c6).trans (rfl))
        exact r_ireturn E P rfl dX4_shaft_107 (by rw [hs]; exact eSt_i rfl)
      · refine r_tableIn (tgt := 108) E dX4_shaft_46 (by decide) (by decide) rfl (by decide) ?_
        refine r_aload_n E dX4_shaft_108 rfl ?_
        refine r_iload_n E dX4_shaft_109 rfl ?_
        refine r_callV1 (v1 := .int (sSum (fun c => if (S.2 1) (192 + c) = (nI j) then (S.2 1) (256 + c) else nI 0) 64)) E (ct_X4_propsOf G hl m (upd S.1 0 (nI 0), S.2) h0 (nI j)) mX4_propsOf q2131 q2133 qs59 (fun H a1 => fm_rc (ci := 0) (C := RX4) (T := TX4) (N := 21) a1 rfl E.v mdl_o) rfl rfl (Nat.le_of_ble_eq_true rfl) (Nat.le_of_ble_eq_true rfl) (Nat.le_of_ble_eq_true rfl) dX4_shaft_110 0 0 (Nat.le_of_ble_eq_true rfl) (Nat.le_of_ble_eq_true rfl) ?_
        have hs : aShaft (S.2 1) (nI j) (nI 3) K = aDon (sShaftQ (S.2 1) j K 3) (S.2 1) := by
          unfold aShaft; rw [hcn, hqn]
          exact (aG_f c3).trans ((aG_f c6).trans (rfl))
        exact r_ireturn E P rfl dX4_shaft_113 (by rw [hs]; exact eSt_i rfl)
      · refine r_tableIn (tgt := 114) E dX4_shaft_46 (by decide) (by decide) rfl (by decide) ?_
        refine r_aload_n E dX4_shaft_114 rfl ?_
        refine r_getf E cl_X4 1 (by decide) q1887 mdl_o rfl dX4_shaft_115 ?_
        refine r_sipush E (nI 328) dX4_shaft_118 (by decide) ?_
        refine r_iload_n E dX4_shaft_121 rfl ?_
        refine r_iaddN E dX4_shaft_122 ?_
        refine r_iald E mdl_1 (by omega) (by omega) dX4_shaft_123 ?_
        refine r_top (v' := .int ((S.2 1) (328 + j))) rfl ?_
        have hs : aShaft (S.2 1) (nI j) (nI 4) K = aDon (sShaftQ (S.2 1) j K 4) (S.2 1) := by
          unfold aShaft; rw [hcn, hqn]
          exact (aG_f c3).trans ((aG_f c6).trans (rfl))
        exact r_ireturn E P rfl dX4_shaft_124 (by rw [hs]; exact eSt_i rfl)
      · refine r_tableOut (tgt := 125) E dX4_shaft_46 (by decide) (by decide) ?_
        refine r_aload_n E dX4_shaft_125 rfl ?_
        refine r_iload_n E dX4_shaft_126 rfl ?_
        refine r_callV E (ct_X4_countReached G hl m (upd S.1 0 (nI 0), S.2) h0 j K hK hK8 (by omega)) mX4_countReached q2135 q2137 qs60 (fun H a1 => fm_rc (ci := 0) (C := RX4) (T := TX4) (N := 21) a1 rfl E.v mdl_o) rfl rfl (Nat.le_of_ble_eq_true rfl) (Nat.le_of_ble_eq_true rfl) (Nat.le_of_ble_eq_true rfl) dX4_shaft_127 0 0 (Nat.le_of_ble_eq_true rfl) (Nat.le_of_ble_eq_true rfl) (fun v' h' q => ?_) (fun _ _ _ q => q.elim)
        obtain ⟨rfl, X, W, rfl⟩ := q
        show fmW G Γ (mdl m (upd S.1 0 (nI 0), va_up (va_up S.2 12 X) 13 W) h0) 0 0 130 [some (.ref m), some (.int (nI j)), some (.int (nI 5))] [.int (nI ((bAll (S.2 1) j K).2.2))]
        have hs : aShaft (S.2 1) (nI j) (nI 5) K = aDon (sShaftQ (S.2 1) j K 5) (S.2 1) := by
          unfold aShaft; rw [hcn, hqn]
          exact (aG_f c3).trans ((aG_f c6).trans (rfl))
        exact r_ireturn E P rfl dX4_shaft_130 (by rw [hs]; exact ⟨rfl, X, W, rfl⟩)
    · refine r_hp (h' := mdl m (upd S.1 0 (nI 2), S.2) h0) (by rw [nt1 c6, upd_uu]) ?_
      refine r_iconst E (nI 0) dX4_shaft_43 (by decide) ?_
      have hs : aShaft (S.2 1) (nI j) u K = aThr 2 := by
        unfold aShaft; rw [hcn]
        exact (aG_f c3).trans ((aG_t c6).trans (rfl))
      exact r_ireturn E P rfl dX4_shaft_44 (by rw [hs]; exact eSt_i rfl)

