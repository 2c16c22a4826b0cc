set_option maxHeartbeats 4000000 in
theorem ct_X4_sees (G : fmG) (hl : (fmLn G).stackTraces = false) (m : Nat) (A : Nat → Nat → Int32) (h0 : fmHp) (s : Nat → Int32) (a : Nat) (w p : Bool) (t v u : Int32) (len : Nat) (hlen : s 12 = nI len) (hn60 : len ≤ 60) (ha : a < 2 ^ 30) (lo hi : Int32) : Ct G yX4_sees (ws_ yX4_sees cX4_sees 3 (some .boolean)) { frames := 1, cells := 0, slots := 0, locals := 22 } [.ref m, .int lo, .int hi] (mdl m (pSt s a w p t v u, A) h0) (fmRet (some (.int (bI (pSee (A 14) len a w lo hi)))) (mdl m (pSt s a w p t v u, A) h0)) fmNo := by
  refine Ct.of hl (by decide +kernel) (Nat.le_of_ble_eq_true rfl) (fun Γ E P => ?_)
  suffices j1 : fmW G Γ (mdl m (pSt s a w p t v u, A) h0) 0 0 40 [some (.ref m), some (.int lo), some (.int hi)] [.int (bI (pSee (A 14) len a w lo hi))] by
    refine r_aload_n E dX4_sees_0 rfl ?_
    refine r_getf E cl_X4 15 (by decide) q1901 mdl_o rfl dX4_sees_1 ?_
    refine r_top (v' := .int (bI w)) rfl ?_
    refine r_ifB_ne (b := w) (tgt := 39) E dX4_sees_4 (by decide) (fun c2 => ?_) (fun c2 => ?_)
    · refine r_iconst E (nI 0) dX4_sees_39 (by decide) ?_
      refine r_top (v' := .int (bI (pSee (A 14) len a w lo hi))) (by rw [show (pSee (A 14) len a w lo hi) = false by first | (simp [c2, pSee]; done) | (simp [c2, pSee]; omega) | (simp [c2, pSee]; intros; omega)]; rfl) ?_
      exact j1
    · refine r_aload_n E dX4_sees_7 rfl ?_
      refine r_getf E cl_X4 13 (by decide) q1899 mdl_o rfl dX4_sees_8 ?_
      refine r_top (v' := .int (nI a)) rfl ?_
      refine r_aload_n E dX4_sees_11 rfl ?_
      refine r_getf E cl_X4 12 (by decide) q1898 mdl_o rfl dX4_sees_12 ?_
      refine r_top (v' := .int (nI len)) (congrArg Value.int hlen) ?_
      refine r_icmpN_ge (tgt := 39) E dX4_sees_15 (by decide) (by omega) (by omega) (fun c3 => ?_) (fun c3 => ?_)
      · refine r_iconst E (nI 0) dX4_sees_39 (by decide) ?_
        refine r_top (v' := .int (bI (pSee (A 14) len a w lo hi))) (by rw [show (pSee (A 14) len a w lo hi) = false by first | (simp [c2, c3, pSee]; done) | (simp [c2, c3, pSee]; omega) | (simp [c2, c3, pSee]; intros; omega)]; rfl) ?_
        exact j1
      · refine r_aload_n E dX4_sees_18 rfl ?_
        refine r_getf E cl_X4 11 (by decide) q1897 mdl_o rfl dX4_sees_19 ?_
        refine r_aload_n E dX4_sees_22 rfl ?_
        refine r_getf E cl_X4 13 (by decide) q1899 mdl_o rfl dX4_sees_23 ?_
        refine r_top (v' := .int (nI a)) rfl ?_
        refine r_cald E mdl_14 (by omega) (by omega) dX4_sees_26 ?_
        refine r_iload_n E dX4_sees_27 rfl ?_
        refine r_iload_n E dX4_sees_28 rfl ?_
        refine r_callS1 (v1 := .int (bI (sBetween ((A 14) a) lo hi))) E (ct_X4_isBetween G hl (mdl m (pSt s a w p t v u, A) h0) ((A 14) a) (lo) (hi)) mX4_isBetween q89 q1962 q1963 rfl rfl (Nat.le_of_ble_eq_true rfl) (Nat.le_of_ble_eq_true rfl) (Nat.le_of_ble_eq_true rfl) dX4_sees_29 0 0 (Nat.le_of_ble_eq_true rfl) (Nat.le_of_ble_eq_true rfl) ?_
        refine r_ifB_eq (b := sBetween ((A 14) a) lo hi) (tgt := 39) E dX4_sees_32 (by decide) (fun c4 => ?_) (fun c4 => ?_)
        · refine r_iconst E (nI 0) dX4_sees_39 (by decide) ?_
          refine r_top (v' := .int (bI (pSee (A 14) len a w lo hi))) (by rw [show (pSee (A 14) len a w lo hi) = false by first | (simp [c2, c3, c4, pSee]; done) | (simp [c2, c3, c4, pSee]; omega) | (simp [c2, c3, c4, pSee]; intros; omega)]; rfl) ?_
          exact j1
        · refine r_iconst E (nI 1) dX4_sees_35 (by decide) ?_
          refine r_goto (tgt := 40) E dX4_sees_36 (by decide) ?_
          refine r_top (v' := .int (bI (pSee (A 14) len a w lo hi))) (by rw [show (pSee (A 14) len a w lo hi) = true by first | (simp [c2, c3, c4, pSee]; done) | (simp [c2, c3, c4, pSee]; omega) | (simp [c2, c3, c4, pSee]; intros; omega)]; rfl) ?_
          exact j1
  exact r_zreturn E P rfl dX4_sees_40 ⟨rfl, rfl⟩

set_option maxHeartbeats 4000000 in
theorem ct_X4_takes (G : fmG) (hl : (fmLn G).stackTraces = false) (m : Nat) (A : Nat → Nat → Int32) (h0 : fmHp) (s : Nat → Int32) (a : Nat) (w p : Bool) (t v u : Int32) (len : Nat) (hlen : s 12 = nI len) (hn60 : len ≤ 60) (ha : a < 2 ^ 30) (x : Int32) : Ct G yX4_takes (ws_ yX4_takes cX4_takes 3 (some .boolean)) { frames := 2, cells := 0, slots := 0, locals := 44 } [.ref m, .int x] (mdl m (pSt s a w p t v u, A) h0) (fmRet (some (.int (bI (pSee (A 14) len a w x x)))) (mdl m (pSt s (a + pOne (pSee (A 14) len a w x x)) w p t v u, A) h0)) fmNo := by
  refine Ct.of hl (by decide +kernel) (Nat.le_of_ble_eq_true rfl) (fun Γ E P => ?_)
  refine r_aload_n E dX4_takes_0 rfl ?_
  refine r_iload_n E dX4_takes_1 rfl ?_
  refine r_iload_n E dX4_takes_2 rfl ?_
  refine r_callV1 (v1 := .int (bI (pSee (A 14) len a w x x))) E (ct_X4_sees G hl m A h0 s a w p t v u len hlen hn60 (by omega) x x) mX4_sees q2233 q2235 qs74 (fun H a1 => fm_rc (ci := 0) (C := RX4) (T := TX4) (N := 21) a1 rfl E.v mdl_o) rfl rfl (Nat.le_of_ble_eq_true rfl) (Nat.le_of_ble_eq_true rfl) (Nat.le_of_ble_eq_true rfl) dX4_takes_3 0 0 (Nat.le_of_ble_eq_true rfl) (Nat.le_of_ble_eq_true rfl) ?_
  refine r_istore_n E [some (.ref m), some (.int x), some (.int (bI (pSee (A 14) len a w x x)))] dX4_takes_6 rfl rfl ?_
  refine r_aload_n E dX4_takes_7 rfl ?_
  refine r_dup E dX4_takes_8 rfl ?_
  refine r_getf E cl_X4 13 (by decide) q1899 mdl_o rfl dX4_takes_9 ?_
  refine r_top (v' := .int (nI a)) rfl ?_
  suffices j1 : fmW G Γ (mdl m (pSt s a w p t v u, A) h0) 0 0 21 [some (.ref m), some (.int x), some (.int (bI (pSee (A 14) len a w x x)))] [.int (nI (pOne (pSee (A 14) len a w x x))), .int (nI a), .ref m] by
    refine r_iload_n E dX4_takes_12 rfl ?_
    refine r_ifB_eq (b := pSee (A 14) len a w x x) (tgt := 20) E dX4_takes_13 (by decide) (fun c2 => ?_) (fun c2 => ?_)
    · refine r_iconst E (nI 0) dX4_takes_20 (by decide) ?_
      refine r_top (v' := .int (nI (pOne (pSee (A 14) len a w x x)))) (congrArg (fun z => Value.int (nI z)) (by unfold pOne; rw [c2]; rfl)) ?_
      exact j1
    · refine r_iconst E (nI 1) dX4_takes_16 (by decide) ?_
      refine r_goto (tgt := 21) E dX4_takes_17 (by decide) ?_
      refine r_top (v' := .int (nI (pOne (pSee (A 14) len a w x x)))) (congrArg (fun z => Value.int (nI z)) (by unfold pOne; rw [c2]; rfl)) ?_
      exact j1
  refine r_iaddN E dX4_takes_21 ?_
  refine r_putf E cl_X4 13 (by decide) rfl q1899 (fun _ z => z) mdl_o (Nat.le_of_ble_eq_true rfl) rfl rfl dX4_takes_22 ?_
  refine r_hp (h' := mdl m (pSt s (a + (pOne (pSee (A 14) len a w x x))) w p t v u, A) h0) ((mdl_s13 _).trans (congrArg (fun z => mdl m (z, A) h0) pSt_13)) ?_
  refine r_iload_n E dX4_takes_25 rfl ?_
  exact r_zreturn E P rfl dX4_takes_26 ⟨rfl, rfl⟩

set_option maxHeartbeats 4000000 in
theorem ct_X4_readNumber (G : fmG) (hl : (fmLn G).stackTraces = false) (m : Nat) (A : Nat → Nat → Int32) (h0 : fmHp) (s : Nat → Int32) (a : Nat) (w p : Bool) (t v u : Int32) (len : Nat) (hlen : s 12 = nI len) (hn60 : len ≤ 60) (ha : a < 2 ^ 30) : Ct G yX4_readNumber (ws_ yX4_readNumber cX4_readNumber 3 (some .int)) { frames := 2, cells := 0, slots := 0, locals := 44 } [.ref m] (mdl m (pSt s a w p t v u, A) h0) (fmRet (some (.int (pNum (A 14) len a w).1)) (mdl m (pSt s (pNum (A 14) len a w).2.1 (pNum (A 14) len a w).2.2 p t v u, A) h0)) fmNo := by
  refine Ct.of hl (by decide +kernel) (Nat.le_of_ble_eq_true rfl) (fun Γ E P => ?_)
  refine r_aload_n E dX4_readNumber_0 rfl ?_
  refine r_dup E dX4_readNumber_1 rfl ?_
  refine r_getf E cl_X4 15 (by decide) q1901 mdl_o rfl dX4_readNumber_2 ?_
  refine r_top (v' := .int (bI w)) rfl ?_
  refine r_aload_n E dX4_readNumber_5 rfl ?_
  refine r_bipush E (nI 48) dX4_readNumber_6 (by decide) ?_
  refine r_bipush E (nI 57) dX4_readNumber_8 (by decide) ?_
  refine r_callV1 (v1 := .int (bI (pSee (A 14) len a w (nI 48) (nI 57)))) E (ct_X4_sees G hl m A h0 s a w p t v u len hlen hn60 (by omega) (nI 48) (nI 57)) mX4_sees q2233 q2235 qs74 (fun H a1 => fm_rc (ci := 0) (C := RX4) (T := TX4) (N := 21) a1 rfl E.v mdl_o) rfl rfl (Nat.le_of_ble_eq_true rfl) (Nat.le_of_ble_eq_true rfl) (Nat.le_of_ble_eq_true rfl) dX4_readNumber_10 0 0 (Nat.le_of_ble_eq_true rfl) (Nat.le_of_ble_eq_true rfl) ?_
  refine r_ifB_ne (b := pSee (A 14) len a w (nI 48) (nI 57)) (tgt := 20) E dX4_readNumber_13 (by decide) (fun c1 => ?_) (fun c1 => ?_)
  · have hlt : a < len := by have := c1; unfold pSee at this; simp only [Bool.and_eq_true, decide_eq_true_eq] at this; exact this.2.1
    refine r_iconst E (nI 0) dX4_readNumber_20 (by decide) ?_
    refine r_iorB (a := w) (b := false) E dX4_readNumber_21 ?_
    refine r_top (v' := .int (bI w)) (by rw [show (w || false) = w by cases w <;> rfl]) ?_
    refine r_putf E cl_X4 15 (by decide) rfl q1901 (fun _ z => z) mdl_o (Nat.le_of_ble_eq_true rfl) (bI_n _) (bI_f _) dX4_readNumber_22 ?_
    refine r_hp (h' := mdl m (pSt s a w p t v u, A) h0) ((mdl_s15 _).trans (congrArg (fun z => mdl m (z, A) h0) pSt_15)) ?_
    refine r_iconst E (nI 0) dX4_readNumber_25 (by decide) ?_
    refine r_istore_n E [some (.ref m), some (.int (nI 0)), none] dX4_readNumber_26 rfl rfl ?_
    refine r_iconst E (nI 0) dX4_readNumber_27 (by decide) ?_
    refine r_istore_n E [some (.ref m), some (.int (nI 0)), some (.int (nI 0))] dX4_readNumber_28 rfl rfl ?_
    refine r_iload_n E dX4_readNumber_29 rfl ?_
    refine r_iconst E (nI 2) dX4_readNumber_30 (by decide) ?_
    refine r_icmpN_ge (tgt := 79) E dX4_readNumber_31 (by decide) (by omega) (by omega) (fun c => absurd c (by decide)) (fun _ => ?_)
    refine r_aload_n E dX4_readNumber_34 rfl ?_
    refine r_bipush E (nI 48) dX4_readNumber_35 (by decide) ?_
    refine r_bipush E (nI 57) dX4_readNumber_37 (by decide) ?_
    refine r_callV1 (v1 := .int (bI (pSee (A 14) len a w (nI 48) (nI 57)))) E (ct_X4_sees G hl m A h0 s a w p t v u len hlen hn60 (by omega) (nI 48) (nI 57)) mX4_sees q2233 q2235 qs74 (fun H a1 => fm_rc (ci := 0) (C := RX4) (T := TX4) (N := 21) a1 rfl E.v mdl_o) rfl rfl (Nat.le_of_ble_eq_true rfl) (Nat.le_of_ble_eq_true rfl) (Nat.le_of_ble_eq_true rfl) dX4_readNumber_39 0 0 (Nat.le_of_ble_eq_true rfl) (Nat.le_of_ble_eq_true rfl) ?_
    refine r_ifB_eq (b := pSee (A 14) len a w (nI 48) (nI 57)) (tgt := 79) E dX4_readNumber_42 (by decide) (fun q => absurd (q.symm.trans c1) Bool.false_ne_true) (fun _ => ?_)
    refine r_bipush E (nI 10) dX4_readNumber_45 (by decide) ?_
    refine r_iload_n E dX4_readNumber_47 rfl ?_
    refine r_imulN E dX4_readNumber_48 ?_
    refine r_aload_n E dX4_readNumber_49 rfl ?_
    refine r_getf E cl_X4 11 (by decide) q1897 mdl_o rfl dX4_readNumber_50 ?_
    refine r_aload_n E dX4_readNumber_53 rfl ?_
    refine r_getf E cl_X4 13 (by decide) q1899 mdl_o rfl dX4_readNumber_54 ?_
    refine r_top (v' := .int (nI a)) rfl ?_
    refine r_cald E mdl_14 (by omega) (by omega) dX4_readNumber_57 ?_
    refine r_iadd E dX4_readNumber_58 ?_
    refine r_bipush E (nI 48) dX4_readNumber_59 (by decide) ?_
    refine r_isub E dX4_readNumber_61 ?_
    refine r_istore_n E [some (.ref m), some (.int (((nI (10 * 0)) + ((A 14) a)) - (nI 48))), some (.int (nI 0))] dX4_readNumber_62 rfl rfl ?_
    refine r_aload_n E dX4_readNumber_63 rfl ?_
    refine r_dup E dX4_readNumber_64 rfl ?_
    refine r_getf E cl_X4 13 (by decide) q1899 mdl_o rfl dX4_readNumber_65 ?_
    refine r_top (v' := .int (nI a)) rfl ?_
    refine r_iconst E (nI 1) dX4_readNumber_68 (by decide) ?_
    refine r_iaddN E dX4_readNumber_69 ?_
    refine r_putf E cl_X4 13 (by decide) rfl q1899 (fun _ z => z) mdl_o (Nat.le_of_ble_eq_true rfl) rfl rfl dX4_readNumber_70 ?_
    refine r_hp (h' := mdl m (pSt s (a + 1) w p t v u, A) h0) ((mdl_s13 _).trans (congrArg (fun z => mdl m (z, A) h0) pSt_13)) ?_
    refine r_iinc E (nI (0 + 1)) [some (.ref m), some (.int (((nI (10 * 0)) + ((A 14) a)) - (nI 48))), some (.int (nI (0 + 1)))] dX4_readNumber_73 rfl (nI_1 0) rfl rfl ?_
    refine r_goto (tgt := 29) E dX4_readNumber_76 (by decide) ?_
    refine r_iload_n E dX4_readNumber_29 rfl ?_
    refine r_iconst E (nI 2) dX4_readNumber_30 (by decide) ?_
    refine r_icmpN_ge (tgt := 79) E dX4_readNumber_31 (by decide) (by omega) (by omega) (fun c => absurd c (by decide)) (fun _ => ?_)
    refine r_aload_n E dX4_readNumber_34 rfl ?_
    refine r_bipush E (nI 48) dX4_readNumber_35 (by decide) ?_
    refine r_bipush E (nI 57) dX4_readNumber_37 (by decide) ?_
    refine r_callV1 (v1 := .int (bI (pSee (A 14) len (a + 1) w (nI 48) (nI 57)))) E (ct_X4_sees G hl m A h0 s (a + 1) w p t v u len hlen hn60 (by omega) (nI 48) (nI 57)) mX4_sees q2233 q2235 qs74 (fun H a1 => fm_rc (ci := 0) (C := RX4) (T := TX4) (N := 21) a1 rfl E.v mdl_o) rfl rfl (Nat.le_of_ble_eq_true rfl) (Nat.le_of_ble_eq_true rfl) (Nat.le_of_ble_eq_true rfl) dX4_readNumber_39 0 0 (Nat.le_of_ble_eq_true rfl) (Nat.le_of_ble_eq_true rfl) ?_
    refine r_ifB_eq (b := pSee (A 14) len (a + 1) w (nI 48) (nI 57)) (tgt := 79) E dX4_readNumber_42 (by decide) (fun c2 => ?_) (fun c2 => ?_)
    · have hs : pNum (A 14) len a w = (nI (10 * 0) + A 14 a - nI 48, a + 1, w) := by
        unfold pNum
        rw [if_pos c1, if_neg (by rw [c2]; exact Bool.false_ne_true)]
      refine r_iload_n E dX4_readNumber_79 rfl ?_
      exact r_ireturn E P rfl dX4_readNumber_80 ⟨by rw [hs], by rw [hs]⟩
    · have hlt2 : a + 1 < len := by have := c2; unfold pSee at this; simp only [Bool.and_eq_true, decide_eq_true_eq] at this; exact this.2.1
      refine r_bipush E (nI 10) dX4_readNumber_45 (by decide) ?_
      refine r_iload_n E dX4_readNumber_47 rfl ?_
      refine r_imul E dX4_readNumber_48 ?_
      refine r_aload_n E dX4_readNumber_49 rfl ?_
      refine r_getf E cl_X4 11 (by decide) q1897 mdl_o rfl dX4_readNumber_50 ?_
      refine r_aload_n E dX4_readNumber_53 rfl ?_
      refine r_getf E cl_X4 13 (by decide) q1899 mdl_o rfl dX4_readNumber_54 ?_
      refine r_top (v' := .int (nI (a + 1))) rfl ?_
      refine r_cald E mdl_14 (by omega) (by omega) dX4_readNumber_57 ?_
      refine r_top (v' := .int ((A 14) (a + 1))) rfl ?_
      refine r_iadd E dX4_readNumber_58 ?_
      refine r_bipush E (nI 48) dX4_readNumber_59 (by decide) ?_
      refine r_isub E dX4_readNumber_61 ?_
      refine r_istore_n E [some (.ref m), some (.int ((((nI 10) * (((nI (10 * 0)) + ((A 14) a)) - (nI 48))) + ((A 14) (a + 1))) - (nI 48))), some (.int (nI (0 + 1)))] dX4_readNumber_62 rfl rfl ?_
      refine r_aload_n E dX4_readNumber_63 rfl ?_
      refine r_dup E dX4_readNumber_64 rfl ?_
      refine r_getf E cl_X4 13 (by decide) q1899 mdl_o rfl dX4_readNumber_65 ?_
      refine r_top (v' := .int (nI (a + 1))) rfl ?_
      refine r_iconst E (nI 1) dX4_readNumber_68 (by decide) ?_
      refine r_iaddN E dX4_readNumber_69 ?_
      refine r_putf E cl_X4 13 (by decide) rfl q1899 (fun _ z => z) mdl_o (Nat.le_of_ble_eq_true rfl) rfl rfl dX4_readNumber_70 ?_
      refine r_hp (h' := mdl m (pSt s (a + 1 + 1) w p t v u, A) h0) ((mdl_s13 _).trans (congrArg (fun z => mdl m (z, A) h0) pSt_13)) ?_
      refine r_iinc E (nI (0 + 1 + 1)) [some (.ref m), some (.int ((((nI 10) * (((nI (10 * 0)) + ((A 14) a)) - (nI 48))) + ((A 14) (a + 1))) - (nI 48))), some (.int (nI (0 + 1 + 1)))] dX4_readNumber_73 rfl (nI_1 (0 + 1)) rfl rfl ?_
      refine r_goto (tgt := 29) E dX4_readNumber_76 (by decide) ?_
      refine r_iload_n E dX4_readNumber_29 rfl ?_
      refine r_iconst E (nI 2) dX4_readNumber_30 (by decide) ?_
      refine r_icmpN_ge (tgt := 79) E dX4_readNumber_31 (by decide) (by omega) (by omega) (fun _ => ?_) (fun c => absurd c (by decide))
      have hs : pNum (A 14) len a w = (nI 10 * (nI (10 * 0) + A 14 a - nI 48) + A 14 (a + 1) - nI 48, a + 1 + 1, w) := by
        unfold pNum
        rw [if_pos c1, if_pos c2]
      refine r_iload_n E dX4_readNumber_79 rfl ?_
      exact r_ireturn E P rfl dX4_readNumber_80 ⟨by rw [hs], by rw [hs]⟩
  · refine r_iconst E (nI 1) dX4_readNumber_16 (by decide) ?_
    refine r_goto (tgt := 21) E dX4_readNumber_17 (by decide) ?_
    refine r_iorB (a := w) (b := true) E dX4_readNumber_21 ?_
    refine r_top (v' := .int (bI true)) (by rw [show (w || true) = true by cases w <;> rfl]) ?_
    refine r_putf E cl_X4 15 (by decide) rfl q1901 (fun _ z => z) mdl_o (Nat.le_of_ble_eq_true rfl) (bI_n _) (bI_f _) dX4_readNumber_22 ?_
    refine r_hp (h' := mdl m (pSt s a true p t v u, A) h0) ((mdl_s15 _).trans (congrArg (fun z => mdl m (z, A) h0) pSt_15)) ?_
    refine r_iconst E (nI 0) dX4_readNumber_25 (by decide) ?_
    refine r_istore_n E [some (.ref m), some (.int (nI 0)), none] dX4_readNumber_26 rfl rfl ?_
    refine r_iconst E (nI 0) dX4_readNumber_27 (by decide) ?_
    refine r_istore_n E [some (.ref m), some (.int (nI 0)), some (.int (nI 0))] dX4_readNumber_28 rfl rfl ?_
    refine r_iload_n E dX4_readNumber_29 rfl ?_
    refine r_iconst E (nI 2) dX4_readNumber_30 (by decide) ?_
    refine r_icmpN_ge (tgt := 79) E dX4_readNumber_31 (by decide) (by omega) (by omega) (fun c => absurd c (by decide)) (fun _ => ?_)
    refine r_aload_n E dX4_readNumber_34 rfl ?_
    refine r_bipush E (nI 48) dX4_readNumber_35 (by decide) ?_
    refine r_bipush E (nI 57) dX4_readNumber_37 (by decide) ?_
    refine r_callV1 (v1 := .int (bI (pSee (A 14) len a true (nI 48) (nI 57)))) E (ct_X4_sees G hl m A h0 s a true p t v u len hlen hn60 (by omega) (nI 48) (nI 57)) mX4_sees q2233 q2235 qs74 (fun H a1 => fm_rc (ci := 0) (C := RX4) (T := TX4) (N := 21) a1 rfl E.v mdl_o) rfl rfl (Nat.le_of_ble_eq_true rfl) (Nat.le_of_ble_eq_true rfl) (Nat.le_of_ble_eq_true rfl) dX4_readNumber_39 0 0 (Nat.le_of_ble_eq_true rfl) (Nat.le_of_ble_eq_true rfl) ?_
    refine r_top (v' := .int (bI false)) rfl ?_
    refine r_ifB_eq (b := false) (tgt := 79) E dX4_readNumber_42 (by decide) (fun _ => ?_) (fun c => absurd c (by decide))
    have hs : pNum (A 14) len a w = (nI 0, a, true) := by
      unfold pNum
      rw [if_neg (by rw [c1]; exact Bool.false_ne_true)]
    refine r_iload_n E dX4_readNumber_79 rfl ?_
    exact r_ireturn E P rfl dX4_readNumber_80 ⟨by rw [hs], by rw [hs]⟩

