set_option maxHeartbeats 4000000 in
theorem ct_X4_isBetween (G : fmG) (hl : (fmLn G).stackTraces = false) (h : fmHp) (v a b : Int32) : Ct G yX4_isBetween (ws_ yX4_isBetween cX4_isBetween 3 (some .boolean)) { frames := 0, cells := 0, slots := 0, locals := 0 } [.int v, .int a, .int b] h (fmRet (some (.int (bI (sBetween v a b)))) (h)) fmNo := by
  refine Ct.of hl (by decide +kernel) (Nat.le_of_ble_eq_true rfl) (fun Γ E P => ?_)
  suffices j1 : fmW G Γ (h) 0 0 15 [some (.int v), some (.int a), some (.int b)] [.int (bI (sBetween v a b))] by
    refine r_iload_n E dX4_isBetween_0 rfl ?_
    refine r_iload_n E dX4_isBetween_1 rfl ?_
    refine r_icmp_lt (x := v) (y := a) (tgt := 14) E dX4_isBetween_2 (by decide) (fun c2 => ?_) (fun c2 => ?_)
    · refine r_iconst E (nI 0) dX4_isBetween_14 (by decide) ?_
      refine r_top (v' := .int (bI (sBetween v a b))) (by rw [show (sBetween v a b) = false by first | (simp [c2, sBetween, Int32.not_lt, Int32.not_le]; done) | (simp [Int32.not_le.mp c2, sBetween, Int32.not_lt, Int32.not_le]; done) | (simp [Int32.not_lt.mp c2, sBetween, Int32.not_lt, Int32.not_le]; done)]; rfl) ?_
      exact j1
    · refine r_iload_n E dX4_isBetween_5 rfl ?_
      refine r_iload_n E dX4_isBetween_6 rfl ?_
      refine r_icmp_gt (x := v) (y := b) (tgt := 14) E dX4_isBetween_7 (by decide) (fun c3 => ?_) (fun c3 => ?_)
      · refine r_iconst E (nI 0) dX4_isBetween_14 (by decide) ?_
        refine r_top (v' := .int (bI (sBetween v a b))) (by rw [show (sBetween v a b) = false by first | (simp [c2, c3, sBetween, Int32.not_lt, Int32.not_le]; done) | (simp [c2, Int32.not_le.mp c3, sBetween, Int32.not_lt, Int32.not_le]; done) | (simp [c2, Int32.not_lt.mp c3, sBetween, Int32.not_lt, Int32.not_le]; done)]; rfl) ?_
        exact j1
      · refine r_iconst E (nI 1) dX4_isBetween_10 (by decide) ?_
        refine r_goto (tgt := 15) E dX4_isBetween_11 (by decide) ?_
        refine r_top (v' := .int (bI (sBetween v a b))) (by rw [show (sBetween v a b) = true by first | (simp [c2, c3, sBetween, Int32.not_lt, Int32.not_le]; done) | (simp [c2, Int32.not_le.mp c3, sBetween, Int32.not_lt, Int32.not_le]; done) | (simp [c2, Int32.not_lt.mp c3, sBetween, Int32.not_lt, Int32.not_le]; done)]; rfl) ?_
        exact j1
  exact r_zreturn E P rfl dX4_isBetween_15 ⟨rfl, rfl⟩

set_option maxHeartbeats 4000000 in
theorem ct_X4_isCell (G : fmG) (hl : (fmLn G).stackTraces = false) (h : fmHp) (v : Int32) : Ct G yX4_isCell (ws_ yX4_isCell cX4_isCell 1 (some .boolean)) { frames := 1, cells := 0, slots := 0, locals := 22 } [.int v] h (fmRet (some (.int (bI (sBetween v (nI 0) (nI 63))))) (h)) fmNo := by
  refine Ct.of hl (by decide +kernel) (Nat.le_of_ble_eq_true rfl) (fun Γ E P => ?_)
  refine r_iload_n E dX4_isCell_0 rfl ?_
  refine r_iconst E (nI 0) dX4_isCell_1 (by decide) ?_
  refine r_bipush E (nI 63) dX4_isCell_2 (by decide) ?_
  refine r_callS1 (v1 := .int (bI (sBetween v (nI 0) (nI 63)))) E (ct_X4_isBetween G hl (h) (v) (nI 0) (nI 63)) mX4_isBetween q89 q1962 q1963 rfl rfl (Nat.le_of_ble_eq_true rfl) (Nat.le_of_ble_eq_true rfl) (Nat.le_of_ble_eq_true rfl) dX4_isCell_4 0 0 (Nat.le_of_ble_eq_true rfl) (Nat.le_of_ble_eq_true rfl) ?_
  exact r_zreturn E P rfl dX4_isCell_7 ⟨rfl, rfl⟩

set_option maxHeartbeats 4000000 in
theorem ct_X4_fails (G : fmG) (hl : (fmLn G).stackTraces = false) (m : Nat) (S : MSt) (h0 : fmHp) (n : Int32) (c : Bool) : Ct G yX4_fails (ws_ yX4_fails cX4_fails 3 (some .boolean)) { frames := 0, cells := 0, slots := 0, locals := 0 } [.ref m, .int n, .int (bI c)] (mdl m S h0) (fmRet (some (.int (bI c))) (mdl m (upd S.1 0 (if c = true then n else nI 0), S.2) h0)) fmNo := by
  refine Ct.of hl (by decide +kernel) (Nat.le_of_ble_eq_true rfl) (fun Γ E P => ?_)
  refine r_aload_n E dX4_fails_0 rfl ?_
  suffices j1 : fmW G Γ (mdl m S h0) 0 0 10 [some (.ref m), some (.int n), some (.int (bI c))] [.int (if c = true then n else nI 0), .ref m] by
    refine r_iload_n E dX4_fails_1 rfl ?_
    refine r_ifB_eq (b := c) (tgt := 9) E dX4_fails_2 (by decide) (fun c2 => ?_) (fun c2 => ?_)
    · refine r_iconst E (nI 0) dX4_fails_9 (by decide) ?_
      refine r_top (v' := .int (if c = true then n else nI 0)) (by simp [c2]) ?_
      exact j1
    · refine r_iload_n E dX4_fails_5 rfl ?_
      refine r_goto (tgt := 10) E dX4_fails_6 (by decide) ?_
      refine r_top (v' := .int (if c = true then n else nI 0)) (by simp [c2]) ?_
      exact j1
  refine r_putf E cl_X4 0 (by decide) rfl q1886 (fun _ z => z) mdl_o (Nat.le_of_ble_eq_true rfl) rfl rfl dX4_fails_10 ?_
  refine r_hp (h' := mdl m (upd S.1 0 (if c = true then n else nI 0), S.2) h0) (mdl_s0 _) ?_
  refine r_iload_n E dX4_fails_13 rfl ?_
  exact r_zreturn E P rfl dX4_fails_14 ⟨rfl, rfl⟩

set_option maxHeartbeats 4000000 in
theorem ct_X4_refuse (G : fmG) (hl : (fmLn G).stackTraces = false) (m : Nat) (S : MSt) (h0 : fmHp) (c : Bool) (why more : Int32) : Ct G yX4_refuse (ws_ yX4_refuse cX4_refuse 4 (some .boolean)) { frames := 0, cells := 0, slots := 0, locals := 0 } [.ref m, .int (bI c), .int why, .int more] (mdl m S h0) (fmRet (some (.int (bI c))) (mdl m (refF S.1 c why more, S.2) h0)) fmNo := by
  refine Ct.of hl (by decide +kernel) (Nat.le_of_ble_eq_true rfl) (fun Γ E P => ?_)
  refine r_iload_n E dX4_refuse_0 rfl ?_
  refine r_ifB_eq (b := c) (tgt := 14) E dX4_refuse_1 (by decide) (fun c1 => ?_) (fun c1 => ?_)
  · refine r_iload_n E dX4_refuse_14 rfl ?_
    exact r_zreturn E P rfl dX4_refuse_15 ⟨rfl, by rw [c1]; rfl⟩
  · refine r_aload_n E dX4_refuse_4 rfl ?_
    refine r_iload_n E dX4_refuse_5 rfl ?_
    refine r_putf E cl_X4 5 (by decide) rfl q1891 (fun _ z => z) mdl_o (Nat.le_of_ble_eq_true rfl) rfl rfl dX4_refuse_6 ?_
    refine r_hp (h' := mdl m (upd S.1 5 why, S.2) h0) (mdl_s5 _) ?_
    refine r_aload_n E dX4_refuse_9 rfl ?_
    refine r_iload_n E dX4_refuse_10 rfl ?_
    refine r_putf E cl_X4 6 (by decide) rfl q1892 (fun _ z => z) mdl_o (Nat.le_of_ble_eq_true rfl) rfl rfl dX4_refuse_11 ?_
    refine r_hp (h' := mdl m (upd (upd S.1 5 why) 6 more, S.2) h0) (mdl_s6 _) ?_
    refine r_iload_n E dX4_refuse_14 rfl ?_
    exact r_zreturn E P rfl dX4_refuse_15 ⟨rfl, by rw [c1]; rfl⟩

set_option maxHeartbeats 4000000 in
theorem ct_X4_beside (G : fmG) (hl : (fmLn G).stackTraces = false) (h : fmHp) (c d : Nat) (hc : c < 64) (hd : d < 4) : Ct G yX4_beside (ws_ yX4_beside cX4_beside 4 (some .int)) { frames := 1, cells := 0, slots := 0, locals := 22 } [.int (nI c), .int (nI d)] h (fmRet (some (.int (cI (sBsd c d)))) (h)) fmNo := by
  refine Ct.of hl (by decide +kernel) (Nat.le_of_ble_eq_true rfl) (fun Γ E P => ?_)
  rcases (by omega : d = 0 ∨ d = 1 ∨ d = 2 ∨ d = 3) with q | q | q | q
  · subst q
    refine r_iload_n E dX4_beside_0 rfl ?_
    refine r_bipush E (nI 8) dX4_beside_1 (by decide) ?_
    refine r_idivN E dX4_beside_3 (by omega) (by omega) (by omega) ?_
    refine r_iload_n E dX4_beside_4 rfl ?_
    refine r_if_ne (tgt := 12) E dX4_beside_5 (by decide) (fun c => absurd c (by decide)) (fun _ => ?_)
    refine r_iconst E (-1) dX4_beside_8 (by decide) ?_
    refine r_goto (tgt := 22) E dX4_beside_9 (by decide) ?_
    refine r_iadd E dX4_beside_22 ?_
    refine r_istore_n E [some (.int (nI c)), some (.int (nI 0)), some (.int ((nI (c / 8)) + (-1))), none] dX4_beside_23 rfl rfl ?_
    refine r_iload_n E dX4_beside_24 rfl ?_
    refine r_bipush E (nI 8) dX4_beside_25 (by decide) ?_
    refine r_iremN E dX4_beside_27 (by omega) (by omega) (by omega) ?_
    refine r_iload_n E dX4_beside_28 rfl ?_
    refine r_iconst E (nI 1) dX4_beside_29 (by decide) ?_
    refine r_icmpN_ne (tgt := 37) E dX4_beside_30 (by decide) (by decide) (by decide) (fun _ => ?_) (fun c => absurd c (by decide))
    refine r_iload_n E dX4_beside_37 rfl ?_
    refine r_iconst E (nI 2) dX4_beside_38 (by decide) ?_
    refine r_icmpN_ne (tgt := 46) E dX4_beside_39 (by decide) (by decide) (by decide) (fun _ => ?_) (fun c => absurd c (by decide))
    refine r_iconst E (nI 0) dX4_beside_46 (by decide) ?_
    refine r_iaddN E dX4_beside_47 ?_
    refine r_topi (congrArg nI (Nat.add_zero _)) ?_
    refine r_istore_n E [some (.int (nI c)), some (.int (nI 0)), some (.int ((nI (c / 8)) + (-1))), some (.int (nI (c % 8)))] dX4_beside_48 rfl rfl ?_
    refine r_iload_n E dX4_beside_49 rfl ?_
    refine r_iconst E (nI 0) dX4_beside_50 (by decide) ?_
    refine r_bipush E (nI 7) dX4_beside_51 (by decide) ?_
    refine r_callS1 (v1 := .int (bI (sBetween ((nI (c / 8)) + (-1)) (nI 0) (nI 7)))) E (ct_X4_isBetween G hl (h) ((nI (c / 8)) + (-1)) (nI 0) (nI 7)) mX4_isBetween q89 q1962 q1963 rfl rfl (Nat.le_of_ble_eq_true rfl) (Nat.le_of_ble_eq_true rfl) (Nat.le_of_ble_eq_true rfl) dX4_beside_53 0 0 (Nat.le_of_ble_eq_true rfl) (Nat.le_of_ble_eq_true rfl) ?_
    refine r_ifB_eq (b := sBetween ((nI (c / 8)) + (-1)) (nI 0) (nI 7)) (tgt := 78) E dX4_beside_56 (by decide) (fun c1 => ?_) (fun c1 => ?_)
    · refine r_iconst E (-1) dX4_beside_78 (by decide) ?_
      exact r_ireturn E P rfl dX4_beside_79 ⟨congrArg (fun z => some (Value.int z)) ((by decide +kernel : ∀ c : Nat, c < 64 → sBetween ((nI (c / 8)) + (-1)) (nI 0) (nI 7) = false → (-1) = cI (sBsd c 0)) c hc c1), rfl⟩
    · refine r_iload_n E dX4_beside_59 rfl ?_
      refine r_iconst E (nI 0) dX4_beside_60 (by decide) ?_
      refine r_bipush E (nI 7) dX4_beside_61 (by decide) ?_
      refine r_callS1 (v1 := .int (bI (sBetween (nI (c % 8)) (nI 0) (nI 7)))) E (ct_X4_isBetween G hl (h) (nI (c % 8)) (nI 0) (nI 7)) mX4_isBetween q89 q1962 q1963 rfl rfl (Nat.le_of_ble_eq_true rfl) (Nat.le_of_ble_eq_true rfl) (Nat.le_of_ble_eq_true rfl) dX4_beside_63 0 0 (Nat.le_of_ble_eq_true rfl) (Nat.le_of_ble_eq_true rfl) ?_
      refine r_ifB_eq (b := sBetween (nI (c % 8)) (nI 0) (nI 7)) (tgt := 78) E dX4_beside_66 (by decide) (fun c2 => ?_) (fun c2 => ?_)
      · refine r_iconst E (-1) dX4_beside_78 (by decide) ?_
        exact r_ireturn E P rfl dX4_beside_79 ⟨congrArg (fun z => some (Value.int z)) ((by decide +kernel : ∀ c : Nat, c < 64 → sBetween ((nI (c / 8)) + (-1)) (nI 0) (nI 7) = true → sBetween (nI (c % 8)) (nI 0) (nI 7) = false → (-1) = cI (sBsd c 0)) c hc c1 c2), rfl⟩
      · refine r_bipush E (nI 8) dX4_beside_69 (by decide) ?_
        refine r_iload_n E dX4_beside_71 rfl ?_
        refine r_imul E dX4_beside_72 ?_
        refine r_iload_n E dX4_beside_73 rfl ?_
        refine r_iadd E dX4_beside_74 ?_
        refine r_goto (tgt := 79) E dX4_beside_75 (by decide) ?_
        exact r_ireturn E P rfl dX4_beside_79 ⟨congrArg (fun z => some (Value.int z)) ((by decide +kernel : ∀ c : Nat, c < 64 → sBetween ((nI (c / 8)) + (-1)) (nI 0) (nI 7) = true → sBetween (nI (c % 8)) (nI 0) (nI 7) = true → ((nI 8) * ((nI (c / 8)) + (-1))) + (nI (c % 8)) = cI (sBsd c 0)) c hc c1 c2), rfl⟩
  · subst q
    refine r_iload_n E dX4_beside_0 rfl ?_
    refine r_bipush E (nI 8) dX4_beside_1 (by decide) ?_
    refine r_idivN E dX4_beside_3 (by omega) (by omega) (by omega) ?_
    refine r_iload_n E dX4_beside_4 rfl ?_
    refine r_if_ne (tgt := 12) E dX4_beside_5 (by decide) (fun _ => ?_) (fun c => absurd c (by decide))
    refine r_iload_n E dX4_beside_12 rfl ?_
    refine r_iconst E (nI 3) dX4_beside_13 (by decide) ?_
    refine r_icmpN_ne (tgt := 21) E dX4_beside_14 (by decide) (by decide) (by decide) (fun _ => ?_) (fun c => absurd c (by decide))
    refine r_iconst E (nI 0) dX4_beside_21 (by decide) ?_
    refine r_iaddN E dX4_beside_22 ?_
    refine r_topi (congrArg nI (Nat.add_zero _)) ?_
    refine r_istore_n E [some (.int (nI c)), some (.int (nI 1)), some (.int (nI (c / 8))), none] dX4_beside_23 rfl rfl ?_
    refine r_iload_n E dX4_beside_24 rfl ?_
    refine r_bipush E (nI 8) dX4_beside_25 (by decide) ?_
    refine r_iremN E dX4_beside_27 (by omega) (by omega) (by omega) ?_
    refine r_iload_n E dX4_beside_28 rfl ?_
    refine r_iconst E (nI 1) dX4_beside_29 (by decide) ?_
    refine r_icmpN_ne (tgt := 37) E dX4_beside_30 (by decide) (by decide) (by decide) (fun c => absurd c (by decide)) (fun _ => ?_)
    refine r_iconst E (-1) dX4_beside_33 (by decide) ?_
    refine r_goto (tgt := 47) E dX4_beside_34 (by decide) ?_
    refine r_iadd E dX4_beside_47 ?_
    refine r_istore_n E [some (.int (nI c)), some (.int (nI 1)), some (.int (nI (c / 8))), some (.int ((nI (c % 8)) + (-1)))] dX4_beside_48 rfl rfl ?_
    refine r_iload_n E dX4_beside_49 rfl ?_
    refine r_iconst E (nI 0) dX4_beside_50 (by decide) ?_
    refine r_bipush E (nI 7) dX4_beside_51 (by decide) ?_
    refine r_callS1 (v1 := .int (bI (sBetween (nI (c / 8)) (nI 0) (nI 7)))) E (ct_X4_isBetween G hl (h) (nI (c / 8)) (nI 0) (nI 7)) mX4_isBetween q89 q1962 q1963 rfl rfl (Nat.le_of_ble_eq_true rfl) (Nat.le_of_ble_eq_true rfl) (Nat.le_of_ble_eq_true rfl) dX4_beside_53 0 0 (Nat.le_of_ble_eq_true rfl) (Nat.le_of_ble_eq_true rfl) ?_
    refine r_ifB_eq (b := sBetween (nI (c / 8)) (nI 0) (nI 7)) (tgt := 78) E dX4_beside_56 (by decide) (fun c1 => ?_) (fun c1 => ?_)
    · refine r_iconst E (-1) dX4_beside_78 (by decide) ?_
      exact r_ireturn E P rfl dX4_beside_79 ⟨congrArg (fun z => some (Value.int z)) ((by decide +kernel : ∀ c : Nat, c < 64 → sBetween (nI (c / 8)) (nI 0) (nI 7) = false → (-1) = cI (sBsd c 1)) c hc c1), rfl⟩
    · refine r_iload_n E dX4_beside_59 rfl ?_
      refine r_iconst E (nI 0) dX4_beside_60 (by decide) ?_
      refine r_bipush E (nI 7) dX4_beside_61 (by decide) ?_
      refine r_callS1 (v1 := .int (bI (sBetween ((nI (c % 8)) + (-1)) (nI 0) (nI 7)))) E (ct_X4_isBetween G hl (h) ((nI (c % 8)) + (-1)) (nI 0) (nI 7)) mX4_isBetween q89 q1962 q1963 rfl rfl (Nat.le_of_ble_eq_true rfl) (Nat.le_of_ble_eq_true rfl) (Nat.le_of_ble_eq_true rfl) dX4_beside_63 0 0 (Nat.le_of_ble_eq_true rfl) (Nat.le_of_ble_eq_true rfl) ?_
      refine r_ifB_eq (b := sBetween ((nI (c % 8)) + (-1)) (nI 0) (nI 7)) (tgt := 78) E dX4_beside_66 (by decide) (fun c2 => ?_) (fun c2 => ?_)
      · refine r_iconst E (-1) dX4_beside_78 (by decide) ?_
        exact r_ireturn E P rfl dX4_beside_79 ⟨congrArg (fun z => some (Value.int z)) ((by decide +kernel : ∀ c : Nat, c < 64 → sBetween (nI (c / 8)) (nI 0) (nI 7) = true → sBetween ((nI (c % 8)) + (-1)) (nI 0) (nI 7) = false → (-1) = cI (sBsd c 1)) c hc c1 c2), rfl⟩
      · refine r_bipush E (nI 8) dX4_beside_69 (by decide) ?_
        refine r_iload_n E dX4_beside_71 rfl ?_
        refine r_imulN E dX4_beside_72 ?_
        refine r_iload_n E dX4_beside_73 rfl ?_
        refine r_iadd E dX4_beside_74 ?_
        refine r_goto (tgt := 79) E dX4_beside_75 (by decide) ?_
        exact r_ireturn E P rfl dX4_beside_79 ⟨congrArg (fun z => some (Value.int z)) ((by decide +kernel : ∀ c : Nat, c < 64 → sBetween (nI (c / 8)) (nI 0) (nI 7) = true → sBetween ((nI (c % 8)) + (-1)) (nI 0) (nI 7) = true → (nI (8 * (c / 8))) + ((nI (c % 8)) + (-1)) = cI (sBsd c 1)) c hc c1 c2), rfl⟩
  · subst q
    refine r_iload_n E dX4_beside_0 rfl ?_
    refine r_bipush E (nI 8) dX4_beside_1 (by decide) ?_
    refine r_idivN E dX4_beside_3 (by omega) (by omega) (by omega) ?_
    refine r_iload_n E dX4_beside_4 rfl ?_
    refine r_if_ne (tgt := 12) E dX4_beside_5 (by decide) (fun _ => ?_) (fun c => absurd c (by decide))
    refine r_iload_n E dX4_beside_12 rfl ?_
    refine r_iconst E (nI 3) dX4_beside_13 (by decide) ?_
    refine r_icmpN_ne (tgt := 21) E dX4_beside_14 (by decide) (by decide) (by decide) (fun _ => ?_) (fun c => absurd c (by decide))
    refine r_iconst E (nI 0) dX4_beside_21 (by decide) ?_
    refine r_iaddN E dX4_beside_22 ?_
    refine r_topi (congrArg nI (Nat.add_zero _)) ?_
    refine r_istore_n E [some (.int (nI c)), some (.int (nI 2)), some (.int (nI (c / 8))), none] dX4_beside_23 rfl rfl ?_
    refine r_iload_n E dX4_beside_24 rfl ?_
    refine r_bipush E (nI 8) dX4_beside_25 (by decide) ?_
    refine r_iremN E dX4_beside_27 (by omega) (by omega) (by omega) ?_
    refine r_iload_n E dX4_beside_28 rfl ?_
    refine r_iconst E (nI 1) dX4_beside_29 (by decide) ?_
    refine r_icmpN_ne (tgt := 37) E dX4_beside_30 (by decide) (by decide) (by decide) (fun _ => ?_) (fun c => absurd c (by decide))
    refine r_iload_n E dX4_beside_37 rfl ?_
    refine r_iconst E (nI 2) dX4_beside_38 (by decide) ?_
    refine r_icmpN_ne (tgt := 46) E dX4_beside_39 (by decide) (by decide) (by decide) (fun c => absurd c (by decide)) (fun _ => ?_)
    refine r_iconst E (nI 1) dX4_beside_42 (by decide) ?_
    refine r_goto (tgt := 47) E dX4_beside_43 (by decide) ?_
    refine r_iaddN E dX4_beside_47 ?_
    refine r_istore_n E [some (.int (nI c)), some (.int (nI 2)), some (.int (nI (c / 8))), some (.int (nI (c % 8 + 1)))] dX4_beside_48 rfl rfl ?_
    refine r_iload_n E dX4_beside_49 rfl ?_
    refine r_iconst E (nI 0) dX4_beside_50 (by decide) ?_
    refine r_bipush E (nI 7) dX4_beside_51 (by decide) ?_
    refine r_callS1 (v1 := .int (bI (sBetween (nI (c / 8)) (nI 0) (nI 7)))) E (ct_X4_isBetween G hl (h) (nI (c / 8)) (nI 0) (nI 7)) mX4_isBetween q89 q1962 q1963 rfl rfl (Nat.le_of_ble_eq_true rfl) (Nat.le_of_ble_eq_true rfl) (Nat.le_of_ble_eq_true rfl) dX4_beside_53 0 0 (Nat.le_of_ble_eq_true rfl) (Nat.le_of_ble_eq_true rfl) ?_
    refine r_ifB_eq (b := sBetween (nI (c / 8)) (nI 0) (nI 7)) (tgt := 78) E dX4_beside_56 (by decide) (fun c1 => ?_) (fun c1 => ?_)
    · refine r_iconst E (-1) dX4_beside_78 (by decide) ?_
      exact r_ireturn E P rfl dX4_beside_79 ⟨congrArg (fun z => some (Value.int z)) ((by decide +kernel : ∀ c : Nat, c < 64 → sBetween (nI (c / 8)) (nI 0) (nI 7) = false → (-1) = cI (sBsd c 2)) c hc c1), rfl⟩
    · refine r_iload_n E dX4_beside_59 rfl ?_
      refine r_iconst E (nI 0) dX4_beside_60 (by decide) ?_
      refine r_bipush E (nI 7) dX4_beside_61 (by decide) ?_
      refine r_callS1 (v1 := .int (bI (sBetween (nI (c % 8 + 1)) (nI 0) (nI 7)))) E (ct_X4_isBetween G hl (h) (nI (c % 8 + 1)) (nI 0) (nI 7)) mX4_isBetween q89 q1962 q1963 rfl rfl (Nat.le_of_ble_eq_true rfl) (Nat.le_of_ble_eq_true rfl) (Nat.le_of_ble_eq_true rfl) dX4_beside_63 0 0 (Nat.le_of_ble_eq_true rfl) (Nat.le_of_ble_eq_true rfl) ?_
      refine r_ifB_eq (b := sBetween (nI (c % 8 + 1)) (nI 0) (nI 7)) (tgt := 78) E dX4_beside_66 (by decide) (fun c2 => ?_) (fun c2 => ?_)
      · refine r_iconst E (-1) dX4_beside_78 (by decide) ?_
        exact r_ireturn E P rfl dX4_beside_79 ⟨congrArg (fun z => some (Value.int z)) ((by decide +kernel : ∀ c : Nat, c < 64 → sBetween (nI (c / 8)) (nI 0) (nI 7) = true → sBetween (nI (c % 8 + 1)) (nI 0) (nI 7) = false → (-1) = cI (sBsd c 2)) c hc c1 c2), rfl⟩
      · refine r_bipush E (nI 8) dX4_beside_69 (by decide) ?_
        refine r_iload_n E dX4_beside_71 rfl ?_
        refine r_imulN E dX4_beside_72 ?_
        refine r_iload_n E dX4_beside_73 rfl ?_
        refine r_iaddN E dX4_beside_74 ?_
        refine r_goto (tgt := 79) E dX4_beside_75 (by decide) ?_
        exact r_ireturn E P rfl dX4_beside_79 ⟨congrArg (fun z => some (Value.int z)) ((by decide +kernel : ∀ c : Nat, c < 64 → sBetween (nI (c / 8)) (nI 0) (nI 7) = true → sBetween (nI (c % 8 + 1)) (nI 0) (nI 7) = true → nI (8 * (c / 8) + (c % 8 + 1)) = cI (sBsd c 2)) c hc c1 c2), rfl⟩
  · subst q
    refine r_iload_n E dX4_beside_0 rfl ?_
    refine r_bipush E (nI 8) dX4_beside_1 (by decide) ?_
    refine r_idivN E dX4_beside_3 (by omega) (by omega) (by omega) ?_
    refine r_iload_n E dX4_beside_4 rfl ?_
    refine r_if_ne (tgt := 12) E dX4_beside_5 (by decide) (fun _ => ?_) (fun c => absurd c (by decide))
    refine r_iload_n E dX4_beside_12 rfl ?_
    refine r_iconst E (nI 3) dX4_beside_13 (by decide) ?_
    refine r_icmpN_ne (tgt := 21) E dX4_beside_14 (by decide) (by decide) (by decide) (fun c => absurd c (by decide)) (fun _ => ?_)
    refine r_iconst E (nI 1) dX4_beside_17 (by decide) ?_
    refine r_goto (tgt := 22) E dX4_beside_18 (by decide) ?_
    refine r_iaddN E dX4_beside_22 ?_
    refine r_istore_n E [some (.int (nI c)), some (.int (nI 3)), some (.int (nI (c / 8 + 1))), none] dX4_beside_23 rfl rfl ?_
    refine r_iload_n E dX4_beside_24 rfl ?_
    refine r_bipush E (nI 8) dX4_beside_25 (by decide) ?_
    refine r_iremN E dX4_beside_27 (by omega) (by omega) (by omega) ?_
    refine r_iload_n E dX4_beside_28 rfl ?_
    refine r_iconst E (nI 1) dX4_beside_29 (by decide) ?_
    refine r_icmpN_ne (tgt := 37) E dX4_beside_30 (by decide) (by decide) (by decide) (fun _ => ?_) (fun c => absurd c (by decide))
    refine r_iload_n E dX4_beside_37 rfl ?_
    refine r_iconst E (nI 2) dX4_beside_38 (by decide) ?_
    refine r_icmpN_ne (tgt := 46) E dX4_beside_39 (by decide) (by decide) (by decide) (fun _ => ?_) (fun c => absurd c (by decide))
    refine r_iconst E (nI 0) dX4_beside_46 (by decide) ?_
    refine r_iaddN E dX4_beside_47 ?_
    refine r_topi (congrArg nI (Nat.add_zero _)) ?_
    refine r_istore_n E [some (.int (nI c)), some (.int (nI 3)), some (.int (nI (c / 8 + 1))), some (.int (nI (c % 8)))] dX4_beside_48 rfl rfl ?_
    refine r_iload_n E dX4_beside_49 rfl ?_
    refine r_iconst E (nI 0) dX4_beside_50 (by decide) ?_
    refine r_bipush E (nI 7) dX4_beside_51 (by decide) ?_
    refine r_callS1 (v1 := .int (bI (sBetween (nI (c / 8 + 1)) (nI 0) (nI 7)))) E (ct_X4_isBetween G hl (h) (nI (c / 8 + 1)) (nI 0) (nI 7)) mX4_isBetween q89 q1962 q1963 rfl rfl (Nat.le_of_ble_eq_true rfl) (Nat.le_of_ble_eq_true rfl) (Nat.le_of_ble_eq_true rfl) dX4_beside_53 0 0 (Nat.le_of_ble_eq_true rfl) (Nat.le_of_ble_eq_true rfl) ?_
    refine r_ifB_eq (b := sBetween (nI (c / 8 + 1)) (nI 0) (nI 7)) (tgt := 78) E dX4_beside_56 (by decide) (fun c1 => ?_) (fun c1 => ?_)
    · refine r_iconst E (-1) dX4_beside_78 (by decide) ?_
      exact r_ireturn E P rfl dX4_beside_79 ⟨congrArg (fun z => some (Value.int z)) ((by decide +kernel : ∀ c : Nat, c < 64 → sBetween (nI (c / 8 + 1)) (nI 0) (nI 7) = false → (-1) = cI (sBsd c 3)) c hc c1), rfl⟩
    · refine r_iload_n E dX4_beside_59 rfl ?_
      refine r_iconst E (nI 0) dX4_beside_60 (by decide) ?_
      refine r_bipush E (nI 7) dX4_beside_61 (by decide) ?_
      refine r_callS1 (v1 := .int (bI (sBetween (nI (c % 8)) (nI 0) (nI 7)))) E (ct_X4_isBetween G hl (h) (nI (c % 8)) (nI 0) (nI 7)) mX4_isBetween q89 q1962 q1963 rfl rfl (Nat.le_of_ble_eq_true rfl) (Nat.le_of_ble_eq_true rfl) (Nat.le_of_ble_eq_true rfl) dX4_beside_63 0 0 (Nat.le_of_ble_eq_true rfl) (Nat.le_of_ble_eq_true rfl) ?_
      refine r_ifB_eq (b := sBetween (nI (c % 8)) (nI 0) (nI 7)) (tgt := 78) E dX4_beside_66 (by decide) (fun c2 => ?_) (fun c2 => ?_)
      · refine r_iconst E (-1) dX4_beside_78 (by decide) ?_
        exact r_ireturn E P rfl dX4_beside_79 ⟨congrArg (fun z => some (Value.int z)) ((by decide +kernel : ∀ c : Nat, c < 64 → sBetween (nI (c / 8 + 1)) (nI 0) (nI 7) = true → sBetween (nI (c % 8)) (nI 0) (nI 7) = false → (-1) = cI (sBsd c 3)) c hc c1 c2), rfl⟩
      · refine r_bipush E (nI 8) dX4_beside_69 (by decide) ?_
        refine r_iload_n E dX4_beside_71 rfl ?_
        refine r_imulN E dX4_beside_72 ?_
        refine r_iload_n E dX4_beside_73 rfl ?_
        refine r_iaddN E dX4_beside_74 ?_
        refine r_goto (tgt := 79) E dX4_beside_75 (by decide) ?_
        exact r_ireturn E P rfl dX4_beside_79 ⟨congrArg (fun z => some (Value.int z)) ((by decide +kernel : ∀ c : Nat, c < 64 → sBetween (nI (c / 8 + 1)) (nI 0) (nI 7) = true → sBetween (nI (c % 8)) (nI 0) (nI 7) = true → nI (8 * (c / 8 + 1) + (c % 8)) = cI (sBsd c 3)) c hc c1 c2), rfl⟩

set_option maxHeartbeats 4000000 in
theorem ct_X4_isOpen (G : fmG) (hl : (fmLn G).stackTraces = false) (m : Nat) (S : MSt) (h0 : fmHp) (o : Option Nat) (ho : ∀ c, o = some c → c < 64) : Ct G yX4_isOpen (ws_ yX4_isOpen cX4_isOpen 2 (some .boolean)) { frames := 0, cells := 0, slots := 0, locals := 0 } [.ref m, .int (cI o)] (mdl m S h0) (fmRet (some (.int (bI (sOpen (S.2 1) o)))) (mdl m S h0)) fmNo := by
  refine Ct.of hl (by decide +kernel) (Nat.le_of_ble_eq_true rfl) (fun Γ E P => ?_)
  cases o with
  | none =>
    refine r_iload_n E dX4_isOpen_0 rfl ?_
    refine r_if_lt (tgt := 20) E dX4_isOpen_1 (by decide) (fun c1 => ?_) (fun c1 => ?_)
    · refine r_iconst E (nI 0) dX4_isOpen_20 (by decide) ?_
      refine r_top (v' := .int (bI false)) rfl ?_
      exact r_zreturn E P rfl dX4_isOpen_21 ⟨rfl, rfl⟩
    · exact absurd (by decide) c1
  | some c =>
    have hc : c < 64 := ho c rfl
    refine r_iload_n E dX4_isOpen_0 rfl ?_
    refine r_if_lt (tgt := 20) E dX4_isOpen_1 (by decide) (fun c1 => ?_) (fun c1 => ?_)
    · exact absurd c1 (nI_pos (by omega))
    · suffices j2 : fmW G Γ (mdl m S h0) 0 0 21 [some (.ref m), some (.int (nI c))] [.int (bI (sOpen (S.2 1) (some c)))] by
        refine r_aload_n E dX4_isOpen_4 rfl ?_
        refine r_getf E cl_X4 1 (by decide) q1887 mdl_o rfl dX4_isOpen_5 ?_
        refine r_iconst E (nI 0) dX4_isOpen_8 (by decide) ?_
        refine r_iload_n E dX4_isOpen_9 rfl ?_
        refine r_iaddN E dX4_isOpen_10 ?_
        refine r_topi (congrArg nI (Nat.zero_add _)) ?_
        refine r_iald E mdl_1 (by omega) (by omega) dX4_isOpen_11 ?_
        refine r_iconst E (nI 1) dX4_isOpen_12 (by decide) ?_
        refine r_icmp_ne (x := (S.2 1) c) (y := nI 1) (tgt := 20) E dX4_isOpen_13 (by decide) (fun c3 => ?_) (fun c3 => ?_)
        · refine r_iconst E (nI 0) dX4_isOpen_20 (by decide) ?_
          refine r_top (v' := .int (bI (sOpen (S.2 1) (some c)))) (by rw [show (sOpen (S.2 1) (some c)) = false by simp [c3, sOpen]]; rfl) ?_
          exact j2
        · refine r_iconst E (nI 1) dX4_isOpen_16 (by decide) ?_
          refine r_goto (tgt := 21) E dX4_isOpen_17 (by decide) ?_
          refine r_top (v' := .int (bI (sOpen (S.2 1) (some c)))) (by rw [show (sOpen (S.2 1) (some c)) = true by simp [c3, sOpen]]; rfl) ?_
          exact j2
      exact r_zreturn E P rfl dX4_isOpen_21 ⟨rfl, rfl⟩

set_option maxHeartbeats 4000000 in
theorem ct_X4_isOpenOf (G : fmG) (hl : (fmLn G).stackTraces = false) (m : Nat) (S : MSt) (h0 : fmHp) (o : Option Nat) (s : Int32) (ho : ∀ c, o = some c → c < 64) : Ct G yX4_isOpenOf (ws_ yX4_isOpenOf cX4_isOpenOf 3 (some .boolean)) { frames := 1, cells := 0, slots := 0, locals := 21 } [.ref m, .int (cI o), .int s] (mdl m S h0) (fmRet (some (.int (bI (sOpenOf (S.2 1) o s)))) (mdl m S h0)) fmNo := by
  refine Ct.of hl (by decide +kernel) (Nat.le_of_ble_eq_true rfl) (fun Γ E P => ?_)
  cases o with
  | none =>
    refine r_aload_n E dX4_isOpenOf_0 rfl ?_
    refine r_iload_n E dX4_isOpenOf_1 rfl ?_
    refine r_callV1 (v1 := .int (bI (sOpen (S.2 1) none))) E (ct_X4_isOpen G hl m S h0 none (by intro x hx; first | exact sBsd_lt (by omega) hx | (cases hx; omega) | cases hx)) mX4_isOpen q2000 q2002 qs40 (fun H a1 => fm_rc (ci := 0) (C := RX4) (T := TX4) (N := 21) a1 rfl E.v mdl_o) rfl rfl (Nat.le_of_ble_eq_true rfl) (Nat.le_of_ble_eq_true rfl) (Nat.le_of_ble_eq_true rfl) dX4_isOpenOf_2 0 0 (Nat.le_of_ble_eq_true rfl) (Nat.le_of_ble_eq_true rfl) ?_
    refine r_ifB_eq (b := sOpen (S.2 1) none) (tgt := 26) E dX4_isOpenOf_5 (by decide) (fun c1 => ?_) (fun c1 => ?_)
    · refine r_iconst E (nI 0) dX4_isOpenOf_26 (by decide) ?_
      refine r_top (v' := .int (bI false)) rfl ?_
      exact r_zreturn E P rfl dX4_isOpenOf_27 ⟨rfl, rfl⟩
    · exact absurd c1 (by simp [sOpen])
  | some c =>
    have hc : c < 64 := ho c rfl
    refine r_aload_n E dX4_isOpenOf_0 rfl ?_
    refine r_iload_n E dX4_isOpenOf_1 rfl ?_
    refine r_callV1 (v1 := .int (bI (sOpen (S.2 1) (some c)))) E (ct_X4_isOpen G hl m S h0 (some c) (by intro x hx; first | exact sBsd_lt (by omega) hx | (cases hx; omega) | cases hx)) mX4_isOpen q2000 q2002 qs40 (fun H a1 => fm_rc (ci := 0) (C := RX4) (T := TX4) (N := 21) a1 rfl E.v mdl_o) rfl rfl (Nat.le_of_ble_eq_true rfl) (Nat.le_of_ble_eq_true rfl) (Nat.le_of_ble_eq_true rfl) dX4_isOpenOf_2 0 0 (Nat.le_of_ble_eq_true rfl) (Nat.le_of_ble_eq_true rfl) ?_
    refine r_ifB_eq (b := sOpen (S.2 1) (some c)) (tgt := 26) E dX4_isOpenOf_5 (by decide) (fun c1 => ?_) (fun c1 => ?_)
    · refine r_iconst E (nI 0) dX4_isOpenOf_26 (by decide) ?_
      refine r_top (v' := .int (bI (sOpenOf (S.2 1) (some c) s))) (by simp [sOpen] at c1; simp [sOpenOf, c1]; rfl) ?_
      exact r_zreturn E P rfl dX4_isOpenOf_27 ⟨rfl, rfl⟩
    · simp only [sOpen, decide_eq_true_eq] at c1
      suffices j2 : fmW G Γ (mdl m S h0) 0 0 27 [some (.ref m), some (.int (nI c)), some (.int s)] [.int (bI (sOpenOf (S.2 1) (some c) s))] by
        refine r_aload_n E dX4_isOpenOf_8 rfl ?_
        refine r_getf E cl_X4 1 (by decide) q1887 mdl_o rfl dX4_isOpenOf_9 ?_
        refine r_sipush E (nI 192) dX4_isOpenOf_12 (by decide) ?_
        refine r_iload_n E dX4_isOpenOf_15 rfl ?_
        refine r_iaddN E dX4_isOpenOf_16 ?_
        refine r_iald E mdl_1 (by omega) (by omega) dX4_isOpenOf_17 ?_
        refine r_iload_n E dX4_isOpenOf_18 rfl ?_
        refine r_icmp_ne (x := (S.2 1) (192 + c)) (y := s) (tgt := 26) E dX4_isOpenOf_19 (by decide) (fun c3 => ?_) (fun c3 => ?_)
        · refine r_iconst E (nI 0) dX4_isOpenOf_26 (by decide) ?_
          refine r_top (v' := .int (bI (sOpenOf (S.2 1) (some c) s))) (by rw [show (sOpenOf (S.2 1) (some c) s) = false by simp [c3, sOpenOf, c1]]; rfl) ?_
          exact j2
        · refine r_iconst E (nI 1) dX4_isOpenOf_22 (by decide) ?_
          refine r_goto (tgt := 27) E dX4_isOpenOf_23 (by decide) ?_
          refine r_top (v' := .int (bI (sOpenOf (S.2 1) (some c) s))) (by rw [show (sOpenOf (S.2 1) (some c) s) = true by simp [c3, sOpenOf, c1]]; rfl) ?_
          exact j2
      exact r_zreturn E P rfl dX4_isOpenOf_27 ⟨rfl, rfl⟩

set_option maxHeartbeats 4000000 in
theorem ct_X4_isBare (G : fmG) (hl : (fmLn G).stackTraces = false) (m : Nat) (S : MSt) (h0 : fmHp) (o : Option Nat) (ho : ∀ c, o = some c → c < 64) : Ct G yX4_isBare (ws_ yX4_isBare cX4_isBare 2 (some .boolean)) { frames := 1, cells := 0, slots := 0, locals := 21 } [.ref m, .int (cI o)] (mdl m S h0) (fmRet (some (.int (bI (sBare (S.2 1) o)))) (mdl m S h0)) fmNo := by
  refine Ct.of hl (by decide +kernel) (Nat.le_of_ble_eq_true rfl) (fun Γ E P => ?_)
  cases o with
  | none =>
    refine r_aload_n E dX4_isBare_0 rfl ?_
    refine r_iload_n E dX4_isBare_1 rfl ?_
    refine r_callV1 (v1 := .int (bI (sOpen (S.2 1) none))) E (ct_X4_isOpen G hl m S h0 none (by intro x hx; first | exact sBsd_lt (by omega) hx | (cases hx; omega) | cases hx)) mX4_isOpen q2000 q2002 qs40 (fun H a1 => fm_rc (ci := 0) (C := RX4) (T := TX4) (N := 21) a1 rfl E.v mdl_o) rfl rfl (Nat.le_of_ble_eq_true rfl) (Nat.le_of_ble_eq_true rfl) (Nat.le_of_ble_eq_true rfl) dX4_isBare_2 0 0 (Nat.le_of_ble_eq_true rfl) (Nat.le_of_ble_eq_true rfl) ?_
    refine r_ifB_eq (b := sOpen (S.2 1) none) (tgt := 25) E dX4_isBare_5 (by decide) (fun c1 => ?_) (fun c1 => ?_)
    · refine r_iconst E (nI 0) dX4_isBare_25 (by decide) ?_
      refine r_top (v' := .int (bI false)) rfl ?_
      exact r_zreturn E P rfl dX4_isBare_26 ⟨rfl, rfl⟩
    · exact absurd c1 (by simp [sOpen])
  | some c =>
    have hc : c < 64 := ho c rfl
    refine r_aload_n E dX4_isBare_0 rfl ?_
    refine r_iload_n E dX4_isBare_1 rfl ?_
    refine r_callV1 (v1 := .int (bI (sOpen (S.2 1) (some c)))) E (ct_X4_isOpen G hl m S h0 (some c) (by intro x hx; first | exact sBsd_lt (by omega) hx | (cases hx; omega) | cases hx)) mX4_isOpen q2000 q2002 qs40 (fun H a1 => fm_rc (ci := 0) (C := RX4) (T := TX4) (N := 21) a1 rfl E.v mdl_o) rfl rfl (Nat.le_of_ble_eq_true rfl) (Nat.le_of_ble_eq_true rfl) (Nat.le_of_ble_eq_true rfl) dX4_isBare_2 0 0 (Nat.le_of_ble_eq_true rfl) (Nat.le_of_ble_eq_true rfl) ?_
    refine r_ifB_eq (b := sOpen (S.2 1) (some c)) (tgt := 25) E dX4_isBare_5 (by decide) (fun c1 => ?_) (fun c1 => ?_)
    · refine r_iconst E (nI 0) dX4_isBare_25 (by decide) ?_
      refine r_top (v' := .int (bI (sBare (S.2 1) (some c)))) (by simp [sOpen] at c1; simp [sBare, c1]; rfl) ?_
      exact r_zreturn E P rfl dX4_isBare_26 ⟨rfl, rfl⟩
    · simp only [sOpen, decide_eq_true_eq] at c1
      suffices j2 : fmW G Γ (mdl m S h0) 0 0 26 [some (.ref m), some (.int (nI c))] [.int (bI (sBare (S.2 1) (some c)))] by
        refine r_aload_n E dX4_isBare_8 rfl ?_
        refine r_getf E cl_X4 1 (by decide) q1887 mdl_o rfl dX4_isBare_9 ?_
        refine r_sipush E (nI 256) dX4_isBare_12 (by decide) ?_
        refine r_iload_n E dX4_isBare_15 rfl ?_
        refine r_iaddN E dX4_isBare_16 ?_
        refine r_iald E mdl_1 (by omega) (by omega) dX4_isBare_17 ?_
        refine r_if_ne (tgt := 25) E dX4_isBare_18 (by decide) (fun c3 => ?_) (fun c3 => ?_)
        · refine r_iconst E (nI 0) dX4_isBare_25 (by decide) ?_
          refine r_top (v' := .int (bI (sBare (S.2 1) (some c)))) (by rw [show (sBare (S.2 1) (some c)) = false by simp [c3, sBare, nI_0, c1]]; rfl) ?_
          exact j2
        · refine r_iconst E (nI 1) dX4_isBare_21 (by decide) ?_
          refine r_goto (tgt := 26) E dX4_isBare_22 (by decide) ?_
          refine r_top (v' := .int (bI (sBare (S.2 1) (some c)))) (by rw [show (sBare (S.2 1) (some c)) = true by simp [c3, sBare, nI_0, c1]]; rfl) ?_
          exact j2
      exact r_zreturn E P rfl dX4_isBare_26 ⟨rfl, rfl⟩

set_option maxHeartbeats 4000000 in
theorem ct_X4_isChalk (G : fmG) (hl : (fmLn G).stackTraces = false) (m : Nat) (S : MSt) (h0 : fmHp) (c : Nat) (hc : c < 64) : Ct G yX4_isChalk (ws_ yX4_isChalk cX4_isChalk 2 (some .boolean)) { frames := 0, cells := 0, slots := 0, locals := 0 } [.ref m, .int (nI c)] (mdl m S h0) (fmRet (some (.int (bI (sChalk (S.2 1) c)))) (mdl m S h0)) fmNo := by
  refine Ct.of hl (by decide +kernel) (Nat.le_of_ble_eq_true rfl) (fun Γ E P => ?_)
  suffices j1 : fmW G Γ (mdl m S h0) 0 0 16 [some (.ref m), some (.int (nI c))] [.int (bI (sChalk (S.2 1) c))] by
    refine r_aload_n E dX4_isChalk_0 rfl ?_
    refine r_getf E cl_X4 1 (by decide) q1887 mdl_o rfl dX4_isChalk_1 ?_
    refine r_iconst E (nI 0) dX4_isChalk_4 (by decide) ?_
    refine r_iload_n E dX4_isChalk_5 rfl ?_
    refine r_iaddN E dX4_isChalk_6 ?_
    refine r_topi (congrArg nI (Nat.zero_add _)) ?_
    refine r_iald E mdl_1 (by omega) (by omega) dX4_isChalk_7 ?_
    refine r_if_ne (tgt := 15) E dX4_isChalk_8 (by decide) (fun c2 => ?_) (fun c2 => ?_)
    · refine r_iconst E (nI 0) dX4_isChalk_15 (by decide) ?_
      refine r_top (v' := .int (bI (sChalk (S.2 1) c))) (by rw [show (sChalk (S.2 1) c) = false by simp [c2, sChalk, nI_0]]; rfl) ?_
      exact j1
    · refine r_iconst E (nI 1) dX4_isChalk_11 (by decide) ?_
      refine r_goto (tgt := 16) E dX4_isChalk_12 (by decide) ?_
      refine r_top (v' := .int (bI (sChalk (S.2 1) c))) (by rw [show (sChalk (S.2 1) c) = true by simp [c2, sChalk, nI_0]]; rfl) ?_
      exact j1
  exact r_zreturn E P rfl dX4_isChalk_16 ⟨rfl, rfl⟩

set_option maxHeartbeats 4000000 in
theorem ct_X4_strokesOf (G : fmG) (hl : (fmLn G).stackTraces = false) (m : Nat) (S : MSt) (h0 : fmHp) (c : Nat) (hc : c < 64) : Ct G yX4_strokesOf (ws_ yX4_strokesOf cX4_strokesOf 2 (some .int)) { frames := 0, cells := 0, slots := 0, locals := 0 } [.ref m, .int (nI c)] (mdl m S h0) (fmRet (some (.int (sStrokes (S.2 1) c))) (mdl m S h0)) fmNo := by
  refine Ct.of hl (by decide +kernel) (Nat.le_of_ble_eq_true rfl) (fun Γ E P => ?_)
  refine r_iconst E (nI 2) dX4_strokesOf_0 (by decide) ?_
  refine r_aload_n E dX4_strokesOf_1 rfl ?_
  refine r_getf E cl_X4 1 (by decide) q1887 mdl_o rfl dX4_strokesOf_2 ?_
  refine r_bipush E (nI 64) dX4_strokesOf_5 (by decide) ?_
  refine r_iload_n E dX4_strokesOf_7 rfl ?_
  refine r_iaddN E dX4_strokesOf_8 ?_
  refine r_iald E mdl_1 (by omega) (by omega) dX4_strokesOf_9 ?_
  refine r_imul E dX4_strokesOf_10 ?_
  refine r_aload_n E dX4_strokesOf_11 rfl ?_
  refine r_getf E cl_X4 1 (by decide) q1887 mdl_o rfl dX4_strokesOf_12 ?_
  refine r_sipush E (nI 128) dX4_strokesOf_15 (by decide) ?_
  refine r_iload_n E dX4_strokesOf_18 rfl ?_
  refine r_iaddN E dX4_strokesOf_19 ?_
  refine r_iald E mdl_1 (by omega) (by omega) dX4_strokesOf_20 ?_
  refine r_iadd E dX4_strokesOf_21 ?_
  exact r_ireturn E P rfl dX4_strokesOf_22 ⟨rfl, rfl⟩

set_option maxHeartbeats 4000000 in
theorem ct_X4_isNextTo (G : fmG) (hl : (fmLn G).stackTraces = false) (m : Nat) (S : MSt) (h0 : fmHp) (c : Nat) (s : Int32) (hc : c < 64) : Ct G yX4_isNextTo (ws_ yX4_isNextTo cX4_isNextTo 5 (some .boolean)) { frames := 2, cells := 0, slots := 0, locals := 45 } [.ref m, .int (nI c), .int s] (mdl m S h0) (fmRet (some (.int (bI (sNext (S.2 1) c s)))) (mdl m S h0)) fmNo := by
  refine Ct.of hl (by decide +kernel) (Nat.le_of_ble_eq_true rfl) (fun Γ E P => ?_)
  refine r_iconst E (nI 0) dX4_isNextTo_0 (by decide) ?_
  refine r_istore_n E [some (.ref m), some (.int (nI c)), some (.int s), some (.int (nI 0)), none] dX4_isNextTo_1 rfl rfl ?_
  refine r_iconst E (nI 0) dX4_isNextTo_2 (by decide) ?_
  refine r_istore E [some (.ref m), some (.int (nI c)), some (.int s), some (.int (nI 0)), some (.int (nI 0))] dX4_isNextTo_3 rfl rfl ?_
  show fmW G Γ (mdl m S h0) 0 0 5 [some (.ref m), some (.int (nI c)), some (.int s), some (.int (bI (sNextK (S.2 1) c s 0))), some (.int (nI 0))] []
  have lp1 : ∀ (n1 i1 : Nat), i1 + n1 = 4 → fmW G Γ (mdl m S h0) 0 0 5 [some (.ref m), some (.int (nI c)), some (.int s), some (.int (bI (sNextK (S.2 1) c s i1))), some (.int (nI i1))] [] := by
    intro n1
    induction n1 with
    | zero =>
      intro i1 hi1
      refine r_iload E dX4_isNextTo_5 rfl ?_
      refine r_iconst E (nI 4) dX4_isNextTo_7 (by decide) ?_
      refine r_icmpN_ge (tgt := 31) E dX4_isNextTo_8 (by decide) (by omega) (by omega) (fun c2 => ?_) (fun c2 => ?_)
      · obtain rfl : i1 = 4 := by omega
        refine r_iload_n E dX4_isNextTo_31 rfl ?_
        exact r_zreturn E P rfl dX4_isNextTo_32 ⟨rfl, rfl⟩
      · exfalso; omega
    | succ n1 ih =>
      intro i1 hi1
      refine r_iload E dX4_isNextTo_5 rfl ?_
      refine r_iconst E (nI 4) dX4_isNextTo_7 (by decide) ?_
      refine r_icmpN_ge (tgt := 31) E dX4_isNextTo_8 (by decide) (by omega) (by omega) (fun c3 => ?_) (fun c3 => ?_)
      · exfalso; omega
      · refine r_iload_n E dX4_isNextTo_11 rfl ?_
        refine r_aload_n E dX4_isNextTo_12 rfl ?_
        refine r_iload_n E dX4_isNextTo_13 rfl ?_
        refine r_iload E dX4_isNextTo_14 rfl ?_
        refine r_callS1 (v1 := .int (cI (sBsd c i1))) E (ct_X4_beside G hl (mdl m S h0) (c) (i1) (by omega) (by omega)) mX4_beside q89 q2016 q2017 rfl rfl (Nat.le_of_ble_eq_true rfl) (Nat.le_of_ble_eq_true rfl) (Nat.le_of_ble_eq_true rfl) dX4_isNextTo_16 0 0 (Nat.le_of_ble_eq_true rfl) (Nat.le_of_ble_eq_true rfl) ?_
        refine r_iload_n E dX4_isNextTo_19 rfl ?_
        refine r_callV1 (v1 := .int (bI (sOpenOf (S.2 1) (sBsd c i1) s))) E (ct_X4_isOpenOf G hl m S h0 (sBsd c i1) s (by intro x hx; first | exact sBsd_lt (by omega) hx | (cases hx; omega) | cases hx)) mX4_isOpenOf q2067 q2069 qs49 (fun H a1 => fm_rc (ci := 0) (C := RX4) (T := TX4) (N := 21) a1 rfl E.v mdl_o) rfl rfl (Nat.le_of_ble_eq_true rfl) (Nat.le_of_ble_eq_true rfl) (Nat.le_of_ble_eq_true rfl) dX4_isNextTo_20 0 0 (Nat.le_of_ble_eq_true rfl) (Nat.le_of_ble_eq_true rfl) ?_
        refine r_iorB (a := sNextK (S.2 1) c s i1) (b := sOpenOf (S.2 1) (sBsd c i1) s) E dX4_isNextTo_23 ?_
        refine r_istore_n E [some (.ref m), some (.int (nI c)), some (.int s), some (.int (bI ((sNextK (S.2 1) c s i1) || (sOpenOf (S.2 1) (sBsd c i1) s)))), some (.int (nI i1))] dX4_isNextTo_24 rfl rfl ?_
        refine r_iinc E (nI (i1 + 1)) [some (.ref m), some (.int (nI c)), some (.int s), some (.int (bI ((sNextK (S.2 1) c s i1) || (sOpenOf (S.2 1) (sBsd c i1) s)))), some (.int (nI (i1 + 1)))] dX4_isNextTo_25 rfl (nI_1 i1) rfl rfl ?_
        refine r_goto (tgt := 5) E dX4_isNextTo_28 (by decide) ?_
        exact ih (i1 + 1) (by omega)
  exact lp1 4 0 (by omega)

set_option maxHeartbeats 4000000 in
theorem ct_X4_otherShaftBeside (G : fmG) (hl : (fmLn G).stackTraces = false) (m : Nat) (S : MSt) (h0 : fmHp) (c : Nat) (own : Int32) (K : Nat) (hK : S.2 1 350 = nI K) (hK8 : K ≤ 8) (hc : c < 64) : Ct G yX4_otherShaftBeside (ws_ yX4_otherShaftBeside cX4_otherShaftBeside 4 (some .int)) { frames := 3, cells := 0, slots := 0, locals := 69 } [.ref m, .int (nI c), .int own] (mdl m S h0) (fmRet (some (.int (cI (sMeet (S.2 1) c own K)))) (mdl m S h0)) fmNo := by
  refine Ct.of hl (by decide +kernel) (Nat.le_of_ble_eq_true rfl) (fun Γ E P => ?_)
  refine r_iconst E (nI 0) dX4_otherShaftBeside_0 (by decide) ?_
  refine r_istore_n E [some (.ref m), some (.int (nI c)), some (.int own), some (.int (nI 0))] dX4_otherShaftBeside_1 rfl rfl ?_
  have lp1 : ∀ (n1 i1 : Nat), i1 + n1 = K → (sMeetF (S.2 1) c own K (n1 + 1) i1 = sMeet (S.2 1) c own K) → fmW G Γ (mdl m S h0) 0 0 2 [some (.ref m), some (.int (nI c)), some (.int own), some (.int (nI i1))] [] := by
    intro n1
    induction n1 with
    | zero =>
      intro i1 hi1 hv1
      refine r_iload_n E dX4_otherShaftBeside_2 rfl ?_
      refine r_aload_n E dX4_otherShaftBeside_3 rfl ?_
      refine r_getf E cl_X4 1 (by decide) q1887 mdl_o rfl dX4_otherShaftBeside_4 ?_
      refine r_sipush E (nI 350) dX4_otherShaftBeside_7 (by decide) ?_
      refine r_iald E mdl_1 (by omega) (by omega) dX4_otherShaftBeside_10 ?_
      refine r_top (v' := .int (nI K)) (congrArg Value.int hK) ?_
      refine r_icmpN_ge (tgt := 36) E dX4_otherShaftBeside_11 (by decide) (by omega) (by omega) (fun c2 => ?_) (fun c2 => ?_)
      · refine r_iconst E (-1) dX4_otherShaftBeside_36 (by decide) ?_
        rw [show sMeetF (S.2 1) c own K (0 + 1) i1 = none by unfold sMeetF; rw [if_neg (by omega)]] at hv1
        exact r_ireturn E P rfl dX4_otherShaftBeside_37 ⟨by rw [← hv1]; rfl, rfl⟩
      · exfalso; omega
    | succ n1 ih =>
      intro i1 hi1 hv1
      refine r_iload_n E dX4_otherShaftBeside_2 rfl ?_
      refine r_aload_n E dX4_otherShaftBeside_3 rfl ?_
      refine r_getf E cl_X4 1 (by decide) q1887 mdl_o rfl dX4_otherShaftBeside_4 ?_
      refine r_sipush E (nI 350) dX4_otherShaftBeside_7 (by decide) ?_
      refine r_iald E mdl_1 (by omega) (by omega) dX4_otherShaftBeside_10 ?_
      refine r_top (v' := .int (nI K)) (congrArg Value.int hK) ?_
      refine r_icmpN_ge (tgt := 36) E dX4_otherShaftBeside_11 (by decide) (by omega) (by omega) (fun c3 => ?_) (fun c3 => ?_)
      · exfalso; omega
      · refine r_iload_n E dX4_otherShaftBeside_14 rfl ?_
        refine r_iload_n E dX4_otherShaftBeside_15 rfl ?_
        unfold sMeetF at hv1
        rw [if_pos (by omega)] at hv1
        refine r_icmp_eq (x := nI i1) (y := own) (tgt := 30) E dX4_otherShaftBeside_16 (by decide) (fun c4 => ?_) (fun c4 => ?_)
        · rw [if_neg (fun q => q.1 c4)] at hv1
          refine r_iinc E (nI (i1 + 1)) [some (.ref m), some (.int (nI c)), some (.int own), some (.int (nI (i1 + 1)))] dX4_otherShaftBeside_30 rfl (nI_1 i1) rfl rfl ?_
          refine r_goto (tgt := 2) E dX4_otherShaftBeside_33 (by decide) ?_
          exact ih (i1 + 1) (by omega) hv1
        · refine r_aload_n E dX4_otherShaftBeside_19 rfl ?_
          refine r_iload_n E dX4_otherShaftBeside_20 rfl ?_
          refine r_iload_n E dX4_otherShaftBeside_21 rfl ?_
          refine r_callV1 (v1 := .int (bI (sNext (S.2 1) c (nI i1)))) E (ct_X4_isNextTo G hl m S h0 c (nI i1) (by omega)) mX4_isNextTo q2063 q2065 qs48 (fun H a1 => fm_rc (ci := 0) (C := RX4) (T := TX4) (N := 21) a1 rfl E.v mdl_o) rfl rfl (Nat.le_of_ble_eq_true rfl) (Nat.le_of_ble_eq_true rfl) (Nat.le_of_ble_eq_true rfl) dX4_otherShaftBeside_22 0 0 (Nat.le_of_ble_eq_true rfl) (Nat.le_of_ble_eq_true rfl) ?_
          refine r_ifB_eq (b := sNext (S.2 1) c (nI i1)) (tgt := 30) E dX4_otherShaftBeside_25 (by decide) (fun c5 => ?_) (fun c5 => ?_)
          · rw [if_neg (fun q => by rw [c5] at q; exact Bool.noConfusion q.2)] at hv1
            refine r_iinc E (nI (i1 + 1)) [some (.ref m), some (.int (nI c)), some (.int own), some (.int (nI (i1 + 1)))] dX4_otherShaftBeside_30 rfl (nI_1 i1) rfl rfl ?_
            refine r_goto (tgt := 2) E dX4_otherShaftBeside_33 (by decide) ?_
            exact ih (i1 + 1) (by omega) hv1
          · rw [if_pos ⟨c4, c5⟩] at hv1
            refine r_iload_n E dX4_otherShaftBeside_28 rfl ?_
            exact r_ireturn E P rfl dX4_otherShaftBeside_29 ⟨by rw [← hv1]; rfl, rfl⟩
  exact lp1 K 0 (by omega) rfl

