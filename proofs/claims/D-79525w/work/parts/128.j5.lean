set_option maxHeartbeats 4000000 in
theorem ct_J3_inc (G : fmG) (hl : (fmLn G).stackTraces = false) (h : fmHp) (i m : Nat) (hi : i < m) (hm : m < 2 ^ 20) : Ct G yJ3_inc (ws_ yJ3_inc cJ3_inc 2 (some .int)) { frames := 0, cells := 0, slots := 0, locals := 0 } [.int (nI i), .int (nI m)] h (fmRet (some (.int (nI (dInc i m)))) h) fmNo := by
  refine Ct.of hl (by decide +kernel) (Nat.le_of_ble_eq_true rfl) (fun Γ E P => ?_)
  refine r_iinc E (nI (i + 1)) [some (.int (nI (i + 1))), some (.int (nI m))] dJ3_inc_0 rfl (nI_1 i) rfl rfl ?_
  refine r_iload_n E dJ3_inc_3 rfl ?_
  refine r_iload_n E dJ3_inc_4 rfl ?_
  refine r_icmpN_lt (tgt := 10) E dJ3_inc_5 (by decide) (by omega) (by omega) (fun c1 => ?_) (fun c1 => ?_)
  · refine r_iload_n E dJ3_inc_10 rfl ?_
    exact r_ireturn E P rfl dJ3_inc_11 ⟨by unfold dInc; rw [if_pos c1], rfl⟩
  · refine r_iconst E (nI 0) dJ3_inc_8 (by decide) ?_
    refine r_istore_n E [some (.int (nI 0)), some (.int (nI m))] dJ3_inc_9 rfl rfl ?_
    refine r_iload_n E dJ3_inc_10 rfl ?_
    exact r_ireturn E P rfl dJ3_inc_11 ⟨by unfold dInc; rw [if_neg (by omega)], rfl⟩

set_option maxHeartbeats 4000000 in
theorem ct_J3_dec (G : fmG) (hl : (fmLn G).stackTraces = false) (h : fmHp) (i m : Nat) (hi : i < m) (hm : m < 2 ^ 20) : Ct G yJ3_dec (ws_ yJ3_dec cJ3_dec 2 (some .int)) { frames := 0, cells := 0, slots := 0, locals := 0 } [.int (nI i), .int (nI m)] h (fmRet (some (.int (nI (dDec i m)))) h) fmNo := by
  refine Ct.of hl (by decide +kernel) (Nat.le_of_ble_eq_true rfl) (fun Γ E P => ?_)
  by_cases hz : i = 0
  · refine r_iinc E (-1) [some (.int (-1)), some (.int (nI m))] dJ3_dec_0 rfl (by rw [hz]; decide) rfl rfl ?_
    refine r_iload_n E dJ3_dec_3 rfl ?_
    refine r_if_ge (tgt := 11) E dJ3_dec_4 (by decide) (fun c => absurd c (by decide)) (fun _ => ?_)
    refine r_iload_n E dJ3_dec_7 rfl ?_
    refine r_iconst E (nI 1) dJ3_dec_8 (by decide) ?_
    refine r_isubN E dJ3_dec_9 (by omega) ?_
    refine r_istore_n E [some (.int (nI (m - 1))), some (.int (nI m))] dJ3_dec_10 rfl rfl ?_
    refine r_iload_n E dJ3_dec_11 rfl ?_
    exact r_ireturn E P rfl dJ3_dec_12 ⟨by unfold dDec; rw [if_pos hz], rfl⟩
  · refine r_iinc E (nI (i - 1)) [some (.int (nI (i - 1))), some (.int (nI m))] dJ3_dec_0 rfl (nI_m1 (by omega)) rfl rfl ?_
    refine r_iload_n E dJ3_dec_3 rfl ?_
    refine r_if_ge (tgt := 11) E dJ3_dec_4 (by decide) (fun _ => ?_) (fun c => absurd (nI_pos' (by omega)) c)
    refine r_iload_n E dJ3_dec_11 rfl ?_
    exact r_ireturn E P rfl dJ3_dec_12 ⟨by unfold dDec; rw [if_neg hz], rfl⟩

set_option maxHeartbeats 4000000 in
theorem ct_J3_elementAt (G : fmG) (hl : (fmLn G).stackTraces = false) (h : fmHp) (e : Nat) (fe : Bool) (cap : Nat) (g : Nat → Option Nat) (he1 : h e = some (fe, .inl (6, cap, .inr (.inr (.inr (.inr g)))))) (hcap : cap < 2 ^ 20) (i v : Nat) (hi : i < cap) (hv : g i = some v) : Ct G yJ3_elementAt (ws_ yJ3_elementAt cJ3_elementAt 2 (some (.object "java/lang/Object"))) { frames := 0, cells := 0, slots := 0, locals := 0 } [.ref e, .int (nI i)] h (fmRet (some (.ref v)) h) fmNo := by
  refine Ct.of hl (by decide +kernel) (Nat.le_of_ble_eq_true rfl) (fun Γ E P => ?_)
  refine r_aload_n E dJ3_elementAt_0 rfl ?_
  refine r_iload_n E dJ3_elementAt_1 rfl ?_
  refine r_aald E he1 rfl rfl (by omega) (by omega) dJ3_elementAt_2 ?_
  refine r_top (v' := .ref v) (by rw [hv]; rfl) ?_
  exact r_areturn E P rfl (Or.inl ⟨_, rfl⟩) dJ3_elementAt_3 ⟨rfl, rfl⟩

set_option maxHeartbeats 4000000 in
theorem ct_J3_init (G : fmG) (hl : (fmLn G).stackTraces = false) (h : fmHp) (q : Nat) (hq : h q = some (true, .inr (.inl (14, [.null, .int 0, .int 0])))) : Ct G yJ3_init (ws_ yJ3_init cJ3_init 1 none) { frames := 2, cells := 1, slots := 17, locals := 50 } [.ref q] h (fun v h' => v = none ∧ ∃ e, h e = none ∧ (fmK0 G).size ≤ e ∧ h' = fmUp (fmUp h e (true, .inl (6, 17, .inr (.inr (.inr (.inr (fun _ => none))))))) q (true, .inr (.inl (14, [.ref e, .int 0, .int 0])))) fmNo := by
  refine Ct.of hl (by decide +kernel) (Nat.le_of_ble_eq_true rfl) (fun Γ E P => ?_)
  refine r_aload_n E dJ3_init_0 rfl ?_
  refine r_callI0 E (ct_J0_init G hl (h) q) mJ0_init rfl q223 q147 rfl rfl (Nat.le_of_ble_eq_true rfl) (Nat.le_of_ble_eq_true rfl) (Nat.le_of_ble_eq_true rfl) dJ3_init_1 1 17 (Nat.le_of_ble_eq_true rfl) (Nat.le_of_ble_eq_true rfl) ?_
  refine r_aload_n E dJ3_init_4 rfl ?_
  refine r_bipush E (nI 17) dJ3_init_5 (by decide) ?_
  refine r_anew E 6 rfl q224 q225 (by decide) 0 0 (Nat.le_of_ble_eq_true rfl) (Nat.le_of_ble_eq_true rfl) dJ3_init_7 (fun e he he0 => ?_)
  have hqe : q ≠ e := fun z => by rw [z, he] at hq; cases hq
  refine r_putf E cl_J3 0 (by decide) rfl q226 (fun _ z => z) ((fmUp_n hqe).trans hq) (Nat.le_of_ble_eq_true rfl) rfl rfl dJ3_init_10 ?_
  refine r_hp (h' := fmUp (fmUp h e (true, .inl (6, 17, .inr (.inr (.inr (.inr (fun _ => none))))))) q (true, .inr (.inl (14, [.ref e, .int 0, .int 0])))) (rfl) ?_
  exact r_return E P rfl dJ3_init_13 ⟨rfl, e, he, he0, rfl⟩

set_option maxHeartbeats 4000000 in
theorem ct_J3_sub (G : fmG) (hl : (fmLn G).stackTraces = false) (h : fmHp) (t hd m : Nat) (ht : t < m) (hh : hd < m) (hm : m < 2 ^ 20) : Ct G yJ3_sub (ws_ yJ3_sub cJ3_sub 3 (some .int)) { frames := 0, cells := 0, slots := 0, locals := 0 } [.int (nI t), .int (nI hd), .int (nI m)] h (fmRet (some (.int (nI (dSub t hd m)))) h) fmNo := by
  refine Ct.of hl (by decide +kernel) (Nat.le_of_ble_eq_true rfl) (fun Γ E P => ?_)
  by_cases hc : hd ≤ t
  · refine r_iload_n E dJ3_sub_0 rfl ?_
    refine r_iload_n E dJ3_sub_1 rfl ?_
    refine r_isubN E dJ3_sub_2 (by omega) ?_
    refine r_dup E dJ3_sub_3 rfl ?_
    refine r_istore_n E [some (.int (nI (t - hd))), some (.int (nI hd)), some (.int (nI m))] dJ3_sub_4 rfl rfl ?_
    refine r_if_ge (tgt := 12) E dJ3_sub_5 (by decide) (fun _ => ?_) (fun c => absurd (nI_pos' (by omega)) c)
    refine r_iload_n E dJ3_sub_12 rfl ?_
    exact r_ireturn E P rfl dJ3_sub_13 ⟨by unfold dSub; rw [if_pos hc], rfl⟩
  · refine r_iload_n E dJ3_sub_0 rfl ?_
    refine r_iload_n E dJ3_sub_1 rfl ?_
    refine r_isub E dJ3_sub_2 ?_
    refine r_dup E dJ3_sub_3 rfl ?_
    refine r_istore_n E [some (.int (nI t - nI hd)), some (.int (nI hd)), some (.int (nI m))] dJ3_sub_4 rfl rfl ?_
    refine r_if_ge (tgt := 12) E dJ3_sub_5 (by decide) (fun c => absurd c (nI_lt0 (by omega) (by omega))) (fun _ => ?_)
    refine r_iload_n E dJ3_sub_8 rfl ?_
    refine r_iload_n E dJ3_sub_9 rfl ?_
    refine r_iadd E dJ3_sub_10 ?_
    refine r_top (v' := .int (nI (t + m - hd))) (congrArg Value.int (by rw [← nI_subI (by omega), ← nI_add]; exact nI_rot _ _ _)) ?_
    refine r_istore_n E [some (.int (nI (t + m - hd))), some (.int (nI hd)), some (.int (nI m))] dJ3_sub_11 rfl rfl ?_
    refine r_iload_n E dJ3_sub_12 rfl ?_
    exact r_ireturn E P rfl dJ3_sub_13 ⟨by unfold dSub; rw [if_neg hc], rfl⟩

