set_option maxHeartbeats 4000000 in
theorem ct_J3_circularClear (G : fmG) (hl : (fmLn G).stackTraces = false) (h : fmHp) (e hd t : Nat) (g : Nat → Option Nat) (he1 : h e = some (true, .inl (6, 17, .inr (.inr (.inr (.inr g)))))) (hh : hd < 17) (ht : t < 17) : Ct G yJ3_circularClear (ws_ yJ3_circularClear cJ3_circularClear 4 none) { frames := 0, cells := 0, slots := 0, locals := 0 } [.ref e, .int (nI hd), .int (nI t)] h (fmRet none (fmUp h e (true, .inl (6, 17, .inr (.inr (.inr (.inr (clr2 g hd t)))))))) fmNo := by
  refine Ct.of hl (by decide +kernel) (Nat.le_of_ble_eq_true rfl) (fun Γ E P => ?_)
  have lp : ∀ (to : Nat), to ≤ 17 → ∀ (c i : Nat) (g : Nat → Option Nat), i + c = to → fmW G Γ (fmUp h e (true, .inl (6, 17, .inr (.inr (.inr (.inr (clr g i to))))))) 0 0 27 [some (.ref e), some (.int (nI to)), some (.int (nI t)), some (.int (nI to))] [] → fmW G Γ (fmUp h e (true, .inl (6, 17, .inr (.inr (.inr (.inr (g))))))) 0 0 12 [some (.ref e), some (.int (nI i)), some (.int (nI t)), some (.int (nI to))] [] := by
    intro to hto c
    induction c with
    | zero =>
      intro i g hi k
      have hit : i = to := by omega
      subst hit
      rw [clr_0] at k
      refine r_iload_n E dJ3_circularClear_12 rfl ?_
      refine r_iload_n E dJ3_circularClear_13 rfl ?_
      refine r_icmpN_ge (tgt := 27) E dJ3_circularClear_14 (by decide) (by omega) (by omega) (fun _ => ?_) (fun c => absurd c (by omega))
      exact k
    | succ c ih =>
      intro i g hi k
      refine r_iload_n E dJ3_circularClear_12 rfl ?_
      refine r_iload_n E dJ3_circularClear_13 rfl ?_
      refine r_icmpN_ge (tgt := 27) E dJ3_circularClear_14 (by decide) (by omega) (by omega) (fun c => absurd c (by omega)) (fun _ => ?_)
      refine r_aload_n E dJ3_circularClear_17 rfl ?_
      refine r_iload_n E dJ3_circularClear_18 rfl ?_
      refine r_null E dJ3_circularClear_19 ?_
      refine r_aastN E (t := 6) (Ev := "java/lang/Object") rfl fmUp_s (by omega) (by omega) dJ3_circularClear_20 ?_
      refine r_hp (h' := fmUp h e (true, .inl (6, 17, .inr (.inr (.inr (.inr (va_up g i none))))))) (fmUp_uu _ _ _ _) ?_
      refine r_iinc E (nI (i + 1)) [some (.ref e), some (.int (nI (i + 1))), some (.int (nI t)), some (.int (nI to))] dJ3_circularClear_21 rfl (nI_1 i) rfl rfl ?_
      refine r_goto (tgt := 12) E dJ3_circularClear_24 (by decide) ?_
      exact ih (i + 1) (va_up g i none) (by omega) (by rw [clr_1 g (by omega)]; exact k)
  refine r_hp (h' := fmUp h e (true, .inl (6, 17, .inr (.inr (.inr (.inr (g))))))) (fmUp_id he1).symm ?_
  refine r_iload_n E dJ3_circularClear_0 rfl ?_
  refine r_iload_n E dJ3_circularClear_1 rfl ?_
  refine r_icmpN_gt (tgt := 9) E dJ3_circularClear_2 (by decide) (by omega) (by omega) (fun c1 => ?_) (fun c1 => ?_)
  · refine r_aload_n E dJ3_circularClear_9 rfl ?_
    refine r_alen E fmUp_s rfl dJ3_circularClear_10 ?_
    refine r_istore_n E [some (.ref e), some (.int (nI hd)), some (.int (nI t)), some (.int (nI 17))] dJ3_circularClear_11 rfl rfl ?_
    refine lp 17 (by omega) (17 - hd) hd g (by omega) ?_
    refine r_iload_n E dJ3_circularClear_27 rfl ?_
    refine r_iload_n E dJ3_circularClear_28 rfl ?_
    refine r_icmpN_ne (tgt := 35) E dJ3_circularClear_29 (by decide) (by omega) (by omega) (fun _ => ?_) (fun z => absurd z (by omega))
    refine r_iconst E (nI 0) dJ3_circularClear_35 (by decide) ?_
    refine r_istore_n E [some (.ref e), some (.int (nI 0)), some (.int (nI t)), some (.int (nI 17))] dJ3_circularClear_36 rfl rfl ?_
    refine r_iload_n E dJ3_circularClear_37 rfl ?_
    refine r_istore_n E [some (.ref e), some (.int (nI 0)), some (.int (nI t)), some (.int (nI t))] dJ3_circularClear_38 rfl rfl ?_
    refine r_goto (tgt := 12) E dJ3_circularClear_39 (by decide) ?_
    refine lp t (by omega) t 0 (clr g hd 17) (by omega) ?_
    refine r_iload_n E dJ3_circularClear_27 rfl ?_
    refine r_iload_n E dJ3_circularClear_28 rfl ?_
    refine r_icmpN_ne (tgt := 35) E dJ3_circularClear_29 (by decide) (by omega) (by omega) (fun z => absurd rfl z) (fun _ => ?_)
    refine r_goto (tgt := 42) E dJ3_circularClear_32 (by decide) ?_
    exact r_return E P rfl dJ3_circularClear_42 ⟨rfl, by unfold clr2; rw [if_neg (by omega)]⟩
  · refine r_iload_n E dJ3_circularClear_5 rfl ?_
    refine r_goto (tgt := 11) E dJ3_circularClear_6 (by decide) ?_
    refine r_istore_n E [some (.ref e), some (.int (nI hd)), some (.int (nI t)), some (.int (nI t))] dJ3_circularClear_11 rfl rfl ?_
    refine lp t (by omega) (t - hd) hd g (by omega) ?_
    refine r_iload_n E dJ3_circularClear_27 rfl ?_
    refine r_iload_n E dJ3_circularClear_28 rfl ?_
    refine r_icmpN_ne (tgt := 35) E dJ3_circularClear_29 (by decide) (by omega) (by omega) (fun z => absurd rfl z) (fun _ => ?_)
    refine r_goto (tgt := 42) E dJ3_circularClear_32 (by decide) ?_
    exact r_return E P rfl dJ3_circularClear_42 ⟨rfl, by unfold clr2; rw [if_pos (by omega)]⟩

set_option maxHeartbeats 4000000 in
theorem ct_J3_clear (G : fmG) (hl : (fmLn G).stackTraces = false) (h : fmHp) (q e hd n : Nat) (f : Nat → Nat) (hA : AD h q e hd n f)  : Ct G yJ3_clear (ws_ yJ3_clear cJ3_clear 1 none) { frames := 1, cells := 0, slots := 0, locals := 23 } [.ref q] h (fun v0 h' => v0 = none ∧ AD h' q e 0 0 f ∧ (∀ z x, h z = some x → z ≠ q → z ≠ e → h' z = some x)) fmNo := by
  refine Ct.of hl (by decide +kernel) (Nat.le_of_ble_eq_true rfl) (fun Γ E P => ?_)
  have hqe := hA.ne
  have hA2 := hA
  obtain ⟨g, hq1, he1, hd17, hn8, hg, hg2⟩ := hA
  have hp := dPos_lt hd17 (show n < 17 by omega)
  refine r_aload_n E dJ3_clear_0 rfl ?_
  refine r_getf E cl_J3 0 (by decide) q226 hq1 rfl dJ3_clear_1 ?_
  refine r_aload_n E dJ3_clear_4 rfl ?_
  refine r_getf E cl_J3 1 (by decide) q227 hq1 rfl dJ3_clear_5 ?_
  refine r_aload_n E dJ3_clear_8 rfl ?_
  refine r_getf E cl_J3 2 (by decide) q228 hq1 rfl dJ3_clear_9 ?_
  refine r_callS0 E (ct_J3_circularClear G hl h e hd (dPos hd n) g he1 hd17 hp) mJ3_circularClear q84 q1875 q1876 rfl rfl (Nat.le_of_ble_eq_true rfl) (Nat.le_of_ble_eq_true rfl) (Nat.le_of_ble_eq_true rfl) dJ3_clear_12 0 0 (Nat.le_of_ble_eq_true rfl) (Nat.le_of_ble_eq_true rfl) ?_
  refine r_aload_n E dJ3_clear_15 rfl ?_
  refine r_aload_n E dJ3_clear_16 rfl ?_
  refine r_iconst E (nI 0) dJ3_clear_17 (by decide) ?_
  refine r_dup_x1 E dJ3_clear_18 rfl rfl ?_
  refine r_putf E cl_J3 2 (by decide) rfl q228 (fun _ z => z) ((fmUp_n hqe).trans hq1) (Nat.le_of_ble_eq_true rfl) rfl rfl dJ3_clear_19 ?_
  refine r_hp (h' := fmUp (fmUp h e (true, .inl (6, 17, .inr (.inr (.inr (.inr (clr2 g hd (dPos hd n)))))))) q (true, .inr (.inl (14, [.ref e, .int (nI hd), .int (nI 0)])))) (rfl) ?_
  refine r_putf E cl_J3 1 (by decide) rfl q227 (fun _ z => z) fmUp_s (Nat.le_of_ble_eq_true rfl) rfl rfl dJ3_clear_22 ?_
  refine r_hp (h' := fmUp (fmUp (fmUp h e (true, .inl (6, 17, .inr (.inr (.inr (.inr (clr2 g hd (dPos hd n)))))))) q (true, .inr (.inl (14, [.ref e, .int (nI hd), .int (nI 0)])))) q (true, .inr (.inl (14, [.ref e, .int (nI 0), .int (nI 0)])))) (rfl) ?_
  refine r_return E P rfl dJ3_clear_25 ⟨rfl, ⟨clr2 g hd (dPos hd n), by rw [fmUp_uu]; exact fmUp_s, by rw [fmUp_uu, fmUp_n (Ne.symm hqe)]; exact fmUp_s, by omega, by omega, fun i hi => absurd hi (Nat.not_lt_zero i), fun i _ hi => ?_⟩, fun z x h1 h2 h3 => by rw [fmUp_uu, fmUp_n h2, fmUp_n h3]; exact h1⟩
  have hi2 : dPos 0 i = i := by unfold dPos; rw [if_pos (by omega)]; omega
  rw [hi2]
  obtain ⟨j, hj, rfl⟩ : ∃ j, j < 17 ∧ dPos hd j = i := ⟨if hd ≤ i then i - hd else i + 17 - hd, by split <;> omega, by unfold dPos; split <;> split <;> omega⟩
  by_cases hjn : j < n
  · exact clr2_in hd17 hn8 hjn
  · exact clr2_out (hg2 j (by omega) hj)

