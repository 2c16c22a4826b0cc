set_option maxHeartbeats 4000000 in
theorem ct_J3_size (G : fmG) (hl : (fmLn G).stackTraces = false) (h : fmHp) (q e hd n : Nat) (f : Nat → Nat) (hA : AD h q e hd n f)  : Ct G yJ3_size (ws_ yJ3_size cJ3_size 1 (some .int)) { frames := 1, cells := 0, slots := 0, locals := 22 } [.ref q] h (fmRet (some (.int (nI n))) h) fmNo := by
  refine Ct.of hl (by decide +kernel) (Nat.le_of_ble_eq_true rfl) (fun Γ E P => ?_)
  have hqe := hA.ne
  have hA2 := hA
  obtain ⟨g, hq1, he1, hd17, hn8, hg, hg2⟩ := hA
  have hp := dPos_lt hd17 (show n < 17 by omega)
  refine r_aload_n E dJ3_size_0 rfl ?_
  refine r_getf E cl_J3 2 (by decide) q228 hq1 rfl dJ3_size_1 ?_
  refine r_aload_n E dJ3_size_4 rfl ?_
  refine r_getf E cl_J3 1 (by decide) q227 hq1 rfl dJ3_size_5 ?_
  refine r_aload_n E dJ3_size_8 rfl ?_
  refine r_getf E cl_J3 0 (by decide) q226 hq1 rfl dJ3_size_9 ?_
  refine r_alen E he1 rfl dJ3_size_12 ?_
  refine r_callS1 (v1 := .int (nI (dSub (dPos hd n) hd 17))) E (ct_J3_sub G hl (h) (dPos hd n) hd 17 (by omega) (by omega) (by omega)) mJ3_sub q84 q983 q984 rfl rfl (Nat.le_of_ble_eq_true rfl) (Nat.le_of_ble_eq_true rfl) (Nat.le_of_ble_eq_true rfl) dJ3_size_13 0 0 (Nat.le_of_ble_eq_true rfl) (Nat.le_of_ble_eq_true rfl) ?_
  exact r_ireturn E P rfl dJ3_size_16 ⟨by rw [dSub_n hd17 (by omega)], rfl⟩

set_option maxHeartbeats 4000000 in
theorem ct_J3_isEmpty (G : fmG) (hl : (fmLn G).stackTraces = false) (h : fmHp) (q e hd n : Nat) (f : Nat → Nat) (hA : AD h q e hd n f)  : Ct G yJ3_isEmpty (ws_ yJ3_isEmpty cJ3_isEmpty 1 (some .boolean)) { frames := 0, cells := 0, slots := 0, locals := 0 } [.ref q] h (fmRet (some (.int (bI (decide (n = 0))))) h) fmNo := by
  refine Ct.of hl (by decide +kernel) (Nat.le_of_ble_eq_true rfl) (fun Γ E P => ?_)
  have hqe := hA.ne
  have hA2 := hA
  obtain ⟨g, hq1, he1, hd17, hn8, hg, hg2⟩ := hA
  have hp := dPos_lt hd17 (show n < 17 by omega)
  refine r_aload_n E dJ3_isEmpty_0 rfl ?_
  refine r_getf E cl_J3 1 (by decide) q227 hq1 rfl dJ3_isEmpty_1 ?_
  refine r_aload_n E dJ3_isEmpty_4 rfl ?_
  refine r_getf E cl_J3 2 (by decide) q228 hq1 rfl dJ3_isEmpty_5 ?_
  refine r_icmpN_ne (tgt := 15) E dJ3_isEmpty_8 (by decide) (by omega) (by omega) (fun c1 => ?_) (fun c1 => ?_)
  · refine r_iconst E (nI 0) dJ3_isEmpty_15 (by decide) ?_
    refine r_top (v' := .int (bI (decide (n = 0)))) (by rw [decide_eq_false (fun z => c1 (by rw [z]; exact (dPos_0 hd17).symm))]; rfl) ?_
    exact r_zreturn E P rfl dJ3_isEmpty_16 ⟨rfl, rfl⟩
  · refine r_iconst E (nI 1) dJ3_isEmpty_11 (by decide) ?_
    refine r_goto (tgt := 16) E dJ3_isEmpty_12 (by decide) ?_
    refine r_top (v' := .int (bI (decide (n = 0)))) (by rw [decide_eq_true (by unfold dPos at c1; split at c1 <;> omega)]; rfl) ?_
    exact r_zreturn E P rfl dJ3_isEmpty_16 ⟨rfl, rfl⟩

set_option maxHeartbeats 4000000 in
theorem ct_J3_addFirst (G : fmG) (hl : (fmLn G).stackTraces = false) (h : fmHp) (q e hd n : Nat) (f : Nat → Nat) (hA : AD h q e hd n f) (hn : n < 8) (v : Nat) (hv : isO h v) : Ct G yJ3_addFirst (ws_ yJ3_addFirst cJ3_addFirst 3 none) { frames := 1, cells := 0, slots := 0, locals := 21 } [.ref q, .ref v] h (fun v0 h' => v0 = none ∧ AD h' q e (dDec hd 17) (n + 1) (fPush f v) ∧ (∀ z x, h z = some x → z ≠ q → z ≠ e → h' z = some x)) fmNo := by
  refine Ct.of hl (by decide +kernel) (Nat.le_of_ble_eq_true rfl) (fun Γ E P => ?_)
  have hqe := hA.ne
  have hA2 := hA
  obtain ⟨g, hq1, he1, hd17, hn8, hg, hg2⟩ := hA
  have hp := dPos_lt hd17 (show n < 17 by omega)
  obtain ⟨hdd0, hdd⟩ := dPos_dec0 hd17
  obtain ⟨vci, vC, vT, vN, vb, vfs, vk1, vk2, vk3⟩ := hv
  refine r_aload_n E dJ3_addFirst_0 rfl ?_
  refine r_ifnonnull (tgt := 12) E dJ3_addFirst_1 (by decide) ?_
  refine r_aload_n E dJ3_addFirst_12 rfl ?_
  refine r_getf E cl_J3 0 (by decide) q226 hq1 rfl dJ3_addFirst_13 ?_
  refine r_astore_n E [some (.ref q), some (.ref v), some (.ref e)] dJ3_addFirst_16 rfl rfl ?_
  refine r_aload_n E dJ3_addFirst_17 rfl ?_
  refine r_aload_n E dJ3_addFirst_18 rfl ?_
  refine r_aload_n E dJ3_addFirst_19 rfl ?_
  refine r_getf E cl_J3 1 (by decide) q227 hq1 rfl dJ3_addFirst_20 ?_
  refine r_aload_n E dJ3_addFirst_23 rfl ?_
  refine r_alen E he1 rfl dJ3_addFirst_24 ?_
  refine r_callS1 (v1 := .int (nI (dDec hd 17))) E (ct_J3_dec G hl (h) hd 17 (by omega) (by omega)) mJ3_dec q84 q994 q995 rfl rfl (Nat.le_of_ble_eq_true rfl) (Nat.le_of_ble_eq_true rfl) (Nat.le_of_ble_eq_true rfl) dJ3_addFirst_25 0 0 (Nat.le_of_ble_eq_true rfl) (Nat.le_of_ble_eq_true rfl) ?_
  refine r_dup_x1 E dJ3_addFirst_28 rfl rfl ?_
  refine r_putf E cl_J3 1 (by decide) rfl q227 (fun _ z => z) hq1 (Nat.le_of_ble_eq_true rfl) rfl rfl dJ3_addFirst_29 ?_
  refine r_hp (h' := fmUp h q (true, .inr (.inl (14, [.ref e, .int (nI (dDec hd 17)), .int (nI (dPos hd n))])))) (rfl) ?_
  refine r_aload_n E dJ3_addFirst_32 rfl ?_
  have hvo : ∃ (b : Bool) (fs : List Value), (fmUp h q (true, .inr (.inl (14, [.ref e, .int (nI (dDec hd 17)), .int (nI (dPos hd n))])))) v = some (b, .inr (.inl (vci, fs))) := by
    by_cases hvq : v = q
    · rw [hvq] at vk2 ⊢; rw [hq1] at vk2; cases vk2; exact ⟨_, _, fmUp_s⟩
    · exact ⟨_, _, (fmUp_n hvq).trans vk2⟩
  obtain ⟨vb2, vfs2, vk4⟩ := hvo
  refine r_aast E (t := 6) (Ev := "java/lang/Object") rfl (fun H a1 => fm_rc a1 vk1 E.v vk4) vk3 ((fmUp_n (Ne.symm hqe)).trans he1) (by omega) (by omega) dJ3_addFirst_33 ?_
  refine r_hp (h' := fmUp (fmUp h q (true, .inr (.inl (14, [.ref e, .int (nI (dDec hd 17)), .int (nI (dPos hd n))])))) e (true, .inl (6, 17, .inr (.inr (.inr (.inr (va_up g (dDec hd 17) (some v)))))))) (rfl) ?_
  refine r_aload_n E dJ3_addFirst_34 rfl ?_
  refine r_getf E cl_J3 1 (by decide) q227 ((fmUp_n hqe).trans fmUp_s) rfl dJ3_addFirst_35 ?_
  refine r_aload_n E dJ3_addFirst_38 rfl ?_
  refine r_getf E cl_J3 2 (by decide) q228 ((fmUp_n hqe).trans fmUp_s) rfl dJ3_addFirst_39 ?_
  have hnt : ¬ dDec hd 17 = dPos hd n := fun z => absurd (dPos_inj hdd (by omega) (by omega) ((dPos_dec hd17 (show n < 16 by omega)).trans (z.symm.trans hdd0.symm))) (Nat.succ_ne_zero n)
  refine r_icmpN_ne (tgt := 50) E dJ3_addFirst_42 (by decide) (by omega) (by omega) (fun _ => ?_) (fun z => absurd z hnt)
  refine r_return E P rfl dJ3_addFirst_50 ⟨rfl, ⟨va_up g (dDec hd 17) (some v), ?_, fmUp_s, hdd, by omega, fun i hi => ?_, fun i h1 h2 => ?_⟩, fun z x h1 h2 h3 => (fmUp_n h3).trans ((fmUp_n h2).trans h1)⟩
  · rw [dPos_dec hd17 (by omega)]; exact (fmUp_n hqe).trans fmUp_s
  · by_cases hi0 : i = 0
    · rw [hi0, hdd0, va_up_self]; rfl
    · obtain ⟨k, rfl⟩ : ∃ k, i = k + 1 := ⟨i - 1, by omega⟩
      rw [va_up_ne _ _ (fun z => absurd (dPos_inj hdd (by omega) (by omega) (z.trans hdd0.symm)) (by omega)), dPos_dec hd17 (by omega), hg k (by omega)]; rfl
  · obtain ⟨k, rfl⟩ : ∃ k, i = k + 1 := ⟨i - 1, by omega⟩
    rw [va_up_ne _ _ (fun z => absurd (dPos_inj hdd (by omega) (by omega) (z.trans hdd0.symm)) (by omega)), dPos_dec hd17 (by omega)]; exact hg2 k (by omega) (by omega)

set_option maxHeartbeats 4000000 in
theorem ct_J3_push (G : fmG) (hl : (fmLn G).stackTraces = false) (h : fmHp) (q e hd n : Nat) (f : Nat → Nat) (hA : AD h q e hd n f) (hn : n < 8) (v : Nat) (hv : isO h v) : Ct G yJ3_push (ws_ yJ3_push cJ3_push 2 none) { frames := 2, cells := 0, slots := 0, locals := 43 } [.ref q, .ref v] h (fun v0 h' => v0 = none ∧ AD h' q e (dDec hd 17) (n + 1) (fPush f v) ∧ (∀ z x, h z = some x → z ≠ q → z ≠ e → h' z = some x)) fmNo := by
  refine Ct.of hl (by decide +kernel) (Nat.le_of_ble_eq_true rfl) (fun Γ E P => ?_)
  have hqe := hA.ne
  have hA2 := hA
  obtain ⟨g, hq1, he1, hd17, hn8, hg, hg2⟩ := hA
  have hp := dPos_lt hd17 (show n < 17 by omega)
  refine r_aload_n E dJ3_push_0 rfl ?_
  refine r_aload_n E dJ3_push_1 rfl ?_
  refine r_callV E (ct_J3_addFirst G hl h q e hd n f hA2 hn v hv) mJ3_addFirst q1006 q1007 q1008 (fun H a1 => fm_rc (ci := 14) (C := RJ3) (T := TJ3) (N := 3) a1 rfl E.v hq1) rfl rfl (Nat.le_of_ble_eq_true rfl) (Nat.le_of_ble_eq_true rfl) (Nat.le_of_ble_eq_true rfl) dJ3_push_2 0 0 (Nat.le_of_ble_eq_true rfl) (Nat.le_of_ble_eq_true rfl) (fun v' h' qq => ?_) (fun _ _ _ q => q.elim)
  obtain ⟨rfl, r1, r2⟩ := qq
  exact r_return E P rfl dJ3_push_5 ⟨rfl, r1, r2⟩

set_option maxHeartbeats 4000000 in
theorem ct_J3_pollLast (G : fmG) (hl : (fmLn G).stackTraces = false) (h : fmHp) (q e hd n : Nat) (f : Nat → Nat) (hA : AD h q e hd n f) (hn : 0 < n) : Ct G yJ3_pollLast (ws_ yJ3_pollLast cJ3_pollLast 4 (some (.object "java/lang/Object"))) { frames := 1, cells := 0, slots := 0, locals := 21 } [.ref q] h (fun v0 h' => v0 = some (.ref (f (n - 1))) ∧ AD h' q e hd (n - 1) f ∧ (∀ z x, h z = some x → z ≠ q → z ≠ e → h' z = some x)) fmNo := by
  refine Ct.of hl (by decide +kernel) (Nat.le_of_ble_eq_true rfl) (fun Γ E P => ?_)
  have hqe := hA.ne
  have hA2 := hA
  obtain ⟨g, hq1, he1, hd17, hn8, hg, hg2⟩ := hA
  have hp := dPos_lt hd17 (show n < 17 by omega)
  have hdp := dDec_pos hd17 hn (show n < 17 by omega)
  have hp2 := dPos_lt hd17 (show n - 1 < 17 by omega)
  have hgv := hg (n - 1) (by omega)
  refine r_aload_n E dJ3_pollLast_0 rfl ?_
  refine r_getf E cl_J3 0 (by decide) q226 hq1 rfl dJ3_pollLast_1 ?_
  refine r_dup E dJ3_pollLast_4 rfl ?_
  refine r_astore_n E [some (.ref q), some (.ref e), none, none] dJ3_pollLast_5 rfl rfl ?_
  refine r_aload_n E dJ3_pollLast_6 rfl ?_
  refine r_getf E cl_J3 2 (by decide) q228 hq1 rfl dJ3_pollLast_7 ?_
  refine r_aload_n E dJ3_pollLast_10 rfl ?_
  refine r_alen E he1 rfl dJ3_pollLast_11 ?_
  refine r_callS1 (v1 := .int (nI (dDec (dPos hd n) 17))) E (ct_J3_dec G hl (h) (dPos hd n) 17 (by omega) (by omega)) mJ3_dec q84 q994 q995 rfl rfl (Nat.le_of_ble_eq_true rfl) (Nat.le_of_ble_eq_true rfl) (Nat.le_of_ble_eq_true rfl) dJ3_pollLast_12 0 0 (Nat.le_of_ble_eq_true rfl) (Nat.le_of_ble_eq_true rfl) ?_
  refine r_top (v' := .int (nI (dPos hd (n - 1)))) (congrArg (fun z => Value.int (nI z)) hdp) ?_
  refine r_dup E dJ3_pollLast_15 rfl ?_
  refine r_istore_n E [some (.ref q), some (.ref e), some (.int (nI (dPos hd (n - 1)))), none] dJ3_pollLast_16 rfl rfl ?_
  refine r_callS1 (v1 := .ref (f (n - 1))) E (ct_J3_elementAt G hl (h) e true 17 g he1 (by omega) (dPos hd (n - 1)) (f (n - 1)) (by omega) hgv) mJ3_elementAt q84 q997 q998 rfl rfl (Nat.le_of_ble_eq_true rfl) (Nat.le_of_ble_eq_true rfl) (Nat.le_of_ble_eq_true rfl) dJ3_pollLast_17 0 0 (Nat.le_of_ble_eq_true rfl) (Nat.le_of_ble_eq_true rfl) ?_
  refine r_astore_n E [some (.ref q), some (.ref e), some (.int (nI (dPos hd (n - 1)))), some (.ref (f (n - 1)))] dJ3_pollLast_20 rfl rfl ?_
  refine r_aload_n E dJ3_pollLast_21 rfl ?_
  refine r_ifnull E dJ3_pollLast_22 ?_
  refine r_aload_n E dJ3_pollLast_25 rfl ?_
  refine r_aload_n E dJ3_pollLast_26 rfl ?_
  refine r_iload_n E dJ3_pollLast_27 rfl ?_
  refine r_dup_x1 E dJ3_pollLast_28 rfl rfl ?_
  refine r_putf E cl_J3 2 (by decide) rfl q228 (fun _ z => z) hq1 (Nat.le_of_ble_eq_true rfl) rfl rfl dJ3_pollLast_29 ?_
  refine r_hp (h' := fmUp h q (true, .inr (.inl (14, [.ref e, .int (nI hd), .int (nI (dPos hd (n - 1)))])))) (rfl) ?_
  refine r_null E dJ3_pollLast_32 ?_
  refine r_aastN E (t := 6) (Ev := "java/lang/Object") rfl ((fmUp_n (Ne.symm hqe)).trans he1) (by omega) (by omega) dJ3_pollLast_33 ?_
  refine r_hp (h' := fmUp (fmUp h q (true, .inr (.inl (14, [.ref e, .int (nI hd), .int (nI (dPos hd (n - 1)))])))) e (true, .inl (6, 17, .inr (.inr (.inr (.inr (va_up g (dPos hd (n - 1)) none))))))) (rfl) ?_
  refine r_aload_n E dJ3_pollLast_34 rfl ?_
  refine r_areturn E P rfl (Or.inl ⟨_, rfl⟩) dJ3_pollLast_35 ⟨rfl, ⟨va_up g (dPos hd (n - 1)) none, (fmUp_n hqe).trans fmUp_s, fmUp_s, hd17, by omega, fun i hi => ?_, fun i h1 h2 => ?_⟩, fun z x h1 h2 h3 => (fmUp_n h3).trans ((fmUp_n h2).trans h1)⟩
  · rw [va_up_ne _ _ (fun z => absurd (dPos_inj hd17 (by omega) (by omega) z) (by omega))]; exact hg i (by omega)
  · by_cases hin : i = n - 1
    · rw [hin, va_up_self]
    · rw [va_up_ne _ _ (fun z => absurd (dPos_inj hd17 (by omega) (by omega) z) (by omega))]; exact hg2 i (by omega) h2

set_option maxHeartbeats 4000000 in
theorem ct_J3_removeLast (G : fmG) (hl : (fmLn G).stackTraces = false) (h : fmHp) (q e hd n : Nat) (f : Nat → Nat) (hA : AD h q e hd n f) (hn : 0 < n) : Ct G yJ3_removeLast (ws_ yJ3_removeLast cJ3_removeLast 2 (some (.object "java/lang/Object"))) { frames := 2, cells := 0, slots := 0, locals := 44 } [.ref q] h (fun v0 h' => v0 = some (.ref (f (n - 1))) ∧ AD h' q e hd (n - 1) f ∧ (∀ z x, h z = some x → z ≠ q → z ≠ e → h' z = some x)) fmNo := by
  refine Ct.of hl (by decide +kernel) (Nat.le_of_ble_eq_true rfl) (fun Γ E P => ?_)
  have hqe := hA.ne
  have hA2 := hA
  obtain ⟨g, hq1, he1, hd17, hn8, hg, hg2⟩ := hA
  have hp := dPos_lt hd17 (show n < 17 by omega)
  refine r_aload_n E dJ3_removeLast_0 rfl ?_
  refine r_callV E (ct_J3_pollLast G hl h q e hd n f hA2 hn) mJ3_pollLast q990 q991 q992 (fun H a1 => fm_rc (ci := 14) (C := RJ3) (T := TJ3) (N := 3) a1 rfl E.v hq1) rfl rfl (Nat.le_of_ble_eq_true rfl) (Nat.le_of_ble_eq_true rfl) (Nat.le_of_ble_eq_true rfl) dJ3_removeLast_1 0 0 (Nat.le_of_ble_eq_true rfl) (Nat.le_of_ble_eq_true rfl) (fun v' h' qq => ?_) (fun _ _ _ q => q.elim)
  obtain ⟨rfl, r1, r2⟩ := qq
  refine r_astore_n E [some (.ref q), some (.ref (f (n - 1)))] dJ3_removeLast_4 rfl rfl ?_
  refine r_aload_n E dJ3_removeLast_5 rfl ?_
  refine r_ifnonnull (tgt := 17) E dJ3_removeLast_6 (by decide) ?_
  refine r_aload_n E dJ3_removeLast_17 rfl ?_
  exact r_areturn E P rfl (Or.inl ⟨_, rfl⟩) dJ3_removeLast_18 ⟨rfl, r1, r2⟩

set_option maxHeartbeats 4000000 in
theorem ct_J3_pollFirst (G : fmG) (hl : (fmLn G).stackTraces = false) (h : fmHp) (q e hd n : Nat) (f : Nat → Nat) (hA : AD h q e hd n f) (hn : 0 < n) : Ct G yJ3_pollFirst (ws_ yJ3_pollFirst cJ3_pollFirst 4 (some (.object "java/lang/Object"))) { frames := 1, cells := 0, slots := 0, locals := 21 } [.ref q] h (fun v0 h' => v0 = some (.ref (f 0)) ∧ AD h' q e (dInc hd 17) (n - 1) (fun i => f (i + 1)) ∧ (∀ z x, h z = some x → z ≠ q → z ≠ e → h' z = some x)) fmNo := by
  refine Ct.of hl (by decide +kernel) (Nat.le_of_ble_eq_true rfl) (fun Γ E P => ?_)
  have hqe := hA.ne
  have hA2 := hA
  obtain ⟨g, hq1, he1, hd17, hn8, hg, hg2⟩ := hA
  have hp := dPos_lt hd17 (show n < 17 by omega)
  have hgv := hg 0 hn
  rw [dPos_0 hd17] at hgv
  refine r_aload_n E dJ3_pollFirst_0 rfl ?_
  refine r_getf E cl_J3 0 (by decide) q226 hq1 rfl dJ3_pollFirst_1 ?_
  refine r_dup E dJ3_pollFirst_4 rfl ?_
  refine r_astore_n E [some (.ref q), some (.ref e), none, none] dJ3_pollFirst_5 rfl rfl ?_
  refine r_aload_n E dJ3_pollFirst_6 rfl ?_
  refine r_getf E cl_J3 1 (by decide) q227 hq1 rfl dJ3_pollFirst_7 ?_
  refine r_dup E dJ3_pollFirst_10 rfl ?_
  refine r_istore_n E [some (.ref q), some (.ref e), some (.int (nI hd)), none] dJ3_pollFirst_11 rfl rfl ?_
  refine r_callS1 (v1 := .ref (f 0)) E (ct_J3_elementAt G hl (h) e true 17 g he1 (by omega) hd (f 0) (by omega) hgv) mJ3_elementAt q84 q997 q998 rfl rfl (Nat.le_of_ble_eq_true rfl) (Nat.le_of_ble_eq_true rfl) (Nat.le_of_ble_eq_true rfl) dJ3_pollFirst_12 0 0 (Nat.le_of_ble_eq_true rfl) (Nat.le_of_ble_eq_true rfl) ?_
  refine r_astore_n E [some (.ref q), some (.ref e), some (.int (nI hd)), some (.ref (f 0))] dJ3_pollFirst_15 rfl rfl ?_
  refine r_aload_n E dJ3_pollFirst_16 rfl ?_
  refine r_ifnull E dJ3_pollFirst_17 ?_
  refine r_aload_n E dJ3_pollFirst_20 rfl ?_
  refine r_iload_n E dJ3_pollFirst_21 rfl ?_
  refine r_null E dJ3_pollFirst_22 ?_
  refine r_aastN E (t := 6) (Ev := "java/lang/Object") rfl he1 (by omega) (by omega) dJ3_pollFirst_23 ?_
  refine r_hp (h' := fmUp h e (true, .inl (6, 17, .inr (.inr (.inr (.inr (va_up g hd none))))))) (rfl) ?_
  refine r_aload_n E dJ3_pollFirst_24 rfl ?_
  refine r_iload_n E dJ3_pollFirst_25 rfl ?_
  refine r_aload_n E dJ3_pollFirst_26 rfl ?_
  refine r_alen E fmUp_s rfl dJ3_pollFirst_27 ?_
  refine r_callS1 (v1 := .int (nI (dInc hd 17))) E (ct_J3_inc G hl (fmUp h e (true, .inl (6, 17, .inr (.inr (.inr (.inr (va_up g hd none))))))) hd 17 (by omega) (by omega)) mJ3_inc q84 q1861 q1862 rfl rfl (Nat.le_of_ble_eq_true rfl) (Nat.le_of_ble_eq_true rfl) (Nat.le_of_ble_eq_true rfl) dJ3_pollFirst_28 0 0 (Nat.le_of_ble_eq_true rfl) (Nat.le_of_ble_eq_true rfl) ?_
  refine r_putf E cl_J3 1 (by decide) rfl q227 (fun _ z => z) ((fmUp_n hqe).trans hq1) (Nat.le_of_ble_eq_true rfl) rfl rfl dJ3_pollFirst_31 ?_
  refine r_hp (h' := fmUp (fmUp h e (true, .inl (6, 17, .inr (.inr (.inr (.inr (va_up g hd none))))))) q (true, .inr (.inl (14, [.ref e, .int (nI (dInc hd 17)), .int (nI (dPos hd n))])))) (rfl) ?_
  refine r_aload_n E dJ3_pollFirst_34 rfl ?_
  refine r_areturn E P rfl (Or.inl ⟨_, rfl⟩) dJ3_pollFirst_35 ⟨rfl, ⟨va_up g hd none, ?_, (fmUp_n (Ne.symm hqe)).trans fmUp_s, dInc_lt hd17, by omega, fun i hi => ?_, fun i h1 h2 => ?_⟩, fun z x h1 h2 h3 => (fmUp_n h2).trans ((fmUp_n h3).trans h1)⟩
  · rw [dPos_inc hd17 (by omega), show n - 1 + 1 = n by omega]; exact fmUp_s
  · rw [dPos_inc hd17 (by omega), va_up_ne _ _ (fun z => absurd (dPos_inj hd17 (by omega) (by omega) (z.trans (dPos_0 hd17).symm)) (Nat.succ_ne_zero i))]; exact hg (i + 1) (by omega)
  · by_cases hi16 : i = 16
    · subst hi16; rw [show dPos (dInc hd 17) 16 = hd by (unfold dPos dInc; (repeat' split) <;> omega), va_up_self]
    · rw [dPos_inc hd17 (by omega), va_up_ne _ _ (fun z => absurd (dPos_inj hd17 (by omega) (by omega) (z.trans (dPos_0 hd17).symm)) (Nat.succ_ne_zero i))]; exact hg2 (i + 1) (by omega) (by omega)

set_option maxHeartbeats 4000000 in
theorem ct_J3_removeFirst (G : fmG) (hl : (fmLn G).stackTraces = false) (h : fmHp) (q e hd n : Nat) (f : Nat → Nat) (hA : AD h q e hd n f) (hn : 0 < n) : Ct G yJ3_removeFirst (ws_ yJ3_removeFirst cJ3_removeFirst 2 (some (.object "java/lang/Object"))) { frames := 2, cells := 0, slots := 0, locals := 44 } [.ref q] h (fun v0 h' => v0 = some (.ref (f 0)) ∧ AD h' q e (dInc hd 17) (n - 1) (fun i => f (i + 1)) ∧ (∀ z x, h z = some x → z ≠ q → z ≠ e → h' z = some x)) fmNo := by
  refine Ct.of hl (by decide +kernel) (Nat.le_of_ble_eq_true rfl) (fun Γ E P => ?_)
  have hqe := hA.ne
  have hA2 := hA
  obtain ⟨g, hq1, he1, hd17, hn8, hg, hg2⟩ := hA
  have hp := dPos_lt hd17 (show n < 17 by omega)
  refine r_aload_n E dJ3_removeFirst_0 rfl ?_
  refine r_callV E (ct_J3_pollFirst G hl h q e hd n f hA2 hn) mJ3_pollFirst q1857 q1858 q1859 (fun H a1 => fm_rc (ci := 14) (C := RJ3) (T := TJ3) (N := 3) a1 rfl E.v hq1) rfl rfl (Nat.le_of_ble_eq_true rfl) (Nat.le_of_ble_eq_true rfl) (Nat.le_of_ble_eq_true rfl) dJ3_removeFirst_1 0 0 (Nat.le_of_ble_eq_true rfl) (Nat.le_of_ble_eq_true rfl) (fun v' h' qq => ?_) (fun _ _ _ q => q.elim)
  obtain ⟨rfl, r1, r2⟩ := qq
  refine r_astore_n E [some (.ref q), some (.ref (f 0))] dJ3_removeFirst_4 rfl rfl ?_
  refine r_aload_n E dJ3_removeFirst_5 rfl ?_
  refine r_ifnonnull (tgt := 17) E dJ3_removeFirst_6 (by decide) ?_
  refine r_aload_n E dJ3_removeFirst_17 rfl ?_
  exact r_areturn E P rfl (Or.inl ⟨_, rfl⟩) dJ3_removeFirst_18 ⟨rfl, r1, r2⟩

set_option maxHeartbeats 4000000 in
theorem ct_J3_pop (G : fmG) (hl : (fmLn G).stackTraces = false) (h : fmHp) (q e hd n : Nat) (f : Nat → Nat) (hA : AD h q e hd n f) (hn : 0 < n) : Ct G yJ3_pop (ws_ yJ3_pop cJ3_pop 1 (some (.object "java/lang/Object"))) { frames := 3, cells := 0, slots := 0, locals := 65 } [.ref q] h (fun v0 h' => v0 = some (.ref (f 0)) ∧ AD h' q e (dInc hd 17) (n - 1) (fun i => f (i + 1)) ∧ (∀ z x, h z = some x → z ≠ q → z ≠ e → h' z = some x)) fmNo := by
  refine Ct.of hl (by decide +kernel) (Nat.le_of_ble_eq_true rfl) (fun Γ E P => ?_)
  have hqe := hA.ne
  have hA2 := hA
  obtain ⟨g, hq1, he1, hd17, hn8, hg, hg2⟩ := hA
  have hp := dPos_lt hd17 (show n < 17 by omega)
  refine r_aload_n E dJ3_pop_0 rfl ?_
  refine r_callV E (ct_J3_removeFirst G hl h q e hd n f hA2 hn) mJ3_removeFirst q1853 q1854 q1855 (fun H a1 => fm_rc (ci := 14) (C := RJ3) (T := TJ3) (N := 3) a1 rfl E.v hq1) rfl rfl (Nat.le_of_ble_eq_true rfl) (Nat.le_of_ble_eq_true rfl) (Nat.le_of_ble_eq_true rfl) dJ3_pop_1 0 0 (Nat.le_of_ble_eq_true rfl) (Nat.le_of_ble_eq_true rfl) (fun v' h' qq => ?_) (fun _ _ _ q => q.elim)
  obtain ⟨rfl, r1, r2⟩ := qq
  exact r_areturn E P rfl (Or.inl ⟨_, rfl⟩) dJ3_pop_4 ⟨rfl, r1, r2⟩

