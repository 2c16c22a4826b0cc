set_option maxHeartbeats 4000000 in
theorem ctA_J2_size (G : fmG) (hl : (fmLn G).stackTraces = false) (h : fmHp) (l e n : Nat) (f : Nat → Nat) (hA : AL G h l e n f) (hn : n ≤ 100)  : Ct G yJ2_size (ws_ yJ2_size cJ2_size 1 (some .int)) { frames := 0, cells := 0, slots := 0, locals := 0 } [.ref l] h (fmRet (some (.int (nI n))) h) fmNo := by
  refine Ct.of hl (by decide +kernel) (Nat.le_of_ble_eq_true rfl) (fun Γ E P => ?_)
  have hA2 := hA
  obtain ⟨mc, cap, fe, g, hl1, he1, hnc, hcap, h0, hfe, hg, hg2⟩ := hA
  have hle : l ≠ e := hA2.ne
  refine r_aload_n E dJ2_size_0 rfl ?_
  refine r_getf E cl_J2 2 (by decide) q155 hl1 rfl dJ2_size_1 ?_
  exact r_ireturn E P rfl dJ2_size_4 ⟨rfl, rfl⟩

set_option maxHeartbeats 4000000 in
theorem ctA_J2_get (G : fmG) (hl : (fmLn G).stackTraces = false) (h : fmHp) (l e n : Nat) (f : Nat → Nat) (hA : AL G h l e n f) (hn : n ≤ 100) (i : Nat) (hi : i < n) : Ct G yJ2_get (ws_ yJ2_get cJ2_get 2 (some (.object "java/lang/Object"))) { frames := 2, cells := 0, slots := 0, locals := 43 } [.ref l, .int (nI i)] h (fmRet (some (.ref (f i))) h) fmNo := by
  refine Ct.of hl (by decide +kernel) (Nat.le_of_ble_eq_true rfl) (fun Γ E P => ?_)
  have hA2 := hA
  obtain ⟨mc, cap, fe, g, hl1, he1, hnc, hcap, h0, hfe, hg, hg2⟩ := hA
  have hle : l ≠ e := hA2.ne
  refine r_iload_n E dJ2_get_0 rfl ?_
  refine r_aload_n E dJ2_get_1 rfl ?_
  refine r_getf E cl_J2 2 (by decide) q155 hl1 rfl dJ2_get_2 ?_
  refine r_callS1 (v1 := .int (nI i)) E (ct_J21_checkIndex G hl (h) i n (by omega) (by omega)) mJ21_checkIndex q109 q837 q838 rfl rfl (Nat.le_of_ble_eq_true rfl) (Nat.le_of_ble_eq_true rfl) (Nat.le_of_ble_eq_true rfl) dJ2_get_5 0 0 (Nat.le_of_ble_eq_true rfl) (Nat.le_of_ble_eq_true rfl) ?_
  refine r_pop E dJ2_get_8 rfl ?_
  refine r_aload_n E dJ2_get_9 rfl ?_
  refine r_iload_n E dJ2_get_10 rfl ?_
  refine r_callV1 (v1 := .ref (f i)) E (ct_J2_elementData G hl (h) l e n true mc hl1 cap fe g he1 (by omega) i (f i) (by omega) (hg i hi)) mJ2_elementData q843 q844 q845 (fun H a1 => fm_rc (ci := 12) (C := RJ2) (T := TJ2) (N := 3) a1 rfl E.v hl1) rfl rfl (Nat.le_of_ble_eq_true rfl) (Nat.le_of_ble_eq_true rfl) (Nat.le_of_ble_eq_true rfl) dJ2_get_11 0 0 (Nat.le_of_ble_eq_true rfl) (Nat.le_of_ble_eq_true rfl) ?_
  exact r_areturn E P rfl (Or.inl ⟨_, rfl⟩) dJ2_get_14 ⟨rfl, rfl⟩

set_option maxHeartbeats 4000000 in
theorem ct_J2_set (G : fmG) (hl : (fmLn G).stackTraces = false) (h : fmHp) (l e n : Nat) (f : Nat → Nat) (hA : AL G h l e n f) (hn : n ≤ 100) (i v : Nat) (hi : i < n) (hv : isO h v) : Ct G yJ2_set (ws_ yJ2_set cJ2_set 4 (some (.object "java/lang/Object"))) { frames := 2, cells := 0, slots := 0, locals := 43 } [.ref l, .int (nI i), .ref v] h (fun v0 h' => v0 = some (.ref (f i)) ∧ AL G h' l e n (updN f i v) ∧ (∀ q x, h q = some x → q ≠ e → h' q = some x)) fmNo := by
  refine Ct.of hl (by decide +kernel) (Nat.le_of_ble_eq_true rfl) (fun Γ E P => ?_)
  have hA2 := hA
  obtain ⟨mc, cap, fe, g, hl1, he1, hnc, hcap, h0, hfe, hg, hg2⟩ := hA
  have hle : l ≠ e := hA2.ne
  obtain ⟨vci, vC, vT, vN, vb, vfs, vk1, vk2, vk3⟩ := hv
  refine r_iload_n E dJ2_set_0 rfl ?_
  refine r_aload_n E dJ2_set_1 rfl ?_
  refine r_getf E cl_J2 2 (by decide) q155 hl1 rfl dJ2_set_2 ?_
  refine r_callS1 (v1 := .int (nI i)) E (ct_J21_checkIndex G hl (h) i n (by omega) (by omega)) mJ21_checkIndex q109 q837 q838 rfl rfl (Nat.le_of_ble_eq_true rfl) (Nat.le_of_ble_eq_true rfl) (Nat.le_of_ble_eq_true rfl) dJ2_set_5 0 0 (Nat.le_of_ble_eq_true rfl) (Nat.le_of_ble_eq_true rfl) ?_
  refine r_pop E dJ2_set_8 rfl ?_
  refine r_aload_n E dJ2_set_9 rfl ?_
  refine r_iload_n E dJ2_set_10 rfl ?_
  refine r_callV1 (v1 := .ref (f i)) E (ct_J2_elementData G hl (h) l e n true mc hl1 cap fe g he1 (by omega) i (f i) (by omega) (hg i hi)) mJ2_elementData q843 q844 q845 (fun H a1 => fm_rc (ci := 12) (C := RJ2) (T := TJ2) (N := 3) a1 rfl E.v hl1) rfl rfl (Nat.le_of_ble_eq_true rfl) (Nat.le_of_ble_eq_true rfl) (Nat.le_of_ble_eq_true rfl) dJ2_set_11 0 0 (Nat.le_of_ble_eq_true rfl) (Nat.le_of_ble_eq_true rfl) ?_
  refine r_astore_n E [some (.ref l), some (.int (nI i)), some (.ref v), some (.ref (f i))] dJ2_set_14 rfl rfl ?_
  refine r_aload_n E dJ2_set_15 rfl ?_
  refine r_getf E cl_J2 1 (by decide) q152 hl1 rfl dJ2_set_16 ?_
  refine r_iload_n E dJ2_set_19 rfl ?_
  refine r_aload_n E dJ2_set_20 rfl ?_
  have hft := hfe (by omega)
  subst hft
  refine r_aast E (t := 6) (Ev := "java/lang/Object") rfl (fun H a1 => fm_rc a1 vk1 E.v vk2) vk3 he1 (by omega) (by omega) dJ2_set_21 ?_
  refine r_hp (h' := fmUp h e (true, .inl (6, cap, .inr (.inr (.inr (.inr (va_up g i (some v)))))))) (rfl) ?_
  refine r_aload_n E dJ2_set_22 rfl ?_
  refine r_areturn E P rfl (Or.inl ⟨_, rfl⟩) dJ2_set_23 ⟨rfl, ⟨mc, cap, true, va_up g i (some v), (fmUp_n hle).trans hl1, fmUp_s, hnc, hcap, h0, hfe, fun k hk => ?_, fun k h1 h2 => (va_up_ne _ _ (by omega)).trans (hg2 k h1 h2)⟩, fun q x h1 h2 => (fmUp_n h2).trans h1⟩
  unfold va_up updN
  split
  · rfl
  · exact hg k hk

set_option maxHeartbeats 4000000 in
theorem ct_J2_add (G : fmG) (hl : (fmLn G).stackTraces = false) (h : fmHp) (l e n : Nat) (f : Nat → Nat) (hA : AL G h l e n f) (hn : n ≤ 100) (hn1 : n < 100) (el : ∀ i, i < n → isO h (f i)) (v : Nat) (hv : isO h v) : Ct G yJ2_add (ws_ yJ2_add cJ2_add 2 (some .boolean)) { frames := 6, cells := 1, slots := 200, locals := 170 } [.ref l, .ref v] h (fun v0 h' => v0 = some (.int (bI true)) ∧ ∃ e', AL G h' l e' (n + 1) (updN f n v) ∧ ((e' = e ∧ ∃ x, h e = some (true, x)) ∨ h e' = none ∧ (fmK0 G).size ≤ e') ∧ (∀ q x, h q = some x → q ≠ l → (q ≠ e ∨ x.1 = false) → h' q = some x)) fmNo := by
  refine Ct.of hl (by decide +kernel) (Nat.le_of_ble_eq_true rfl) (fun Γ E P => ?_)
  have hA2 := hA
  obtain ⟨mc, cap, fe, g, hl1, he1, hnc, hcap, h0, hfe, hg, hg2⟩ := hA
  have hle : l ≠ e := hA2.ne
  refine r_aload_n E dJ2_add_0 rfl ?_
  refine r_dup E dJ2_add_1 rfl ?_
  refine r_getfG E cl_J2 0 (by decide) q159 (fun x9 h9 => u_same (E.ts _ q158) x9 h9) hl1 rfl dJ2_add_2 ?_
  refine r_iconst E (nI 1) dJ2_add_5 (by decide) ?_
  refine r_iadd E dJ2_add_6 ?_
  refine r_putf E cl_J2 0 (by decide) rfl q159 (fun x9 h9 => u_same (E.ts _ q158) x9 h9) hl1 (Nat.le_of_ble_eq_true rfl) rfl rfl dJ2_add_7 ?_
  refine r_hp (h' := fmUp h l (true, .inr (.inl (12, [.int (mc + (nI 1)), .ref e, .int (nI n)])))) (rfl) ?_
  refine r_aload_n E dJ2_add_10 rfl ?_
  refine r_aload_n E dJ2_add_11 rfl ?_
  refine r_aload_n E dJ2_add_12 rfl ?_
  refine r_getf E cl_J2 1 (by decide) q152 fmUp_s rfl dJ2_add_13 ?_
  refine r_aload_n E dJ2_add_16 rfl ?_
  refine r_getf E cl_J2 2 (by decide) q155 fmUp_s rfl dJ2_add_17 ?_
  refine r_callV E (ct_J2_add_2 G hl (fmUp h l (true, .inr (.inl (12, [.int (mc + (nI 1)), .ref e, .int (nI n)])))) l e n cap (mc + nI 1) fmUp_s fe g ((fmUp_n (Ne.symm hle)).trans he1) hnc hn hcap h0 hfe hg2 (fun i hi y hy => by rw [hg i hi] at hy; cases hy; exact (el i hi).obj hl1) v (hv.obj hl1)) mJ2_add_2 q501 q503 qs3 (fun H a1 => fm_rc (ci := 12) (C := RJ2) (T := TJ2) (N := 3) a1 rfl E.v fmUp_s) rfl rfl (Nat.le_of_ble_eq_true rfl) (Nat.le_of_ble_eq_true rfl) (Nat.le_of_ble_eq_true rfl) dJ2_add_20 0 0 (Nat.le_of_ble_eq_true rfl) (Nat.le_of_ble_eq_true rfl) (fun v' h' q => ?_) (fun _ _ _ q => q.elim)
  obtain ⟨e2, cap2, g2, rfl, r1, r2, r3, r4, r5, r6, r7, r8, r9⟩ := q
  refine r_iconst E (nI 1) dJ2_add_23 (by decide) ?_
  refine r_top (v' := .int (bI true)) rfl ?_
  refine r_zreturn E P rfl dJ2_add_24 ⟨rfl, e2, ⟨_, cap2, true, g2, r7, r8, by omega, r3, fun z => by omega, fun _ => rfl, fun k hk => ?_, fun k h1 h2 => r6 k (by omega) h2⟩, ?_, fun q x h1 h2 h3 => r9 q x ((fmUp_n h2).trans h1) h2 h3⟩
  · by_cases hkn : k = n
    · subst hkn; rw [updN_s]; exact r5
    · rw [updN_n hkn, r4 k (by omega)]; exact hg k (by omega)
  · rcases r1 with ⟨r1, r10⟩ | ⟨r1, r10⟩
    · exact Or.inl ⟨r1, by have := hfe r10; subst this; exact ⟨_, he1⟩⟩
    · refine Or.inr ⟨?_, r10⟩
      by_cases hq : e2 = l
      · rw [hq, fmUp_s] at r1; cases r1
      · rwa [fmUp_n hq] at r1

set_option maxHeartbeats 4000000 in
theorem ct_J2_fastRemove (G : fmG) (hl : (fmLn G).stackTraces = false) (h : fmHp) (l e n : Nat) (f : Nat → Nat) (hA : AL G h l e n f) (hn : n ≤ 100) (i : Nat) (hi : i < n) (el : ∀ i, i < n → isO h (f i)) : Ct G yJ2_fastRemove (ws_ yJ2_fastRemove cJ2_fastRemove 4 none) { frames := 1, cells := 0, slots := 0, locals := 60 } [.ref l, .ref e, .int (nI i)] h (fun v0 h' => v0 = none ∧ AL G h' l e (n - 1) (fDel f i) ∧ (∀ q x, h q = some x → q ≠ l → q ≠ e → h' q = some x)) fmNo := by
  refine Ct.of hl (by decide +kernel) (Nat.le_of_ble_eq_true rfl) (fun Γ E P => ?_)
  have hA2 := hA
  obtain ⟨mc, cap, fe, g, hl1, he1, hnc, hcap, h0, hfe, hg, hg2⟩ := hA
  have hle : l ≠ e := hA2.ne
  have hft := hfe (by omega)
  subst hft
  refine r_aload_n E dJ2_fastRemove_0 rfl ?_
  refine r_dup E dJ2_fastRemove_1 rfl ?_
  refine r_getfG E cl_J2 0 (by decide) q159 (fun x9 h9 => u_same (E.ts _ q158) x9 h9) hl1 rfl dJ2_fastRemove_2 ?_
  refine r_iconst E (nI 1) dJ2_fastRemove_5 (by decide) ?_
  refine r_iadd E dJ2_fastRemove_6 ?_
  refine r_putf E cl_J2 0 (by decide) rfl q159 (fun x9 h9 => u_same (E.ts _ q158) x9 h9) hl1 (Nat.le_of_ble_eq_true rfl) rfl rfl dJ2_fastRemove_7 ?_
  refine r_hp (h' := fmUp h l (true, .inr (.inl (12, [.int (mc + (nI 1)), .ref e, .int (nI n)])))) (rfl) ?_
  refine r_aload_n E dJ2_fastRemove_10 rfl ?_
  refine r_getf E cl_J2 2 (by decide) q155 fmUp_s rfl dJ2_fastRemove_11 ?_
  refine r_iconst E (nI 1) dJ2_fastRemove_14 (by decide) ?_
  refine r_isubN E dJ2_fastRemove_15 (by omega) ?_
  refine r_dup E dJ2_fastRemove_16 rfl ?_
  refine r_istore_n E [some (.ref l), some (.ref e), some (.int (nI i)), some (.int (nI (n - 1)))] dJ2_fastRemove_17 rfl rfl ?_
  refine r_iload_n E dJ2_fastRemove_18 rfl ?_
  refine r_icmpN_le (tgt := 34) E dJ2_fastRemove_19 (by decide) (by omega) (by omega) (fun c1 => ?_) (fun c1 => ?_)
  · have hin : i = n - 1 := by omega
    refine r_aload_n E dJ2_fastRemove_34 rfl ?_
    refine r_aload_n E dJ2_fastRemove_35 rfl ?_
    refine r_iload_n E dJ2_fastRemove_36 rfl ?_
    refine r_dup_x1 E dJ2_fastRemove_37 rfl rfl ?_
    refine r_putf E cl_J2 2 (by decide) rfl q155 (fun _ z => z) fmUp_s (Nat.le_of_ble_eq_true rfl) rfl rfl dJ2_fastRemove_38 ?_
    refine r_hp (h' := fmUp (fmUp h l (true, .inr (.inl (12, [.int (mc + (nI 1)), .ref e, .int (nI n)])))) l (true, .inr (.inl (12, [.int (mc + (nI 1)), .ref e, .int (nI (n - 1))])))) (rfl) ?_
    refine r_null E dJ2_fastRemove_41 ?_
    refine r_aastN E (t := 6) (Ev := "java/lang/Object") rfl ((fmUp_n (Ne.symm hle)).trans ((fmUp_n (Ne.symm hle)).trans he1)) (by omega) (by omega) dJ2_fastRemove_42 ?_
    refine r_hp (h' := fmUp (fmUp (fmUp h l (true, .inr (.inl (12, [.int (mc + (nI 1)), .ref e, .int (nI n)])))) l (true, .inr (.inl (12, [.int (mc + (nI 1)), .ref e, .int (nI (n - 1))])))) e (true, .inl (6, cap, .inr (.inr (.inr (.inr (va_up g (n - 1) none))))))) (rfl) ?_
    refine r_return E P rfl dJ2_fastRemove_43 ⟨rfl, ⟨mc + nI 1, cap, true, va_up g (n - 1) none, ((fmUp_n hle).trans fmUp_s), fmUp_s, by omega, hcap, h0, fun _ => rfl, fun k hk => ?_, fun k h1 h2 => ?_⟩, fun q x h1 h2 h3 => ?_⟩
    · show _ = some (if k < i then f k else f (k + 1)); rw [va_up_ne _ _ (by omega), if_pos (by omega)]; exact hg k (by omega)
    · by_cases hkn : k = n - 1
      · rw [hkn, va_up_self]
      · rw [va_up_ne _ _ hkn]; exact hg2 k (by omega) h2
    · rw [fmUp_n h3, fmUp_n h2, fmUp_n h2]; exact h1
  · refine r_aload_n E dJ2_fastRemove_22 rfl ?_
    refine r_iload_n E dJ2_fastRemove_23 rfl ?_
    refine r_iconst E (nI 1) dJ2_fastRemove_24 (by decide) ?_
    refine r_iaddN E dJ2_fastRemove_25 ?_
    refine r_aload_n E dJ2_fastRemove_26 rfl ?_
    refine r_iload_n E dJ2_fastRemove_27 rfl ?_
    refine r_iload_n E dJ2_fastRemove_28 rfl ?_
    refine r_iload_n E dJ2_fastRemove_29 rfl ?_
    refine r_isubN E dJ2_fastRemove_30 (by omega) ?_
    refine r_copyQ E (E0 := "java/lang/Object") (E1 := "java/lang/Object") (sp := i + 1) (dp := i) (n := n - 1 - i) (t0 := 6) (t1 := 6) rfl rfl ((fmUp_n (Ne.symm hle)).trans he1) ((fmUp_n (Ne.symm hle)).trans he1) (by omega) (by omega) (by omega) (by omega) (fun H a1 j hj y hy => ?_) q877 q366 q367 q97 (Nat.le_of_ble_eq_true rfl) (Nat.le_of_ble_eq_true rfl) dJ2_fastRemove_31 ?_
    · rw [hg _ (by omega)] at hy
      cases hy
      obtain ⟨ci, C, T, N, b, fs, k1, k2, k3⟩ := (el (i + 1 + j) (by omega)).obj (b := true) (ci := 12) (fs := [.int (mc + nI 1), .ref e, .int (nI n)]) hl1
      obtain ⟨cell, g1, g2, g3⟩ := fm_rc a1 k1 E.v k2
      exact ⟨C, cell, k3, g1, g2, g3⟩
    refine r_hp (h' := fmUp (fmUp h l (true, .inr (.inl (12, [.int (mc + (nI 1)), .ref e, .int (nI n)])))) e (true, .inl (6, cap, .inr (.inr (.inr (.inr (va_cpy g g (i + 1) i (n - 1 - i)))))))) (rfl) ?_
    refine r_aload_n E dJ2_fastRemove_34 rfl ?_
    refine r_aload_n E dJ2_fastRemove_35 rfl ?_
    refine r_iload_n E dJ2_fastRemove_36 rfl ?_
    refine r_dup_x1 E dJ2_fastRemove_37 rfl rfl ?_
    refine r_putf E cl_J2 2 (by decide) rfl q155 (fun _ z => z) ((fmUp_n hle).trans fmUp_s) (Nat.le_of_ble_eq_true rfl) rfl rfl dJ2_fastRemove_38 ?_
    refine r_hp (h' := fmUp (fmUp (fmUp h l (true, .inr (.inl (12, [.int (mc + (nI 1)), .ref e, .int (nI n)])))) e (true, .inl (6, cap, .inr (.inr (.inr (.inr (va_cpy g g (i + 1) i (n - 1 - i)))))))) l (true, .inr (.inl (12, [.int (mc + (nI 1)), .ref e, .int (nI (n - 1))])))) (rfl) ?_
    refine r_null E dJ2_fastRemove_41 ?_
    refine r_aastN E (t := 6) (Ev := "java/lang/Object") rfl ((fmUp_n (Ne.symm hle)).trans fmUp_s) (by omega) (by omega) dJ2_fastRemove_42 ?_
    refine r_hp (h' := fmUp (fmUp (fmUp (fmUp h l (true, .inr (.inl (12, [.int (mc + (nI 1)), .ref e, .int (nI n)])))) e (true, .inl (6, cap, .inr (.inr (.inr (.inr (va_cpy g g (i + 1) i (n - 1 - i)))))))) l (true, .inr (.inl (12, [.int (mc + (nI 1)), .ref e, .int (nI (n - 1))])))) e (true, .inl (6, cap, .inr (.inr (.inr (.inr (va_up (va_cpy g g (i + 1) i (n - 1 - i)) (n - 1) none))))))) (rfl) ?_
    refine r_return E P rfl dJ2_fastRemove_43 ⟨rfl, ⟨mc + nI 1, cap, true, va_up (va_cpy g g (i + 1) i (n - 1 - i)) (n - 1) none, ((fmUp_n hle).trans fmUp_s), fmUp_s, by omega, hcap, h0, fun _ => rfl, fun k hk => ?_, fun k h1 h2 => ?_⟩, fun q x h1 h2 h3 => ?_⟩
    · show _ = some (if k < i then f k else f (k + 1)); rw [va_up_ne _ _ (by omega)]
      unfold va_cpy
      by_cases hki : k < i
      · rw [if_neg (by omega), if_pos hki]; exact hg k (by omega)
      · rw [if_pos (by omega), if_neg hki, show i + 1 + (k - i) = k + 1 by omega]; exact hg (k + 1) (by omega)
    · by_cases hkn : k = n - 1
      · rw [hkn, va_up_self]
      · rw [va_up_ne _ _ hkn]; unfold va_cpy; rw [if_neg (by omega)]; exact hg2 k (by omega) h2
    · rw [fmUp_n h3, fmUp_n h2, fmUp_n h3, fmUp_n h2]; exact h1

set_option maxHeartbeats 4000000 in
theorem ct_J2_remove (G : fmG) (hl : (fmLn G).stackTraces = false) (h : fmHp) (l e n : Nat) (f : Nat → Nat) (hA : AL G h l e n f) (hn : n ≤ 100) (i : Nat) (hi : i < n) (el : ∀ i, i < n → isO h (f i)) : Ct G yJ2_remove (ws_ yJ2_remove cJ2_remove 4 (some (.object "java/lang/Object"))) { frames := 2, cells := 0, slots := 0, locals := 83 } [.ref l, .int (nI i)] h (fun v0 h' => v0 = some (.ref (f i)) ∧ AL G h' l e (n - 1) (fDel f i) ∧ (∀ q x, h q = some x → q ≠ l → q ≠ e → h' q = some x)) fmNo := by
  refine Ct.of hl (by decide +kernel) (Nat.le_of_ble_eq_true rfl) (fun Γ E P => ?_)
  have hA2 := hA
  obtain ⟨mc, cap, fe, g, hl1, he1, hnc, hcap, h0, hfe, hg, hg2⟩ := hA
  have hle : l ≠ e := hA2.ne
  refine r_iload_n E dJ2_remove_0 rfl ?_
  refine r_aload_n E dJ2_remove_1 rfl ?_
  refine r_getf E cl_J2 2 (by decide) q155 hl1 rfl dJ2_remove_2 ?_
  refine r_callS1 (v1 := .int (nI i)) E (ct_J21_checkIndex G hl (h) i n (by omega) (by omega)) mJ21_checkIndex q109 q837 q838 rfl rfl (Nat.le_of_ble_eq_true rfl) (Nat.le_of_ble_eq_true rfl) (Nat.le_of_ble_eq_true rfl) dJ2_remove_5 0 0 (Nat.le_of_ble_eq_true rfl) (Nat.le_of_ble_eq_true rfl) ?_
  refine r_pop E dJ2_remove_8 rfl ?_
  refine r_aload_n E dJ2_remove_9 rfl ?_
  refine r_getf E cl_J2 1 (by decide) q152 hl1 rfl dJ2_remove_10 ?_
  refine r_astore_n E [some (.ref l), some (.int (nI i)), some (.ref e), none] dJ2_remove_13 rfl rfl ?_
  refine r_aload_n E dJ2_remove_14 rfl ?_
  refine r_iload_n E dJ2_remove_15 rfl ?_
  refine r_aald E he1 rfl rfl (by omega) (by omega) dJ2_remove_16 ?_
  refine r_top (v' := .ref (f i)) (by rw [hg i hi]; rfl) ?_
  refine r_astore_n E [some (.ref l), some (.int (nI i)), some (.ref e), some (.ref (f i))] dJ2_remove_17 rfl rfl ?_
  refine r_aload_n E dJ2_remove_18 rfl ?_
  refine r_aload_n E dJ2_remove_19 rfl ?_
  refine r_iload_n E dJ2_remove_20 rfl ?_
  refine r_callV E (ct_J2_fastRemove G hl h l e n f hA2 hn i hi el) mJ2_fastRemove q873 q875 qs11 (fun H a1 => fm_rc (ci := 12) (C := RJ2) (T := TJ2) (N := 3) a1 rfl E.v hl1) rfl rfl (Nat.le_of_ble_eq_true rfl) (Nat.le_of_ble_eq_true rfl) (Nat.le_of_ble_eq_true rfl) dJ2_remove_21 0 0 (Nat.le_of_ble_eq_true rfl) (Nat.le_of_ble_eq_true rfl) (fun v' h' q => ?_) (fun _ _ _ q => q.elim)
  obtain ⟨rfl, r1, r2⟩ := q
  refine r_aload_n E dJ2_remove_24 rfl ?_
  exact r_areturn E P rfl (Or.inl ⟨_, rfl⟩) dJ2_remove_25 ⟨rfl, r1, r2⟩

set_option maxHeartbeats 4000000 in
theorem ct_J13_hasNext (G : fmG) (hl : (fmLn G).stackTraces = false) (h : fmHp) (l e n : Nat) (mc : Int32) (hl1 : h l = some (true, .inr (.inl (12, [.int mc, .ref e, .int (nI n)])))) (it c : Nat) (lr : Int32) (hit : h it = some (true, .inr (.inl (13, [.int (nI c), .int lr, .int mc, .ref l])))) (hc : c ≤ n) (hn : n < 2 ^ 31)  : Ct G yJ13_hasNext (ws_ yJ13_hasNext cJ13_hasNext 1 (some .boolean)) { frames := 0, cells := 0, slots := 0, locals := 0 } [.ref it] h (fmRet (some (.int (bI (decide (c < n))))) h) fmNo := by
  refine Ct.of hl (by decide +kernel) (Nat.le_of_ble_eq_true rfl) (fun Γ E P => ?_)
  refine r_aload_n E dJ13_hasNext_0 rfl ?_
  refine r_getf E cl_J13 0 (by decide) q384 hit rfl dJ13_hasNext_1 ?_
  refine r_aload_n E dJ13_hasNext_4 rfl ?_
  refine r_getf E cl_J13 3 (by decide) q387 hit rfl dJ13_hasNext_5 ?_
  refine r_getfN E cl_J2 2 (by decide) q154 hl1 rfl dJ13_hasNext_8 ?_
  refine r_icmpN_eq (tgt := 18) E dJ13_hasNext_11 (by decide) (by omega) (by omega) (fun c1 => ?_) (fun c1 => ?_)
  · refine r_iconst E (nI 0) dJ13_hasNext_18 (by decide) ?_
    refine r_top (v' := .int (bI (decide (c < n)))) (by rw [decide_eq_false (by omega)]; rfl) ?_
    exact r_zreturn E P rfl dJ13_hasNext_19 ⟨rfl, rfl⟩
  · refine r_iconst E (nI 1) dJ13_hasNext_14 (by decide) ?_
    refine r_goto (tgt := 19) E dJ13_hasNext_15 (by decide) ?_
    refine r_top (v' := .int (bI (decide (c < n)))) (by rw [decide_eq_true (by omega)]; rfl) ?_
    exact r_zreturn E P rfl dJ13_hasNext_19 ⟨rfl, rfl⟩

set_option maxHeartbeats 4000000 in
theorem ct_J13_checkForComodification (G : fmG) (hl : (fmLn G).stackTraces = false) (h : fmHp) (l e n : Nat) (mc : Int32) (hl1 : h l = some (true, .inr (.inl (12, [.int mc, .ref e, .int (nI n)])))) (it c : Nat) (lr : Int32) (hit : h it = some (true, .inr (.inl (13, [.int (nI c), .int lr, .int mc, .ref l])))) (hc : c ≤ n) (hn : n < 2 ^ 31)  : Ct G yJ13_checkForComodification (ws_ yJ13_checkForComodification cJ13_checkForComodification 1 none) { frames := 0, cells := 0, slots := 0, locals := 0 } [.ref it] h (fmRet none h) fmNo := by
  refine Ct.of hl (by decide +kernel) (Nat.le_of_ble_eq_true rfl) (fun Γ E P => ?_)
  refine r_aload_n E dJ13_checkForComodification_0 rfl ?_
  refine r_getf E cl_J13 3 (by decide) q387 hit rfl dJ13_checkForComodification_1 ?_
  refine r_getfG E cl_J2 0 (by decide) q157 (fun x9 h9 => u_same (E.ts _ q158) x9 h9) hl1 rfl dJ13_checkForComodification_4 ?_
  refine r_aload_n E dJ13_checkForComodification_7 rfl ?_
  refine r_getf E cl_J13 2 (by decide) q386 hit rfl dJ13_checkForComodification_8 ?_
  refine r_icmp_eq (tgt := 22) E dJ13_checkForComodification_11 (by decide) (fun _ => ?_) (fun q => absurd rfl q)
  exact r_return E P rfl dJ13_checkForComodification_22 ⟨rfl, rfl⟩

set_option maxHeartbeats 4000000 in
theorem ct_J13_next (G : fmG) (hl : (fmLn G).stackTraces = false) (h : fmHp) (l e n : Nat) (mc : Int32) (hl1 : h l = some (true, .inr (.inl (12, [.int mc, .ref e, .int (nI n)])))) (it c : Nat) (lr : Int32) (hit : h it = some (true, .inr (.inl (13, [.int (nI c), .int lr, .int mc, .ref l])))) (hc : c ≤ n) (hn : n < 2 ^ 31) (cap : Nat) (fe : Bool) (g : Nat → Option Nat) (he1 : h e = some (fe, .inl (6, cap, .inr (.inr (.inr (.inr g)))))) (hcn : c < n) (hnc : n ≤ cap) (hcap : cap ≤ 200) (v : Nat) (hv : g c = some v) : Ct G yJ13_next (ws_ yJ13_next cJ13_next 3 (some (.object "java/lang/Object"))) { frames := 1, cells := 0, slots := 0, locals := 20 } [.ref it] h (fmRet (some (.ref v)) (fmUp h it (true, .inr (.inl (13, [.int (nI (c + 1)), .int (nI c), .int mc, .ref l]))))) fmNo := by
  refine Ct.of hl (by decide +kernel) (Nat.le_of_ble_eq_true rfl) (fun Γ E P => ?_)
  have hle : l ≠ e := fun q => by rw [q, he1] at hl1; cases hl1
  have hil : it ≠ l := fun q => by rw [q, hl1] at hit; cases hit
  have hie : it ≠ e := fun q => by rw [q, he1] at hit; cases hit
  refine r_aload_n E dJ13_next_0 rfl ?_
  refine r_callV0 E (ct_J13_checkForComodification G hl (h) l e n mc hl1 it c lr hit hc hn) mJ13_checkForComodification q416 q417 q418 (fun H a1 => fm_rc (ci := 13) (C := RJ13) (T := TJ13) (N := 4) a1 rfl E.v hit) rfl rfl (Nat.le_of_ble_eq_true rfl) (Nat.le_of_ble_eq_true rfl) (Nat.le_of_ble_eq_true rfl) dJ13_next_1 0 0 (Nat.le_of_ble_eq_true rfl) (Nat.le_of_ble_eq_true rfl) ?_
  refine r_aload_n E dJ13_next_4 rfl ?_
  refine r_getf E cl_J13 0 (by decide) q384 hit rfl dJ13_next_5 ?_
  refine r_istore_n E [some (.ref it), some (.int (nI c)), none] dJ13_next_8 rfl rfl ?_
  refine r_iload_n E dJ13_next_9 rfl ?_
  refine r_aload_n E dJ13_next_10 rfl ?_
  refine r_getf E cl_J13 3 (by decide) q387 hit rfl dJ13_next_11 ?_
  refine r_getfN E cl_J2 2 (by decide) q154 hl1 rfl dJ13_next_14 ?_
  refine r_icmpN_lt (tgt := 28) E dJ13_next_17 (by decide) (by omega) (by omega) (fun _ => ?_) (fun c => absurd c (by omega))
  refine r_aload_n E dJ13_next_28 rfl ?_
  refine r_getf E cl_J13 3 (by decide) q387 hit rfl dJ13_next_29 ?_
  refine r_getf E cl_J2 1 (by decide) q153 hl1 rfl dJ13_next_32 ?_
  refine r_astore_n E [some (.ref it), some (.int (nI c)), some (.ref e)] dJ13_next_35 rfl rfl ?_
  refine r_iload_n E dJ13_next_36 rfl ?_
  refine r_aload_n E dJ13_next_37 rfl ?_
  refine r_alen E he1 rfl dJ13_next_38 ?_
  refine r_icmpN_lt (tgt := 50) E dJ13_next_39 (by decide) (by omega) (by omega) (fun _ => ?_) (fun c => absurd c (by omega))
  refine r_aload_n E dJ13_next_50 rfl ?_
  refine r_iload_n E dJ13_next_51 rfl ?_
  refine r_iconst E (nI 1) dJ13_next_52 (by decide) ?_
  refine r_iaddN E dJ13_next_53 ?_
  refine r_putf E cl_J13 0 (by decide) rfl q384 (fun _ z => z) hit (Nat.le_of_ble_eq_true rfl) rfl rfl dJ13_next_54 ?_
  refine r_hp (h' := fmUp h it (true, .inr (.inl (13, [.int (nI (c + 1)), .int lr, .int mc, .ref l])))) (rfl) ?_
  refine r_aload_n E dJ13_next_57 rfl ?_
  refine r_aload_n E dJ13_next_58 rfl ?_
  refine r_iload_n E dJ13_next_59 rfl ?_
  refine r_dup_x1 E dJ13_next_60 rfl rfl ?_
  refine r_putf E cl_J13 1 (by decide) rfl q385 (fun _ z => z) fmUp_s (Nat.le_of_ble_eq_true rfl) rfl rfl dJ13_next_61 ?_
  refine r_hp (h' := fmUp (fmUp h it (true, .inr (.inl (13, [.int (nI (c + 1)), .int lr, .int mc, .ref l])))) it (true, .inr (.inl (13, [.int (nI (c + 1)), .int (nI c), .int mc, .ref l])))) (rfl) ?_
  refine r_aald E ((fmUp_n (Ne.symm hie)).trans ((fmUp_n (Ne.symm hie)).trans he1)) rfl rfl (by omega) (by omega) dJ13_next_64 ?_
  refine r_top (v' := .ref v) (by rw [hv]; rfl) ?_
  exact r_areturn E P rfl (Or.inl ⟨_, rfl⟩) dJ13_next_65 ⟨rfl, fmUp_uu _ _ _ _⟩

