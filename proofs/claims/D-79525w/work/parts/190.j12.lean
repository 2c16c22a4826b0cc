set_option maxHeartbeats 4000000 in
theorem ct_J4_charAt (G : fmG) (hl : (fmLn G).stackTraces = false) (h : fmHp) (sb v len : Nat) (T : Nat → Int32) (hS : SBt h sb v len T) (hC : CC G h) (i k : Nat) (hi : i < len) (hlen : len ≤ 61) (hk : k < 65536) (hT : T i = nI k) : Ct G yJ4_charAt (ws_ yJ4_charAt cJ4_charAt 5 (some .char)) { frames := 2, cells := 0, slots := 0, locals := 43 } [.ref sb, .int (nI i)] h (fmRet (some (.int (nI k))) h) fmNo := by
  refine Ct.of hl (by decide +kernel) (Nat.le_of_ble_eq_true rfl) (fun Γ E P => ?_)
  obtain ⟨u, ml, cap, bf, hsb, hv, hfit, hL, hU⟩ := id hS
  cases u with
  | false =>
    obtain ⟨hu1, hu2, hu3⟩ := hL rfl
    refine r_aload_n E dJ4_charAt_0 rfl ?_
    refine r_getf E cl_J5 1 (by decide) q256 hsb rfl dJ4_charAt_1 ?_
    refine r_istore_n E [some (.ref sb), some (.int (nI i)), some (.int (bI false)), none, none] dJ4_charAt_4 rfl rfl ?_
    refine r_aload_n E dJ4_charAt_5 rfl ?_
    refine r_getf E cl_J5 0 (by decide) q255 hsb rfl dJ4_charAt_6 ?_
    refine r_astore_n E [some (.ref sb), some (.int (nI i)), some (.int (bI false)), some (.ref v), none] dJ4_charAt_9 rfl rfl ?_
    refine r_aload_n E dJ4_charAt_10 rfl ?_
    refine r_getf E cl_J5 3 (by decide) q259 hsb rfl dJ4_charAt_11 ?_
    refine r_aload_n E dJ4_charAt_14 rfl ?_
    refine r_alen E hv rfl dJ4_charAt_15 ?_
    refine r_iload_n E dJ4_charAt_16 rfl ?_
    refine r_ishr E dJ4_charAt_17 ?_
    refine r_top (v' := .int (nI cap)) (congrArg Value.int (sshr0 _)) ?_
    refine r_min E (by omega) (by omega) q1518 q569 q101 q570 (Nat.le_of_ble_eq_true rfl) (Nat.le_of_ble_eq_true rfl) dJ4_charAt_18 ?_
    refine r_istore E [some (.ref sb), some (.int (nI i)), some (.int (bI false)), some (.ref v), some (.int (nI (min len cap)))] dJ4_charAt_21 rfl rfl ?_
    refine r_iload_n E dJ4_charAt_23 rfl ?_
    refine r_iload E dJ4_charAt_24 rfl ?_
    refine r_callS0 E (ct_J6_checkIndex G hl (h) hC i (min len cap) (by omega) (by omega)) mJ6_checkIndex q87 q1519 q1467 rfl rfl (Nat.le_of_ble_eq_true rfl) (Nat.le_of_ble_eq_true rfl) (Nat.le_of_ble_eq_true rfl) dJ4_charAt_26 0 0 (Nat.le_of_ble_eq_true rfl) (Nat.le_of_ble_eq_true rfl) ?_
    refine r_iload_n E dJ4_charAt_29 rfl ?_
    refine r_ifB_ne (b := false) (tgt := 42) E dJ4_charAt_30 (by decide) (fun c => absurd c (by decide)) (fun _ => ?_)
    refine r_aload_n E dJ4_charAt_33 rfl ?_
    refine r_iload_n E dJ4_charAt_34 rfl ?_
    refine r_bald E hv (by omega) (by omega) dJ4_charAt_35 ?_
    refine r_sipush E (nI 255) dJ4_charAt_36 (by decide) ?_
    refine r_iand E dJ4_charAt_39 ?_
    refine r_top (v' := .int (nI k)) (congrArg Value.int ((hu3 i hi).trans hT)) ?_
    refine r_i2c E dJ4_charAt_40 ?_
    refine r_top (v' := .int (nI k)) (congrArg Value.int (i2c_of hk)) ?_
    exact r_greturn E P rfl (nar_c hk) dJ4_charAt_41 ⟨rfl, rfl⟩
  | true =>
    obtain ⟨hu1, hu2, hu3⟩ := hU rfl
    refine r_aload_n E dJ4_charAt_0 rfl ?_
    refine r_getf E cl_J5 1 (by decide) q256 hsb rfl dJ4_charAt_1 ?_
    refine r_istore_n E [some (.ref sb), some (.int (nI i)), some (.int (bI true)), none, none] dJ4_charAt_4 rfl rfl ?_
    refine r_aload_n E dJ4_charAt_5 rfl ?_
    refine r_getf E cl_J5 0 (by decide) q255 hsb rfl dJ4_charAt_6 ?_
    refine r_astore_n E [some (.ref sb), some (.int (nI i)), some (.int (bI true)), some (.ref v), none] dJ4_charAt_9 rfl rfl ?_
    refine r_aload_n E dJ4_charAt_10 rfl ?_
    refine r_getf E cl_J5 3 (by decide) q259 hsb rfl dJ4_charAt_11 ?_
    refine r_aload_n E dJ4_charAt_14 rfl ?_
    refine r_alen E hv rfl dJ4_charAt_15 ?_
    refine r_iload_n E dJ4_charAt_16 rfl ?_
    refine r_ishr E dJ4_charAt_17 ?_
    refine r_top (v' := .int (nI (cap / 2))) (congrArg Value.int (shr1 (by omega))) ?_
    refine r_min E (by omega) (by omega) q1518 q569 q101 q570 (Nat.le_of_ble_eq_true rfl) (Nat.le_of_ble_eq_true rfl) dJ4_charAt_18 ?_
    refine r_istore E [some (.ref sb), some (.int (nI i)), some (.int (bI true)), some (.ref v), some (.int (nI (min len (cap / 2))))] dJ4_charAt_21 rfl rfl ?_
    refine r_iload_n E dJ4_charAt_23 rfl ?_
    refine r_iload E dJ4_charAt_24 rfl ?_
    refine r_callS0 E (ct_J6_checkIndex G hl (h) hC i (min len (cap / 2)) (by omega) (by omega)) mJ6_checkIndex q87 q1519 q1467 rfl rfl (Nat.le_of_ble_eq_true rfl) (Nat.le_of_ble_eq_true rfl) (Nat.le_of_ble_eq_true rfl) dJ4_charAt_26 0 0 (Nat.le_of_ble_eq_true rfl) (Nat.le_of_ble_eq_true rfl) ?_
    refine r_iload_n E dJ4_charAt_29 rfl ?_
    refine r_ifB_ne (b := true) (tgt := 42) E dJ4_charAt_30 (by decide) (fun _ => ?_) (fun c => absurd c (by decide))
    refine r_aload_n E dJ4_charAt_42 rfl ?_
    refine r_iload_n E dJ4_charAt_43 rfl ?_
    have ⟨g1, g2⟩ := hu3 i hi
    rw [hT] at g1 g2
    refine r_callS1 (v1 := .int (nI k)) E (ct_J7_getChar G hl h v cap bf hv (by omega) i k (by omega) hk g1 g2) mJ7_getChar q88 q1520 q1521 rfl rfl (Nat.le_of_ble_eq_true rfl) (Nat.le_of_ble_eq_true rfl) (Nat.le_of_ble_eq_true rfl) dJ4_charAt_44 0 0 (Nat.le_of_ble_eq_true rfl) (Nat.le_of_ble_eq_true rfl) ?_
    exact r_greturn E P rfl (nar_c hk) dJ4_charAt_47 ⟨rfl, rfl⟩

set_option maxHeartbeats 4000000 in
theorem ct_J5_charAt (G : fmG) (hl : (fmLn G).stackTraces = false) (h : fmHp) (sb v len : Nat) (T : Nat → Int32) (hS : SBt h sb v len T) (hC : CC G h) (i k : Nat) (hi : i < len) (hlen : len ≤ 61) (hk : k < 65536) (hT : T i = nI k) : Ct G yJ5_charAt (ws_ yJ5_charAt cJ5_charAt 2 (some .char)) { frames := 3, cells := 0, slots := 0, locals := 67 } [.ref sb, .int (nI i)] h (fmRet (some (.int (nI k))) h) fmNo := by
  refine Ct.of hl (by decide +kernel) (Nat.le_of_ble_eq_true rfl) (fun Γ E P => ?_)
  obtain ⟨u, ml, cap, bf, hsb, hv, hfit, hL, hU⟩ := id hS
  refine r_aload_n E dJ5_charAt_0 rfl ?_
  refine r_iload_n E dJ5_charAt_1 rfl ?_
  refine r_callU E (ct_J4_charAt G hl h sb v len T hS hC i k hi hlen hk hT) mJ4_charAt (by decide +kernel) q1515 q1516 q2280 q268 (ci := 15) rfl hsb rfl rfl (Nat.le_of_ble_eq_true rfl) (Nat.le_of_ble_eq_true rfl) (Nat.le_of_ble_eq_true rfl) dJ5_charAt_2 0 0 (Nat.le_of_ble_eq_true rfl) (Nat.le_of_ble_eq_true rfl) (fun v' h' q => ?_) (fun _ _ _ q => q.elim)
  obtain ⟨rfl, hq9⟩ := q
  rw [hq9]
  exact r_greturn E P rfl (nar_c hk) dJ5_charAt_5 ⟨rfl, rfl⟩

set_option maxHeartbeats 4000000 in
theorem ct_J5_append (G : fmG) (hl : (fmLn G).stackTraces = false) (h : fmHp) (sb v len : Nat) (T : Nat → Int32) (hS : SBt h sb v len T) (hC : CC G h) (k : Nat) (hk : k < 65536) (hlen : len ≤ 60) : Ct G yJ5_append (ws_ yJ5_append cJ5_append 2 (some (.object "java/lang/StringBuilder"))) { frames := 7, cells := 2, slots := 1000, locals := 158 } [.ref sb, .int (nI k)] h (fun v0 h' => v0 = some (.ref sb) ∧ ∃ v', SBt h' sb v' (len + 1) (upd T len (nI k)) ∧ (∀ q x, h q = some x → q ≠ sb → q ≠ v → h' q = some x) ∧ (v' = v ∨ h v' = none)) fmNo := by
  refine Ct.of hl (by decide +kernel) (Nat.le_of_ble_eq_true rfl) (fun Γ E P => ?_)
  obtain ⟨u, ml, cap, bf, hsb, hv, hfit, hL, hU⟩ := id hS
  refine r_aload_n E dJ5_append_0 rfl ?_
  refine r_iload_n E dJ5_append_1 rfl ?_
  refine r_callU E (ct_J4_append G hl h sb v len T hS hC k hk hlen) mJ4_append (by decide +kernel) q1396 q1397 q2276 q268 (ci := 15) rfl hsb rfl rfl (Nat.le_of_ble_eq_true rfl) (Nat.le_of_ble_eq_true rfl) (Nat.le_of_ble_eq_true rfl) dJ5_append_2 0 0 (Nat.le_of_ble_eq_true rfl) (Nat.le_of_ble_eq_true rfl) (fun v' h1 q => ?_) (fun _ _ _ q => q.elim)
  obtain ⟨rfl, q⟩ := q
  refine r_pop E dJ5_append_5 rfl ?_
  refine r_aload_n E dJ5_append_6 rfl ?_
  exact r_areturn E P rfl (Or.inl ⟨_, rfl⟩) dJ5_append_7 ⟨rfl, q⟩

set_option maxHeartbeats 4000000 in
theorem ct_J4_setLength (G : fmG) (hl : (fmLn G).stackTraces = false) (h : fmHp) (sb v len : Nat) (T : Nat → Int32) (hS : SBt h sb v len T) (hC : CC G h)  : Ct G yJ4_setLength (ws_ yJ4_setLength cJ4_setLength 2 none) { frames := 4, cells := 1, slots := 500, locals := 124 } [.ref sb, .int (nI 0)] h (fun v0 h' => v0 = none ∧ ∃ v', SBt h' sb v' 0 T ∧ (∀ q x, h q = some x → q ≠ sb → h' q = some x) ∧ (v' = v ∨ h v' = none)) fmNo := by
  refine Ct.of hl (by decide +kernel) (Nat.le_of_ble_eq_true rfl) (fun Γ E P => ?_)
  obtain ⟨u, ml, cap, bf, hsb, hv, hfit, hL, hU⟩ := id hS
  have hcap : cap ≤ (if u = true then 500 else 250) := by cases u with
    | true => exact (hU rfl).2.1
    | false => exact (hL rfl).2.1
  have hlen : len ≤ 250 := by cases u with
    | true => have := hU rfl; omega
    | false => have := hL rfl; omega
  refine r_iload_n E dJ4_setLength_0 rfl ?_
  refine r_if_ge (tgt := 13) E dJ4_setLength_1 (by decide) (fun _ => ?_) (fun c => absurd c (by decide))
  refine r_aload_n E dJ4_setLength_13 rfl ?_
  refine r_iload_n E dJ4_setLength_14 rfl ?_
  refine r_callP E (ct_J4_ensureCapacityInternal G hl h sb v len cap u ml bf hsb hv hcap 0 (by omega) hfit) mJ4_ensureCapacityInternal q1399 q1401 q1400 q1422 rfl (ci := 15) rfl hsb rfl rfl (Nat.le_of_ble_eq_true rfl) (Nat.le_of_ble_eq_true rfl) (Nat.le_of_ble_eq_true rfl) dJ4_setLength_15 0 0 (Nat.le_of_ble_eq_true rfl) (Nat.le_of_ble_eq_true rfl) (fun v' h1 q => ?_) (fun _ _ _ q => q.elim)
  obtain ⟨rfl, v1, cap1, bf1, hsb1, hv1, hfit1, hbf1, hcc1, hm1, hmx1, hfr1, hvv1⟩ := q
  have hne1 : sb ≠ v1 := fun z => by rw [z, hv1] at hsb1; cases hsb1
  refine r_aload_n E dJ4_setLength_18 rfl ?_
  refine r_getf E cl_J5 3 (by decide) q259 hsb1 rfl dJ4_setLength_19 ?_
  refine r_iload_n E dJ4_setLength_22 rfl ?_
  refine r_icmpN_ge (tgt := 63) E dJ4_setLength_23 (by decide) (by omega) (by omega) (fun c1 => ?_) (fun c1 => ?_)
  · refine r_aload_n E dJ4_setLength_63 rfl ?_
    refine r_getf E cl_J5 3 (by decide) q259 hsb1 rfl dJ4_setLength_64 ?_
    refine r_iload_n E dJ4_setLength_67 rfl ?_
    refine r_icmpN_le (tgt := 76) E dJ4_setLength_68 (by decide) (by omega) (by omega) (fun c2 => ?_) (fun c2 => ?_)
    · refine r_aload_n E dJ4_setLength_76 rfl ?_
      refine r_iload_n E dJ4_setLength_77 rfl ?_
      refine r_putf E cl_J5 3 (by decide) rfl q259 (fun _ z => z) hsb1 (Nat.le_of_ble_eq_true rfl) rfl rfl dJ4_setLength_78 ?_
      refine r_hp (h' := fmUp h1 sb (true, .inr (.inl (15, [.ref v1, .int (bI u), .int (bI ml), .int (nI 0)])))) (rfl) ?_
      exact r_return E P rfl dJ4_setLength_81 ⟨rfl, v1, ⟨u, _, cap1, bf1, fmUp_s, (fmUp_n (fun z => hne1 z.symm)).trans hv1, hfit1, fun e => ⟨by omega, by rw [e] at hcap; simp only [Bool.false_eq_true, if_false] at hcap; omega, fun i hi => absurd hi (by omega)⟩, fun e => ⟨by omega, by rw [e] at hcap; simp only [if_true] at hcap; omega, fun i hi => absurd hi (by omega)⟩⟩, fun q x hq h2 => by rw [fmUp_n h2]; exact hfr1 q x hq h2, hvv1⟩
    · refine r_aload_n E dJ4_setLength_71 rfl ?_
      refine r_iconst E (nI 1) dJ4_setLength_72 (by decide) ?_
      refine r_top (v' := .int (bI true)) rfl ?_
      refine r_putf E cl_J5 2 (by decide) rfl q257 (fun _ z => z) hsb1 (Nat.le_of_ble_eq_true rfl) (bI_n _) (bI_f _) dJ4_setLength_73 ?_
      refine r_hp (h' := fmUp h1 sb (true, .inr (.inl (15, [.ref v1, .int (bI u), .int (bI true), .int (nI len)])))) (rfl) ?_
      refine r_aload_n E dJ4_setLength_76 rfl ?_
      refine r_iload_n E dJ4_setLength_77 rfl ?_
      refine r_putf E cl_J5 3 (by decide) rfl q259 (fun _ z => z) fmUp_s (Nat.le_of_ble_eq_true rfl) rfl rfl dJ4_setLength_78 ?_
      refine r_hp (h' := fmUp (fmUp h1 sb (true, .inr (.inl (15, [.ref v1, .int (bI u), .int (bI true), .int (nI len)])))) sb (true, .inr (.inl (15, [.ref v1, .int (bI u), .int (bI true), .int (nI 0)])))) (rfl) ?_
      refine r_hp (h' := fmUp h1 sb (true, .inr (.inl (15, [.ref v1, .int (bI u), .int (bI true), .int (nI 0)])))) (fmUp_uu _ _ _ _) ?_
      exact r_return E P rfl dJ4_setLength_81 ⟨rfl, v1, ⟨u, _, cap1, bf1, fmUp_s, (fmUp_n (fun z => hne1 z.symm)).trans hv1, hfit1, fun e => ⟨by omega, by rw [e] at hcap; simp only [Bool.false_eq_true, if_false] at hcap; omega, fun i hi => absurd hi (by omega)⟩, fun e => ⟨by omega, by rw [e] at hcap; simp only [if_true] at hcap; omega, fun i hi => absurd hi (by omega)⟩⟩, fun q x hq h2 => by rw [fmUp_n h2]; exact hfr1 q x hq h2, hvv1⟩
  · exfalso; omega

set_option maxHeartbeats 4000000 in
theorem ct_J5_setLength (G : fmG) (hl : (fmLn G).stackTraces = false) (h : fmHp) (sb v len : Nat) (T : Nat → Int32) (hS : SBt h sb v len T) (hC : CC G h)  : Ct G yJ5_setLength (ws_ yJ5_setLength cJ5_setLength 2 none) { frames := 5, cells := 1, slots := 500, locals := 145 } [.ref sb, .int (nI 0)] h (fun v0 h' => v0 = none ∧ ∃ v', SBt h' sb v' 0 T ∧ (∀ q x, h q = some x → q ≠ sb → h' q = some x) ∧ (v' = v ∨ h v' = none)) fmNo := by
  refine Ct.of hl (by decide +kernel) (Nat.le_of_ble_eq_true rfl) (fun Γ E P => ?_)
  obtain ⟨u, ml, cap, bf, hsb, hv, hfit, hL, hU⟩ := id hS
  refine r_aload_n E dJ5_setLength_0 rfl ?_
  refine r_iload_n E dJ5_setLength_1 rfl ?_
  refine r_callU E (ct_J4_setLength G hl h sb v len T hS hC) mJ4_setLength (by decide +kernel) q1653 q1654 q2281 q268 (ci := 15) rfl hsb rfl rfl (Nat.le_of_ble_eq_true rfl) (Nat.le_of_ble_eq_true rfl) (Nat.le_of_ble_eq_true rfl) dJ5_setLength_2 0 0 (Nat.le_of_ble_eq_true rfl) (Nat.le_of_ble_eq_true rfl) (fun v' h1 q => ?_) (fun _ _ _ q => q.elim)
  obtain ⟨rfl, q⟩ := q
  exact r_return E P rfl dJ5_setLength_5 ⟨rfl, q⟩

