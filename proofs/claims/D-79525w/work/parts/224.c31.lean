set_option maxHeartbeats 4000000 in
theorem ct_X1_faultPosition (G : fmG) (hl : (fmLn G).stackTraces = false) (h : fmHp) {x far qu d pa sb : Nat} {fl re de : Int32} {sv : Value} (hC : CC G h) (hx : DkO h x far qu d pa sb fl re de sv) (fo : Option Nat) (hfo : fl = cI fo) (h31 : ∀ y, fo = some y → y < 2 ^ 31) : Ct G yX1_faultPosition (ws_ yX1_faultPosition cX1_faultPosition 1 (some .int)) { frames := 7, cells := 1, slots := 6, locals := 120 } [.ref x] h (fun v h' => fo ≠ none ∧ v = some (.int (cI fo)) ∧ Kp h h') (fun _ Ex h' => fo = none ∧ Ex = "java/util/NoSuchElementException" ∧ Kp h h') := by
  refine Ct.of hl (by decide +kernel) (Nat.le_of_ble_eq_true rfl) (fun Γ E P => ?_)
  refine r_aload_n E dX1_faultPosition_0 rfl ?_
  refine r_getf E cl_X1 5 (by decide) q276 hx rfl dX1_faultPosition_1 ?_
  refine r_top (v' := .int (cI fo)) (congrArg Value.int hfo) ?_
  refine r_iconst E (-1) dX1_faultPosition_4 (by decide) ?_
  refine r_icmpC_eq (tgt := 12) E dX1_faultPosition_5 (by decide) h31 (fun c1 => ?_) (fun c1 => ?_)
  · refine r_iconst E (nI 0) dX1_faultPosition_12 (by decide) ?_
    refine r_top (v' := .int (bI false)) rfl ?_
    refine r_callS E (ctF_X1_requireElement G hl h) mX1_requireElement q78 q1273 q1274 rfl rfl (Nat.le_of_ble_eq_true rfl) (Nat.le_of_ble_eq_true rfl) (Nat.le_of_ble_eq_true rfl) dX1_faultPosition_13 0 0 (Nat.le_of_ble_eq_true rfl) (Nat.le_of_ble_eq_true rfl) (fun _ _ q => q.elim) (fun q Ex h' hx => ?_)
    exact r_xout E P (fun x hx => by cases hx) ⟨c1, hx.1, xO_kp hx⟩
  · refine r_iconst E (nI 1) dX1_faultPosition_8 (by decide) ?_
    refine r_goto (tgt := 13) E dX1_faultPosition_9 (by decide) ?_
    refine r_top (v' := .int (bI true)) rfl ?_
    refine r_callS0 E (ctT_X1_requireElement G hl h) mX1_requireElement q78 q1273 q1274 rfl rfl (Nat.le_of_ble_eq_true rfl) (Nat.le_of_ble_eq_true rfl) (Nat.le_of_ble_eq_true rfl) dX1_faultPosition_13 1 6 (Nat.le_of_ble_eq_true rfl) (Nat.le_of_ble_eq_true rfl) ?_
    refine r_aload_n E dX1_faultPosition_16 rfl ?_
    refine r_getf E cl_X1 5 (by decide) q276 hx rfl dX1_faultPosition_17 ?_
    refine r_top (v' := .int (cI fo)) (congrArg Value.int hfo) ?_
    exact r_ireturn E P rfl dX1_faultPosition_20 ⟨c1, rfl, Kp.refl⟩

set_option maxHeartbeats 4000000 in
theorem ct_X1_refusal (G : fmG) (hl : (fmLn G).stackTraces = false) (h : fmHp) {x far qu d pa sb : Nat} {fl re de : Int32} {sv : Value} (hC : CC G h) (hx : DkO h x far qu d pa sb fl re de sv) (b : Bool) : Ct G yX1_refusal (ws_ yX1_refusal cX1_refusal 2 (some .int)) { frames := 7, cells := 1, slots := 6, locals := 120 } [.ref x, .int (bI b)] h (fun v h' => re ≠ 0 ∧ v = some (.int (if b = true then re else de)) ∧ Kp h h') (fun _ Ex h' => re = 0 ∧ Ex = "java/util/NoSuchElementException" ∧ Kp h h') := by
  refine Ct.of hl (by decide +kernel) (Nat.le_of_ble_eq_true rfl) (fun Γ E P => ?_)
  refine r_aload_n E dX1_refusal_0 rfl ?_
  refine r_getf E cl_X1 6 (by decide) q277 hx rfl dX1_refusal_1 ?_
  refine r_if_eq (tgt := 11) E dX1_refusal_4 (by decide) (fun c1 => ?_) (fun c1 => ?_)
  · refine r_iconst E (nI 0) dX1_refusal_11 (by decide) ?_
    refine r_top (v' := .int (bI false)) rfl ?_
    refine r_callS E (ctF_X1_requireElement G hl h) mX1_requireElement q78 q1273 q1274 rfl rfl (Nat.le_of_ble_eq_true rfl) (Nat.le_of_ble_eq_true rfl) (Nat.le_of_ble_eq_true rfl) dX1_refusal_12 0 0 (Nat.le_of_ble_eq_true rfl) (Nat.le_of_ble_eq_true rfl) (fun _ _ q => q.elim) (fun q Ex h' hx => ?_)
    exact r_xout E P (fun x hx => by cases hx) ⟨c1, hx.1, xO_kp hx⟩
  · refine r_iconst E (nI 1) dX1_refusal_7 (by decide) ?_
    refine r_goto (tgt := 12) E dX1_refusal_8 (by decide) ?_
    refine r_top (v' := .int (bI true)) rfl ?_
    refine r_callS0 E (ctT_X1_requireElement G hl h) mX1_requireElement q78 q1273 q1274 rfl rfl (Nat.le_of_ble_eq_true rfl) (Nat.le_of_ble_eq_true rfl) (Nat.le_of_ble_eq_true rfl) dX1_refusal_12 1 6 (Nat.le_of_ble_eq_true rfl) (Nat.le_of_ble_eq_true rfl) ?_
    refine r_iload_n E dX1_refusal_15 rfl ?_
    refine r_ifB_eq (b := b) (tgt := 26) E dX1_refusal_16 (by decide) (fun hcb => ?_) (fun hcb => ?_)
    · refine r_aload_n E dX1_refusal_26 rfl ?_
      refine r_getf E cl_X1 7 (by decide) q278 hx rfl dX1_refusal_27 ?_
      exact r_ireturn E P rfl dX1_refusal_30 ⟨c1, by rw [hcb]; rfl, Kp.refl⟩
    · refine r_aload_n E dX1_refusal_19 rfl ?_
      refine r_getf E cl_X1 6 (by decide) q277 hx rfl dX1_refusal_20 ?_
      refine r_goto (tgt := 30) E dX1_refusal_23 (by decide) ?_
      exact r_ireturn E P rfl dX1_refusal_30 ⟨c1, by rw [hcb]; rfl, Kp.refl⟩

set_option maxHeartbeats 4000000 in
theorem ct_X1_feed (G : fmG) (hl : (fmLn G).stackTraces = false) (h : fmHp) {x far qu d pa sb : Nat} {fl re de : Int32} {sv : Value} (hC : CC G h) (hx : DkO h x far qu d pa sb fl re de sv) (v len : Nat) (T : Nat → Int32) (hS : SBt h sb v len T) (k : Nat) (hk : k < 65536) (hlen : len ≤ 60) : Ct G yX1_feed (ws_ yX1_feed cX1_feed 2 (some .int)) { frames := 8, cells := 2, slots := 1000, locals := 179 } [.ref x, .int (nI k)] h (fun v0 h' => len < 60 ∧ v0 = some (.int (nI (len + 1))) ∧ ∃ v', SBt h' sb v' (len + 1) (upd T len (nI k)) ∧ (∀ q y, h q = some y → q ≠ sb → q ≠ v → h' q = some y) ∧ (v' = v ∨ h v' = none)) (fun _ Ex h' => 60 ≤ len ∧ Ex = "java/lang/IllegalStateException" ∧ Kp h h') := by
  refine Ct.of hl (by decide +kernel) (Nat.le_of_ble_eq_true rfl) (fun Γ E P => ?_)
  obtain ⟨u, ml, cap, bf, hsb, hv, hrr⟩ := id hS
  refine r_aload_n E dX1_feed_0 rfl ?_
  refine r_getf E cl_X1 4 (by decide) q275 hx rfl dX1_feed_1 ?_
  refine r_callV1 (v1 := .int (nI len)) E (ct_J5_length G hl (h) sb v len 0 u ml (fun _ => 0) hsb) mJ5_length q1352 q1353 q1354 (fun H a1 => fm_rc (ci := 15) (C := RJ5) (T := TJ5) (N := 4) a1 rfl E.v hsb) rfl rfl (Nat.le_of_ble_eq_true rfl) (Nat.le_of_ble_eq_true rfl) (Nat.le_of_ble_eq_true rfl) dX1_feed_4 2 1000 (Nat.le_of_ble_eq_true rfl) (Nat.le_of_ble_eq_true rfl) ?_
  refine r_bipush E (nI 60) dX1_feed_7 (by decide) ?_
  refine r_icmpN_ge (tgt := 16) E dX1_feed_9 (by decide) (by omega) (by omega) (fun c1 => ?_) (fun c1 => ?_)
  · refine r_iconst E (nI 0) dX1_feed_16 (by decide) ?_
    refine r_top (v' := .int (bI false)) rfl ?_
    refine r_callS E (ctF_X1_requireState G hl h) mX1_requireState q78 q1147 q1148 rfl rfl (Nat.le_of_ble_eq_true rfl) (Nat.le_of_ble_eq_true rfl) (Nat.le_of_ble_eq_true rfl) dX1_feed_17 0 0 (Nat.le_of_ble_eq_true rfl) (Nat.le_of_ble_eq_true rfl) (fun _ _ q => q.elim) (fun q Ex h' hx => ?_)
    exact r_xout E P (fun x hx => by cases hx) ⟨c1, hx.1, xO_kp hx⟩
  · refine r_iconst E (nI 1) dX1_feed_12 (by decide) ?_
    refine r_goto (tgt := 17) E dX1_feed_13 (by decide) ?_
    refine r_top (v' := .int (bI true)) rfl ?_
    refine r_callS0 E (ctT_X1_requireState G hl h) mX1_requireState q78 q1147 q1148 rfl rfl (Nat.le_of_ble_eq_true rfl) (Nat.le_of_ble_eq_true rfl) (Nat.le_of_ble_eq_true rfl) dX1_feed_17 2 1000 (Nat.le_of_ble_eq_true rfl) (Nat.le_of_ble_eq_true rfl) ?_
    refine r_aload_n E dX1_feed_20 rfl ?_
    refine r_getf E cl_X1 4 (by decide) q275 hx rfl dX1_feed_21 ?_
    refine r_iload_n E dX1_feed_24 rfl ?_
    refine r_callV E (ct_J5_append G hl h sb v len T hS hC k hk hlen) mJ5_append q1392 q1393 q1394 (fun H a1 => fm_rc (ci := 15) (C := RJ5) (T := TJ5) (N := 4) a1 rfl E.v hsb) rfl rfl (Nat.le_of_ble_eq_true rfl) (Nat.le_of_ble_eq_true rfl) (Nat.le_of_ble_eq_true rfl) dX1_feed_25 0 0 (Nat.le_of_ble_eq_true rfl) (Nat.le_of_ble_eq_true rfl) (fun v' h1 q => ?_) (fun _ _ _ q => q.elim)
    obtain ⟨rfl, v1, hS1, hfr, hv1⟩ := q
    obtain ⟨u1, ml1, cap1, bf1, hsb1, -⟩ := id hS1
    have hx0 : h x = some (true, .inr (.inl (1, [.ref far, .ref qu, .ref d, .ref pa, .ref sb, .int fl, .int re, .int de, sv]))) := hx
    have hx1 := hfr _ _ hx (fun z => by rw [z, hsb] at hx0; cases hx0) (fun z => by rw [z, hv] at hx0; cases hx0)
    refine r_pop E dX1_feed_28 rfl ?_
    refine r_aload_n E dX1_feed_29 rfl ?_
    refine r_getf E cl_X1 4 (by decide) q275 hx1 rfl dX1_feed_30 ?_
    refine r_callV1 (v1 := .int (nI (len + 1))) E (ct_J5_length G hl (h1) sb v1 (len + 1) 0 u1 ml1 (fun _ => 0) hsb1) mJ5_length q1352 q1353 q1354 (fun H a1 => fm_rc (ci := 15) (C := RJ5) (T := TJ5) (N := 4) a1 rfl E.v hsb1) rfl rfl (Nat.le_of_ble_eq_true rfl) (Nat.le_of_ble_eq_true rfl) (Nat.le_of_ble_eq_true rfl) dX1_feed_33 0 0 (Nat.le_of_ble_eq_true rfl) (Nat.le_of_ble_eq_true rfl) ?_
    exact r_ireturn E P rfl dX1_feed_36 ⟨by omega, rfl, v1, hS1, hfr, hv1⟩

set_option maxHeartbeats 4000000 in
theorem ct_X1_undo (G : fmG) (hl : (fmLn G).stackTraces = false) (h : fmHp) {x far qu d pa sb : Nat} {fl re de : Int32} {sv : Value} (hC : CC G h) (hx : DkO h x far qu d pa sb fl re de sv) (e dh kp : Nat) (pm : Nat → Nat) (hA : AD h pa e dh kp pm) (hpm : 0 < kp → ∃ fs : List Value, h (pm 0) = some (true, .inr (.inl (2, fs)))) : Ct G yX1_undo (ws_ yX1_undo cX1_undo 1 (some .int)) { frames := 7, cells := 1, slots := 6, locals := 120 } [.ref x] h (fun v h' => 0 < kp ∧ v = some (.int (nI (kp - 1))) ∧ (∃ dh', AD h' pa e dh' (kp - 1) (fun i => pm (i + 1))) ∧ h' x = some (true, .inr (.inl (1, [.ref far, .ref qu, .ref (pm 0), .ref pa, .ref sb, .int fl, .int re, .int de, sv]))) ∧ (∀ q y, h q = some y → q ≠ x → q ≠ pa → q ≠ e → h' q = some y)) (fun _ Ex h' => kp = 0 ∧ Ex = "java/lang/IllegalStateException" ∧ Kp h h') := by
  refine Ct.of hl (by decide +kernel) (Nat.le_of_ble_eq_true rfl) (fun Γ E P => ?_)
  obtain ⟨dg9, hpa9, -⟩ := id hA
  obtain ⟨hnp, hne⟩ := hA.nx hx
  refine r_aload_n E dX1_undo_0 rfl ?_
  refine r_getf E cl_X1 3 (by decide) q273 hx rfl dX1_undo_1 ?_
  refine r_callV1 (v1 := .int (bI (decide (kp = 0)))) E (ct_J3_isEmpty G hl h pa e dh kp pm hA) mJ3_isEmpty q1845 q1846 q1847 (fun H a1 => fm_rc (ci := 14) (C := RJ3) (T := TJ3) (N := 3) a1 rfl E.v hpa9) rfl rfl (Nat.le_of_ble_eq_true rfl) (Nat.le_of_ble_eq_true rfl) (Nat.le_of_ble_eq_true rfl) dX1_undo_4 1 6 (Nat.le_of_ble_eq_true rfl) (Nat.le_of_ble_eq_true rfl) ?_
  refine r_ifB_ne (b := decide (kp = 0)) (tgt := 14) E dX1_undo_7 (by decide) (fun c1 => ?_) (fun c1 => ?_)
  · refine r_iconst E (nI 0) dX1_undo_14 (by decide) ?_
    refine r_top (v' := .int (bI false)) rfl ?_
    refine r_callS E (ctF_X1_requireState G hl h) mX1_requireState q78 q1147 q1148 rfl rfl (Nat.le_of_ble_eq_true rfl) (Nat.le_of_ble_eq_true rfl) (Nat.le_of_ble_eq_true rfl) dX1_undo_15 0 0 (Nat.le_of_ble_eq_true rfl) (Nat.le_of_ble_eq_true rfl) (fun _ _ q => q.elim) (fun q Ex h' hx => ?_)
    exact r_xout E P (fun x hx => by cases hx) ⟨of_decide_eq_true c1, hx.1, xO_kp hx⟩
  · have hk0 : 0 < kp := Nat.pos_of_ne_zero (of_decide_eq_false c1)
    obtain ⟨fs0, hm0⟩ := hpm hk0
    refine r_iconst E (nI 1) dX1_undo_10 (by decide) ?_
    refine r_goto (tgt := 15) E dX1_undo_11 (by decide) ?_
    refine r_top (v' := .int (bI true)) rfl ?_
    refine r_callS0 E (ctT_X1_requireState G hl h) mX1_requireState q78 q1147 q1148 rfl rfl (Nat.le_of_ble_eq_true rfl) (Nat.le_of_ble_eq_true rfl) (Nat.le_of_ble_eq_true rfl) dX1_undo_15 1 6 (Nat.le_of_ble_eq_true rfl) (Nat.le_of_ble_eq_true rfl) ?_
    refine r_aload_n E dX1_undo_18 rfl ?_
    refine r_aload_n E dX1_undo_19 rfl ?_
    refine r_getf E cl_X1 3 (by decide) q273 hx rfl dX1_undo_20 ?_
    refine r_callV E (ct_J3_pop G hl h pa e dh kp pm hA hk0) mJ3_pop q1849 q1850 q1851 (fun H a1 => fm_rc (ci := 14) (C := RJ3) (T := TJ3) (N := 3) a1 rfl E.v hpa9) rfl rfl (Nat.le_of_ble_eq_true rfl) (Nat.le_of_ble_eq_true rfl) (Nat.le_of_ble_eq_true rfl) dX1_undo_23 0 0 (Nat.le_of_ble_eq_true rfl) (Nat.le_of_ble_eq_true rfl) (fun v' h1 q => ?_) (fun _ _ _ q => q.elim)
    obtain ⟨rfl, hA1, hfr⟩ := q
    have hx1 := hfr _ _ hx hnp hne
    have hm1 := hfr _ _ hm0 (fun z => by rw [z, hpa9] at hm0; cases hm0) (fun z => by obtain ⟨g9, -, he9, -⟩ := hA; rw [z, he9] at hm0; cases hm0)
    refine r_castS E cl_X2 q128 hm1 dX1_undo_26 ?_
    refine r_putf E cl_X1 2 (by decide) rfl q272 (fun _ z => z) hx1 (Nat.le_of_ble_eq_true rfl) rfl rfl dX1_undo_29 ?_
    refine r_hp (h' := fmUp h1 x (true, .inr (.inl (1, [.ref far, .ref qu, .ref (pm 0), .ref pa, .ref sb, .int fl, .int re, .int de, sv])))) (rfl) ?_
    have hA2 := hA1.upx (fs' := [.ref far, .ref qu, .ref (pm 0), .ref pa, .ref sb, .int fl, .int re, .int de, sv]) hx1
    obtain ⟨dg8, hpa8, -⟩ := id hA2
    refine r_aload_n E dX1_undo_32 rfl ?_
    refine r_getf E cl_X1 3 (by decide) q273 fmUp_s rfl dX1_undo_33 ?_
    refine r_callV1 (v1 := .int (nI (kp - 1))) E (ct_J3_size G hl (fmUp h1 x (true, .inr (.inl (1, [.ref far, .ref qu, .ref (pm 0), .ref pa, .ref sb, .int fl, .int re, .int de, sv])))) pa e _ (kp - 1) _ hA2) mJ3_size q979 q980 q981 (fun H a1 => fm_rc (ci := 14) (C := RJ3) (T := TJ3) (N := 3) a1 rfl E.v hpa8) rfl rfl (Nat.le_of_ble_eq_true rfl) (Nat.le_of_ble_eq_true rfl) (Nat.le_of_ble_eq_true rfl) dX1_undo_36 0 0 (Nat.le_of_ble_eq_true rfl) (Nat.le_of_ble_eq_true rfl) ?_
    exact r_ireturn E P rfl dX1_undo_39 ⟨hk0, rfl, ⟨_, hA2⟩, fmUp_s, fun q y hq h1 h2 h3 => by rw [fmUp_n h1]; exact hfr q y hq h2 h3⟩

set_option maxHeartbeats 4000000 in
theorem ct_X1_replace (G : fmG) (hl : (fmLn G).stackTraces = false) (h : fmHp) {x far qu d pa sb : Nat} {fl re de : Int32} {sv : Value} (hC : CC G h) (hx : DkO h x far qu d pa sb fl re de sv) (e dh kp : Nat) (pm : Nat → Nat) (hA : AD h pa e dh kp pm) (hk8 : kp ≤ 8) (hpm : ∀ i, i < kp → ∃ fs : List Value, h (pm i) = some (true, .inr (.inl (2, fs)))) (hd : ∃ fs : List Value, h d = some (true, .inr (.inl (2, fs)))) (dn : Nat) : Ct G yX1_replace (ws_ yX1_replace cX1_replace 3 none) { frames := 3, cells := 0, slots := 0, locals := 65 } [.ref x, .ref dn] h (fun v h' => v = none ∧ (∃ dh', AD h' pa e dh' (kp1 kp) (fPush pm d)) ∧ h' x = some (true, .inr (.inl (1, [.ref far, .ref qu, .ref dn, .ref pa, .ref sb, .int fl, .int re, .int de, sv]))) ∧ (∀ q y, h q = some y → q ≠ x → q ≠ pa → q ≠ e → h' q = some y)) fmNo := by
  refine Ct.of hl (by decide +kernel) (Nat.le_of_ble_eq_true rfl) (fun Γ E P => ?_)
  obtain ⟨dg9, hpa9, hee9, -⟩ := id hA
  obtain ⟨hnp, hne⟩ := hA.nx hx
  obtain ⟨fsd, hd⟩ := hd
  refine r_aload_n E dX1_replace_0 rfl ?_
  refine r_getf E cl_X1 3 (by decide) q273 hx rfl dX1_replace_1 ?_
  refine r_callV1 (v1 := .int (nI kp)) E (ct_J3_size G hl h pa e dh kp pm hA) mJ3_size q979 q980 q981 (fun H a1 => fm_rc (ci := 14) (C := RJ3) (T := TJ3) (N := 3) a1 rfl E.v hpa9) rfl rfl (Nat.le_of_ble_eq_true rfl) (Nat.le_of_ble_eq_true rfl) (Nat.le_of_ble_eq_true rfl) dX1_replace_4 0 0 (Nat.le_of_ble_eq_true rfl) (Nat.le_of_ble_eq_true rfl) ?_
  refine r_bipush E (nI 8) dX1_replace_7 (by decide) ?_
  refine r_icmpN_ne (tgt := 23) E dX1_replace_9 (by decide) (by omega) (by omega) (fun c1 => ?_) (fun c1 => ?_)
  · obtain ⟨dg7, hpa7, -⟩ := id hA
    have hisO : isO h d := mineO hd
    refine r_aload_n E dX1_replace_23 rfl ?_
    refine r_getf E cl_X1 3 (by decide) q273 hx rfl dX1_replace_24 ?_
    refine r_aload_n E dX1_replace_27 rfl ?_
    refine r_getf E cl_X1 2 (by decide) q272 hx rfl dX1_replace_28 ?_
    refine r_callV E (ct_J3_push G hl h pa e dh (kp) pm hA (by omega) d hisO) mJ3_push q1002 q1003 q1004 (fun H a1 => fm_rc (ci := 14) (C := RJ3) (T := TJ3) (N := 3) a1 rfl E.v hpa7) rfl rfl (Nat.le_of_ble_eq_true rfl) (Nat.le_of_ble_eq_true rfl) (Nat.le_of_ble_eq_true rfl) dX1_replace_31 0 0 (Nat.le_of_ble_eq_true rfl) (Nat.le_of_ble_eq_true rfl) (fun v' h2 q => ?_) (fun _ _ _ q => q.elim)
    obtain ⟨rfl, hA2, hfr2⟩ := q
    have hx2 := hfr2 _ _ hx hnp hne
    refine r_aload_n E dX1_replace_34 rfl ?_
    refine r_aload_n E dX1_replace_35 rfl ?_
    refine r_putf E cl_X1 2 (by decide) rfl q272 (fun _ z => z) hx2 (Nat.le_of_ble_eq_true rfl) rfl rfl dX1_replace_36 ?_
    refine r_hp (h' := fmUp h2 x (true, .inr (.inl (1, [.ref far, .ref qu, .ref dn, .ref pa, .ref sb, .int fl, .int re, .int de, sv])))) (rfl) ?_
    exact r_return E P rfl dX1_replace_39 ⟨rfl, ⟨_, by have h9 := hA2.upx (fs' := [.ref far, .ref qu, .ref dn, .ref pa, .ref sb, .int fl, .int re, .int de, sv]) hx2; rw [show kp + 1 = kp1 kp by unfold kp1; split <;> omega] at h9; exact h9⟩, fmUp_s, fun q y hq h1 h2 h3 => by rw [fmUp_n h1]; exact hfr2 q y hq h2 h3⟩
  · obtain ⟨fs0, hm0⟩ := hpm (kp - 1) (by omega)
    refine r_aload_n E dX1_replace_12 rfl ?_
    refine r_getf E cl_X1 3 (by decide) q273 hx rfl dX1_replace_13 ?_
    refine r_callV E (ct_J3_removeLast G hl h pa e dh kp pm hA (by omega)) mJ3_removeLast q986 q987 q988 (fun H a1 => fm_rc (ci := 14) (C := RJ3) (T := TJ3) (N := 3) a1 rfl E.v hpa9) rfl rfl (Nat.le_of_ble_eq_true rfl) (Nat.le_of_ble_eq_true rfl) (Nat.le_of_ble_eq_true rfl) dX1_replace_16 0 0 (Nat.le_of_ble_eq_true rfl) (Nat.le_of_ble_eq_true rfl) (fun v' h1 q => ?_) (fun _ _ _ q => q.elim)
    obtain ⟨rfl, hA1, hfr⟩ := q
    have hx1 := hfr _ _ hx hnp hne
    have hm1 := hfr _ _ hm0 (fun z => by rw [z, hpa9] at hm0; cases hm0) (fun z => by rw [z, hee9] at hm0; cases hm0)
    have hd1 := hfr _ _ hd (fun z => by rw [z, hpa9] at hd; cases hd) (fun z => by rw [z, hee9] at hd; cases hd)
    refine r_castS E cl_X2 q128 hm1 dX1_replace_19 ?_
    refine r_astore_n E [some (.ref x), some (.ref dn), some (.ref (pm (kp - 1)))] dX1_replace_22 rfl rfl ?_
    refine fmW.few (L' := [some (.ref x), some (.ref dn), none]) (fmFew_n (L := [some (.ref x), some (.ref dn), some (.ref (pm (kp - 1)))]) 2) ?_
    obtain ⟨dg7, hpa7, -⟩ := id hA1
    have hisO : isO h1 d := mineO hd1
    refine r_aload_n E dX1_replace_23 rfl ?_
    refine r_getf E cl_X1 3 (by decide) q273 hx1 rfl dX1_replace_24 ?_
    refine r_aload_n E dX1_replace_27 rfl ?_
    refine r_getf E cl_X1 2 (by decide) q272 hx1 rfl dX1_replace_28 ?_
    refine r_callV E (ct_J3_push G hl h1 pa e dh (kp - 1) pm hA1 (by omega) d hisO) mJ3_push q1002 q1003 q1004 (fun H a1 => fm_rc (ci := 14) (C := RJ3) (T := TJ3) (N := 3) a1 rfl E.v hpa7) rfl rfl (Nat.le_of_ble_eq_true rfl) (Nat.le_of_ble_eq_true rfl) (Nat.le_of_ble_eq_true rfl) dX1_replace_31 0 0 (Nat.le_of_ble_eq_true rfl) (Nat.le_of_ble_eq_true rfl) (fun v' h2 q => ?_) (fun _ _ _ q => q.elim)
    obtain ⟨rfl, hA2, hfr2⟩ := q
    have hx2 := hfr2 _ _ hx1 hnp hne
    refine r_aload_n E dX1_replace_34 rfl ?_
    refine r_aload_n E dX1_replace_35 rfl ?_
    refine r_putf E cl_X1 2 (by decide) rfl q272 (fun _ z => z) hx2 (Nat.le_of_ble_eq_true rfl) rfl rfl dX1_replace_36 ?_
    refine r_hp (h' := fmUp h2 x (true, .inr (.inl (1, [.ref far, .ref qu, .ref dn, .ref pa, .ref sb, .int fl, .int re, .int de, sv])))) (rfl) ?_
    exact r_return E P rfl dX1_replace_39 ⟨rfl, ⟨_, by have h9 := hA2.upx (fs' := [.ref far, .ref qu, .ref dn, .ref pa, .ref sb, .int fl, .int re, .int de, sv]) hx2; rw [show kp - 1 + 1 = kp1 kp by unfold kp1; split <;> omega] at h9; exact h9⟩, fmUp_s, fun q y hq h1 h2 h3 => by rw [fmUp_n h1]; exact hfr2 q y (hfr q y hq h2 h3) h2 h3⟩

set_option maxHeartbeats 4000000 in
theorem ct_X1_refuse (G : fmG) (hl : (fmLn G).stackTraces = false) (h : fmHp) {x far qu d pa sb : Nat} {fl re de : Int32} {sv : Value} (hC : CC G h) (hx : DkO h x far qu d pa sb fl re de sv) (wy wt : Int32) : Ct G yX1_refuse (ws_ yX1_refuse cX1_refuse 3 (some (.object "java/lang/UnsupportedOperationException"))) { frames := 6, cells := 1, slots := 6, locals := 100 } [.ref x, .int wy, .int wt] h (fun v h' => ∃ u, v = some (.ref u) ∧ h u = none ∧ h' = fmUp (fmUp h x (true, .inr (.inl (1, [.ref far, .ref qu, .ref d, .ref pa, .ref sb, .int fl, .int wy, .int wt, sv])))) u (true, .inr (.inl (22, [])))) fmNo := by
  refine Ct.of hl (by decide +kernel) (Nat.le_of_ble_eq_true rfl) (fun Γ E P => ?_)
  refine r_aload_n E dX1_refuse_0 rfl ?_
  refine r_iload_n E dX1_refuse_1 rfl ?_
  refine r_putf E cl_X1 6 (by decide) rfl q277 (fun _ z => z) hx (Nat.le_of_ble_eq_true rfl) rfl rfl dX1_refuse_2 ?_
  refine r_hp (h' := fmUp h x (true, .inr (.inl (1, [.ref far, .ref qu, .ref d, .ref pa, .ref sb, .int fl, .int wy, .int de, sv])))) (rfl) ?_
  refine r_aload_n E dX1_refuse_5 rfl ?_
  refine r_iload_n E dX1_refuse_6 rfl ?_
  refine r_putf E cl_X1 7 (by decide) rfl q278 (fun _ z => z) fmUp_s (Nat.le_of_ble_eq_true rfl) rfl rfl dX1_refuse_7 ?_
  refine r_hp (h' := fmUp (fmUp h x (true, .inr (.inl (1, [.ref far, .ref qu, .ref d, .ref pa, .ref sb, .int fl, .int wy, .int de, sv])))) x (true, .inr (.inl (1, [.ref far, .ref qu, .ref d, .ref pa, .ref sb, .int fl, .int wy, .int wt, sv])))) (rfl) ?_
  refine r_hp (h' := fmUp h x (true, .inr (.inl (1, [.ref far, .ref qu, .ref d, .ref pa, .ref sb, .int fl, .int wy, .int wt, sv])))) (fmUp_uu _ _ _ _) ?_
  refine r_make E (ci := 22) rfl (by decide +kernel) (by decide +kernel) q1042 q114 at_S_uoe at_G_uoe dX1_refuse_10 dX1_refuse_13 dX1_refuse_14 (Nat.le_of_ble_eq_true rfl) (Nat.le_of_ble_eq_true rfl) 0 0 (Nat.le_of_ble_eq_true rfl) (Nat.le_of_ble_eq_true rfl) (fun x1 hx1 kx1 => ?_)
  exact r_areturn E P rfl (Or.inl ⟨_, rfl⟩) dX1_refuse_17 ⟨x1, rfl, up_none hx1, rfl⟩

