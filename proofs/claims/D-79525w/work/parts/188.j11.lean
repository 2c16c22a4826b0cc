set_option maxHeartbeats 4000000 in
theorem ct_J4_append (G : fmG) (hl : (fmLn G).stackTraces = false) (h : fmHp) (sb v len : Nat) (T : Nat → Int32) (hS : SBt h sb v len T) (hC : CC G h) (k : Nat) (hk : k < 65536) (hlen : len ≤ 60) : Ct G yJ4_append (ws_ yJ4_append cJ4_append 2 (some (.object "java/lang/AbstractStringBuilder"))) { frames := 6, cells := 2, slots := 1000, locals := 137 } [.ref sb, .int (nI k)] h (fun v0 h' => v0 = some (.ref sb) ∧ ∃ v', SBt h' sb v' (len + 1) (upd T len (nI k)) ∧ (∀ q x, h q = some x → q ≠ sb → q ≠ v → h' q = some x) ∧ (v' = v ∨ h v' = none)) fmNo := by
  refine Ct.of hl (by decide +kernel) (Nat.le_of_ble_eq_true rfl) (fun Γ E P => ?_)
  obtain ⟨u, ml, cap, bf, hsb, hv, hfit, hL, hU⟩ := id hS
  have hcap : cap ≤ (if u = true then 500 else 250) := by cases u with
    | true => exact (hU rfl).2.1
    | false => exact (hL rfl).2.1
  refine r_aload_n E dJ4_append_0 rfl ?_
  refine r_aload_n E dJ4_append_1 rfl ?_
  refine r_getf E cl_J5 3 (by decide) q259 hsb rfl dJ4_append_2 ?_
  refine r_iconst E (nI 1) dJ4_append_5 (by decide) ?_
  refine r_iaddN E dJ4_append_6 ?_
  refine r_callP E (ct_J4_ensureCapacityInternal G hl h sb v len cap u ml bf hsb hv hcap (len + 1) (by omega) hfit) mJ4_ensureCapacityInternal q1399 q1401 q1400 q1422 rfl (ci := 15) rfl hsb rfl rfl (Nat.le_of_ble_eq_true rfl) (Nat.le_of_ble_eq_true rfl) (Nat.le_of_ble_eq_true rfl) dJ4_append_7 1 500 (Nat.le_of_ble_eq_true rfl) (Nat.le_of_ble_eq_true rfl) (fun v' h1 q => ?_) (fun _ _ _ q => q.elim)
  obtain ⟨rfl, v1, cap1, bf1, hsb1, hv1, hfit1, hbf1, hcc1, hm1, hmx1, hfr1, hvv1⟩ := q
  have hC1 : CC G h1 := hC.kept (fun q x hq => hfr1 _ _ hq (fun z => by rw [z, hsb] at hq; cases hq))
  have hne1 : sb ≠ v1 := fun z => by rw [z, hv1] at hsb1; cases hsb1
  have hold : ∀ q x, h q = some x → q ≠ v → q ≠ v1 := fun q x hq hn z => hvv1.elim (fun e => hn (z.trans e)) (fun e => by rw [z, e] at hq; cases hq)
  cases u with
  | false =>
    obtain ⟨hl1, hl2, hl3⟩ := hL rfl
    simp only [Bool.false_eq_true, if_false] at hm1 hcap
    refine r_aload_n E dJ4_append_10 rfl ?_
    refine r_callV1 (v1 := .int (bI true)) E (ct_J4_isLatin1 G hl (h1) sb v1 len 0 false ml (fun _ => 0) hsb1) mJ4_isLatin1 q1419 q1420 q1422 (fun H a1 => fm_rc (ci := 15) (C := RJ5) (T := TJ5) (N := 4) a1 rfl E.v hsb1) rfl rfl (Nat.le_of_ble_eq_true rfl) (Nat.le_of_ble_eq_true rfl) (Nat.le_of_ble_eq_true rfl) dJ4_append_11 1 500 (Nat.le_of_ble_eq_true rfl) (Nat.le_of_ble_eq_true rfl) ?_
    refine r_ifB_eq (b := true) (tgt := 45) E dJ4_append_14 (by decide) (fun c => absurd c (by decide)) (fun _ => ?_)
    refine r_iload_n E dJ4_append_17 rfl ?_
    refine r_callS1 (v1 := .int (bI (decide (k ≤ 255)))) E (ct_J26_canEncode G hl (h1) k (by omega)) mJ26_canEncode q117 q1424 q1425 rfl rfl (Nat.le_of_ble_eq_true rfl) (Nat.le_of_ble_eq_true rfl) (Nat.le_of_ble_eq_true rfl) dJ4_append_18 1 500 (Nat.le_of_ble_eq_true rfl) (Nat.le_of_ble_eq_true rfl) ?_
    refine r_ifB_eq (b := decide (k ≤ 255)) (tgt := 45) E dJ4_append_21 (by decide) (fun c2 => ?_) (fun c2 => ?_)
    · refine r_aload_n E dJ4_append_45 rfl ?_
      refine r_callV1 (v1 := .int (bI true)) E (ct_J4_isLatin1 G hl (h1) sb v1 len 0 false ml (fun _ => 0) hsb1) mJ4_isLatin1 q1419 q1420 q1422 (fun H a1 => fm_rc (ci := 15) (C := RJ5) (T := TJ5) (N := 4) a1 rfl E.v hsb1) rfl rfl (Nat.le_of_ble_eq_true rfl) (Nat.le_of_ble_eq_true rfl) (Nat.le_of_ble_eq_true rfl) dJ4_append_46 1 500 (Nat.le_of_ble_eq_true rfl) (Nat.le_of_ble_eq_true rfl) ?_
      refine r_ifB_eq (b := true) (tgt := 56) E dJ4_append_49 (by decide) (fun c => absurd c (by decide)) (fun _ => ?_)
      refine r_aload_n E dJ4_append_52 rfl ?_
      refine r_callP E (ct_J4_inflate G hl h1 sb v1 len cap1 ml bf1 hsb1 hv1 (by omega) (by omega) hC1) mJ4_inflate q1427 q1429 q1428 q1422 rfl (ci := 15) rfl hsb1 rfl rfl (Nat.le_of_ble_eq_true rfl) (Nat.le_of_ble_eq_true rfl) (Nat.le_of_ble_eq_true rfl) dJ4_append_53 0 0 (Nat.le_of_ble_eq_true rfl) (Nat.le_of_ble_eq_true rfl) (fun v' h2 q => ?_) (fun _ _ _ q => q.elim)
      obtain ⟨rfl, a, ha, rfl⟩ := q
      have hsa : sb ≠ a := fun z => by rw [z, ha] at hsb1; cases hsb1
      have hC2 : CC G (fmUp (fmUp h1 a (true, .inl (3, 2 * cap1, .inl (infl bf1 len)))) sb (true, .inr (.inl (15, [.ref a, .int (bI true), .int (bI ml), .int (nI len)])))) := hC1.kept (fun q x hq => by rw [fmUp_n (fun z => by rw [z, hsb1] at hq; cases hq)]; exact fmUp_of hq ha)
      refine r_aload_n E dJ4_append_56 rfl ?_
      refine r_getf E cl_J5 0 (by decide) q255 fmUp_s rfl dJ4_append_57 ?_
      refine r_aload_n E dJ4_append_60 rfl ?_
      refine r_dup E dJ4_append_61 rfl ?_
      refine r_getf E cl_J5 3 (by decide) q259 fmUp_s rfl dJ4_append_62 ?_
      refine r_dup_x1 E dJ4_append_65 rfl rfl ?_
      refine r_iconst E (nI 1) dJ4_append_66 (by decide) ?_
      refine r_iaddN E dJ4_append_67 ?_
      refine r_putf E cl_J5 3 (by decide) rfl q259 (fun _ z => z) fmUp_s (Nat.le_of_ble_eq_true rfl) rfl rfl dJ4_append_68 ?_
      refine r_hp (h' := fmUp (fmUp (fmUp h1 a (true, .inl (3, 2 * cap1, .inl (infl bf1 len)))) sb (true, .inr (.inl (15, [.ref a, .int (bI true), .int (bI ml), .int (nI len)])))) sb (true, .inr (.inl (15, [.ref a, .int (bI true), .int (bI ml), .int (nI (len + 1))])))) (rfl) ?_
      refine r_iload_n E dJ4_append_71 rfl ?_
      have hC3 : CC G (fmUp (fmUp (fmUp h1 a (true, .inl (3, 2 * cap1, .inl (infl bf1 len)))) sb (true, .inr (.inl (15, [.ref a, .int (bI true), .int (bI ml), .int (nI len)])))) sb (true, .inr (.inl (15, [.ref a, .int (bI true), .int (bI ml), .int (nI (len + 1))])))) := hC2.kept (fun q x hq => (fmUp_n (fun z => by rw [z, fmUp_s] at hq; cases hq)).trans hq)
      refine r_callS0 E (ct_J7_putCharSB G hl (fmUp (fmUp (fmUp h1 a (true, .inl (3, 2 * cap1, .inl (infl bf1 len)))) sb (true, .inr (.inl (15, [.ref a, .int (bI true), .int (bI ml), .int (nI len)])))) sb (true, .inr (.inl (15, [.ref a, .int (bI true), .int (bI ml), .int (nI (len + 1))])))) a (2 * cap1) (infl bf1 len) ((fmUp_n (Ne.symm hsa)).trans ((fmUp_n (fun z => hsa z.symm)).trans fmUp_s)) (by omega) hC3 len (nI k) (by omega)) mJ7_putCharSB q88 q1460 q1461 rfl rfl (Nat.le_of_ble_eq_true rfl) (Nat.le_of_ble_eq_true rfl) (Nat.le_of_ble_eq_true rfl) dJ4_append_72 0 0 (Nat.le_of_ble_eq_true rfl) (Nat.le_of_ble_eq_true rfl) ?_
      refine r_aload_n E dJ4_append_75 rfl ?_
      refine r_areturn E P rfl (Or.inl ⟨_, rfl⟩) dJ4_append_76 ⟨rfl, a, ⟨true, ml, 2 * cap1, _, (fmUp_n hsa).trans fmUp_s, fmUp_s, sb_fitU8 (sb_fitU8 (infl_fit _ _)), (fun z => by cases z), fun _ => ⟨by omega, by omega, ?_⟩⟩, ?_, Or.inr ?_⟩
      · intro i hi
        by_cases e : i = len
        · subst e; rw [upd_ne' (j := 2 * i) (by omega), upd_eq' (j := 2 * i) rfl, upd_eq' (j := 2 * i + 1) rfl, upd_eq' rfl, byte_2, byte_2, sshr0]; exact ⟨rfl, rfl⟩
        · rw [upd_ne' (j := 2 * i) (by omega), upd_ne' (j := 2 * i) (by omega), upd_ne' (j := 2 * i + 1) (by omega), upd_ne' (j := 2 * i + 1) (by omega), upd_ne' e]
          have g := infl_v (bf := bf1) (i := i) (k := len) (by omega)
          rw [hbf1 _ (by omega), show bf i &&& nI 255 = T i from hl3 i (by omega)] at g; exact g
      · intro q x hq h2 h3
        have hqa : q ≠ a := fun z => by rw [z] at hq h2; have := hfr1 a x hq h2; rw [ha] at this; cases this
        rw [fmUp_n hqa, fmUp_n h2, fmUp_n h2, fmUp_n hqa]; exact hfr1 q x hq h2
      · cases e : h a with
        | none => rfl
        | some x => have := hfr1 a x e (fun z => hsa z.symm); rw [ha] at this; cases this
    · have hk8 : k ≤ 255 := of_decide_eq_true c2
      refine r_aload_n E dJ4_append_24 rfl ?_
      refine r_getf E cl_J5 0 (by decide) q255 hsb1 rfl dJ4_append_25 ?_
      refine r_aload_n E dJ4_append_28 rfl ?_
      refine r_dup E dJ4_append_29 rfl ?_
      refine r_getf E cl_J5 3 (by decide) q259 hsb1 rfl dJ4_append_30 ?_
      refine r_dup_x1 E dJ4_append_33 rfl rfl ?_
      refine r_iconst E (nI 1) dJ4_append_34 (by decide) ?_
      refine r_iaddN E dJ4_append_35 ?_
      refine r_putf E cl_J5 3 (by decide) rfl q259 (fun _ z => z) hsb1 (Nat.le_of_ble_eq_true rfl) rfl rfl dJ4_append_36 ?_
      refine r_hp (h' := fmUp h1 sb (true, .inr (.inl (15, [.ref v1, .int (bI false), .int (bI ml), .int (nI (len + 1))])))) (rfl) ?_
      refine r_iload_n E dJ4_append_39 rfl ?_
      refine r_i2b E dJ4_append_40 ?_
      refine r_top (v' := .int (nI k).toInt8.toInt32) rfl ?_
      refine r_bast E ((fmUp_n (Ne.symm hne1)).trans hv1) (by omega) (by omega) dJ4_append_41 ?_
      refine r_hp (h' := fmUp (fmUp h1 sb (true, .inr (.inl (15, [.ref v1, .int (bI false), .int (bI ml), .int (nI (len + 1))])))) v1 (true, .inl (3, cap1, .inl (upd bf1 len (nI k).toInt8.toInt32.toInt8.toInt32)))) (rfl) ?_
      refine r_goto (tgt := 75) E dJ4_append_42 (by decide) ?_
      refine r_aload_n E dJ4_append_75 rfl ?_
      refine r_areturn E P rfl (Or.inl ⟨_, rfl⟩) dJ4_append_76 ⟨rfl, v1, ⟨false, ml, cap1, _, (fmUp_n hne1).trans fmUp_s, fmUp_s, sb_fitU8 hfit1, fun _ => ⟨by omega, by omega, ?_⟩, (fun z => by cases z)⟩, ?_, hvv1⟩
      · intro i hi
        by_cases e : i = len
        · subst e; rw [upd_eq' rfl, upd_eq' rfl, byte_2]; exact nI_b255 (by omega)
        · rw [upd_ne' e, upd_ne' e, hbf1 _ (by omega)]; exact hl3 i (by omega)
      · intro q x hq h2 h3
        rw [fmUp_n (hold q x hq h3), fmUp_n h2]; exact hfr1 q x hq h2
  | true =>
    obtain ⟨hu1, hu2, hu3⟩ := hU rfl
    simp only [if_true] at hm1 hcap
    refine r_aload_n E dJ4_append_10 rfl ?_
    refine r_callV1 (v1 := .int (bI false)) E (ct_J4_isLatin1 G hl (h1) sb v1 len 0 true ml (fun _ => 0) hsb1) mJ4_isLatin1 q1419 q1420 q1422 (fun H a1 => fm_rc (ci := 15) (C := RJ5) (T := TJ5) (N := 4) a1 rfl E.v hsb1) rfl rfl (Nat.le_of_ble_eq_true rfl) (Nat.le_of_ble_eq_true rfl) (Nat.le_of_ble_eq_true rfl) dJ4_append_11 1 500 (Nat.le_of_ble_eq_true rfl) (Nat.le_of_ble_eq_true rfl) ?_
    refine r_ifB_eq (b := false) (tgt := 45) E dJ4_append_14 (by decide) (fun _ => ?_) (fun c => absurd c (by decide))
    refine r_aload_n E dJ4_append_45 rfl ?_
    refine r_callV1 (v1 := .int (bI false)) E (ct_J4_isLatin1 G hl (h1) sb v1 len 0 true ml (fun _ => 0) hsb1) mJ4_isLatin1 q1419 q1420 q1422 (fun H a1 => fm_rc (ci := 15) (C := RJ5) (T := TJ5) (N := 4) a1 rfl E.v hsb1) rfl rfl (Nat.le_of_ble_eq_true rfl) (Nat.le_of_ble_eq_true rfl) (Nat.le_of_ble_eq_true rfl) dJ4_append_46 1 500 (Nat.le_of_ble_eq_true rfl) (Nat.le_of_ble_eq_true rfl) ?_
    refine r_ifB_eq (b := false) (tgt := 56) E dJ4_append_49 (by decide) (fun _ => ?_) (fun c => absurd c (by decide))
    refine r_aload_n E dJ4_append_56 rfl ?_
    refine r_getf E cl_J5 0 (by decide) q255 hsb1 rfl dJ4_append_57 ?_
    refine r_aload_n E dJ4_append_60 rfl ?_
    refine r_dup E dJ4_append_61 rfl ?_
    refine r_getf E cl_J5 3 (by decide) q259 hsb1 rfl dJ4_append_62 ?_
    refine r_dup_x1 E dJ4_append_65 rfl rfl ?_
    refine r_iconst E (nI 1) dJ4_append_66 (by decide) ?_
    refine r_iaddN E dJ4_append_67 ?_
    refine r_putf E cl_J5 3 (by decide) rfl q259 (fun _ z => z) hsb1 (Nat.le_of_ble_eq_true rfl) rfl rfl dJ4_append_68 ?_
    refine r_hp (h' := fmUp h1 sb (true, .inr (.inl (15, [.ref v1, .int (bI true), .int (bI ml), .int (nI (len + 1))])))) (rfl) ?_
    refine r_iload_n E dJ4_append_71 rfl ?_
    have hC3 : CC G (fmUp h1 sb (true, .inr (.inl (15, [.ref v1, .int (bI true), .int (bI ml), .int (nI (len + 1))])))) := hC1.kept (fun q x hq => (fmUp_n (fun z => by rw [z, hsb1] at hq; cases hq)).trans hq)
    refine r_callS0 E (ct_J7_putCharSB G hl (fmUp h1 sb (true, .inr (.inl (15, [.ref v1, .int (bI true), .int (bI ml), .int (nI (len + 1))])))) v1 cap1 bf1 ((fmUp_n (Ne.symm hne1)).trans hv1) (by omega) hC3 len (nI k) (by omega)) mJ7_putCharSB q88 q1460 q1461 rfl rfl (Nat.le_of_ble_eq_true rfl) (Nat.le_of_ble_eq_true rfl) (Nat.le_of_ble_eq_true rfl) dJ4_append_72 1 500 (Nat.le_of_ble_eq_true rfl) (Nat.le_of_ble_eq_true rfl) ?_
    refine r_aload_n E dJ4_append_75 rfl ?_
    refine r_areturn E P rfl (Or.inl ⟨_, rfl⟩) dJ4_append_76 ⟨rfl, v1, ⟨true, ml, cap1, _, (fmUp_n hne1).trans fmUp_s, fmUp_s, sb_fitU8 (sb_fitU8 hfit1), (fun z => by cases z), fun _ => ⟨by omega, by omega, ?_⟩⟩, ?_, hvv1⟩
    · intro i hi
      by_cases e : i = len
      · subst e; rw [upd_ne' (j := 2 * i) (by omega), upd_eq' (j := 2 * i) rfl, upd_eq' (j := 2 * i + 1) rfl, upd_eq' rfl, byte_2, byte_2, sshr0]; exact ⟨rfl, rfl⟩
      · rw [upd_ne' (j := 2 * i) (by omega), upd_ne' (j := 2 * i) (by omega), upd_ne' (j := 2 * i + 1) (by omega), upd_ne' (j := 2 * i + 1) (by omega), upd_ne' e, hbf1 _ (by omega), hbf1 _ (by omega)]; exact hu3 i (by omega)
    · intro q x hq h2 h3
      rw [fmUp_n (hold q x hq h3), fmUp_n h2]; exact hfr1 q x hq h2

