set_option maxHeartbeats 4000000 in
theorem ctT_X10_letter (G : fmG) (hl : (fmLn G).stackTraces = false) (h : fmHp) {x far qu d pa sb : Nat} {fl re de : Int32} {sv : Value} (hC : CC G h) (hx : DkO h x far qu d pa sb fl re de sv) (p a : Nat) (hp : h p = some (true, .inr (.inl (8, [.int (nI a), .ref x])))) (v len : Nat) (T : Nat → Int32) (hS : SBt h sb v len T) (hlen : len ≤ 60) (hch : ∀ i, i < len → ∃ k, k < 65536 ∧ T i = nI k) (ha : a ≤ 1000) (hal : a < len) (hlt : sLet (T a) = true) : Ct G yX10_letter (ws_ yX10_letter cX10_letter 3 (some .char)) { frames := 6, cells := 0, slots := 0, locals := 132 } [.ref p] h (fmRet (some (.int (T a))) (fmUp h p (true, .inr (.inl (8, [.int (nI (a + 1)), .ref x]))))) fmNo := by
  refine Ct.of hl (by decide +kernel) (Nat.le_of_ble_eq_true rfl) (fun Γ E P => ?_)
  obtain ⟨u, ml, cap, bf, hsb, hv, hrr⟩ := id hS
  have hpx : p ≠ x := fun z => by have hx0 : h x = some (true, .inr (.inl (1, [.ref far, .ref qu, .ref d, .ref pa, .ref sb, .int fl, .int re, .int de, sv]))) := hx; rw [z, hx0] at hp; cases hp
  have hps : p ≠ sb := fun z => by rw [z, hsb] at hp; cases hp
  have hpv : p ≠ v := fun z => by rw [z, hv] at hp; cases hp
  have hsee : pSee T len a false (nI 97) (nI 122) = true := by show (!false && (decide (a < len) && sBetween (T a) (nI 97) (nI 122))) = true; rw [decide_eq_true hal, sLet_az hlt]; rfl
  obtain ⟨-, -, -, -, -, ⟨s1, s2, hS12⟩, -, -⟩ := id hC
  refine r_ldcS E dX10_letter_0 rfl ?_
  refine r_astore_n E [some (.ref p), some (.ref (fmAd G 12)), none] dX10_letter_2 rfl rfl ?_
  refine r_aload_n E dX10_letter_3 rfl ?_
  refine r_getf E cl_X10 0 (by decide) q1488 hp rfl dX10_letter_4 ?_
  refine r_aload_n E dX10_letter_7 rfl ?_
  refine r_getf E cl_X10 1 (by decide) q1489 hp rfl dX10_letter_8 ?_
  refine r_getfN E cl_X1 4 (by decide) q274 hx rfl dX10_letter_11 ?_
  refine r_callV1 (v1 := .int (nI len)) E (ct_J5_length G hl (h) sb v len 0 u ml (fun _ => 0) hsb) mJ5_length q1510 q1353 q1354 (fun H a1 => fm_rc (ci := 15) (C := RJ5) (T := TJ5) (N := 4) a1 rfl E.v hsb) rfl rfl (Nat.le_of_ble_eq_true rfl) (Nat.le_of_ble_eq_true rfl) (Nat.le_of_ble_eq_true rfl) dX10_letter_14 0 0 (Nat.le_of_ble_eq_true rfl) (Nat.le_of_ble_eq_true rfl) ?_
  refine r_icmpN_ge (tgt := 45) E dX10_letter_17 (by decide) (by omega) (by omega) (fun c1 => ?_) (fun c1 => ?_)
  · exfalso; omega
  · obtain ⟨k, hk, hT⟩ := hch a hal
    refine r_aload_n E dX10_letter_20 rfl ?_
    refine r_aload_n E dX10_letter_21 rfl ?_
    refine r_getf E cl_X10 1 (by decide) q1489 hp rfl dX10_letter_22 ?_
    refine r_getfN E cl_X1 4 (by decide) q274 hx rfl dX10_letter_25 ?_
    refine r_aload_n E dX10_letter_28 rfl ?_
    refine r_getf E cl_X10 0 (by decide) q1488 hp rfl dX10_letter_29 ?_
    refine r_callV1 (v1 := .int (nI k)) E (ct_J5_charAt G hl h sb v len T hS hC a k hal (by omega) hk hT) mJ5_charAt q1511 q1512 q1513 (fun H a1 => fm_rc (ci := 15) (C := RJ5) (T := TJ5) (N := 4) a1 rfl E.v hsb) rfl rfl (Nat.le_of_ble_eq_true rfl) (Nat.le_of_ble_eq_true rfl) (Nat.le_of_ble_eq_true rfl) dX10_letter_32 0 0 (Nat.le_of_ble_eq_true rfl) (Nat.le_of_ble_eq_true rfl) ?_
    refine r_callV1 (v1 := .int (sdpI k)) E (ct_J6_indexOf G hl h hC k hk) mJ6_indexOf q1523 q1524 q1525 (fun H a1 => fm_rc (ci := 16) (C := RJ6) (T := TJ6) (N := 4) a1 rfl E.v hS12) rfl rfl (Nat.le_of_ble_eq_true rfl) (Nat.le_of_ble_eq_true rfl) (Nat.le_of_ble_eq_true rfl) dX10_letter_35 0 0 (Nat.le_of_ble_eq_true rfl) (Nat.le_of_ble_eq_true rfl) ?_
    refine r_if_lt (tgt := 45) E dX10_letter_38 (by decide) (fun c => absurd c (Int32.not_lt.mpr ((sdpI_sLet hk).mpr (by rw [← hT]; exact hlt)))) (fun _ => ?_)
    refine r_iconst E (nI 1) dX10_letter_41 (by decide) ?_
    refine r_goto (tgt := 46) E dX10_letter_42 (by decide) ?_
    refine r_istore_n E [some (.ref p), some (.ref (fmAd G 12)), some (.int (nI 1))] dX10_letter_46 rfl rfl ?_
    refine r_iload_n E dX10_letter_47 rfl ?_
    refine r_top (v' := .int (bI true)) rfl ?_
    refine r_ifB_eq (b := true) (tgt := 62) E dX10_letter_48 (by decide) (fun c => absurd c (by decide)) (fun _ => ?_)
    refine r_aload_n E dX10_letter_51 rfl ?_
    refine r_bipush E (nI 97) dX10_letter_52 (by decide) ?_
    refine r_bipush E (nI 122) dX10_letter_54 (by decide) ?_
    refine r_callV1 (v1 := .int (T a)) E (ctT_X10_take G hl h hC hx p a hp v len T hS hlen hch (by omega) (nI 97) (nI 122) hsee) mX10_take q1591 q1593 qs29 (fun H a1 => fm_rc (ci := 8) (C := RX10) (T := TX10) (N := 2) a1 rfl E.v hp) rfl rfl (Nat.le_of_ble_eq_true rfl) (Nat.le_of_ble_eq_true rfl) (Nat.le_of_ble_eq_true rfl) dX10_letter_56 0 0 (Nat.le_of_ble_eq_true rfl) (Nat.le_of_ble_eq_true rfl) ?_
    have hx1 := (fmUp_n (e := (true, .inr (.inl (8, [.int (nI (a + 1)), .ref x])))) (fun z => hpx z.symm)).trans hx
    have hS1 : SBt (fmUp h p (true, .inr (.inl (8, [.int (nI (a + 1)), .ref x])))) sb v len T := hS.kept (fun z hz => (fmUp_n (fun z => hps z.symm)).trans hz) (fun z hz => (fmUp_n (fun z => hpv z.symm)).trans hz)
    have hC1 : CC G (fmUp h p (true, .inr (.inl (8, [.int (nI (a + 1)), .ref x])))) := hC.kept (fun q z hq => (fmUp_n (fun z => by rw [z, hp] at hq; cases hq)).trans hq)
    refine r_goto (tgt := 70) E dX10_letter_59 (by decide) ?_
    obtain ⟨k9, hk9, hT9⟩ := hch a hal
    exact r_greturn E P rfl (by rw [hT9]; exact nar_c hk9) dX10_letter_70 ⟨rfl, rfl⟩

set_option maxHeartbeats 4000000 in
theorem ctF_X10_letter (G : fmG) (hl : (fmLn G).stackTraces = false) (h : fmHp) {x far qu d pa sb : Nat} {fl re de : Int32} {sv : Value} (hC : CC G h) (hx : DkO h x far qu d pa sb fl re de sv) (p a : Nat) (hp : h p = some (true, .inr (.inl (8, [.int (nI a), .ref x])))) (v len : Nat) (T : Nat → Int32) (hS : SBt h sb v len T) (hlen : len ≤ 60) (hch : ∀ i, i < len → ∃ k, k < 65536 ∧ T i = nI k) (ha : a ≤ 1000) (hno : ¬ (a < len ∧ sLet (T a) = true)) : Ct G yX10_letter (ws_ yX10_letter cX10_letter 3 (some .char)) { frames := 6, cells := 1, slots := 7, locals := 132 } [.ref p] h (fun _ _ => False) (fun q Ex h' => Ex = "FlintMine$FaultException" ∧ h q = none ∧ h' = fmUp h q (true, .inr (.inl (11, [.null, .null, .null, .null, .null, .int 0, .int (nI a)])))) := by
  refine Ct.of hl (by decide +kernel) (Nat.le_of_ble_eq_true rfl) (fun Γ E P => ?_)
  obtain ⟨u, ml, cap, bf, hsb, hv, hrr⟩ := id hS
  have hpx : p ≠ x := fun z => by have hx0 : h x = some (true, .inr (.inl (1, [.ref far, .ref qu, .ref d, .ref pa, .ref sb, .int fl, .int re, .int de, sv]))) := hx; rw [z, hx0] at hp; cases hp
  have hps : p ≠ sb := fun z => by rw [z, hsb] at hp; cases hp
  have hpv : p ≠ v := fun z => by rw [z, hv] at hp; cases hp
  obtain ⟨-, -, -, -, -, ⟨s1, s2, hS12⟩, -, -⟩ := id hC
  refine r_ldcS E dX10_letter_0 rfl ?_
  refine r_astore_n E [some (.ref p), some (.ref (fmAd G 12)), none] dX10_letter_2 rfl rfl ?_
  refine r_aload_n E dX10_letter_3 rfl ?_
  refine r_getf E cl_X10 0 (by decide) q1488 hp rfl dX10_letter_4 ?_
  refine r_aload_n E dX10_letter_7 rfl ?_
  refine r_getf E cl_X10 1 (by decide) q1489 hp rfl dX10_letter_8 ?_
  refine r_getfN E cl_X1 4 (by decide) q274 hx rfl dX10_letter_11 ?_
  refine r_callV1 (v1 := .int (nI len)) E (ct_J5_length G hl (h) sb v len 0 u ml (fun _ => 0) hsb) mJ5_length q1510 q1353 q1354 (fun H a1 => fm_rc (ci := 15) (C := RJ5) (T := TJ5) (N := 4) a1 rfl E.v hsb) rfl rfl (Nat.le_of_ble_eq_true rfl) (Nat.le_of_ble_eq_true rfl) (Nat.le_of_ble_eq_true rfl) dX10_letter_14 1 7 (Nat.le_of_ble_eq_true rfl) (Nat.le_of_ble_eq_true rfl) ?_
  refine r_icmpN_ge (tgt := 45) E dX10_letter_17 (by decide) (by omega) (by omega) (fun c1 => ?_) (fun c1 => ?_)
  · refine r_iconst E (nI 0) dX10_letter_45 (by decide) ?_
    refine r_istore_n E [some (.ref p), some (.ref (fmAd G 12)), some (.int (nI 0))] dX10_letter_46 rfl rfl ?_
    refine r_iload_n E dX10_letter_47 rfl ?_
    refine r_top (v' := .int (bI false)) rfl ?_
    refine r_ifB_eq (b := false) (tgt := 62) E dX10_letter_48 (by decide) (fun _ => ?_) (fun c => absurd c (by decide))
    refine r_aload_n E dX10_letter_62 rfl ?_
    refine r_bipush E (nI 115) dX10_letter_63 (by decide) ?_
    refine r_bipush E (nI 115) dX10_letter_65 (by decide) ?_
    have hsee : pSee T len a false (nI 115) (nI 115) = false := by show (!false && (decide (a < len) && sBetween (T a) (nI 115) (nI 115))) = false; rw [decide_eq_false (by omega)]; rfl
    refine r_callV E (ctF_X10_take G hl h hC hx p a hp v len T hS hlen hch (by omega) (nI 115) (nI 115) hsee) mX10_take q1591 q1593 qs29 (fun H a1 => fm_rc (ci := 8) (C := RX10) (T := TX10) (N := 2) a1 rfl E.v hp) rfl rfl (Nat.le_of_ble_eq_true rfl) (Nat.le_of_ble_eq_true rfl) (Nat.le_of_ble_eq_true rfl) dX10_letter_67 0 0 (Nat.le_of_ble_eq_true rfl) (Nat.le_of_ble_eq_true rfl) (fun _ _ q => q.elim) (fun q Ex h' hx => ?_)
    exact r_xout E P (fun x hx => by cases hx) hx
  · have hal : a < len := by omega
    have hlt : sLet (T a) = false := Bool.eq_false_iff.mpr (fun z => hno ⟨hal, z⟩)
    obtain ⟨k, hk, hT⟩ := hch a hal
    refine r_aload_n E dX10_letter_20 rfl ?_
    refine r_aload_n E dX10_letter_21 rfl ?_
    refine r_getf E cl_X10 1 (by decide) q1489 hp rfl dX10_letter_22 ?_
    refine r_getfN E cl_X1 4 (by decide) q274 hx rfl dX10_letter_25 ?_
    refine r_aload_n E dX10_letter_28 rfl ?_
    refine r_getf E cl_X10 0 (by decide) q1488 hp rfl dX10_letter_29 ?_
    refine r_callV1 (v1 := .int (nI k)) E (ct_J5_charAt G hl h sb v len T hS hC a k hal (by omega) hk hT) mJ5_charAt q1511 q1512 q1513 (fun H a1 => fm_rc (ci := 15) (C := RJ5) (T := TJ5) (N := 4) a1 rfl E.v hsb) rfl rfl (Nat.le_of_ble_eq_true rfl) (Nat.le_of_ble_eq_true rfl) (Nat.le_of_ble_eq_true rfl) dX10_letter_32 1 7 (Nat.le_of_ble_eq_true rfl) (Nat.le_of_ble_eq_true rfl) ?_
    refine r_callV1 (v1 := .int (sdpI k)) E (ct_J6_indexOf G hl h hC k hk) mJ6_indexOf q1523 q1524 q1525 (fun H a1 => fm_rc (ci := 16) (C := RJ6) (T := TJ6) (N := 4) a1 rfl E.v hS12) rfl rfl (Nat.le_of_ble_eq_true rfl) (Nat.le_of_ble_eq_true rfl) (Nat.le_of_ble_eq_true rfl) dX10_letter_35 1 7 (Nat.le_of_ble_eq_true rfl) (Nat.le_of_ble_eq_true rfl) ?_
    refine r_if_lt (tgt := 45) E dX10_letter_38 (by decide) (fun _ => ?_) (fun c => absurd ((sdpI_sLet hk).mp (Int32.not_lt.mp c)) (by rw [← hT, hlt]; exact Bool.false_ne_true))
    refine r_iconst E (nI 0) dX10_letter_45 (by decide) ?_
    refine r_istore_n E [some (.ref p), some (.ref (fmAd G 12)), some (.int (nI 0))] dX10_letter_46 rfl rfl ?_
    refine r_iload_n E dX10_letter_47 rfl ?_
    refine r_top (v' := .int (bI false)) rfl ?_
    refine r_ifB_eq (b := false) (tgt := 62) E dX10_letter_48 (by decide) (fun _ => ?_) (fun c => absurd c (by decide))
    refine r_aload_n E dX10_letter_62 rfl ?_
    refine r_bipush E (nI 115) dX10_letter_63 (by decide) ?_
    refine r_bipush E (nI 115) dX10_letter_65 (by decide) ?_
    have hsee : pSee T len a false (nI 115) (nI 115) = false := by show (!false && (decide (a < len) && sBetween (T a) (nI 115) (nI 115))) = false; rw [sLet_s hlt, Bool.and_false]; rfl
    refine r_callV E (ctF_X10_take G hl h hC hx p a hp v len T hS hlen hch (by omega) (nI 115) (nI 115) hsee) mX10_take q1591 q1593 qs29 (fun H a1 => fm_rc (ci := 8) (C := RX10) (T := TX10) (N := 2) a1 rfl E.v hp) rfl rfl (Nat.le_of_ble_eq_true rfl) (Nat.le_of_ble_eq_true rfl) (Nat.le_of_ble_eq_true rfl) dX10_letter_67 0 0 (Nat.le_of_ble_eq_true rfl) (Nat.le_of_ble_eq_true rfl) (fun _ _ q => q.elim) (fun q Ex h' hx => ?_)
    exact r_xout E P (fun x hx => by cases hx) hx

