set_option maxHeartbeats 4000000 in
theorem ctT_X1_cellOf (G : fmG) (hl : (fmLn G).stackTraces = false) (h : fmHp) (a : Nat) (b : Bool) (f : Nat → Int32) (ha : h a = some (b, .inl (0, 1, .inl f))) (k : Nat) (hk : k < 64) (hf : f 0 = nI k) : Ct G yX1_cellOf (ws_ yX1_cellOf cX1_cellOf 5 (some .int)) { frames := 7, cells := 0, slots := 0, locals := 120 } [.ref a] h (fmRet (some (.int (nI k))) h) fmNo := by
  refine Ct.of hl (by decide +kernel) (Nat.le_of_ble_eq_true rfl) (fun Γ E P => ?_)
  refine r_aload_n E dX1_cellOf_0 rfl ?_
  refine r_astore_n E [some (.ref a), some (.ref a), none, none, none] dX1_cellOf_1 rfl rfl ?_
  refine r_aload_n E dX1_cellOf_2 rfl ?_
  refine r_alen E ha rfl dX1_cellOf_3 ?_
  refine r_istore_n E [some (.ref a), some (.ref a), some (.int (nI 1)), none, none] dX1_cellOf_4 rfl rfl ?_
  refine r_iconst E (nI 0) dX1_cellOf_5 (by decide) ?_
  refine r_istore_n E [some (.ref a), some (.ref a), some (.int (nI 1)), some (.int (nI 0)), none] dX1_cellOf_6 rfl rfl ?_
  refine r_iload_n E dX1_cellOf_7 rfl ?_
  refine r_iload_n E dX1_cellOf_8 rfl ?_
  refine r_icmpN_ge (tgt := 34) E dX1_cellOf_9 (by decide) (by decide) (by decide) (fun c => absurd c (by decide)) (fun _ => ?_)
  refine r_aload_n E dX1_cellOf_12 rfl ?_
  refine r_iload_n E dX1_cellOf_13 rfl ?_
  refine r_iald E ha (by decide) (by decide) dX1_cellOf_14 ?_
  refine r_top (v' := .int (nI k)) (congrArg Value.int hf) ?_
  refine r_istore E [some (.ref a), some (.ref a), some (.int (nI 1)), some (.int (nI 0)), some (.int (nI k))] dX1_cellOf_15 rfl rfl ?_
  refine r_iload E dX1_cellOf_17 rfl ?_
  refine r_iconst E (nI 0) dX1_cellOf_19 (by decide) ?_
  refine r_bipush E (nI 63) dX1_cellOf_20 (by decide) ?_
  refine r_callS1 (v1 := .int (bI (sBetween (nI k) (nI 0) (nI 63)))) E (ct_X1_inRange G hl (h) (nI k) (nI 0) (nI 63)) mX1_inRange q78 q628 q629 rfl rfl (Nat.le_of_ble_eq_true rfl) (Nat.le_of_ble_eq_true rfl) (Nat.le_of_ble_eq_true rfl) dX1_cellOf_22 0 0 (Nat.le_of_ble_eq_true rfl) (Nat.le_of_ble_eq_true rfl) ?_
  refine r_top (v' := .int (bI true)) (by rw [sCell_n hk]) ?_
  refine r_callS0 E (ctT_X1_requireIndex G hl (h)) mX1_requireIndex q78 q631 q632 rfl rfl (Nat.le_of_ble_eq_true rfl) (Nat.le_of_ble_eq_true rfl) (Nat.le_of_ble_eq_true rfl) dX1_cellOf_25 0 0 (Nat.le_of_ble_eq_true rfl) (Nat.le_of_ble_eq_true rfl) ?_
  refine r_iinc E (nI 1) [some (.ref a), some (.ref a), some (.int (nI 1)), some (.int (nI 1)), some (.int (nI k))] dX1_cellOf_28 rfl (nI_1 0) rfl rfl ?_
  refine r_goto (tgt := 7) E dX1_cellOf_31 (by decide) ?_
  refine r_iload_n E dX1_cellOf_7 rfl ?_
  refine r_iload_n E dX1_cellOf_8 rfl ?_
  refine r_icmpN_ge (tgt := 34) E dX1_cellOf_9 (by decide) (by decide) (by decide) (fun _ => ?_) (fun c => absurd c (by decide))
  refine r_aload_n E dX1_cellOf_34 rfl ?_
  refine r_iconst E (nI 0) dX1_cellOf_35 (by decide) ?_
  refine r_iald E ha (by decide) (by decide) dX1_cellOf_36 ?_
  refine r_top (v' := .int (nI k)) (congrArg Value.int hf) ?_
  exact r_ireturn E P rfl dX1_cellOf_37 ⟨rfl, rfl⟩

set_option maxHeartbeats 4000000 in
theorem ctF_X1_cellOf (G : fmG) (hl : (fmLn G).stackTraces = false) (h : fmHp) (a : Nat) (b : Bool) (f : Nat → Int32) (ha : h a = some (b, .inl (0, 1, .inl f))) (hf : sBetween (f 0) (nI 0) (nI 63) = false) : Ct G yX1_cellOf (ws_ yX1_cellOf cX1_cellOf 5 (some .int)) { frames := 7, cells := 1, slots := 6, locals := 120 } [.ref a] h (fun _ _ => False) (fun q Ex h' => Ex = "java/lang/IndexOutOfBoundsException" ∧ h q = none ∧ (fmK0 G).size ≤ q ∧ h' = fmUp h q (true, .inr (.inl (18, [])))) := by
  refine Ct.of hl (by decide +kernel) (Nat.le_of_ble_eq_true rfl) (fun Γ E P => ?_)
  refine r_aload_n E dX1_cellOf_0 rfl ?_
  refine r_astore_n E [some (.ref a), some (.ref a), none, none, none] dX1_cellOf_1 rfl rfl ?_
  refine r_aload_n E dX1_cellOf_2 rfl ?_
  refine r_alen E ha rfl dX1_cellOf_3 ?_
  refine r_istore_n E [some (.ref a), some (.ref a), some (.int (nI 1)), none, none] dX1_cellOf_4 rfl rfl ?_
  refine r_iconst E (nI 0) dX1_cellOf_5 (by decide) ?_
  refine r_istore_n E [some (.ref a), some (.ref a), some (.int (nI 1)), some (.int (nI 0)), none] dX1_cellOf_6 rfl rfl ?_
  refine r_iload_n E dX1_cellOf_7 rfl ?_
  refine r_iload_n E dX1_cellOf_8 rfl ?_
  refine r_icmpN_ge (tgt := 34) E dX1_cellOf_9 (by decide) (by decide) (by decide) (fun c => absurd c (by decide)) (fun _ => ?_)
  refine r_aload_n E dX1_cellOf_12 rfl ?_
  refine r_iload_n E dX1_cellOf_13 rfl ?_
  refine r_iald E ha (by decide) (by decide) dX1_cellOf_14 ?_
  refine r_istore E [some (.ref a), some (.ref a), some (.int (nI 1)), some (.int (nI 0)), some (.int (f 0))] dX1_cellOf_15 rfl rfl ?_
  refine r_iload E dX1_cellOf_17 rfl ?_
  refine r_iconst E (nI 0) dX1_cellOf_19 (by decide) ?_
  refine r_bipush E (nI 63) dX1_cellOf_20 (by decide) ?_
  refine r_callS1 (v1 := .int (bI (sBetween (f 0) (nI 0) (nI 63)))) E (ct_X1_inRange G hl (h) (f 0) (nI 0) (nI 63)) mX1_inRange q78 q628 q629 rfl rfl (Nat.le_of_ble_eq_true rfl) (Nat.le_of_ble_eq_true rfl) (Nat.le_of_ble_eq_true rfl) dX1_cellOf_22 1 6 (Nat.le_of_ble_eq_true rfl) (Nat.le_of_ble_eq_true rfl) ?_
  refine r_top (v' := .int (bI false)) (by rw [hf]) ?_
  refine r_callS E (ctF_X1_requireIndex G hl h) mX1_requireIndex q78 q631 q632 rfl rfl (Nat.le_of_ble_eq_true rfl) (Nat.le_of_ble_eq_true rfl) (Nat.le_of_ble_eq_true rfl) dX1_cellOf_25 0 0 (Nat.le_of_ble_eq_true rfl) (Nat.le_of_ble_eq_true rfl) (fun _ _ q => q.elim) (fun q Ex h' hx => ?_)
  exact r_xout E P (fun x hx => by cases hx) hx

set_option maxHeartbeats 4000000 in
theorem ctT1_X1_require (G : fmG) (hl : (fmLn G).stackTraces = false) (h : fmHp) (a : Nat) (f : Nat → Int32) (ha : h a = some (true, .inl (5, 1, .inl f))) (hf0 : f 0 = bI true) : Ct G yX1_require (ws_ yX1_require cX1_require 5 none) { frames := 0, cells := 0, slots := 0, locals := 0 } [.ref a] h (fmRet none h) fmNo := by
  refine Ct.of hl (by decide +kernel) (Nat.le_of_ble_eq_true rfl) (fun Γ E P => ?_)
  refine r_aload_n E dX1_require_0 rfl ?_
  refine r_astore_n E [some (.ref a), some (.ref a), none, none, none] dX1_require_1 rfl rfl ?_
  refine r_aload_n E dX1_require_2 rfl ?_
  refine r_alen E ha rfl dX1_require_3 ?_
  refine r_istore_n E [some (.ref a), some (.ref a), some (.int (nI 1)), none, none] dX1_require_4 rfl rfl ?_
  refine r_iconst E (nI 0) dX1_require_5 (by decide) ?_
  refine r_istore_n E [some (.ref a), some (.ref a), some (.int (nI 1)), some (.int (nI 0)), none] dX1_require_6 rfl rfl ?_
  refine r_iload_n E dX1_require_7 rfl ?_
  refine r_iload_n E dX1_require_8 rfl ?_
  refine r_icmpN_ge (tgt := 36) E dX1_require_9 (by decide) (by decide) (by decide) (fun c => absurd c (by decide)) (fun _ => ?_)
  refine r_aload_n E dX1_require_12 rfl ?_
  refine r_iload_n E dX1_require_13 rfl ?_
  refine r_zald E ha (by decide) (by decide) dX1_require_14 ?_
  refine r_top (v' := .int (bI true)) (congrArg Value.int hf0) ?_
  refine r_istore E [some (.ref a), some (.ref a), some (.int (nI 1)), some (.int (nI 0)), some (.int (bI true))] dX1_require_15 rfl rfl ?_
  refine r_iload E dX1_require_17 rfl ?_
  refine r_ifB_ne (b := true) (tgt := 30) E dX1_require_19 (by decide) (fun _ => ?_) (fun c => absurd c (by decide))
  refine r_iinc E (nI 1) [some (.ref a), some (.ref a), some (.int (nI 1)), some (.int (nI 1)), some (.int (bI true))] dX1_require_30 rfl (nI_1 0) rfl rfl ?_
  refine r_goto (tgt := 7) E dX1_require_33 (by decide) ?_
  refine r_iload_n E dX1_require_7 rfl ?_
  refine r_iload_n E dX1_require_8 rfl ?_
  refine r_icmpN_ge (tgt := 36) E dX1_require_9 (by decide) (by decide) (by decide) (fun _ => ?_) (fun c => absurd c (by decide))
  exact r_return E P rfl dX1_require_36 ⟨rfl, rfl⟩

set_option maxHeartbeats 4000000 in
theorem ctF1_X1_require (G : fmG) (hl : (fmLn G).stackTraces = false) (h : fmHp) (a : Nat) (f : Nat → Int32) (ha : h a = some (true, .inl (5, 1, .inl f))) (hf0 : f 0 = bI false) : Ct G yX1_require (ws_ yX1_require cX1_require 5 none) { frames := 6, cells := 1, slots := 6, locals := 100 } [.ref a] h (fun _ _ => False) (fun q Ex h' => Ex = "java/lang/IllegalArgumentException" ∧ h q = none ∧ (fmK0 G).size ≤ q ∧ h' = fmUp h q (true, .inr (.inl (19, [])))) := by
  refine Ct.of hl (by decide +kernel) (Nat.le_of_ble_eq_true rfl) (fun Γ E P => ?_)
  refine r_aload_n E dX1_require_0 rfl ?_
  refine r_astore_n E [some (.ref a), some (.ref a), none, none, none] dX1_require_1 rfl rfl ?_
  refine r_aload_n E dX1_require_2 rfl ?_
  refine r_alen E ha rfl dX1_require_3 ?_
  refine r_istore_n E [some (.ref a), some (.ref a), some (.int (nI 1)), none, none] dX1_require_4 rfl rfl ?_
  refine r_iconst E (nI 0) dX1_require_5 (by decide) ?_
  refine r_istore_n E [some (.ref a), some (.ref a), some (.int (nI 1)), some (.int (nI 0)), none] dX1_require_6 rfl rfl ?_
  refine r_iload_n E dX1_require_7 rfl ?_
  refine r_iload_n E dX1_require_8 rfl ?_
  refine r_icmpN_ge (tgt := 36) E dX1_require_9 (by decide) (by decide) (by decide) (fun c => absurd c (by decide)) (fun _ => ?_)
  refine r_aload_n E dX1_require_12 rfl ?_
  refine r_iload_n E dX1_require_13 rfl ?_
  refine r_zald E ha (by decide) (by decide) dX1_require_14 ?_
  refine r_top (v' := .int (bI false)) (congrArg Value.int hf0) ?_
  refine r_istore E [some (.ref a), some (.ref a), some (.int (nI 1)), some (.int (nI 0)), some (.int (bI false))] dX1_require_15 rfl rfl ?_
  refine r_iload E dX1_require_17 rfl ?_
  refine r_ifB_ne (b := false) (tgt := 30) E dX1_require_19 (by decide) (fun c => absurd c (by decide)) (fun _ => ?_)
  refine r_make E (ci := 19) rfl (by decide +kernel) (by decide +kernel) q666 q103 at_S_iae at_G_iae dX1_require_22 dX1_require_25 dX1_require_26 (Nat.le_of_ble_eq_true rfl) (Nat.le_of_ble_eq_true rfl) 0 0 (Nat.le_of_ble_eq_true rfl) (Nat.le_of_ble_eq_true rfl) (fun x2 hx2 kx2 => ?_)
  refine r_athrow E (ci := 19) rfl fmUp_s dX1_require_29 ?_
  exact r_xout E P (fun x hx => by cases hx) ⟨rfl, hx2, kx2, rfl⟩

set_option maxHeartbeats 4000000 in
theorem ctT2_X1_require (G : fmG) (hl : (fmLn G).stackTraces = false) (h : fmHp) (a : Nat) (f : Nat → Int32) (ha : h a = some (true, .inl (5, 2, .inl f))) (hf0 : f 0 = bI true) (hf1 : f 1 = bI true) : Ct G yX1_require (ws_ yX1_require cX1_require 5 none) { frames := 0, cells := 0, slots := 0, locals := 0 } [.ref a] h (fmRet none h) fmNo := by
  refine Ct.of hl (by decide +kernel) (Nat.le_of_ble_eq_true rfl) (fun Γ E P => ?_)
  refine r_aload_n E dX1_require_0 rfl ?_
  refine r_astore_n E [some (.ref a), some (.ref a), none, none, none] dX1_require_1 rfl rfl ?_
  refine r_aload_n E dX1_require_2 rfl ?_
  refine r_alen E ha rfl dX1_require_3 ?_
  refine r_istore_n E [some (.ref a), some (.ref a), some (.int (nI 2)), none, none] dX1_require_4 rfl rfl ?_
  refine r_iconst E (nI 0) dX1_require_5 (by decide) ?_
  refine r_istore_n E [some (.ref a), some (.ref a), some (.int (nI 2)), some (.int (nI 0)), none] dX1_require_6 rfl rfl ?_
  refine r_iload_n E dX1_require_7 rfl ?_
  refine r_iload_n E dX1_require_8 rfl ?_
  refine r_icmpN_ge (tgt := 36) E dX1_require_9 (by decide) (by decide) (by decide) (fun c => absurd c (by decide)) (fun _ => ?_)
  refine r_aload_n E dX1_require_12 rfl ?_
  refine r_iload_n E dX1_require_13 rfl ?_
  refine r_zald E ha (by decide) (by decide) dX1_require_14 ?_
  refine r_top (v' := .int (bI true)) (congrArg Value.int hf0) ?_
  refine r_istore E [some (.ref a), some (.ref a), some (.int (nI 2)), some (.int (nI 0)), some (.int (bI true))] dX1_require_15 rfl rfl ?_
  refine r_iload E dX1_require_17 rfl ?_
  refine r_ifB_ne (b := true) (tgt := 30) E dX1_require_19 (by decide) (fun _ => ?_) (fun c => absurd c (by decide))
  refine r_iinc E (nI 1) [some (.ref a), some (.ref a), some (.int (nI 2)), some (.int (nI 1)), some (.int (bI true))] dX1_require_30 rfl (nI_1 0) rfl rfl ?_
  refine r_goto (tgt := 7) E dX1_require_33 (by decide) ?_
  refine r_iload_n E dX1_require_7 rfl ?_
  refine r_iload_n E dX1_require_8 rfl ?_
  refine r_icmpN_ge (tgt := 36) E dX1_require_9 (by decide) (by decide) (by decide) (fun c => absurd c (by decide)) (fun _ => ?_)
  refine r_aload_n E dX1_require_12 rfl ?_
  refine r_iload_n E dX1_require_13 rfl ?_
  refine r_zald E ha (by decide) (by decide) dX1_require_14 ?_
  refine r_top (v' := .int (bI true)) (congrArg Value.int hf1) ?_
  refine r_istore E [some (.ref a), some (.ref a), some (.int (nI 2)), some (.int (nI 1)), some (.int (bI true))] dX1_require_15 rfl rfl ?_
  refine r_iload E dX1_require_17 rfl ?_
  refine r_ifB_ne (b := true) (tgt := 30) E dX1_require_19 (by decide) (fun _ => ?_) (fun c => absurd c (by decide))
  refine r_iinc E (nI 2) [some (.ref a), some (.ref a), some (.int (nI 2)), some (.int (nI 2)), some (.int (bI true))] dX1_require_30 rfl (nI_1 1) rfl rfl ?_
  refine r_goto (tgt := 7) E dX1_require_33 (by decide) ?_
  refine r_iload_n E dX1_require_7 rfl ?_
  refine r_iload_n E dX1_require_8 rfl ?_
  refine r_icmpN_ge (tgt := 36) E dX1_require_9 (by decide) (by decide) (by decide) (fun _ => ?_) (fun c => absurd c (by decide))
  exact r_return E P rfl dX1_require_36 ⟨rfl, rfl⟩

set_option maxHeartbeats 4000000 in
theorem ctFa_X1_require (G : fmG) (hl : (fmLn G).stackTraces = false) (h : fmHp) (a : Nat) (f : Nat → Int32) (ha : h a = some (true, .inl (5, 2, .inl f))) (b : Bool) (hf0 : f 0 = bI false) (hf1 : f 1 = bI b) : Ct G yX1_require (ws_ yX1_require cX1_require 5 none) { frames := 6, cells := 1, slots := 6, locals := 100 } [.ref a] h (fun _ _ => False) (fun q Ex h' => Ex = "java/lang/IllegalArgumentException" ∧ h q = none ∧ (fmK0 G).size ≤ q ∧ h' = fmUp h q (true, .inr (.inl (19, [])))) := by
  refine Ct.of hl (by decide +kernel) (Nat.le_of_ble_eq_true rfl) (fun Γ E P => ?_)
  refine r_aload_n E dX1_require_0 rfl ?_
  refine r_astore_n E [some (.ref a), some (.ref a), none, none, none] dX1_require_1 rfl rfl ?_
  refine r_aload_n E dX1_require_2 rfl ?_
  refine r_alen E ha rfl dX1_require_3 ?_
  refine r_istore_n E [some (.ref a), some (.ref a), some (.int (nI 2)), none, none] dX1_require_4 rfl rfl ?_
  refine r_iconst E (nI 0) dX1_require_5 (by decide) ?_
  refine r_istore_n E [some (.ref a), some (.ref a), some (.int (nI 2)), some (.int (nI 0)), none] dX1_require_6 rfl rfl ?_
  refine r_iload_n E dX1_require_7 rfl ?_
  refine r_iload_n E dX1_require_8 rfl ?_
  refine r_icmpN_ge (tgt := 36) E dX1_require_9 (by decide) (by decide) (by decide) (fun c => absurd c (by decide)) (fun _ => ?_)
  refine r_aload_n E dX1_require_12 rfl ?_
  refine r_iload_n E dX1_require_13 rfl ?_
  refine r_zald E ha (by decide) (by decide) dX1_require_14 ?_
  refine r_top (v' := .int (bI false)) (congrArg Value.int hf0) ?_
  refine r_istore E [some (.ref a), some (.ref a), some (.int (nI 2)), some (.int (nI 0)), some (.int (bI false))] dX1_require_15 rfl rfl ?_
  refine r_iload E dX1_require_17 rfl ?_
  refine r_ifB_ne (b := false) (tgt := 30) E dX1_require_19 (by decide) (fun c => absurd c (by decide)) (fun _ => ?_)
  refine r_make E (ci := 19) rfl (by decide +kernel) (by decide +kernel) q666 q103 at_S_iae at_G_iae dX1_require_22 dX1_require_25 dX1_require_26 (Nat.le_of_ble_eq_true rfl) (Nat.le_of_ble_eq_true rfl) 0 0 (Nat.le_of_ble_eq_true rfl) (Nat.le_of_ble_eq_true rfl) (fun x2 hx2 kx2 => ?_)
  refine r_athrow E (ci := 19) rfl fmUp_s dX1_require_29 ?_
  exact r_xout E P (fun x hx => by cases hx) ⟨rfl, hx2, kx2, rfl⟩

set_option maxHeartbeats 4000000 in
theorem ctFb_X1_require (G : fmG) (hl : (fmLn G).stackTraces = false) (h : fmHp) (a : Nat) (f : Nat → Int32) (ha : h a = some (true, .inl (5, 2, .inl f)))  (hf0 : f 0 = bI true) (hf1 : f 1 = bI false) : Ct G yX1_require (ws_ yX1_require cX1_require 5 none) { frames := 6, cells := 1, slots := 6, locals := 100 } [.ref a] h (fun _ _ => False) (fun q Ex h' => Ex = "java/lang/IllegalArgumentException" ∧ h q = none ∧ (fmK0 G).size ≤ q ∧ h' = fmUp h q (true, .inr (.inl (19, [])))) := by
  refine Ct.of hl (by decide +kernel) (Nat.le_of_ble_eq_true rfl) (fun Γ E P => ?_)
  refine r_aload_n E dX1_require_0 rfl ?_
  refine r_astore_n E [some (.ref a), some (.ref a), none, none, none] dX1_require_1 rfl rfl ?_
  refine r_aload_n E dX1_require_2 rfl ?_
  refine r_alen E ha rfl dX1_require_3 ?_
  refine r_istore_n E [some (.ref a), some (.ref a), some (.int (nI 2)), none, none] dX1_require_4 rfl rfl ?_
  refine r_iconst E (nI 0) dX1_require_5 (by decide) ?_
  refine r_istore_n E [some (.ref a), some (.ref a), some (.int (nI 2)), some (.int (nI 0)), none] dX1_require_6 rfl rfl ?_
  refine r_iload_n E dX1_require_7 rfl ?_
  refine r_iload_n E dX1_require_8 rfl ?_
  refine r_icmpN_ge (tgt := 36) E dX1_require_9 (by decide) (by decide) (by decide) (fun c => absurd c (by decide)) (fun _ => ?_)
  refine r_aload_n E dX1_require_12 rfl ?_
  refine r_iload_n E dX1_require_13 rfl ?_
  refine r_zald E ha (by decide) (by decide) dX1_require_14 ?_
  refine r_top (v' := .int (bI true)) (congrArg Value.int hf0) ?_
  refine r_istore E [some (.ref a), some (.ref a), some (.int (nI 2)), some (.int (nI 0)), some (.int (bI true))] dX1_require_15 rfl rfl ?_
  refine r_iload E dX1_require_17 rfl ?_
  refine r_ifB_ne (b := true) (tgt := 30) E dX1_require_19 (by decide) (fun _ => ?_) (fun c => absurd c (by decide))
  refine r_iinc E (nI 1) [some (.ref a), some (.ref a), some (.int (nI 2)), some (.int (nI 1)), some (.int (bI true))] dX1_require_30 rfl (nI_1 0) rfl rfl ?_
  refine r_goto (tgt := 7) E dX1_require_33 (by decide) ?_
  refine r_iload_n E dX1_require_7 rfl ?_
  refine r_iload_n E dX1_require_8 rfl ?_
  refine r_icmpN_ge (tgt := 36) E dX1_require_9 (by decide) (by decide) (by decide) (fun c => absurd c (by decide)) (fun _ => ?_)
  refine r_aload_n E dX1_require_12 rfl ?_
  refine r_iload_n E dX1_require_13 rfl ?_
  refine r_zald E ha (by decide) (by decide) dX1_require_14 ?_
  refine r_top (v' := .int (bI false)) (congrArg Value.int hf1) ?_
  refine r_istore E [some (.ref a), some (.ref a), some (.int (nI 2)), some (.int (nI 1)), some (.int (bI false))] dX1_require_15 rfl rfl ?_
  refine r_iload E dX1_require_17 rfl ?_
  refine r_ifB_ne (b := false) (tgt := 30) E dX1_require_19 (by decide) (fun c => absurd c (by decide)) (fun _ => ?_)
  refine r_make E (ci := 19) rfl (by decide +kernel) (by decide +kernel) q666 q103 at_S_iae at_G_iae dX1_require_22 dX1_require_25 dX1_require_26 (Nat.le_of_ble_eq_true rfl) (Nat.le_of_ble_eq_true rfl) 0 0 (Nat.le_of_ble_eq_true rfl) (Nat.le_of_ble_eq_true rfl) (fun x3 hx3 kx3 => ?_)
  refine r_athrow E (ci := 19) rfl fmUp_s dX1_require_29 ?_
  exact r_xout E P (fun x hx => by cases hx) ⟨rfl, hx3, kx3, rfl⟩

set_option maxHeartbeats 4000000 in
theorem ct_X2_setRock (G : fmG) (hl : (fmLn G).stackTraces = false) (h : fmHp) {h0 : fmHp} {d g sl se pl pe : Nat} {gf sf pf : Nat → Nat} {N : Nat → Int32} {K pk : Nat} (hC0 : CC G h0) (hM : MineAt G h d g sl se pl pe gf sf pf N K pk) (hD : Dr G h0 h d g sl se pl pe) (c a : Nat) (x y : Int32) (hc : c < 64) (ha : h a = some (true, .inr (.inl (3, [.int x, .int y])))) (hR : RV N K pk) (hxy : (!sBetween x (nI 1) (nI 9) || !sBetween y (nI 0) (nI 9)) = false) : Ct G yX2_setRock (ws_ yX2_setRock cX2_setRock 4 (some .int)) { frames := 5, cells := 1, slots := 8, locals := 133 } [.ref d, .int (nI c), .ref a] h (dPost G h0 d g sl pl (aRock N (nI c) x y)) (dXp h0 (aRock N (nI c) x y)) := by
  refine Ct.of hl (by decide +kernel) (Nat.le_of_ble_eq_true rfl) (fun Γ E P => ?_)
  have hC : CC G h := hC0.kp hD.1
  obtain ⟨hd, ⟨gq, hg, hgq⟩, hgd, hS, hSh, hP, hPk, hK8, hP6, hsp, hse⟩ := id hM
  obtain ⟨mcS, hsl⟩ := hS.o
  obtain ⟨mcP, hpl⟩ := hP.o
  obtain ⟨hk0, hd0, hg0, hsl0, hpl0, hse0, hpe0⟩ := id hD
  obtain ⟨feS, capS, geS, hseA⟩ := hS.el
  obtain ⟨feP, capP, geP, hpeA⟩ := hP.el
  have hg1 : (!sBetween (nI c) (nI 0) (nI 63)) = false := by rw [sCell_n hc]; rfl
  have hcn : cN (nI c) = c := cN_n (by omega)
  refine r_aload_n E dX2_setRock_0 rfl ?_
  refine r_iload_n E dX2_setRock_1 rfl ?_
  by_cases h0c : N c = nI 0
  · have hr : aRock N (nI c) x y = aDon (sStrokes (upd (upd N (64 + c) x) (128 + c) y) c) (upd (upd N (64 + c) x) (128 + c) y) := by unfold aRock; rw [aG_f hg1, aG_f hxy, hcn, aG_f (by unfold sChalk; rw [decide_eq_true h0c]; rfl)]
    obtain ⟨hcb, hcc⟩ : N (192 + c) = -1 ∧ N (256 + c) = nI 0 := by rcases hgd c hc with ⟨_, q2, q3, _⟩ | ⟨p, q1, _, _⟩ | ⟨q1, _, _⟩ <;> first | exact ⟨q2, q3⟩ | (rw [h0c] at q1; exact absurd q1 (by decide))
    refine r_callV1 (v1 := .ref (gf c)) E (ctT_X2_chalk G hl (h) hC hM c hc h0c) mX2_chalk q688 q690 qs7 (fun H a1 => fm_rc (ci := 2) (C := RX2) (T := TX2) (N := 7) a1 rfl E.v hd) rfl rfl (Nat.le_of_ble_eq_true rfl) (Nat.le_of_ble_eq_true rfl) (Nat.le_of_ble_eq_true rfl) dX2_setRock_2 1 8 (Nat.le_of_ble_eq_true rfl) (Nat.le_of_ble_eq_true rfl) ?_
    refine r_astore_n E [some (.ref d), some (.int (nI c)), some (.ref a), some (.ref (gf c))] dX2_setRock_5 rfl rfl ?_
    refine r_aload_n E dX2_setRock_6 rfl ?_
    refine r_getf E cl_X2 0 (by decide) q185 hd rfl dX2_setRock_7 ?_
    refine r_iload_n E dX2_setRock_10 rfl ?_
    refine r_aload_n E dX2_setRock_11 rfl ?_
    refine r_aast E (t := 7) (Ev := "FlintMine$Ground") rfl (fun H a1 => fm_rc a1 cl_X3.1 E.v ha) q315 hg hc (by decide) dX2_setRock_12 ?_
    have hM3 := hM.setg hg hgq hc (a := a) (N' := upd (upd N (64 + c) x) (128 + c) y) (Or.inl ⟨by rw [upd_ne' (by omega), upd_ne' (by omega)]; exact h0c, by rw [upd_ne' (by omega), upd_ne' (by omega)]; exact hcb, by rw [upd_ne' (by omega), upd_ne' (by omega)]; exact hcc, by rw [upd_ne' (by omega), upd_eq' rfl, upd_eq' rfl]; exact ha⟩) (fun q q1 q2 q3 q4 q5 => by rw [upd_ne' q3, upd_ne' q2])
    refine r_aload_n E dX2_setRock_13 rfl ?_
    refine r_callV1 (v1 := .int (nI 2 * x + y)) E (ct_X3_strokes G hl (fmUp h g (true, .inl (7, 64, .inr (.inr (.inr (.inr (va_up gq c (some a)))))))) a true x y ((fmUp_n (fun z => by rw [z, hg] at ha; cases ha)).trans ha)) mX3_strokes q720 q721 q722 (fun H a1 => fm_rc (ci := 3) (C := RX3) (T := TX3) (N := 2) a1 rfl E.v ((fmUp_n (fun z => by rw [z, hg] at ha; cases ha)).trans ha)) rfl rfl (Nat.le_of_ble_eq_true rfl) (Nat.le_of_ble_eq_true rfl) (Nat.le_of_ble_eq_true rfl) dX2_setRock_14 1 8 (Nat.le_of_ble_eq_true rfl) (Nat.le_of_ble_eq_true rfl) ?_
    refine r_top (v' := .int (sStrokes (upd (upd N (64 + c) x) (128 + c) y) c)) (by unfold sStrokes; rw [upd_ne' (j := 64 + c) (by omega), upd_eq' (j := 64 + c) rfl, upd_eq' (j := 128 + c) rfl]) ?_
    exact r_ireturn E P rfl dX2_setRock_17 (by rw [hr]; exact ⟨rfl, rfl, se, pe, _, sf, pf, K, pk, hM3, ⟨hk0.up0 hg0, hd0, hg0, hsl0, hpl0, hse0, hpe0⟩, (by show upd _ _ _ 350 = _; rw [upd_ne' (by omega), upd_ne' (by omega)]; exact hR.1), (by show upd _ _ _ 351 = _; rw [upd_ne' (by omega), upd_ne' (by omega)]; exact hR.2.2.1)⟩)
  · have hr : aRock N (nI c) x y = aRef (nI 1) (nI c) := by unfold aRock; rw [aG_f hg1, aG_f hxy, aG_t (by rw [hcn]; unfold sChalk; rw [decide_eq_false h0c]; rfl)]
    refine r_callV E (ctF_X2_chalk G hl h hC hM c hc h0c) mX2_chalk q688 q690 qs7 (fun H a1 => fm_rc (ci := 2) (C := RX2) (T := TX2) (N := 7) a1 rfl E.v hd) rfl rfl (Nat.le_of_ble_eq_true rfl) (Nat.le_of_ble_eq_true rfl) (Nat.le_of_ble_eq_true rfl) dX2_setRock_2 0 0 (Nat.le_of_ble_eq_true rfl) (Nat.le_of_ble_eq_true rfl) (fun _ _ q => q.elim) (fun q Ex h' hx => ?_)
    exact r_xout E P (fun x hx => by cases hx) (dXp.ref hk0 (hr) hx)

set_option maxHeartbeats 4000000 in
theorem ct_X2_setRoof (G : fmG) (hl : (fmLn G).stackTraces = false) (h : fmHp) {h0 : fmHp} {d g sl se pl pe : Nat} {gf sf pf : Nat → Nat} {N : Nat → Int32} {K pk : Nat} (hC0 : CC G h0) (hM : MineAt G h d g sl se pl pe gf sf pf N K pk) (hD : Dr G h0 h d g sl se pl pe) (v : Int32) (hR : RV N K pk) (hv : (!sBetween v (nI 2) (nI 8)) = false) : Ct G yX2_setRoof (ws_ yX2_setRoof cX2_setRoof 3 (some .int)) { frames := 5, cells := 1, slots := 8, locals := 132 } [.ref d, .int v] h (dPost G h0 d g sl pl (aRoof N v)) (dXp h0 (aRoof N v)) := by
  refine Ct.of hl (by decide +kernel) (Nat.le_of_ble_eq_true rfl) (fun Γ E P => ?_)
  have hC : CC G h := hC0.kp hD.1
  obtain ⟨hd, ⟨gq, hg, hgq⟩, hgd, hS, hSh, hP, hPk, hK8, hP6, hsp, hse⟩ := id hM
  obtain ⟨mcS, hsl⟩ := hS.o
  obtain ⟨mcP, hpl⟩ := hP.o
  obtain ⟨hk0, hd0, hg0, hsl0, hpl0, hse0, hpe0⟩ := id hD
  obtain ⟨feS, capS, geS, hseA⟩ := hS.el
  obtain ⟨feP, capP, geP, hpeA⟩ := hP.el
  refine r_aload_n E dX2_setRoof_0 rfl ?_
  refine r_callV1 (v1 := .int (nI (sLong N))) E (ct_X2_longest G hl (h) hC hM) mX2_longest q733 q304 q305 (fun H a1 => fm_rc (ci := 2) (C := RX2) (T := TX2) (N := 7) a1 rfl E.v hd) rfl rfl (Nat.le_of_ble_eq_true rfl) (Nat.le_of_ble_eq_true rfl) (Nat.le_of_ble_eq_true rfl) dX2_setRoof_1 1 8 (Nat.le_of_ble_eq_true rfl) (Nat.le_of_ble_eq_true rfl) ?_
  refine r_iload_n E dX2_setRoof_4 rfl ?_
  refine r_icmp_gt (x := nI (sLong N)) (y := v) (tgt := 12) E dX2_setRoof_5 (by decide) (fun c1 => ?_) (fun c1 => ?_)
  · have hr : aRoof N v = aRef (nI 4) (nI (sLong N)) := by unfold aRoof; rw [aG_f hv, aG_t (decide_eq_true c1)]
    refine r_iconst E (nI 0) dX2_setRoof_12 (by decide) ?_
    refine r_iconst E (nI 4) dX2_setRoof_13 (by decide) ?_
    refine r_aload_n E dX2_setRoof_14 rfl ?_
    refine r_callV1 (v1 := .int (nI (sLong N))) E (ct_X2_longest G hl (h) hC hM) mX2_longest q733 q304 q305 (fun H a1 => fm_rc (ci := 2) (C := RX2) (T := TX2) (N := 7) a1 rfl E.v hd) rfl rfl (Nat.le_of_ble_eq_true rfl) (Nat.le_of_ble_eq_true rfl) (Nat.le_of_ble_eq_true rfl) dX2_setRoof_15 1 8 (Nat.le_of_ble_eq_true rfl) (Nat.le_of_ble_eq_true rfl) ?_
    refine r_callSN E (ctF_X1_allow G hl h (nI 4) (nI (sLong N))) mX1_allow q78 q734 q735 rfl rfl (Nat.le_of_ble_eq_true rfl) (Nat.le_of_ble_eq_true rfl) (Nat.le_of_ble_eq_true rfl) dX2_setRoof_18 0 0 (Nat.le_of_ble_eq_true rfl) (Nat.le_of_ble_eq_true rfl) (fun _ _ q => q.elim) (fun q Ex h' hx => ?_)
    exact r_xout E P (fun x hx => by cases hx) (dXp.ref hk0 (hr) hx)
  · have hr : aRoof N v = aDon (N 355) (upd N 355 v) := by unfold aRoof; rw [aG_f hv, aG_f (decide_eq_false c1)]
    refine r_iconst E (nI 1) dX2_setRoof_8 (by decide) ?_
    refine r_goto (tgt := 13) E dX2_setRoof_9 (by decide) ?_
    refine r_iconst E (nI 4) dX2_setRoof_13 (by decide) ?_
    refine r_aload_n E dX2_setRoof_14 rfl ?_
    refine r_callV1 (v1 := .int (nI (sLong N))) E (ct_X2_longest G hl (h) hC hM) mX2_longest q733 q304 q305 (fun H a1 => fm_rc (ci := 2) (C := RX2) (T := TX2) (N := 7) a1 rfl E.v hd) rfl rfl (Nat.le_of_ble_eq_true rfl) (Nat.le_of_ble_eq_true rfl) (Nat.le_of_ble_eq_true rfl) dX2_setRoof_15 1 8 (Nat.le_of_ble_eq_true rfl) (Nat.le_of_ble_eq_true rfl) ?_
    refine r_callSN0 E (ctT_X1_allow G hl (h) (nI 4) (nI (sLong N))) mX1_allow q78 q734 q735 rfl rfl (Nat.le_of_ble_eq_true rfl) (Nat.le_of_ble_eq_true rfl) (Nat.le_of_ble_eq_true rfl) dX2_setRoof_18 1 8 (Nat.le_of_ble_eq_true rfl) (Nat.le_of_ble_eq_true rfl) ?_
    refine r_aload_n E dX2_setRoof_21 rfl ?_
    refine r_getf E cl_X2 3 (by decide) q191 hd rfl dX2_setRoof_22 ?_
    refine r_istore_n E [some (.ref d), some (.int v), some (.int (N 355))] dX2_setRoof_25 rfl rfl ?_
    refine r_aload_n E dX2_setRoof_26 rfl ?_
    refine r_iload_n E dX2_setRoof_27 rfl ?_
    refine r_putf E cl_X2 3 (by decide) rfl q191 (fun _ z => z) hd (Nat.le_of_ble_eq_true rfl) rfl rfl dX2_setRoof_28 ?_
    refine r_hp (h' := fmUp h d (true, .inr (.inl (2, [.ref g, .ref sl, .ref pl, .int v, .int (N 352), .int (N 353), .int (N 354)])))) (rfl) ?_
    refine r_iload_n E dX2_setRoof_31 rfl ?_
    have hM2 := hM.setd (N' := upd N 355 v) (fun q hq => upd_ne' (by omega))
    rw [upd_eq' (j := 355) rfl, upd_ne' (j := 352) (by decide), upd_ne' (j := 353) (by decide), upd_ne' (j := 354) (by decide)] at hM2
    exact r_ireturn E P rfl dX2_setRoof_32 (by rw [hr]; exact ⟨rfl, rfl, se, pe, gf, sf, pf, K, pk, hM2, ⟨hk0.up0 hd0, hd0, hg0, hsl0, hpl0, hse0, hpe0⟩, (show upd N 355 v 350 = nI K by rw [upd_ne' (by decide)]; exact hR.1), (show upd N 355 v 351 = nI pk by rw [upd_ne' (by decide)]; exact hR.2.2.1)⟩)

set_option maxHeartbeats 4000000 in
theorem ct_X2_addProps (G : fmG) (hl : (fmLn G).stackTraces = false) (h : fmHp) {h0 : fmHp} {d g sl se pl pe : Nat} {gf sf pf : Nat → Nat} {N : Nat → Int32} {K pk : Nat} (hC0 : CC G h0) (hM : MineAt G h d g sl se pl pe gf sf pf N K pk) (hD : Dr G h0 h d g sl se pl pe) (p q : Nat) (hp : N 352 = nI p) (hp9 : p ≤ 99) (hq : q ≤ 99) : Ct G yX2_addProps (ws_ yX2_addProps cX2_addProps 2 (some .int)) { frames := 1, cells := 0, slots := 0, locals := 30 } [.ref d, .int (nI q)] h (fun v h' => v = some (.int (sAddP N (nI q) 352)) ∧ MineAt G h' d g sl se pl pe gf sf pf (sAddP N (nI q)) K pk ∧ Dr G h0 h' d g sl se pl pe ∧ Ko h h') fmNo := by
  refine Ct.of hl (by decide +kernel) (Nat.le_of_ble_eq_true rfl) (fun Γ E P => ?_)
  have hC : CC G h := hC0.kp hD.1
  obtain ⟨hd, ⟨gq, hg, hgq⟩, hgd, hS, hSh, hP, hPk, hK8, hP6, hsp, hse⟩ := id hM
  obtain ⟨mcS, hsl⟩ := hS.o
  obtain ⟨mcP, hpl⟩ := hP.o
  obtain ⟨hk0, hd0, hg0, hsl0, hpl0, hse0, hpe0⟩ := id hD
  obtain ⟨feS, capS, geS, hseA⟩ := hS.el
  obtain ⟨feP, capP, geP, hpeA⟩ := hP.el
  have hs := sAddP_352 hp hp9 hq
  refine r_aload_n E dX2_addProps_0 rfl ?_
  refine r_bipush E (nI 99) dX2_addProps_1 (by decide) ?_
  refine r_aload_n E dX2_addProps_3 rfl ?_
  refine r_getf E cl_X2 4 (by decide) q193 hd rfl dX2_addProps_4 ?_
  refine r_top (v' := .int (nI p)) (congrArg Value.int hp) ?_
  refine r_iload_n E dX2_addProps_7 rfl ?_
  refine r_iaddN E dX2_addProps_8 ?_
  refine r_min E (by omega) (by omega) q747 q569 q101 q570 (Nat.le_of_ble_eq_true rfl) (Nat.le_of_ble_eq_true rfl) dX2_addProps_9 ?_
  refine r_putf E cl_X2 4 (by decide) rfl q193 (fun _ z => z) hd (Nat.le_of_ble_eq_true rfl) rfl rfl dX2_addProps_12 ?_
  refine r_hp (h' := fmUp h d (true, .inr (.inl (2, [.ref g, .ref sl, .ref pl, .int (N 355), .int (nI (min 99 (p + q))), .int (N 353), .int (N 354)])))) (rfl) ?_
  refine r_aload_n E dX2_addProps_15 rfl ?_
  refine r_getf E cl_X2 4 (by decide) q193 fmUp_s rfl dX2_addProps_16 ?_
  have hM2 := hM.setd (N' := sAddP N (nI q)) (fun q hq => sAddP_ne (by omega))
  rw [hs, sAddP_ne (q := 355) (by decide), sAddP_ne (q := 353) (by decide), sAddP_ne (q := 354) (by decide)] at hM2
  exact r_ireturn E P rfl dX2_addProps_19 ⟨by rw [hs], hM2, ⟨hk0.up0 hd0, hd0, hg0, hsl0, hpl0, hse0, hpe0⟩, Ko.refl.upd hd⟩

set_option maxHeartbeats 4000000 in
theorem ct_X2_addPick (G : fmG) (hl : (fmLn G).stackTraces = false) (h : fmHp) {h0 : fmHp} {d g sl se pl pe : Nat} {gf sf pf : Nat → Nat} {N : Nat → Int32} {K pk : Nat} (hC0 : CC G h0) (hM : MineAt G h d g sl se pl pe gf sf pf N K pk) (hD : Dr G h0 h d g sl se pl pe) (e : Nat) (he1 : 1 ≤ e) (he9 : e ≤ 99) (hR : RV N K pk) : Ct G yX2_addPick (ws_ yX2_addPick cX2_addPick 2 (some .int)) { frames := 7, cells := 1, slots := 200, locals := 191 } [.ref d, .int (nI e)] h (dPost G h0 d g sl pl (aPick N (nI e) pk)) (dXp h0 (aPick N (nI e) pk)) := by
  refine Ct.of hl (by decide +kernel) (Nat.le_of_ble_eq_true rfl) (fun Γ E P => ?_)
  have hC : CC G h := hC0.kp hD.1
  obtain ⟨hd, ⟨gq, hg, hgq⟩, hgd, hS, hSh, hP, hPk, hK8, hP6, hsp, hse⟩ := id hM
  obtain ⟨mcS, hsl⟩ := hS.o
  obtain ⟨mcP, hpl⟩ := hP.o
  obtain ⟨hk0, hd0, hg0, hsl0, hpl0, hse0, hpe0⟩ := id hD
  obtain ⟨feS, capS, geS, hseA⟩ := hS.el
  obtain ⟨feP, capP, geP, hpeA⟩ := hP.el
  have hv : (!sBetween (nI e) (nI 1) (nI 99)) = false := by unfold sBetween; rw [decide_eq_false (Int32.not_lt.mpr (nI_le he1 (by omega))), decide_eq_false (Int32.not_lt.mpr (nI_le he9 (by omega)))]; rfl
  refine r_aload_n E dX2_addPick_0 rfl ?_
  refine r_getf E cl_X2 2 (by decide) q189 hd rfl dX2_addPick_1 ?_
  refine r_callF1 (v1 := .int (nI pk)) E (ctA_J2_size G hl (h) pl pe pk pf hP (by omega)) mJ2_size (ci := 12) rfl hpl 3 rfl q758 q581 q579 fx_3 rfl rfl (Nat.le_of_ble_eq_true rfl) (Nat.le_of_ble_eq_true rfl) (Nat.le_of_ble_eq_true rfl) dX2_addPick_4 1 200 (Nat.le_of_ble_eq_true rfl) (Nat.le_of_ble_eq_true rfl) ?_
  refine r_bipush E (nI 6) dX2_addPick_9 (by decide) ?_
  refine r_icmpN_ge (tgt := 18) E dX2_addPick_11 (by decide) (by omega) (by omega) (fun c1 => ?_) (fun c1 => ?_)
  · have hr : aPick N (nI e) pk = aRef (nI 8) (nI 6) := by unfold aPick; rw [aG_f hv, aG_t (decide_eq_true (by omega))]
    refine r_iconst E (nI 0) dX2_addPick_18 (by decide) ?_
    refine r_bipush E (nI 8) dX2_addPick_19 (by decide) ?_
    refine r_bipush E (nI 6) dX2_addPick_21 (by decide) ?_
    refine r_callSN E (ctF_X1_allow G hl h (nI 8) (nI 6)) mX1_allow q78 q734 q735 rfl rfl (Nat.le_of_ble_eq_true rfl) (Nat.le_of_ble_eq_true rfl) (Nat.le_of_ble_eq_true rfl) dX2_addPick_23 0 0 (Nat.le_of_ble_eq_true rfl) (Nat.le_of_ble_eq_true rfl) (fun _ _ q => q.elim) (fun q Ex h' hx => ?_)
    exact r_xout E P (fun x hx => by cases hx) (dXp.ref hk0 (hr) hx)
  · have hr : aPick N (nI e) pk = aDon (nI pk) (upd (upd N (344 + pk) (nI e)) 351 (nI (pk + 1))) := by unfold aPick; rw [aG_f hv, aG_f (decide_eq_false (by omega))]
    refine r_iconst E (nI 1) dX2_addPick_14 (by decide) ?_
    refine r_goto (tgt := 19) E dX2_addPick_15 (by decide) ?_
    refine r_bipush E (nI 8) dX2_addPick_19 (by decide) ?_
    refine r_bipush E (nI 6) dX2_addPick_21 (by decide) ?_
    refine r_callSN0 E (ctT_X1_allow G hl (h) (nI 8) (nI 6)) mX1_allow q78 q734 q735 rfl rfl (Nat.le_of_ble_eq_true rfl) (Nat.le_of_ble_eq_true rfl) (Nat.le_of_ble_eq_true rfl) dX2_addPick_23 1 200 (Nat.le_of_ble_eq_true rfl) (Nat.le_of_ble_eq_true rfl) ?_
    refine r_aload_n E dX2_addPick_26 rfl ?_
    refine r_getf E cl_X2 2 (by decide) q189 hd rfl dX2_addPick_27 ?_
    refine r_iload_n E dX2_addPick_30 rfl ?_
    refine r_callS1 (v1 := .ref (fmAd G (100 + (e + 128)))) E (ct_J20_valueOf G hl (h) hC e (by omega)) mJ20_valueOf q106 q759 q760 rfl rfl (Nat.le_of_ble_eq_true rfl) (Nat.le_of_ble_eq_true rfl) (Nat.le_of_ble_eq_true rfl) dX2_addPick_31 1 200 (Nat.le_of_ble_eq_true rfl) (Nat.le_of_ble_eq_true rfl) ?_
    have hi := hC.int (v := e) (by omega)
    refine r_callF E (ct_J2_add G hl _ pl pe pk pf hP (by omega) (by omega) (fun i hi => Pk.isO (hPk i hi)) (fmAd G (100 + (e + 128))) ⟨17, RJ20, TJ20, 1, false, _, rfl, hi, q2324⟩) mJ2_add (ci := 12) rfl hpl 1 rfl q493 q498 q496 fx_1 rfl rfl (Nat.le_of_ble_eq_true rfl) (Nat.le_of_ble_eq_true rfl) (Nat.le_of_ble_eq_true rfl) dX2_addPick_34 0 0 (Nat.le_of_ble_eq_true rfl) (Nat.le_of_ble_eq_true rfl) (fun v' h2 q => ?_) (fun _ _ _ q => q.elim)
    obtain ⟨rfl, pe3, hA, hpe3, hfr⟩ := q
    have hM3 := hM.setP (N' := upd (upd N (344 + pk) (nI e)) 351 (nI (pk + 1))) hC hA hfr (fun z => by
      rcases hpe3 with ⟨e1, _⟩ | ⟨e1, _⟩
      · rw [e1] at z; exact hse z
      · rw [← z, hseA] at e1; cases e1) (by omega) (fun k hk => by
        unfold Pk; rw [upd_ne' (by omega)]
        by_cases hkK : k = pk
        · subst hkK; rw [updN_s, upd_eq' rfl]; exact hfr _ _ hi (fun z => by rw [z, hpl] at hi; cases hi) (Or.inr rfl)
        · rw [updN_n hkK, upd_ne' (by omega)]; have g1 := hPk k (by omega); unfold Pk at g1; exact hfr _ _ g1 (fun z => by rw [z, hpl] at g1; cases g1) (Or.inr rfl)) (fun q hq => by rw [upd_ne' (by omega), upd_ne' (by omega)])
    obtain ⟨hd3, -⟩ := id hM3
    obtain ⟨mc3, hpl3⟩ := hA.o
    refine r_pop E dX2_addPick_39 rfl ?_
    refine r_aload_n E dX2_addPick_40 rfl ?_
    refine r_getf E cl_X2 2 (by decide) q189 hd3 rfl dX2_addPick_41 ?_
    refine r_callF1 (v1 := .int (nI (pk + 1))) E (ctA_J2_size G hl (h2) pl pe3 (pk + 1) (updN pf pk (fmAd G (100 + (e + 128)))) hA (by omega)) mJ2_size (ci := 12) rfl hpl3 3 rfl q758 q581 q579 fx_3 rfl rfl (Nat.le_of_ble_eq_true rfl) (Nat.le_of_ble_eq_true rfl) (Nat.le_of_ble_eq_true rfl) dX2_addPick_44 0 0 (Nat.le_of_ble_eq_true rfl) (Nat.le_of_ble_eq_true rfl) ?_
    refine r_iconst E (nI 1) dX2_addPick_49 (by decide) ?_
    refine r_isubN E dX2_addPick_50 (by omega) ?_
    refine r_top (v' := .int (nI pk)) (by rw [Nat.add_sub_cancel]) ?_
    exact r_ireturn E P rfl dX2_addPick_51 (by rw [hr]; exact ⟨rfl, rfl, se, pe3, gf, sf, _, K, pk + 1, hM3, ⟨Dr.list hC0 hk0 hpl0 hpe0 hfr, hd0, hg0, hsl0, hpl0, hse0, hpe3.elim (fun q => by rw [q.1]; exact hpe0) (fun q => Or.inl (hk0.none q.1))⟩, (by show (upd (upd N (344 + pk) (nI e)) 351 (nI (pk + 1))) 350 = _; rw [upd_ne' (by omega), upd_ne' (by omega)]; exact hR.1), (by show (upd (upd N (344 + pk) (nI e)) 351 (nI (pk + 1))) 351 = _; exact upd_eq' rfl)⟩)

