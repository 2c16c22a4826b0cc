set_option maxHeartbeats 4000000 in
theorem ct_X10_digging (G : fmG) (hl : (fmLn G).stackTraces = false) (h : fmHp) {x far qu d pa sb : Nat} {fl re de : Int32} {sv : Value} (hC : CC G h) (hx : DkO h x far qu d pa sb fl re de sv) (p a : Nat) (hp : h p = some (true, .inr (.inl (8, [.int (nI a), .ref x])))) (v len : Nat) (T : Nat → Int32) (hS : SBt h sb v len T) (hlen : len ≤ 60) (hch : ∀ i, i < len → ∃ k, k < 65536 ∧ T i = nI k) (ha : a ≤ 1000) (ha9 : a ≤ 900) : Ct G yX10_digging (ws_ yX10_digging cX10_digging 5 (some (.object "FlintMine$Command"))) { frames := 7, cells := 5, slots := 30, locals := 153 } [.ref p] h (fun v0 h' => (pDig T len a).2.2.2.2 = false ∧ ∃ c, v0 = some (.ref c) ∧ CmdAt G h' c (nI 100) (pDig T len a).1 (pDig T len a).2.1 (pDig T len a).2.2.1 ∧ h' p = some (true, .inr (.inl (8, [.int (nI ((pDig T len a).2.2.2.1)), .ref x]))) ∧ FrX p h h' ∧ h c = none) (fun q Ex h' => (pDig T len a).2.2.2.2 = true ∧ Ex = "FlintMine$FaultException" ∧ h' q = some (true, .inr (.inl (11, [.null, .null, .null, .null, .null, .int 0, .int (nI ((pDig T len a).2.2.2.1))]))) ∧ FrX p h h') := by
  refine Ct.of hl (by decide +kernel) (Nat.le_of_ble_eq_true rfl) (fun Γ E P => ?_)
  obtain ⟨u, ml, cap, bf, hsb, hv, hrr⟩ := id hS
  have hpx : p ≠ x := fun z => by have hx0 : h x = some (true, .inr (.inl (1, [.ref far, .ref qu, .ref d, .ref pa, .ref sb, .int fl, .int re, .int de, sv]))) := hx; rw [z, hx0] at hp; cases hp
  have hps : p ≠ sb := fun z => by rw [z, hsb] at hp; cases hp
  have hpv : p ≠ v := fun z => by rw [z, hv] at hp; cases hp
  have HX : ∀ k, (fmUp h p (true, .inr (.inl (8, [.int (nI k), .ref x])))) x = some (true, .inr (.inl (1, [.ref far, .ref qu, .ref d, .ref pa, .ref sb, .int fl, .int re, .int de, sv]))) := fun k => (fmUp_n (fun z => hpx z.symm)).trans hx
  have HS : ∀ k, SBt (fmUp h p (true, .inr (.inl (8, [.int (nI k), .ref x])))) sb v len T := fun k => hS.kept (fun z hz => (fmUp_n (fun z => hps z.symm)).trans hz) (fun z hz => (fmUp_n (fun z => hpv z.symm)).trans hz)
  have HC : ∀ k, CC G (fmUp h p (true, .inr (.inl (8, [.int (nI k), .ref x])))) := fun k => hC.kept (fun q z hq => (fmUp_n (fun z => by rw [z, hp] at hq; cases hq)).trans hq)
  have HF : ∀ y, FrX p h (fmUp h p y) := fun y q z hq hn => (fmUp_n hn).trans hq
  have hb1 := pNum_le2 (T := T) (len := len) (a := a) (w := false)
  have hb2 := pNum_le2 (T := T) (len := len) (a := (pNum T len a false).2.1 + 1) (w := false)
  refine r_aload_n E dX10_digging_0 rfl ?_
  refine r_callV E (ctA_X10_number G hl h hC hx p a hp v len T hS hlen hch (by omega)) mX10_number q1622 q1624 qs31 (fun H a1 => fm_rc (ci := 8) (C := RX10) (T := TX10) (N := 2) a1 rfl E.v hp) rfl rfl (Nat.le_of_ble_eq_true rfl) (Nat.le_of_ble_eq_true rfl) (Nat.le_of_ble_eq_true rfl) dX10_digging_1 4 22 (Nat.le_of_ble_eq_true rfl) (Nat.le_of_ble_eq_true rfl) (fun v' h3 q => ?_) (fun q Ex h3 hx3 => ?_)
  · obtain ⟨hw1, rfl, rfl⟩ := q
    refine r_istore_n E [some (.ref p), some (.int ((pNum T len a false).1)), none, none, none] dX10_digging_4 rfl rfl ?_
    refine r_aload_n E dX10_digging_5 rfl ?_
    refine r_bipush E (nI 44) dX10_digging_6 (by decide) ?_
    refine r_bipush E (nI 44) dX10_digging_8 (by decide) ?_
    cases hk : pSee T len (pNum T len a false).2.1 false (nI 44) (nI 44) with
    | false =>
      obtain ⟨e1, e2⟩ := pDig_2 hw1 hk
      refine r_callV E (ctF_X10_take G hl _ (HC _) (HX _) p ((pNum T len a false).2.1) fmUp_s v len T (HS _) hlen hch (by omega) (nI 44) (nI 44) hk) mX10_take q1591 q1593 qs29 (fun H a1 => fm_rc (ci := 8) (C := RX10) (T := TX10) (N := 2) a1 rfl E.v fmUp_s) rfl rfl (Nat.le_of_ble_eq_true rfl) (Nat.le_of_ble_eq_true rfl) (Nat.le_of_ble_eq_true rfl) dX10_digging_10 0 0 (Nat.le_of_ble_eq_true rfl) (Nat.le_of_ble_eq_true rfl) (fun _ _ q => q.elim) (fun q Ex h' hx => ?_)
      exact r_xout E P (fun x hx => by cases hx) ⟨e1, hx.1, by rw [e2, hx.2.2]; exact fmUp_s, fun q9 y9 hq9 hn => by rw [hx.2.2]; exact fmUp_of (HF _ q9 y9 hq9 hn) hx.2.1⟩
    | true =>
      refine r_callV1 (v1 := .int (T ((pNum T len a false).2.1))) E (ctT_X10_take G hl _ (HC _) (HX _) p ((pNum T len a false).2.1) fmUp_s v len T (HS _) hlen hch (by omega) (nI 44) (nI 44) hk) mX10_take q1591 q1593 qs29 (fun H a1 => fm_rc (ci := 8) (C := RX10) (T := TX10) (N := 2) a1 rfl E.v fmUp_s) rfl rfl (Nat.le_of_ble_eq_true rfl) (Nat.le_of_ble_eq_true rfl) (Nat.le_of_ble_eq_true rfl) dX10_digging_10 4 22 (Nat.le_of_ble_eq_true rfl) (Nat.le_of_ble_eq_true rfl) ?_
      refine r_hp (h' := fmUp h p (true, .inr (.inl (8, [.int (nI ((pNum T len a false).2.1 + 1)), .ref x])))) (fmUp_uu _ _ _ _) ?_
      refine r_istore_n E [some (.ref p), some (.int ((pNum T len a false).1)), some (.int (T ((pNum T len a false).2.1))), none, none] dX10_digging_13 rfl rfl ?_
      refine r_aload_n E dX10_digging_14 rfl ?_
      refine r_callV E (ctA_X10_number G hl (fmUp h p (true, .inr (.inl (8, [.int (nI ((pNum T len a false).2.1 + 1)), .ref x])))) (HC _) (HX _) p ((pNum T len a false).2.1 + 1) fmUp_s v len T (HS _) hlen hch (by omega)) mX10_number q1622 q1624 qs31 (fun H a1 => fm_rc (ci := 8) (C := RX10) (T := TX10) (N := 2) a1 rfl E.v fmUp_s) rfl rfl (Nat.le_of_ble_eq_true rfl) (Nat.le_of_ble_eq_true rfl) (Nat.le_of_ble_eq_true rfl) dX10_digging_15 3 15 (Nat.le_of_ble_eq_true rfl) (Nat.le_of_ble_eq_true rfl) (fun v' h3 q => ?_) (fun q Ex h3 hx3 => ?_)
      · obtain ⟨hw2, rfl, rfl⟩ := q
        refine r_hp (h' := fmUp h p (true, .inr (.inl (8, [.int (nI ((pNum T len ((pNum T len a false).2.1 + 1) false).2.1)), .ref x])))) (fmUp_uu _ _ _ _) ?_
        refine r_istore_n E [some (.ref p), some (.int ((pNum T len a false).1)), some (.int (T ((pNum T len a false).2.1))), some (.int ((pNum T len ((pNum T len a false).2.1 + 1) false).1)), none] dX10_digging_18 rfl rfl ?_
        refine r_aload_n E dX10_digging_19 rfl ?_
        refine r_bipush E (nI 112) dX10_digging_20 (by decide) ?_
        refine r_bipush E (nI 112) dX10_digging_22 (by decide) ?_
        refine r_callV1 (v1 := .int (bI (pSee T len (pNum T len ((pNum T len a false).2.1 + 1) false).2.1 false (nI 112) (nI 112)))) E (ct_X10_isAt G hl _ (HC _) (HX _) p ((pNum T len ((pNum T len a false).2.1 + 1) false).2.1) fmUp_s v len T (HS _) hlen hch (by omega) (nI 112) (nI 112)) mX10_isAt q1595 q1597 qs30 (fun H a1 => fm_rc (ci := 8) (C := RX10) (T := TX10) (N := 2) a1 rfl E.v fmUp_s) rfl rfl (Nat.le_of_ble_eq_true rfl) (Nat.le_of_ble_eq_true rfl) (Nat.le_of_ble_eq_true rfl) dX10_digging_24 3 15 (Nat.le_of_ble_eq_true rfl) (Nat.le_of_ble_eq_true rfl) ?_
        have hq4 := pDig_4 hw1 hk hw2
        cases hpr : (pSee T len (pNum T len ((pNum T len a false).2.1 + 1) false).2.1 false (nI 112) (nI 112)) with
        | true =>
          rw [hpr] at hq4
          refine r_istore E [some (.ref p), some (.int ((pNum T len a false).1)), some (.int (T ((pNum T len a false).2.1))), some (.int ((pNum T len ((pNum T len a false).2.1 + 1) false).1)), some (.int (bI true))] dX10_digging_27 rfl rfl ?_
          refine r_aload_n E dX10_digging_29 rfl ?_
          refine r_dup E dX10_digging_30 rfl ?_
          refine r_getf E cl_X10 0 (by decide) q1488 fmUp_s rfl dX10_digging_31 ?_
          refine r_iload E dX10_digging_34 rfl ?_
          refine r_ifB_eq (b := true) (tgt := 43) E dX10_digging_36 (by decide) (fun c => absurd c (by decide)) (fun _ => ?_)
          refine r_iconst E (nI 1) dX10_digging_39 (by decide) ?_
          refine r_goto (tgt := 44) E dX10_digging_40 (by decide) ?_
          refine r_iaddN E dX10_digging_44 ?_
          refine r_putf E cl_X10 0 (by decide) rfl q1488 (fun _ z => z) fmUp_s (Nat.le_of_ble_eq_true rfl) rfl rfl dX10_digging_45 ?_
          refine r_hp (h' := fmUp (fmUp h p (true, .inr (.inl (8, [.int (nI ((pNum T len ((pNum T len a false).2.1 + 1) false).2.1)), .ref x])))) p (true, .inr (.inl (8, [.int (nI ((pNum T len ((pNum T len a false).2.1 + 1) false).2.1 + 1)), .ref x])))) (rfl) ?_
          refine r_hp (h' := fmUp h p (true, .inr (.inl (8, [.int (nI ((pNum T len ((pNum T len a false).2.1 + 1) false).2.1 + 1)), .ref x])))) (fmUp_uu _ _ _ _) ?_
          refine r_new E cl_X12 [.null, .null] q1619 q1620 q121 (by decide) 1 4 (Nat.le_of_ble_eq_true rfl) (Nat.le_of_ble_eq_true rfl) dX10_digging_48 (fun c hc kc => ?_)
          refine r_dup E dX10_digging_51 rfl ?_
          refine r_gets E 6 rfl q1641 dX10_digging_52 ?_
          refine r_iconst E (nI 3) dX10_digging_55 (by decide) ?_
          refine r_newa E 0 (.inl (fun _ => 0)) rfl (z_ai 3) q236 (fun e => e) (Nat.le_of_ble_eq_true rfl) (Nat.le_of_ble_eq_true rfl) 0 0 (Nat.le_of_ble_eq_true rfl) (Nat.le_of_ble_eq_true rfl) dX10_digging_56 (fun b hb kb => ?_)
          have hpc : p ≠ c := fun z => by rw [← z, fmUp_s] at hc; cases hc
          have hcb : c ≠ b := fun z => by rw [← z, fmUp_s] at hb; cases hb
          have hpb : p ≠ b := fun z => by rw [← z] at hb; rw [fmUp_n hpc, fmUp_s] at hb; cases hb
          have hc0 : h c = none := up_none hc
          have hb0 : h b = none := up_none (up_none hb)
          refine r_dup E dX10_digging_58 rfl ?_
          refine r_iconst E (nI 0) dX10_digging_59 (by decide) ?_
          refine r_iload_n E dX10_digging_60 rfl ?_
          refine r_iast E fmUp_s (by decide) (by decide) dX10_digging_61 ?_
          refine r_hp (h' := fmUp (fmUp (fmUp h p (true, .inr (.inl (8, [.int (nI ((pNum T len ((pNum T len a false).2.1 + 1) false).2.1 + 1)), .ref x])))) c (true, .inr (.inl (9, [.null, .null])))) b (true, .inl (0, 3, .inl (upd (fun _ => 0) 0 ((pNum T len a false).1))))) (fmUp_uu _ _ _ _) ?_
          refine r_dup E dX10_digging_62 rfl ?_
          refine r_iconst E (nI 1) dX10_digging_63 (by decide) ?_
          refine r_iload_n E dX10_digging_64 rfl ?_
          refine r_iast E fmUp_s (by decide) (by decide) dX10_digging_65 ?_
          refine r_hp (h' := fmUp (fmUp (fmUp h p (true, .inr (.inl (8, [.int (nI ((pNum T len ((pNum T len a false).2.1 + 1) false).2.1 + 1)), .ref x])))) c (true, .inr (.inl (9, [.null, .null])))) b (true, .inl (0, 3, .inl (upd (upd (fun _ => 0) 0 ((pNum T len a false).1)) 1 ((pNum T len ((pNum T len a false).2.1 + 1) false).1))))) (fmUp_uu _ _ _ _) ?_
          refine r_dup E dX10_digging_66 rfl ?_
          refine r_iconst E (nI 2) dX10_digging_67 (by decide) ?_
          refine r_iload E dX10_digging_68 rfl ?_
          refine r_ifB_eq (b := true) (tgt := 77) E dX10_digging_70 (by decide) (fun c => absurd c (by decide)) (fun _ => ?_)
          refine r_iconst E (nI 1) dX10_digging_73 (by decide) ?_
          refine r_goto (tgt := 78) E dX10_digging_74 (by decide) ?_
          refine r_iast E fmUp_s (by decide) (by decide) dX10_digging_78 ?_
          refine r_hp (h' := fmUp (fmUp (fmUp h p (true, .inr (.inl (8, [.int (nI ((pNum T len ((pNum T len a false).2.1 + 1) false).2.1 + 1)), .ref x])))) c (true, .inr (.inl (9, [.null, .null])))) b (true, .inl (0, 3, .inl (upd (upd (upd (fun _ => 0) 0 ((pNum T len a false).1)) 1 ((pNum T len ((pNum T len a false).2.1 + 1) false).1)) 2 (nI 1))))) (fmUp_uu _ _ _ _) ?_
          refine r_callI0 E (ct_X12_init G hl _ c 6 b ((fmUp_n hcb).trans fmUp_s)) mX12_init rfl q1626 q1627 rfl rfl (Nat.le_of_ble_eq_true rfl) (Nat.le_of_ble_eq_true rfl) (Nat.le_of_ble_eq_true rfl) dX10_digging_79 0 0 (Nat.le_of_ble_eq_true rfl) (Nat.le_of_ble_eq_true rfl) ?_
          exact r_areturn E P rfl (Or.inl ⟨_, rfl⟩) dX10_digging_82 ⟨by rw [hq4], c, rfl, by rw [hq4]; exact ⟨b, _, Or.inl ⟨rfl, fmUp_s, (fmUp_n (fun z => hcb z.symm)).trans fmUp_s, rfl, rfl, rfl⟩⟩, by rw [hq4]; exact (fmUp_n hpc).trans ((fmUp_n hpb).trans ((fmUp_n hpc).trans fmUp_s)), fun q y9 hq hn => (fmUp_n (fun w9 => by rw [w9, hc0] at hq; cases hq)).trans ((fmUp_n (fun w9 => by rw [w9, hb0] at hq; cases hq)).trans ((fmUp_n (fun w9 => by rw [w9, hc0] at hq; cases hq)).trans (HF _ q y9 hq hn))), hc0⟩
        | false =>
          rw [hpr] at hq4
          refine r_istore E [some (.ref p), some (.int ((pNum T len a false).1)), some (.int (T ((pNum T len a false).2.1))), some (.int ((pNum T len ((pNum T len a false).2.1 + 1) false).1)), some (.int (bI false))] dX10_digging_27 rfl rfl ?_
          refine r_aload_n E dX10_digging_29 rfl ?_
          refine r_dup E dX10_digging_30 rfl ?_
          refine r_getf E cl_X10 0 (by decide) q1488 fmUp_s rfl dX10_digging_31 ?_
          refine r_iload E dX10_digging_34 rfl ?_
          refine r_ifB_eq (b := false) (tgt := 43) E dX10_digging_36 (by decide) (fun _ => ?_) (fun c => absurd c (by decide))
          refine r_iconst E (nI 0) dX10_digging_43 (by decide) ?_
          refine r_iaddN E dX10_digging_44 ?_
          refine r_topi (congrArg nI (Nat.add_zero _)) ?_
          refine r_putf E cl_X10 0 (by decide) rfl q1488 (fun _ z => z) fmUp_s (Nat.le_of_ble_eq_true rfl) rfl rfl dX10_digging_45 ?_
          refine r_hp (h' := fmUp (fmUp h p (true, .inr (.inl (8, [.int (nI ((pNum T len ((pNum T len a false).2.1 + 1) false).2.1)), .ref x])))) p (true, .inr (.inl (8, [.int (nI ((pNum T len ((pNum T len a false).2.1 + 1) false).2.1)), .ref x])))) (rfl) ?_
          refine r_hp (h' := fmUp h p (true, .inr (.inl (8, [.int (nI ((pNum T len ((pNum T len a false).2.1 + 1) false).2.1 + 0)), .ref x])))) (fmUp_uu _ _ _ _) ?_
          refine r_new E cl_X12 [.null, .null] q1619 q1620 q121 (by decide) 1 4 (Nat.le_of_ble_eq_true rfl) (Nat.le_of_ble_eq_true rfl) dX10_digging_48 (fun c hc kc => ?_)
          refine r_dup E dX10_digging_51 rfl ?_
          refine r_gets E 6 rfl q1641 dX10_digging_52 ?_
          refine r_iconst E (nI 3) dX10_digging_55 (by decide) ?_
          refine r_newa E 0 (.inl (fun _ => 0)) rfl (z_ai 3) q236 (fun e => e) (Nat.le_of_ble_eq_true rfl) (Nat.le_of_ble_eq_true rfl) 0 0 (Nat.le_of_ble_eq_true rfl) (Nat.le_of_ble_eq_true rfl) dX10_digging_56 (fun b hb kb => ?_)
          have hpc : p ≠ c := fun z => by rw [← z, fmUp_s] at hc; cases hc
          have hcb : c ≠ b := fun z => by rw [← z, fmUp_s] at hb; cases hb
          have hpb : p ≠ b := fun z => by rw [← z] at hb; rw [fmUp_n hpc, fmUp_s] at hb; cases hb
          have hc0 : h c = none := up_none hc
          have hb0 : h b = none := up_none (up_none hb)
          refine r_dup E dX10_digging_58 rfl ?_
          refine r_iconst E (nI 0) dX10_digging_59 (by decide) ?_
          refine r_iload_n E dX10_digging_60 rfl ?_
          refine r_iast E fmUp_s (by decide) (by decide) dX10_digging_61 ?_
          refine r_hp (h' := fmUp (fmUp (fmUp h p (true, .inr (.inl (8, [.int (nI ((pNum T len ((pNum T len a false).2.1 + 1) false).2.1 + 0)), .ref x])))) c (true, .inr (.inl (9, [.null, .null])))) b (true, .inl (0, 3, .inl (upd (fun _ => 0) 0 ((pNum T len a false).1))))) (fmUp_uu _ _ _ _) ?_
          refine r_dup E dX10_digging_62 rfl ?_
          refine r_iconst E (nI 1) dX10_digging_63 (by decide) ?_
          refine r_iload_n E dX10_digging_64 rfl ?_
          refine r_iast E fmUp_s (by decide) (by decide) dX10_digging_65 ?_
          refine r_hp (h' := fmUp (fmUp (fmUp h p (true, .inr (.inl (8, [.int (nI ((pNum T len ((pNum T len a false).2.1 + 1) false).2.1 + 0)), .ref x])))) c (true, .inr (.inl (9, [.null, .null])))) b (true, .inl (0, 3, .inl (upd (upd (fun _ => 0) 0 ((pNum T len a false).1)) 1 ((pNum T len ((pNum T len a false).2.1 + 1) false).1))))) (fmUp_uu _ _ _ _) ?_
          refine r_dup E dX10_digging_66 rfl ?_
          refine r_iconst E (nI 2) dX10_digging_67 (by decide) ?_
          refine r_iload E dX10_digging_68 rfl ?_
          refine r_ifB_eq (b := false) (tgt := 77) E dX10_digging_70 (by decide) (fun _ => ?_) (fun c => absurd c (by decide))
          refine r_iconst E (nI 0) dX10_digging_77 (by decide) ?_
          refine r_iast E fmUp_s (by decide) (by decide) dX10_digging_78 ?_
          refine r_hp (h' := fmUp (fmUp (fmUp h p (true, .inr (.inl (8, [.int (nI ((pNum T len ((pNum T len a false).2.1 + 1) false).2.1 + 0)), .ref x])))) c (true, .inr (.inl (9, [.null, .null])))) b (true, .inl (0, 3, .inl (upd (upd (upd (fun _ => 0) 0 ((pNum T len a false).1)) 1 ((pNum T len ((pNum T len a false).2.1 + 1) false).1)) 2 (nI 0))))) (fmUp_uu _ _ _ _) ?_
          refine r_callI0 E (ct_X12_init G hl _ c 6 b ((fmUp_n hcb).trans fmUp_s)) mX12_init rfl q1626 q1627 rfl rfl (Nat.le_of_ble_eq_true rfl) (Nat.le_of_ble_eq_true rfl) (Nat.le_of_ble_eq_true rfl) dX10_digging_79 0 0 (Nat.le_of_ble_eq_true rfl) (Nat.le_of_ble_eq_true rfl) ?_
          exact r_areturn E P rfl (Or.inl ⟨_, rfl⟩) dX10_digging_82 ⟨by rw [hq4], c, rfl, by rw [hq4]; exact ⟨b, _, Or.inl ⟨rfl, fmUp_s, (fmUp_n (fun z => hcb z.symm)).trans fmUp_s, rfl, rfl, rfl⟩⟩, by rw [hq4]; exact (fmUp_n hpc).trans ((fmUp_n hpb).trans ((fmUp_n hpc).trans fmUp_s)), fun q y9 hq hn => (fmUp_n (fun w9 => by rw [w9, hc0] at hq; cases hq)).trans ((fmUp_n (fun w9 => by rw [w9, hb0] at hq; cases hq)).trans ((fmUp_n (fun w9 => by rw [w9, hc0] at hq; cases hq)).trans (HF _ q y9 hq hn))), hc0⟩
      · obtain ⟨⟨hw, he⟩, rfl, hq, rfl⟩ := hx3
        obtain ⟨e1, e2⟩ := pDig_3 hw1 hk hw
        exact r_xout E P (fun x hx => by cases hx) ⟨e1, rfl, by rw [e2, he]; exact fmUp_s, fun q9 y9 hq9 hn => fmUp_of (HF _ q9 y9 hq9 hn) hq⟩
  · obtain ⟨⟨hw, he⟩, rfl, hq, rfl⟩ := hx3
    obtain ⟨e1, e2⟩ := pDig_1 hw
    exact r_xout E P (fun x hx => by cases hx) ⟨e1, rfl, by rw [e2, he]; exact fmUp_s, fun q9 y9 hq9 hn => fmUp_of ((fun q y hq _ => hq) q9 y9 hq9 hn) hq⟩

