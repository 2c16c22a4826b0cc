set_option maxHeartbeats 4000000 in
theorem ct1_X10_command (G : fmG) (hl : (fmLn G).stackTraces = false) (h : fmHp) {x far qu d pa sb : Nat} {fl re de : Int32} {sv : Value} (hC : CC G h) (hx : DkO h x far qu d pa sb fl re de sv) (p a : Nat) (hp : h p = some (true, .inr (.inl (8, [.int (nI a), .ref x])))) (v len : Nat) (T : Nat → Int32) (hS : SBt h sb v len T) (hlen : len ≤ 60) (hch : ∀ i, i < len → ∃ k, k < 65536 ∧ T i = nI k) (ha : a ≤ 1000) (hal : a < len) (hlt : sLet (T a) = true) (hnd : T a ≠ nI 100) : Ct G yX10_command (ws_ yX10_command cX10_command 1 (some (.object "FlintMine$Command"))) { frames := 12, cells := 5, slots := 30, locals := 400 } [.ref p] h (fun v0 h' => (pNum T len (a + 1) false).2.2 = false ∧ ∃ c, v0 = some (.ref c) ∧ CmdAt G h' c (T a) (pNum T len (a + 1) false).1 0 false ∧ h' p = some (true, .inr (.inl (8, [.int (nI (pNum T len (a + 1) false).2.1), .ref x]))) ∧ FrX p h h' ∧ h c = none) (fun q Ex h' => (pNum T len (a + 1) false).2.2 = true ∧ Ex = "FlintMine$FaultException" ∧ h' q = some (true, .inr (.inl (11, [.null, .null, .null, .null, .null, .int 0, .int (nI (pNum T len (a + 1) false).2.1)]))) ∧ FrX p h h') := by
  refine Ct.of hl (by decide +kernel) (Nat.le_of_ble_eq_true rfl) (fun Γ E P => ?_)
  obtain ⟨u, ml, cap, bf, hsb, hv, hrr⟩ := id hS
  have hpx : p ≠ x := fun z => by have hx0 : h x = some (true, .inr (.inl (1, [.ref far, .ref qu, .ref d, .ref pa, .ref sb, .int fl, .int re, .int de, sv]))) := hx; rw [z, hx0] at hp; cases hp
  have hps : p ≠ sb := fun z => by rw [z, hsb] at hp; cases hp
  have hpv : p ≠ v := fun z => by rw [z, hv] at hp; cases hp
  refine r_aload_n E dX10_command_0 rfl ?_
  refine r_callV1 (v1 := .int (T a)) E (ctT_X10_letter G hl h hC hx p a hp v len T hS hlen hch (by omega) hal hlt) mX10_letter q1505 q1507 qs28 (fun H a1 => fm_rc (ci := 8) (C := RX10) (T := TX10) (N := 2) a1 rfl E.v hp) rfl rfl (Nat.le_of_ble_eq_true rfl) (Nat.le_of_ble_eq_true rfl) (Nat.le_of_ble_eq_true rfl) dX10_command_1 3 12 (Nat.le_of_ble_eq_true rfl) (Nat.le_of_ble_eq_true rfl) ?_
  refine r_hp (h' := fmUp h p (true, .inr (.inl (8, [.int (nI (a + 1)), .ref x])))) rfl ?_
  rcases sLet_7 hlt with ht | ht | ht | ht | ht | ht | ht
  · refine r_top (v' := .int (nI 115)) (congrArg Value.int ht) ?_
    refine r_tableIn (tgt := 96) E dX10_command_4 (by decide) (by decide) rfl (by decide) ?_
    refine r_new E cl_X12 [.null, .null] q1619 q1620 q121 (by decide) 2 10 (Nat.le_of_ble_eq_true rfl) (Nat.le_of_ble_eq_true rfl) dX10_command_96 (fun c hc kc => ?_)
    have hpc : p ≠ c := fun z => by rw [← z, fmUp_s] at hc; cases hc
    refine r_dup E dX10_command_99 rfl ?_
    refine r_gets E 5 rfl q1621 dX10_command_100 ?_
    refine r_iconst E (nI 1) dX10_command_103 (by decide) ?_
    refine r_newa E 0 (.inl (fun _ => 0)) rfl (z_ai 1) q236 (fun e => e) (Nat.le_of_ble_eq_true rfl) (Nat.le_of_ble_eq_true rfl) 1 8 (Nat.le_of_ble_eq_true rfl) (Nat.le_of_ble_eq_true rfl) dX10_command_104 (fun b hb kb => ?_)
    have hk2 : Kp (fmUp h p (true, .inr (.inl (8, [.int (nI (a + 1)), .ref x])))) (fmUp (fmUp (fmUp h p (true, .inr (.inl (8, [.int (nI (a + 1)), .ref x])))) c (true, .inr (.inl (9, [.null, .null])))) b (true, .inl (0, 1, .inl (fun _ => 0)))) := (Kp.up hc).trans (Kp.up hb)
    have hcb : c ≠ b := fun z => by rw [← z, fmUp_s] at hb; cases hb
    have hp2 := hk2 _ _ (fmUp_s (h := h) (a := p) (e := (true, .inr (.inl (8, [.int (nI (a + 1)), .ref x])))))
    have hx2 := hk2 _ _ ((fmUp_n (e := (true, .inr (.inl (8, [.int (nI (a + 1)), .ref x])))) (fun z => hpx z.symm)).trans hx)
    have hS2 : SBt (fmUp (fmUp (fmUp h p (true, .inr (.inl (8, [.int (nI (a + 1)), .ref x])))) c (true, .inr (.inl (9, [.null, .null])))) b (true, .inl (0, 1, .inl (fun _ => 0)))) sb v len T := hS.kept (fun z hz => hk2 _ _ ((fmUp_n (fun z => hps z.symm)).trans hz)) (fun z hz => hk2 _ _ ((fmUp_n (fun z => hpv z.symm)).trans hz))
    have hC2 : CC G (fmUp (fmUp (fmUp h p (true, .inr (.inl (8, [.int (nI (a + 1)), .ref x])))) c (true, .inr (.inl (9, [.null, .null])))) b (true, .inl (0, 1, .inl (fun _ => 0)))) := (hC.kept (fun q z hq => (fmUp_n (fun z => by rw [z, hp] at hq; cases hq)).trans hq) : CC G (fmUp h p (true, .inr (.inl (8, [.int (nI (a + 1)), .ref x]))))).kp hk2
    have hpb : p ≠ b := fun z => by rw [← z] at hb; rw [fmUp_n hpc, fmUp_s] at hb; cases hb
    have hc0 : h c = none := up_none hc
    have hb0 : h b = none := up_none (up_none hb)
    have hbp : (fmUp (fmUp (fmUp h p (true, .inr (.inl (8, [.int (nI (a + 1)), .ref x])))) c (true, .inr (.inl (9, [.null, .null])))) b (true, .inl (0, 1, .inl (fun _ => 0)))) b = some (true, .inl (0, 1, .inl (fun _ => 0))) := fmUp_s
    have hcp : (fmUp (fmUp (fmUp h p (true, .inr (.inl (8, [.int (nI (a + 1)), .ref x])))) c (true, .inr (.inl (9, [.null, .null])))) b (true, .inl (0, 1, .inl (fun _ => 0)))) c = some (true, .inr (.inl (9, [.null, .null]))) := (fmUp_n hcb).trans fmUp_s
    have hfr : FrX p h (fmUp (fmUp (fmUp h p (true, .inr (.inl (8, [.int (nI (a + 1)), .ref x])))) c (true, .inr (.inl (9, [.null, .null])))) b (true, .inl (0, 1, .inl (fun _ => 0)))) := fun q z hq hn => hk2 _ _ ((fmUp_n hn).trans hq)
    generalize hH2 : fmUp (fmUp (fmUp h p (true, .inr (.inl (8, [.int (nI (a + 1)), .ref x])))) c (true, .inr (.inl (9, [.null, .null])))) b (true, .inl (0, 1, .inl (fun _ => 0))) = H2 at *
    refine r_dup E dX10_command_106 rfl ?_
    refine r_iconst E (nI 0) dX10_command_107 (by decide) ?_
    refine r_aload_n E dX10_command_108 rfl ?_
    refine r_callV E (ctA_X10_number G hl H2 hC2 hx2 p (a + 1) hp2 v len T hS2 hlen hch (by omega)) mX10_number q1622 q1624 qs31 (fun H a1 => fm_rc (ci := 8) (C := RX10) (T := TX10) (N := 2) a1 rfl E.v hp2) rfl rfl (Nat.le_of_ble_eq_true rfl) (Nat.le_of_ble_eq_true rfl) (Nat.le_of_ble_eq_true rfl) dX10_command_109 0 0 (Nat.le_of_ble_eq_true rfl) (Nat.le_of_ble_eq_true rfl) (fun v' h3 q => ?_) (fun q Ex h3 hx3 => ?_)
    · obtain ⟨hw, rfl, rfl⟩ := q
      refine r_iast E ((fmUp_n (fun z => hpb z.symm)).trans hbp) (by decide) (by decide) dX10_command_112 ?_
      refine r_callI0 E (ct_X12_init G hl _ c 5 b ((fmUp_n hcb).trans ((fmUp_n (fun z => hpc z.symm)).trans hcp))) mX12_init rfl q1626 q1627 rfl rfl (Nat.le_of_ble_eq_true rfl) (Nat.le_of_ble_eq_true rfl) (Nat.le_of_ble_eq_true rfl) dX10_command_113 0 0 (Nat.le_of_ble_eq_true rfl) (Nat.le_of_ble_eq_true rfl) ?_
      exact r_areturn E P rfl (Or.inl ⟨_, rfl⟩) dX10_command_116 ⟨hw, c, rfl, ⟨b, _, Or.inr ⟨hnd, (by rw [ht]; exact fmUp_s), (fmUp_n (fun z => hcb z.symm)).trans fmUp_s, upd_eq' rfl⟩⟩, (fmUp_n hpc).trans ((fmUp_n hpb).trans fmUp_s), fun q y9 hq hn => (fmUp_n (fun w9 => by rw [w9, hc0] at hq; cases hq)).trans ((fmUp_n (fun w9 => by rw [w9, hb0] at hq; cases hq)).trans ((fmUp_n hn).trans (hfr q y9 hq hn))), hc0⟩
    · obtain ⟨⟨hw, he⟩, rfl, hq, rfl⟩ := hx3
      exact r_xout E P (fun x hx => by cases hx) ⟨hw, rfl, by rw [he]; exact fmUp_s, fun q9 y9 hq9 hn => fmUp_of (hfr q9 y9 hq9 hn) hq⟩
  · exact absurd ht hnd
  · refine r_top (v' := .int (nI 112)) (congrArg Value.int ht) ?_
    refine r_tableIn (tgt := 122) E dX10_command_4 (by decide) (by decide) rfl (by decide) ?_
    refine r_new E cl_X12 [.null, .null] q1619 q1620 q121 (by decide) 2 10 (Nat.le_of_ble_eq_true rfl) (Nat.le_of_ble_eq_true rfl) dX10_command_122 (fun c hc kc => ?_)
    have hpc : p ≠ c := fun z => by rw [← z, fmUp_s] at hc; cases hc
    refine r_dup E dX10_command_125 rfl ?_
    refine r_gets E 7 rfl q1642 dX10_command_126 ?_
    refine r_iconst E (nI 1) dX10_command_129 (by decide) ?_
    refine r_newa E 0 (.inl (fun _ => 0)) rfl (z_ai 1) q236 (fun e => e) (Nat.le_of_ble_eq_true rfl) (Nat.le_of_ble_eq_true rfl) 1 8 (Nat.le_of_ble_eq_true rfl) (Nat.le_of_ble_eq_true rfl) dX10_command_130 (fun b hb kb => ?_)
    have hk2 : Kp (fmUp h p (true, .inr (.inl (8, [.int (nI (a + 1)), .ref x])))) (fmUp (fmUp (fmUp h p (true, .inr (.inl (8, [.int (nI (a + 1)), .ref x])))) c (true, .inr (.inl (9, [.null, .null])))) b (true, .inl (0, 1, .inl (fun _ => 0)))) := (Kp.up hc).trans (Kp.up hb)
    have hcb : c ≠ b := fun z => by rw [← z, fmUp_s] at hb; cases hb
    have hp2 := hk2 _ _ (fmUp_s (h := h) (a := p) (e := (true, .inr (.inl (8, [.int (nI (a + 1)), .ref x])))))
    have hx2 := hk2 _ _ ((fmUp_n (e := (true, .inr (.inl (8, [.int (nI (a + 1)), .ref x])))) (fun z => hpx z.symm)).trans hx)
    have hS2 : SBt (fmUp (fmUp (fmUp h p (true, .inr (.inl (8, [.int (nI (a + 1)), .ref x])))) c (true, .inr (.inl (9, [.null, .null])))) b (true, .inl (0, 1, .inl (fun _ => 0)))) sb v len T := hS.kept (fun z hz => hk2 _ _ ((fmUp_n (fun z => hps z.symm)).trans hz)) (fun z hz => hk2 _ _ ((fmUp_n (fun z => hpv z.symm)).trans hz))
    have hC2 : CC G (fmUp (fmUp (fmUp h p (true, .inr (.inl (8, [.int (nI (a + 1)), .ref x])))) c (true, .inr (.inl (9, [.null, .null])))) b (true, .inl (0, 1, .inl (fun _ => 0)))) := (hC.kept (fun q z hq => (fmUp_n (fun z => by rw [z, hp] at hq; cases hq)).trans hq) : CC G (fmUp h p (true, .inr (.inl (8, [.int (nI (a + 1)), .ref x]))))).kp hk2
    have hpb : p ≠ b := fun z => by rw [← z] at hb; rw [fmUp_n hpc, fmUp_s] at hb; cases hb
    have hc0 : h c = none := up_none hc
    have hb0 : h b = none := up_none (up_none hb)
    have hbp : (fmUp (fmUp (fmUp h p (true, .inr (.inl (8, [.int (nI (a + 1)), .ref x])))) c (true, .inr (.inl (9, [.null, .null])))) b (true, .inl (0, 1, .inl (fun _ => 0)))) b = some (true, .inl (0, 1, .inl (fun _ => 0))) := fmUp_s
    have hcp : (fmUp (fmUp (fmUp h p (true, .inr (.inl (8, [.int (nI (a + 1)), .ref x])))) c (true, .inr (.inl (9, [.null, .null])))) b (true, .inl (0, 1, .inl (fun _ => 0)))) c = some (true, .inr (.inl (9, [.null, .null]))) := (fmUp_n hcb).trans fmUp_s
    have hfr : FrX p h (fmUp (fmUp (fmUp h p (true, .inr (.inl (8, [.int (nI (a + 1)), .ref x])))) c (true, .inr (.inl (9, [.null, .null])))) b (true, .inl (0, 1, .inl (fun _ => 0)))) := fun q z hq hn => hk2 _ _ ((fmUp_n hn).trans hq)
    generalize hH2 : fmUp (fmUp (fmUp h p (true, .inr (.inl (8, [.int (nI (a + 1)), .ref x])))) c (true, .inr (.inl (9, [.null, .null])))) b (true, .inl (0, 1, .inl (fun _ => 0))) = H2 at *
    refine r_dup E dX10_command_132 rfl ?_
    refine r_iconst E (nI 0) dX10_command_133 (by decide) ?_
    refine r_aload_n E dX10_command_134 rfl ?_
    refine r_callV E (ctA_X10_number G hl H2 hC2 hx2 p (a + 1) hp2 v len T hS2 hlen hch (by omega)) mX10_number q1622 q1624 qs31 (fun H a1 => fm_rc (ci := 8) (C := RX10) (T := TX10) (N := 2) a1 rfl E.v hp2) rfl rfl (Nat.le_of_ble_eq_true rfl) (Nat.le_of_ble_eq_true rfl) (Nat.le_of_ble_eq_true rfl) dX10_command_135 0 0 (Nat.le_of_ble_eq_true rfl) (Nat.le_of_ble_eq_true rfl) (fun v' h3 q => ?_) (fun q Ex h3 hx3 => ?_)
    · obtain ⟨hw, rfl, rfl⟩ := q
      refine r_iast E ((fmUp_n (fun z => hpb z.symm)).trans hbp) (by decide) (by decide) dX10_command_138 ?_
      refine r_callI0 E (ct_X12_init G hl _ c 7 b ((fmUp_n hcb).trans ((fmUp_n (fun z => hpc z.symm)).trans hcp))) mX12_init rfl q1626 q1627 rfl rfl (Nat.le_of_ble_eq_true rfl) (Nat.le_of_ble_eq_true rfl) (Nat.le_of_ble_eq_true rfl) dX10_command_139 0 0 (Nat.le_of_ble_eq_true rfl) (Nat.le_of_ble_eq_true rfl) ?_
      exact r_areturn E P rfl (Or.inl ⟨_, rfl⟩) dX10_command_142 ⟨hw, c, rfl, ⟨b, _, Or.inr ⟨hnd, (by rw [ht]; exact fmUp_s), (fmUp_n (fun z => hcb z.symm)).trans fmUp_s, upd_eq' rfl⟩⟩, (fmUp_n hpc).trans ((fmUp_n hpb).trans fmUp_s), fun q y9 hq hn => (fmUp_n (fun w9 => by rw [w9, hc0] at hq; cases hq)).trans ((fmUp_n (fun w9 => by rw [w9, hb0] at hq; cases hq)).trans ((fmUp_n hn).trans (hfr q y9 hq hn))), hc0⟩
    · obtain ⟨⟨hw, he⟩, rfl, hq, rfl⟩ := hx3
      exact r_xout E P (fun x hx => by cases hx) ⟨hw, rfl, by rw [he]; exact fmUp_s, fun q9 y9 hq9 hn => fmUp_of (hfr q9 y9 hq9 hn) hq⟩
  · refine r_top (v' := .int (nI 117)) (congrArg Value.int ht) ?_
    refine r_tableIn (tgt := 143) E dX10_command_4 (by decide) (by decide) rfl (by decide) ?_
    refine r_new E cl_X12 [.null, .null] q1619 q1620 q121 (by decide) 2 10 (Nat.le_of_ble_eq_true rfl) (Nat.le_of_ble_eq_true rfl) dX10_command_143 (fun c hc kc => ?_)
    have hpc : p ≠ c := fun z => by rw [← z, fmUp_s] at hc; cases hc
    refine r_dup E dX10_command_146 rfl ?_
    refine r_gets E 8 rfl q1643 dX10_command_147 ?_
    refine r_iconst E (nI 1) dX10_command_150 (by decide) ?_
    refine r_newa E 0 (.inl (fun _ => 0)) rfl (z_ai 1) q236 (fun e => e) (Nat.le_of_ble_eq_true rfl) (Nat.le_of_ble_eq_true rfl) 1 8 (Nat.le_of_ble_eq_true rfl) (Nat.le_of_ble_eq_true rfl) dX10_command_151 (fun b hb kb => ?_)
    have hk2 : Kp (fmUp h p (true, .inr (.inl (8, [.int (nI (a + 1)), .ref x])))) (fmUp (fmUp (fmUp h p (true, .inr (.inl (8, [.int (nI (a + 1)), .ref x])))) c (true, .inr (.inl (9, [.null, .null])))) b (true, .inl (0, 1, .inl (fun _ => 0)))) := (Kp.up hc).trans (Kp.up hb)
    have hcb : c ≠ b := fun z => by rw [← z, fmUp_s] at hb; cases hb
    have hp2 := hk2 _ _ (fmUp_s (h := h) (a := p) (e := (true, .inr (.inl (8, [.int (nI (a + 1)), .ref x])))))
    have hx2 := hk2 _ _ ((fmUp_n (e := (true, .inr (.inl (8, [.int (nI (a + 1)), .ref x])))) (fun z => hpx z.symm)).trans hx)
    have hS2 : SBt (fmUp (fmUp (fmUp h p (true, .inr (.inl (8, [.int (nI (a + 1)), .ref x])))) c (true, .inr (.inl (9, [.null, .null])))) b (true, .inl (0, 1, .inl (fun _ => 0)))) sb v len T := hS.kept (fun z hz => hk2 _ _ ((fmUp_n (fun z => hps z.symm)).trans hz)) (fun z hz => hk2 _ _ ((fmUp_n (fun z => hpv z.symm)).trans hz))
    have hC2 : CC G (fmUp (fmUp (fmUp h p (true, .inr (.inl (8, [.int (nI (a + 1)), .ref x])))) c (true, .inr (.inl (9, [.null, .null])))) b (true, .inl (0, 1, .inl (fun _ => 0)))) := (hC.kept (fun q z hq => (fmUp_n (fun z => by rw [z, hp] at hq; cases hq)).trans hq) : CC G (fmUp h p (true, .inr (.inl (8, [.int (nI (a + 1)), .ref x]))))).kp hk2
    have hpb : p ≠ b := fun z => by rw [← z] at hb; rw [fmUp_n hpc, fmUp_s] at hb; cases hb
    have hc0 : h c = none := up_none hc
    have hb0 : h b = none := up_none (up_none hb)
    have hbp : (fmUp (fmUp (fmUp h p (true, .inr (.inl (8, [.int (nI (a + 1)), .ref x])))) c (true, .inr (.inl (9, [.null, .null])))) b (true, .inl (0, 1, .inl (fun _ => 0)))) b = some (true, .inl (0, 1, .inl (fun _ => 0))) := fmUp_s
    have hcp : (fmUp (fmUp (fmUp h p (true, .inr (.inl (8, [.int (nI (a + 1)), .ref x])))) c (true, .inr (.inl (9, [.null, .null])))) b (true, .inl (0, 1, .inl (fun _ => 0)))) c = some (true, .inr (.inl (9, [.null, .null]))) := (fmUp_n hcb).trans fmUp_s
    have hfr : FrX p h (fmUp (fmUp (fmUp h p (true, .inr (.inl (8, [.int (nI (a + 1)), .ref x])))) c (true, .inr (.inl (9, [.null, .null])))) b (true, .inl (0, 1, .inl (fun _ => 0)))) := fun q z hq hn => hk2 _ _ ((fmUp_n hn).trans hq)
    generalize hH2 : fmUp (fmUp (fmUp h p (true, .inr (.inl (8, [.int (nI (a + 1)), .ref x])))) c (true, .inr (.inl (9, [.null, .null])))) b (true, .inl (0, 1, .inl (fun _ => 0))) = H2 at *
    refine r_dup E dX10_command_153 rfl ?_
    refine r_iconst E (nI 0) dX10_command_154 (by decide) ?_
    refine r_aload_n E dX10_command_155 rfl ?_
    refine r_callV E (ctA_X10_number G hl H2 hC2 hx2 p (a + 1) hp2 v len T hS2 hlen hch (by omega)) mX10_number q1622 q1624 qs31 (fun H a1 => fm_rc (ci := 8) (C := RX10) (T := TX10) (N := 2) a1 rfl E.v hp2) rfl rfl (Nat.le_of_ble_eq_true rfl) (Nat.le_of_ble_eq_true rfl) (Nat.le_of_ble_eq_true rfl) dX10_command_156 0 0 (Nat.le_of_ble_eq_true rfl) (Nat.le_of_ble_eq_true rfl) (fun v' h3 q => ?_) (fun q Ex h3 hx3 => ?_)
    · obtain ⟨hw, rfl, rfl⟩ := q
      refine r_iast E ((fmUp_n (fun z => hpb z.symm)).trans hbp) (by decide) (by decide) dX10_command_159 ?_
      refine r_callI0 E (ct_X12_init G hl _ c 8 b ((fmUp_n hcb).trans ((fmUp_n (fun z => hpc z.symm)).trans hcp))) mX12_init rfl q1626 q1627 rfl rfl (Nat.le_of_ble_eq_true rfl) (Nat.le_of_ble_eq_true rfl) (Nat.le_of_ble_eq_true rfl) dX10_command_160 0 0 (Nat.le_of_ble_eq_true rfl) (Nat.le_of_ble_eq_true rfl) ?_
      exact r_areturn E P rfl (Or.inl ⟨_, rfl⟩) dX10_command_163 ⟨hw, c, rfl, ⟨b, _, Or.inr ⟨hnd, (by rw [ht]; exact fmUp_s), (fmUp_n (fun z => hcb z.symm)).trans fmUp_s, upd_eq' rfl⟩⟩, (fmUp_n hpc).trans ((fmUp_n hpb).trans fmUp_s), fun q y9 hq hn => (fmUp_n (fun w9 => by rw [w9, hc0] at hq; cases hq)).trans ((fmUp_n (fun w9 => by rw [w9, hb0] at hq; cases hq)).trans ((fmUp_n hn).trans (hfr q y9 hq hn))), hc0⟩
    · obtain ⟨⟨hw, he⟩, rfl, hq, rfl⟩ := hx3
      exact r_xout E P (fun x hx => by cases hx) ⟨hw, rfl, by rw [he]; exact fmUp_s, fun q9 y9 hq9 hn => fmUp_of (hfr q9 y9 hq9 hn) hq⟩
  · refine r_top (v' := .int (nI 99)) (congrArg Value.int ht) ?_
    refine r_tableIn (tgt := 164) E dX10_command_4 (by decide) (by decide) rfl (by decide) ?_
    refine r_new E cl_X12 [.null, .null] q1619 q1620 q121 (by decide) 2 10 (Nat.le_of_ble_eq_true rfl) (Nat.le_of_ble_eq_true rfl) dX10_command_164 (fun c hc kc => ?_)
    have hpc : p ≠ c := fun z => by rw [← z, fmUp_s] at hc; cases hc
    refine r_dup E dX10_command_167 rfl ?_
    refine r_gets E 9 rfl q1644 dX10_command_168 ?_
    refine r_iconst E (nI 1) dX10_command_171 (by decide) ?_
    refine r_newa E 0 (.inl (fun _ => 0)) rfl (z_ai 1) q236 (fun e => e) (Nat.le_of_ble_eq_true rfl) (Nat.le_of_ble_eq_true rfl) 1 8 (Nat.le_of_ble_eq_true rfl) (Nat.le_of_ble_eq_true rfl) dX10_command_172 (fun b hb kb => ?_)
    have hk2 : Kp (fmUp h p (true, .inr (.inl (8, [.int (nI (a + 1)), .ref x])))) (fmUp (fmUp (fmUp h p (true, .inr (.inl (8, [.int (nI (a + 1)), .ref x])))) c (true, .inr (.inl (9, [.null, .null])))) b (true, .inl (0, 1, .inl (fun _ => 0)))) := (Kp.up hc).trans (Kp.up hb)
    have hcb : c ≠ b := fun z => by rw [← z, fmUp_s] at hb; cases hb
    have hp2 := hk2 _ _ (fmUp_s (h := h) (a := p) (e := (true, .inr (.inl (8, [.int (nI (a + 1)), .ref x])))))
    have hx2 := hk2 _ _ ((fmUp_n (e := (true, .inr (.inl (8, [.int (nI (a + 1)), .ref x])))) (fun z => hpx z.symm)).trans hx)
    have hS2 : SBt (fmUp (fmUp (fmUp h p (true, .inr (.inl (8, [.int (nI (a + 1)), .ref x])))) c (true, .inr (.inl (9, [.null, .null])))) b (true, .inl (0, 1, .inl (fun _ => 0)))) sb v len T := hS.kept (fun z hz => hk2 _ _ ((fmUp_n (fun z => hps z.symm)).trans hz)) (fun z hz => hk2 _ _ ((fmUp_n (fun z => hpv z.symm)).trans hz))
    have hC2 : CC G (fmUp (fmUp (fmUp h p (true, .inr (.inl (8, [.int (nI (a + 1)), .ref x])))) c (true, .inr (.inl (9, [.null, .null])))) b (true, .inl (0, 1, .inl (fun _ => 0)))) := (hC.kept (fun q z hq => (fmUp_n (fun z => by rw [z, hp] at hq; cases hq)).trans hq) : CC G (fmUp h p (true, .inr (.inl (8, [.int (nI (a + 1)), .ref x]))))).kp hk2
    have hpb : p ≠ b := fun z => by rw [← z] at hb; rw [fmUp_n hpc, fmUp_s] at hb; cases hb
    have hc0 : h c = none := up_none hc
    have hb0 : h b = none := up_none (up_none hb)
    have hbp : (fmUp (fmUp (fmUp h p (true, .inr (.inl (8, [.int (nI (a + 1)), .ref x])))) c (true, .inr (.inl (9, [.null, .null])))) b (true, .inl (0, 1, .inl (fun _ => 0)))) b = some (true, .inl (0, 1, .inl (fun _ => 0))) := fmUp_s
    have hcp : (fmUp (fmUp (fmUp h p (true, .inr (.inl (8, [.int (nI (a + 1)), .ref x])))) c (true, .inr (.inl (9, [.null, .null])))) b (true, .inl (0, 1, .inl (fun _ => 0)))) c = some (true, .inr (.inl (9, [.null, .null]))) := (fmUp_n hcb).trans fmUp_s
    have hfr : FrX p h (fmUp (fmUp (fmUp h p (true, .inr (.inl (8, [.int (nI (a + 1)), .ref x])))) c (true, .inr (.inl (9, [.null, .null])))) b (true, .inl (0, 1, .inl (fun _ => 0)))) := fun q z hq hn => hk2 _ _ ((fmUp_n hn).trans hq)
    generalize hH2 : fmUp (fmUp (fmUp h p (true, .inr (.inl (8, [.int (nI (a + 1)), .ref x])))) c (true, .inr (.inl (9, [.null, .null])))) b (true, .inl (0, 1, .inl (fun _ => 0))) = H2 at *
    refine r_dup E dX10_command_174 rfl ?_
    refine r_iconst E (nI 0) dX10_command_175 (by decide) ?_
    refine r_aload_n E dX10_command_176 rfl ?_
    refine r_callV E (ctA_X10_number G hl H2 hC2 hx2 p (a + 1) hp2 v len T hS2 hlen hch (by omega)) mX10_number q1622 q1624 qs31 (fun H a1 => fm_rc (ci := 8) (C := RX10) (T := TX10) (N := 2) a1 rfl E.v hp2) rfl rfl (Nat.le_of_ble_eq_true rfl) (Nat.le_of_ble_eq_true rfl) (Nat.le_of_ble_eq_true rfl) dX10_command_177 0 0 (Nat.le_of_ble_eq_true rfl) (Nat.le_of_ble_eq_true rfl) (fun v' h3 q => ?_) (fun q Ex h3 hx3 => ?_)
    · obtain ⟨hw, rfl, rfl⟩ := q
      refine r_iast E ((fmUp_n (fun z => hpb z.symm)).trans hbp) (by decide) (by decide) dX10_command_180 ?_
      refine r_callI0 E (ct_X12_init G hl _ c 9 b ((fmUp_n hcb).trans ((fmUp_n (fun z => hpc z.symm)).trans hcp))) mX12_init rfl q1626 q1627 rfl rfl (Nat.le_of_ble_eq_true rfl) (Nat.le_of_ble_eq_true rfl) (Nat.le_of_ble_eq_true rfl) dX10_command_181 0 0 (Nat.le_of_ble_eq_true rfl) (Nat.le_of_ble_eq_true rfl) ?_
      exact r_areturn E P rfl (Or.inl ⟨_, rfl⟩) dX10_command_184 ⟨hw, c, rfl, ⟨b, _, Or.inr ⟨hnd, (by rw [ht]; exact fmUp_s), (fmUp_n (fun z => hcb z.symm)).trans fmUp_s, upd_eq' rfl⟩⟩, (fmUp_n hpc).trans ((fmUp_n hpb).trans fmUp_s), fun q y9 hq hn => (fmUp_n (fun w9 => by rw [w9, hc0] at hq; cases hq)).trans ((fmUp_n (fun w9 => by rw [w9, hb0] at hq; cases hq)).trans ((fmUp_n hn).trans (hfr q y9 hq hn))), hc0⟩
    · obtain ⟨⟨hw, he⟩, rfl, hq, rfl⟩ := hx3
      exact r_xout E P (fun x hx => by cases hx) ⟨hw, rfl, by rw [he]; exact fmUp_s, fun q9 y9 hq9 hn => fmUp_of (hfr q9 y9 hq9 hn) hq⟩
  · refine r_top (v' := .int (nI 116)) (congrArg Value.int ht) ?_
    refine r_tableIn (tgt := 185) E dX10_command_4 (by decide) (by decide) rfl (by decide) ?_
    refine r_new E cl_X12 [.null, .null] q1619 q1620 q121 (by decide) 2 10 (Nat.le_of_ble_eq_true rfl) (Nat.le_of_ble_eq_true rfl) dX10_command_185 (fun c hc kc => ?_)
    have hpc : p ≠ c := fun z => by rw [← z, fmUp_s] at hc; cases hc
    refine r_dup E dX10_command_188 rfl ?_
    refine r_gets E 4 rfl q1645 dX10_command_189 ?_
    refine r_iconst E (nI 1) dX10_command_192 (by decide) ?_
    refine r_newa E 0 (.inl (fun _ => 0)) rfl (z_ai 1) q236 (fun e => e) (Nat.le_of_ble_eq_true rfl) (Nat.le_of_ble_eq_true rfl) 1 8 (Nat.le_of_ble_eq_true rfl) (Nat.le_of_ble_eq_true rfl) dX10_command_193 (fun b hb kb => ?_)
    have hk2 : Kp (fmUp h p (true, .inr (.inl (8, [.int (nI (a + 1)), .ref x])))) (fmUp (fmUp (fmUp h p (true, .inr (.inl (8, [.int (nI (a + 1)), .ref x])))) c (true, .inr (.inl (9, [.null, .null])))) b (true, .inl (0, 1, .inl (fun _ => 0)))) := (Kp.up hc).trans (Kp.up hb)
    have hcb : c ≠ b := fun z => by rw [← z, fmUp_s] at hb; cases hb
    have hp2 := hk2 _ _ (fmUp_s (h := h) (a := p) (e := (true, .inr (.inl (8, [.int (nI (a + 1)), .ref x])))))
    have hx2 := hk2 _ _ ((fmUp_n (e := (true, .inr (.inl (8, [.int (nI (a + 1)), .ref x])))) (fun z => hpx z.symm)).trans hx)
    have hS2 : SBt (fmUp (fmUp (fmUp h p (true, .inr (.inl (8, [.int (nI (a + 1)), .ref x])))) c (true, .inr (.inl (9, [.null, .null])))) b (true, .inl (0, 1, .inl (fun _ => 0)))) sb v len T := hS.kept (fun z hz => hk2 _ _ ((fmUp_n (fun z => hps z.symm)).trans hz)) (fun z hz => hk2 _ _ ((fmUp_n (fun z => hpv z.symm)).trans hz))
    have hC2 : CC G (fmUp (fmUp (fmUp h p (true, .inr (.inl (8, [.int (nI (a + 1)), .ref x])))) c (true, .inr (.inl (9, [.null, .null])))) b (true, .inl (0, 1, .inl (fun _ => 0)))) := (hC.kept (fun q z hq => (fmUp_n (fun z => by rw [z, hp] at hq; cases hq)).trans hq) : CC G (fmUp h p (true, .inr (.inl (8, [.int (nI (a + 1)), .ref x]))))).kp hk2
    have hpb : p ≠ b := fun z => by rw [← z] at hb; rw [fmUp_n hpc, fmUp_s] at hb; cases hb
    have hc0 : h c = none := up_none hc
    have hb0 : h b = none := up_none (up_none hb)
    have hbp : (fmUp (fmUp (fmUp h p (true, .inr (.inl (8, [.int (nI (a + 1)), .ref x])))) c (true, .inr (.inl (9, [.null, .null])))) b (true, .inl (0, 1, .inl (fun _ => 0)))) b = some (true, .inl (0, 1, .inl (fun _ => 0))) := fmUp_s
    have hcp : (fmUp (fmUp (fmUp h p (true, .inr (.inl (8, [.int (nI (a + 1)), .ref x])))) c (true, .inr (.inl (9, [.null, .null])))) b (true, .inl (0, 1, .inl (fun _ => 0)))) c = some (true, .inr (.inl (9, [.null, .null]))) := (fmUp_n hcb).trans fmUp_s
    have hfr : FrX p h (fmUp (fmUp (fmUp h p (true, .inr (.inl (8, [.int (nI (a + 1)), .ref x])))) c (true, .inr (.inl (9, [.null, .null])))) b (true, .inl (0, 1, .inl (fun _ => 0)))) := fun q z hq hn => hk2 _ _ ((fmUp_n hn).trans hq)
    generalize hH2 : fmUp (fmUp (fmUp h p (true, .inr (.inl (8, [.int (nI (a + 1)), .ref x])))) c (true, .inr (.inl (9, [.null, .null])))) b (true, .inl (0, 1, .inl (fun _ => 0))) = H2 at *
    refine r_dup E dX10_command_195 rfl ?_
    refine r_iconst E (nI 0) dX10_command_196 (by decide) ?_
    refine r_aload_n E dX10_command_197 rfl ?_
    refine r_callV E (ctA_X10_number G hl H2 hC2 hx2 p (a + 1) hp2 v len T hS2 hlen hch (by omega)) mX10_number q1622 q1624 qs31 (fun H a1 => fm_rc (ci := 8) (C := RX10) (T := TX10) (N := 2) a1 rfl E.v hp2) rfl rfl (Nat.le_of_ble_eq_true rfl) (Nat.le_of_ble_eq_true rfl) (Nat.le_of_ble_eq_true rfl) dX10_command_198 0 0 (Nat.le_of_ble_eq_true rfl) (Nat.le_of_ble_eq_true rfl) (fun v' h3 q => ?_) (fun q Ex h3 hx3 => ?_)
    · obtain ⟨hw, rfl, rfl⟩ := q
      refine r_iast E ((fmUp_n (fun z => hpb z.symm)).trans hbp) (by decide) (by decide) dX10_command_201 ?_
      refine r_callI0 E (ct_X12_init G hl _ c 4 b ((fmUp_n hcb).trans ((fmUp_n (fun z => hpc z.symm)).trans hcp))) mX12_init rfl q1626 q1627 rfl rfl (Nat.le_of_ble_eq_true rfl) (Nat.le_of_ble_eq_true rfl) (Nat.le_of_ble_eq_true rfl) dX10_command_202 0 0 (Nat.le_of_ble_eq_true rfl) (Nat.le_of_ble_eq_true rfl) ?_
      exact r_areturn E P rfl (Or.inl ⟨_, rfl⟩) dX10_command_205 ⟨hw, c, rfl, ⟨b, _, Or.inr ⟨hnd, (by rw [ht]; exact fmUp_s), (fmUp_n (fun z => hcb z.symm)).trans fmUp_s, upd_eq' rfl⟩⟩, (fmUp_n hpc).trans ((fmUp_n hpb).trans fmUp_s), fun q y9 hq hn => (fmUp_n (fun w9 => by rw [w9, hc0] at hq; cases hq)).trans ((fmUp_n (fun w9 => by rw [w9, hb0] at hq; cases hq)).trans ((fmUp_n hn).trans (hfr q y9 hq hn))), hc0⟩
    · obtain ⟨⟨hw, he⟩, rfl, hq, rfl⟩ := hx3
      exact r_xout E P (fun x hx => by cases hx) ⟨hw, rfl, by rw [he]; exact fmUp_s, fun q9 y9 hq9 hn => fmUp_of (hfr q9 y9 hq9 hn) hq⟩
  · refine r_top (v' := .int (nI 110)) (congrArg Value.int ht) ?_
    refine r_tableIn (tgt := 206) E dX10_command_4 (by decide) (by decide) rfl (by decide) ?_
    refine r_new E cl_X12 [.null, .null] q1619 q1620 q121 (by decide) 2 10 (Nat.le_of_ble_eq_true rfl) (Nat.le_of_ble_eq_true rfl) dX10_command_206 (fun c hc kc => ?_)
    have hpc : p ≠ c := fun z => by rw [← z, fmUp_s] at hc; cases hc
    refine r_dup E dX10_command_209 rfl ?_
    refine r_gets E 3 rfl q1646 dX10_command_210 ?_
    refine r_iconst E (nI 1) dX10_command_213 (by decide) ?_
    refine r_newa E 0 (.inl (fun _ => 0)) rfl (z_ai 1) q236 (fun e => e) (Nat.le_of_ble_eq_true rfl) (Nat.le_of_ble_eq_true rfl) 1 8 (Nat.le_of_ble_eq_true rfl) (Nat.le_of_ble_eq_true rfl) dX10_command_214 (fun b hb kb => ?_)
    have hk2 : Kp (fmUp h p (true, .inr (.inl (8, [.int (nI (a + 1)), .ref x])))) (fmUp (fmUp (fmUp h p (true, .inr (.inl (8, [.int (nI (a + 1)), .ref x])))) c (true, .inr (.inl (9, [.null, .null])))) b (true, .inl (0, 1, .inl (fun _ => 0)))) := (Kp.up hc).trans (Kp.up hb)
    have hcb : c ≠ b := fun z => by rw [← z, fmUp_s] at hb; cases hb
    have hp2 := hk2 _ _ (fmUp_s (h := h) (a := p) (e := (true, .inr (.inl (8, [.int (nI (a + 1)), .ref x])))))
    have hx2 := hk2 _ _ ((fmUp_n (e := (true, .inr (.inl (8, [.int (nI (a + 1)), .ref x])))) (fun z => hpx z.symm)).trans hx)
    have hS2 : SBt (fmUp (fmUp (fmUp h p (true, .inr (.inl (8, [.int (nI (a + 1)), .ref x])))) c (true, .inr (.inl (9, [.null, .null])))) b (true, .inl (0, 1, .inl (fun _ => 0)))) sb v len T := hS.kept (fun z hz => hk2 _ _ ((fmUp_n (fun z => hps z.symm)).trans hz)) (fun z hz => hk2 _ _ ((fmUp_n (fun z => hpv z.symm)).trans hz))
    have hC2 : CC G (fmUp (fmUp (fmUp h p (true, .inr (.inl (8, [.int (nI (a + 1)), .ref x])))) c (true, .inr (.inl (9, [.null, .null])))) b (true, .inl (0, 1, .inl (fun _ => 0)))) := (hC.kept (fun q z hq => (fmUp_n (fun z => by rw [z, hp] at hq; cases hq)).trans hq) : CC G (fmUp h p (true, .inr (.inl (8, [.int (nI (a + 1)), .ref x]))))).kp hk2
    have hpb : p ≠ b := fun z => by rw [← z] at hb; rw [fmUp_n hpc, fmUp_s] at hb; cases hb
    have hc0 : h c = none := up_none hc
    have hb0 : h b = none := up_none (up_none hb)
    have hbp : (fmUp (fmUp (fmUp h p (true, .inr (.inl (8, [.int (nI (a + 1)), .ref x])))) c (true, .inr (.inl (9, [.null, .null])))) b (true, .inl (0, 1, .inl (fun _ => 0)))) b = some (true, .inl (0, 1, .inl (fun _ => 0))) := fmUp_s
    have hcp : (fmUp (fmUp (fmUp h p (true, .inr (.inl (8, [.int (nI (a + 1)), .ref x])))) c (true, .inr (.inl (9, [.null, .null])))) b (true, .inl (0, 1, .inl (fun _ => 0)))) c = some (true, .inr (.inl (9, [.null, .null]))) := (fmUp_n hcb).trans fmUp_s
    have hfr : FrX p h (fmUp (fmUp (fmUp h p (true, .inr (.inl (8, [.int (nI (a + 1)), .ref x])))) c (true, .inr (.inl (9, [.null, .null])))) b (true, .inl (0, 1, .inl (fun _ => 0)))) := fun q z hq hn => hk2 _ _ ((fmUp_n hn).trans hq)
    generalize hH2 : fmUp (fmUp (fmUp h p (true, .inr (.inl (8, [.int (nI (a + 1)), .ref x])))) c (true, .inr (.inl (9, [.null, .null])))) b (true, .inl (0, 1, .inl (fun _ => 0))) = H2 at *
    refine r_dup E dX10_command_216 rfl ?_
    refine r_iconst E (nI 0) dX10_command_217 (by decide) ?_
    refine r_aload_n E dX10_command_218 rfl ?_
    refine r_callV E (ctA_X10_number G hl H2 hC2 hx2 p (a + 1) hp2 v len T hS2 hlen hch (by omega)) mX10_number q1622 q1624 qs31 (fun H a1 => fm_rc (ci := 8) (C := RX10) (T := TX10) (N := 2) a1 rfl E.v hp2) rfl rfl (Nat.le_of_ble_eq_true rfl) (Nat.le_of_ble_eq_true rfl) (Nat.le_of_ble_eq_true rfl) dX10_command_219 0 0 (Nat.le_of_ble_eq_true rfl) (Nat.le_of_ble_eq_true rfl) (fun v' h3 q => ?_) (fun q Ex h3 hx3 => ?_)
    · obtain ⟨hw, rfl, rfl⟩ := q
      refine r_iast E ((fmUp_n (fun z => hpb z.symm)).trans hbp) (by decide) (by decide) dX10_command_222 ?_
      refine r_callI0 E (ct_X12_init G hl _ c 3 b ((fmUp_n hcb).trans ((fmUp_n (fun z => hpc z.symm)).trans hcp))) mX12_init rfl q1626 q1627 rfl rfl (Nat.le_of_ble_eq_true rfl) (Nat.le_of_ble_eq_true rfl) (Nat.le_of_ble_eq_true rfl) dX10_command_223 0 0 (Nat.le_of_ble_eq_true rfl) (Nat.le_of_ble_eq_true rfl) ?_
      exact r_areturn E P rfl (Or.inl ⟨_, rfl⟩) dX10_command_226 ⟨hw, c, rfl, ⟨b, _, Or.inr ⟨hnd, (by rw [ht]; exact fmUp_s), (fmUp_n (fun z => hcb z.symm)).trans fmUp_s, upd_eq' rfl⟩⟩, (fmUp_n hpc).trans ((fmUp_n hpb).trans fmUp_s), fun q y9 hq hn => (fmUp_n (fun w9 => by rw [w9, hc0] at hq; cases hq)).trans ((fmUp_n (fun w9 => by rw [w9, hb0] at hq; cases hq)).trans ((fmUp_n hn).trans (hfr q y9 hq hn))), hc0⟩
    · obtain ⟨⟨hw, he⟩, rfl, hq, rfl⟩ := hx3
      exact r_xout E P (fun x hx => by cases hx) ⟨hw, rfl, by rw [he]; exact fmUp_s, fun q9 y9 hq9 hn => fmUp_of (hfr q9 y9 hq9 hn) hq⟩

