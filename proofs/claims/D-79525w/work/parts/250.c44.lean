set_option maxHeartbeats 4000000 in
theorem ctF_X10_command (G : fmG) (hl : (fmLn G).stackTraces = false) (h : fmHp) {x far qu d pa sb : Nat} {fl re de : Int32} {sv : Value} (hC : CC G h) (hx : DkO h x far qu d pa sb fl re de sv) (p a : Nat) (hp : h p = some (true, .inr (.inl (8, [.int (nI a), .ref x])))) (v len : Nat) (T : Nat → Int32) (hS : SBt h sb v len T) (hlen : len ≤ 60) (hch : ∀ i, i < len → ∃ k, k < 65536 ∧ T i = nI k) (ha : a ≤ 1000) (hno : ¬ (a < len ∧ sLet (T a) = true)) : Ct G yX10_command (ws_ yX10_command cX10_command 1 (some (.object "FlintMine$Command"))) { frames := 12, cells := 5, slots := 30, locals := 400 } [.ref p] h (fun _ _ => False) (fun q Ex h' => Ex = "FlintMine$FaultException" ∧ h q = none ∧ h' = fmUp h q (true, .inr (.inl (11, [.null, .null, .null, .null, .null, .int 0, .int (nI a)])))) := by
  refine Ct.of hl (by decide +kernel) (Nat.le_of_ble_eq_true rfl) (fun Γ E P => ?_)
  obtain ⟨u, ml, cap, bf, hsb, hv, hrr⟩ := id hS
  have hpx : p ≠ x := fun z => by have hx0 : h x = some (true, .inr (.inl (1, [.ref far, .ref qu, .ref d, .ref pa, .ref sb, .int fl, .int re, .int de, sv]))) := hx; rw [z, hx0] at hp; cases hp
  have hps : p ≠ sb := fun z => by rw [z, hsb] at hp; cases hp
  have hpv : p ≠ v := fun z => by rw [z, hv] at hp; cases hp
  refine r_aload_n E dX10_command_0 rfl ?_
  refine r_callV E (ctF_X10_letter G hl h hC hx p a hp v len T hS hlen hch (by omega) hno) mX10_letter q1505 q1507 qs28 (fun H a1 => fm_rc (ci := 8) (C := RX10) (T := TX10) (N := 2) a1 rfl E.v hp) rfl rfl (Nat.le_of_ble_eq_true rfl) (Nat.le_of_ble_eq_true rfl) (Nat.le_of_ble_eq_true rfl) dX10_command_1 0 0 (Nat.le_of_ble_eq_true rfl) (Nat.le_of_ble_eq_true rfl) (fun _ _ q => q.elim) (fun q Ex h' hx => ?_)
  exact r_xout E P (fun x hx => by cases hx) hx

set_option maxHeartbeats 4000000 in
theorem ct2_X10_command (G : fmG) (hl : (fmLn G).stackTraces = false) (h : fmHp) {x far qu d pa sb : Nat} {fl re de : Int32} {sv : Value} (hC : CC G h) (hx : DkO h x far qu d pa sb fl re de sv) (p a : Nat) (hp : h p = some (true, .inr (.inl (8, [.int (nI a), .ref x])))) (v len : Nat) (T : Nat → Int32) (hS : SBt h sb v len T) (hlen : len ≤ 60) (hch : ∀ i, i < len → ∃ k, k < 65536 ∧ T i = nI k) (ha : a ≤ 1000) (ha9 : a ≤ 800) (hal : a < len) (htd : T a = nI 100) : Ct G yX10_command (ws_ yX10_command cX10_command 1 (some (.object "FlintMine$Command"))) { frames := 12, cells := 5, slots := 30, locals := 400 } [.ref p] h (fun v0 h' => (pDig T len (a + 1)).2.2.2.2 = false ∧ ∃ c, v0 = some (.ref c) ∧ CmdAt G h' c (nI 100) (pDig T len (a + 1)).1 (pDig T len (a + 1)).2.1 (pDig T len (a + 1)).2.2.1 ∧ h' p = some (true, .inr (.inl (8, [.int (nI ((pDig T len (a + 1)).2.2.2.1)), .ref x]))) ∧ FrX p h h' ∧ h c = none) (fun q Ex h' => (pDig T len (a + 1)).2.2.2.2 = true ∧ Ex = "FlintMine$FaultException" ∧ h' q = some (true, .inr (.inl (11, [.null, .null, .null, .null, .null, .int 0, .int (nI ((pDig T len (a + 1)).2.2.2.1))]))) ∧ FrX p h h') := by
  refine Ct.of hl (by decide +kernel) (Nat.le_of_ble_eq_true rfl) (fun Γ E P => ?_)
  obtain ⟨u, ml, cap, bf, hsb, hv, hrr⟩ := id hS
  have hpx : p ≠ x := fun z => by have hx0 : h x = some (true, .inr (.inl (1, [.ref far, .ref qu, .ref d, .ref pa, .ref sb, .int fl, .int re, .int de, sv]))) := hx; rw [z, hx0] at hp; cases hp
  have hps : p ≠ sb := fun z => by rw [z, hsb] at hp; cases hp
  have hpv : p ≠ v := fun z => by rw [z, hv] at hp; cases hp
  have hlt : sLet (T a) = true := by rw [htd]; decide
  refine r_aload_n E dX10_command_0 rfl ?_
  refine r_callV1 (v1 := .int (T a)) E (ctT_X10_letter G hl h hC hx p a hp v len T hS hlen hch (by omega) hal hlt) mX10_letter q1505 q1507 qs28 (fun H a1 => fm_rc (ci := 8) (C := RX10) (T := TX10) (N := 2) a1 rfl E.v hp) rfl rfl (Nat.le_of_ble_eq_true rfl) (Nat.le_of_ble_eq_true rfl) (Nat.le_of_ble_eq_true rfl) dX10_command_1 5 30 (Nat.le_of_ble_eq_true rfl) (Nat.le_of_ble_eq_true rfl) ?_
  refine r_hp (h' := fmUp h p (true, .inr (.inl (8, [.int (nI (a + 1)), .ref x])))) rfl ?_
  refine r_top (v' := .int (nI 100)) (congrArg Value.int htd) ?_
  refine r_tableIn (tgt := 117) E dX10_command_4 (by decide) (by decide) rfl (by decide) ?_
  refine r_aload_n E dX10_command_117 rfl ?_
  have hx1 := (fmUp_n (e := (true, .inr (.inl (8, [.int (nI (a + 1)), .ref x])))) (fun z => hpx z.symm)).trans hx
  have hS1 : SBt (fmUp h p (true, .inr (.inl (8, [.int (nI (a + 1)), .ref x])))) sb v len T := hS.kept (fun z hz => (fmUp_n (fun z => hps z.symm)).trans hz) (fun z hz => (fmUp_n (fun z => hpv z.symm)).trans hz)
  have hC1 : CC G (fmUp h p (true, .inr (.inl (8, [.int (nI (a + 1)), .ref x])))) := hC.kept (fun q z hq => (fmUp_n (fun z => by rw [z, hp] at hq; cases hq)).trans hq)
  refine r_callV E (ct_X10_digging G hl _ hC1 hx1 p (a + 1) fmUp_s v len T hS1 hlen hch (by omega) (by omega)) mX10_digging q1637 q1639 qs32 (fun H a1 => fm_rc (ci := 8) (C := RX10) (T := TX10) (N := 2) a1 rfl E.v fmUp_s) rfl rfl (Nat.le_of_ble_eq_true rfl) (Nat.le_of_ble_eq_true rfl) (Nat.le_of_ble_eq_true rfl) dX10_command_118 0 0 (Nat.le_of_ble_eq_true rfl) (Nat.le_of_ble_eq_true rfl) (fun v' h3 q => ?_) (fun q Ex h3 hx3 => ?_)
  · obtain ⟨e1, c, rfl, e2, e3, e4, e5⟩ := q
    exact r_areturn E P rfl (Or.inl ⟨_, rfl⟩) dX10_command_121 ⟨e1, c, rfl, e2, e3, fun q y hq hn => e4 q y ((fmUp_n hn).trans hq) hn, up_none e5⟩
  · obtain ⟨e1, e2, e3, e4⟩ := hx3
    exact r_xout E P (fun x hx => by cases hx) ⟨e1, e2, e3, fun q y hq hn => e4 q y ((fmUp_n hn).trans hq) hn⟩

