set_option maxHeartbeats 4000000 in
theorem ct_J4_init (G : fmG) (hl : (fmLn G).stackTraces = false) (h : fmHp) (sb : Nat) (hsb : h sb = some (true, .inr (.inl (15, [.null, .int 0, .int 0, .int 0]))))  : Ct G yJ4_init (ws_ yJ4_init cJ4_init 2 none) { frames := 1, cells := 1, slots := 16, locals := 40 } [.ref sb, .int (nI 16)] h (fun v0 h' => v0 = none ∧ ∃ a, h a = none ∧ (fmK0 G).size ≤ a ∧ h' = fmUp (fmUp h a (true, .inl (3, 16, .inl (fun _ => 0)))) sb (true, .inr (.inl (15, [.ref a, .int (bI false), .int (bI false), .int (nI 0)])))) fmNo := by
  refine Ct.of hl (by decide +kernel) (Nat.le_of_ble_eq_true rfl) (fun Γ E P => ?_)
  refine r_aload_n E dJ4_init_0 rfl ?_
  refine r_objInit E q245 q134 q135 dJ4_init_1 (Nat.le_of_ble_eq_true rfl) (Nat.le_of_ble_eq_true rfl) ?_
  refine r_gets E 13 rfl q246 dJ4_init_4 ?_
  refine r_top (v' := .int (bI true)) rfl ?_
  refine r_ifB_eq (b := true) (tgt := 25) E dJ4_init_7 (by decide) (fun c => absurd c (by decide)) (fun _ => ?_)
  refine r_aload_n E dJ4_init_10 rfl ?_
  refine r_iload_n E dJ4_init_11 rfl ?_
  refine r_newa E 3 (.inl (fun _ => 0)) rfl (z_aB 16) q269 (fun e => e) (Nat.le_of_ble_eq_true rfl) (Nat.le_of_ble_eq_true rfl) 0 0 (Nat.le_of_ble_eq_true rfl) (Nat.le_of_ble_eq_true rfl) dJ4_init_12 (fun a ha ka => ?_)
  have hsa : sb ≠ a := fun z => by rw [z, ha] at hsb; cases hsb
  refine r_putf E cl_J5 0 (by decide) rfl q255 (fun _ z => z) (fmUp_of hsb ha) (Nat.le_of_ble_eq_true rfl) rfl rfl dJ4_init_14 ?_
  refine r_hp (h' := fmUp (fmUp h a (true, .inl (3, 16, .inl (fun _ => 0)))) sb (true, .inr (.inl (15, [.ref a, (.int 0), (.int 0), (.int 0)])))) (rfl) ?_
  refine r_aload_n E dJ4_init_17 rfl ?_
  refine r_iconst E (nI 0) dJ4_init_18 (by decide) ?_
  refine r_putf E cl_J5 1 (by decide) rfl q256 (fun _ z => z) fmUp_s (Nat.le_of_ble_eq_true rfl) rfl rfl dJ4_init_19 ?_
  refine r_hp (h' := fmUp (fmUp (fmUp h a (true, .inl (3, 16, .inl (fun _ => 0)))) sb (true, .inr (.inl (15, [.ref a, (.int 0), (.int 0), (.int 0)])))) sb (true, .inr (.inl (15, [.ref a, .int (nI 0), (.int 0), (.int 0)])))) (rfl) ?_
  refine r_goto (tgt := 38) E dJ4_init_22 (by decide) ?_
  exact r_return E P rfl dJ4_init_38 ⟨rfl, a, ha, ka, by rw [fmUp_uu]; rfl⟩

set_option maxHeartbeats 4000000 in
theorem ct_J5_init (G : fmG) (hl : (fmLn G).stackTraces = false) (h : fmHp) (sb : Nat) (hsb : h sb = some (true, .inr (.inl (15, [.null, .int 0, .int 0, .int 0]))))  : Ct G yJ5_init (ws_ yJ5_init cJ5_init 1 none) { frames := 2, cells := 1, slots := 16, locals := 61 } [.ref sb] h (fun v0 h' => v0 = none ∧ ∃ a, h a = none ∧ (fmK0 G).size ≤ a ∧ h' = fmUp (fmUp h a (true, .inl (3, 16, .inl (fun _ => 0)))) sb (true, .inr (.inl (15, [.ref a, .int (bI false), .int (bI false), .int (nI 0)])))) fmNo := by
  refine Ct.of hl (by decide +kernel) (Nat.le_of_ble_eq_true rfl) (fun Γ E P => ?_)
  refine r_aload_n E dJ5_init_0 rfl ?_
  refine r_bipush E (nI 16) dJ5_init_1 (by decide) ?_
  refine r_callI E (ct_J4_init G hl h sb hsb) mJ4_init rfl q242 q243 rfl rfl (Nat.le_of_ble_eq_true rfl) (Nat.le_of_ble_eq_true rfl) (Nat.le_of_ble_eq_true rfl) dJ5_init_3 0 0 (Nat.le_of_ble_eq_true rfl) (Nat.le_of_ble_eq_true rfl) (fun v' h1 q => ?_) (fun _ _ _ q => q.elim)
  obtain ⟨rfl, a, ha, ka, rfl⟩ := q
  exact r_return E P rfl dJ5_init_6 ⟨rfl, a, ha, ka, rfl⟩

