set_option maxHeartbeats 4000000 in
theorem ct_X1_init (G : fmG) (hl : (fmLn G).stackTraces = false) (h : fmHp) (hC : CC G h) (x : Nat) (hx : h x = some (true, .inr (.inl (1, [.null, .null, .null, .null, .null, .int 0, .int 0, .int 0, .null])))) : Ct G yX1_init (ws_ yX1_init cX1_init 1 none) { frames := 5, cells := 20, slots := 400, locals := 112 } [.ref x] h (fun v0 h' => v0 = none ∧ ∃ a : DA, DK G h' x a DS0 ∧ FrX x h h' ∧ (h a.far = none ∧ h a.qu = none ∧ h a.pa = none ∧ h a.e = none ∧ h a.sb = none ∧ h a.v = none)) fmNo := by
  refine Ct.of hl (by decide +kernel) (Nat.le_of_ble_eq_true rfl) (fun Γ E P => ?_)
  refine r_aload_n E dX1_init_0 rfl ?_
  refine r_new E cl_X2 [.null, .null, .null, (.int 0), (.int 0), (.int 0), (.int 0)] q128 q129 q79 (by decide) 15 350 (Nat.le_of_ble_eq_true rfl) (Nat.le_of_ble_eq_true rfl) dX1_init_1 (fun dn hdn kdn => ?_)
  refine r_dup E dX1_init_4 rfl ?_
  refine r_callI E (ct_X2_init G hl hC hdn) mX2_init rfl q130 q131 rfl rfl (Nat.le_of_ble_eq_true rfl) (Nat.le_of_ble_eq_true rfl) (Nat.le_of_ble_eq_true rfl) dX1_init_5 10 270 (Nat.le_of_ble_eq_true rfl) (Nat.le_of_ble_eq_true rfl) (fun v' h1 q => ?_) (fun _ _ _ q => q.elim)
  obtain ⟨rfl, g, sl, pl, gf, sf, pf, hM1, hD1⟩ := q
  have hk1 : Kp h h1 := hD1.1
  have hx1 := hk1 _ _ hx
  refine r_callI E (ct_X1_init_2 G hl h1 x dn hx1) mX1_init_2 rfl q214 q215 rfl rfl (Nat.le_of_ble_eq_true rfl) (Nat.le_of_ble_eq_true rfl) (Nat.le_of_ble_eq_true rfl) dX1_init_8 0 0 (Nat.le_of_ble_eq_true rfl) (Nat.le_of_ble_eq_true rfl) (fun v' h2 q => ?_) (fun _ _ _ q => q.elim)
  obtain ⟨rfl, far, qu, pa, e, sb, v, d1, d2, d3, d4, d5, d6, d7, z1, z2, z3, z4, z5, z6⟩ := q
  have hcx : fmAd G 10 ≠ x := fun z => by have h9 := hC.2.2.1; rw [z, hx] at h9; cases h9
  have hce : fmAd G 10 ≠ e := fun z => by have h9 := hk1 _ _ hC.2.2.1; rw [z, z4] at h9; cases h9
  have hM2 := hM1.kd (e := x) (fun q y hq ho => d7 q y hq (fun z => by rw [z, hx1] at hq; cases hq; exact ho.1 _ rfl)) hcx hcx
  exact r_return E P rfl dX1_init_11 ⟨rfl, (far, qu, pa, e, sb, v), ⟨dn, 0, .null, fun _ => 0, fun _ => 0, fun _ => 0, d1, d2, d3, d4, ⟨g, sl, fmAd G 10, pl, fmAd G 10, gf, sf, pf, 0, 0, hM2, sIni_RV, hce, hce⟩, d5, fun i hi => absurd hi (Nat.not_lt_zero _), d6, Or.inl ⟨rfl, rfl⟩⟩, fun q y hq hn => d7 q y (hk1 _ _ hq) hn, hk1.none z1, hk1.none z2, hk1.none z3, hk1.none z4, hk1.none z5, hk1.none z6⟩

