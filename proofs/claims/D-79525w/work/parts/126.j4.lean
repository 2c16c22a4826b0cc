set_option maxHeartbeats 4000000 in
theorem ct_J0_init (G : fmG) (hl : (fmLn G).stackTraces = false) (h : fmHp) (o : Nat) : Ct G yJ0_init (ws_ yJ0_init cJ0_init 1 none) { frames := 1, cells := 0, slots := 0, locals := 30 } [.ref o] h (fmRet none h) fmNo := by
  refine Ct.of hl (by decide +kernel) (Nat.le_of_ble_eq_true rfl) (fun Γ E P => ?_)
  refine r_aload_n E dJ0_init_0 rfl ?_
  refine r_objInit E q149 q134 q135 dJ0_init_1 (Nat.le_of_ble_eq_true rfl) (Nat.le_of_ble_eq_true rfl) ?_
  exact r_return E P rfl dJ0_init_4 ⟨rfl, rfl⟩

set_option maxHeartbeats 4000000 in
theorem ct_J19_init (G : fmG) (hl : (fmLn G).stackTraces = false) (h : fmHp) (o : Nat) : Ct G yJ19_init (ws_ yJ19_init cJ19_init 1 none) { frames := 1, cells := 0, slots := 0, locals := 30 } [.ref o] h (fmRet none h) fmNo := by
  refine Ct.of hl (by decide +kernel) (Nat.le_of_ble_eq_true rfl) (fun Γ E P => ?_)
  refine r_aload_n E dJ19_init_0 rfl ?_
  refine r_objInit E q774 q134 q135 dJ19_init_1 (Nat.le_of_ble_eq_true rfl) (Nat.le_of_ble_eq_true rfl) ?_
  exact r_return E P rfl dJ19_init_4 ⟨rfl, rfl⟩

set_option maxHeartbeats 4000000 in
theorem ct_J1_init (G : fmG) (hl : (fmLn G).stackTraces = false) (h : fmHp) (l : Nat) (mc : Int32) (x y : Value) (hl1 : h l = some (true, .inr (.inl (12, [.int mc, x, y])))) : Ct G yJ1_init (ws_ yJ1_init cJ1_init 1 none) { frames := 2, cells := 0, slots := 0, locals := 50 } [.ref l] h (fmRet none (fmUp h l (true, .inr (.inl (12, [.int (nI 0), x, y]))))) fmNo := by
  refine Ct.of hl (by decide +kernel) (Nat.le_of_ble_eq_true rfl) (fun Γ E P => ?_)
  refine r_aload_n E dJ1_init_0 rfl ?_
  refine r_callI0 E (ct_J0_init G hl (h) l) mJ0_init rfl q146 q147 rfl rfl (Nat.le_of_ble_eq_true rfl) (Nat.le_of_ble_eq_true rfl) (Nat.le_of_ble_eq_true rfl) dJ1_init_1 0 0 (Nat.le_of_ble_eq_true rfl) (Nat.le_of_ble_eq_true rfl) ?_
  refine r_aload_n E dJ1_init_4 rfl ?_
  refine r_iconst E (nI 0) dJ1_init_5 (by decide) ?_
  refine r_putf E cl_J2 0 (by decide) rfl q156 (fun _ z => z) hl1 (Nat.le_of_ble_eq_true rfl) rfl rfl dJ1_init_6 ?_
  refine r_hp (h' := fmUp h l (true, .inr (.inl (12, [.int (nI 0), x, y])))) (rfl) ?_
  exact r_return E P rfl dJ1_init_9 ⟨rfl, rfl⟩

set_option maxHeartbeats 4000000 in
theorem ct_J2_init (G : fmG) (hl : (fmLn G).stackTraces = false) (h : fmHp) (l : Nat) (hl1 : h l = some (true, .inr (.inl (12, [.int 0, .null, .int 0])))) : Ct G yJ2_init (ws_ yJ2_init cJ2_init 1 none) { frames := 3, cells := 0, slots := 0, locals := 70 } [.ref l] h (fmRet none (fmUp h l (true, .inr (.inl (12, [.int (nI 0), .ref (fmAd G 10), .int (nI 0)]))))) fmNo := by
  refine Ct.of hl (by decide +kernel) (Nat.le_of_ble_eq_true rfl) (fun Γ E P => ?_)
  refine r_aload_n E dJ2_init_0 rfl ?_
  refine r_callI0 E (ct_J1_init G hl (h) l 0 (.null) (.int 0) hl1) mJ1_init rfl q143 q144 rfl rfl (Nat.le_of_ble_eq_true rfl) (Nat.le_of_ble_eq_true rfl) (Nat.le_of_ble_eq_true rfl) dJ2_init_1 0 0 (Nat.le_of_ble_eq_true rfl) (Nat.le_of_ble_eq_true rfl) ?_
  refine r_aload_n E dJ2_init_4 rfl ?_
  refine r_gets E 10 rfl q150 dJ2_init_5 ?_
  refine r_putf E cl_J2 1 (by decide) rfl q152 (fun _ z => z) fmUp_s (Nat.le_of_ble_eq_true rfl) rfl rfl dJ2_init_8 ?_
  refine r_hp (h' := fmUp (fmUp h l (true, .inr (.inl (12, [.int (nI 0), .null, .int 0])))) l (true, .inr (.inl (12, [.int (nI 0), .ref (fmAd G 10), .int 0])))) (rfl) ?_
  exact r_return E P rfl dJ2_init_11 ⟨rfl, fmUp_uu _ _ _ _⟩

set_option maxHeartbeats 4000000 in
theorem ct_J13_init (G : fmG) (hl : (fmLn G).stackTraces = false) (h : fmHp) (l e n : Nat) (mc : Int32) (hl1 : h l = some (true, .inr (.inl (12, [.int mc, .ref e, .int (nI n)])))) (it : Nat) (hit : h it = some (true, .inr (.inl (13, [.int 0, .int 0, .int 0, .null])))) : Ct G yJ13_init (ws_ yJ13_init cJ13_init 2 none) { frames := 1, cells := 0, slots := 0, locals := 30 } [.ref it, .ref l] h (fmRet none (fmUp h it (true, .inr (.inl (13, [.int (nI 0), .int (-1), .int mc, .ref l]))))) fmNo := by
  refine Ct.of hl (by decide +kernel) (Nat.le_of_ble_eq_true rfl) (fun Γ E P => ?_)
  have hil : it ≠ l := fun q => by rw [q, hl1] at hit; cases hit
  refine r_aload_n E dJ13_init_0 rfl ?_
  refine r_aload_n E dJ13_init_1 rfl ?_
  refine r_putfF E cl_J13 3 (by decide) rfl rfl rfl q387 (fun _ z => z) hit (Nat.le_of_ble_eq_true rfl) rfl rfl dJ13_init_2 ?_
  refine r_hp (h' := fmUp h it (true, .inr (.inl (13, [.int (nI 0), .int 0, .int 0, .ref l])))) (rfl) ?_
  refine r_aload_n E dJ13_init_5 rfl ?_
  refine r_objInit E q383 q134 q135 dJ13_init_6 (Nat.le_of_ble_eq_true rfl) (Nat.le_of_ble_eq_true rfl) ?_
  refine r_aload_n E dJ13_init_9 rfl ?_
  refine r_iconst E (-1) dJ13_init_10 (by decide) ?_
  refine r_putf E cl_J13 1 (by decide) rfl q385 (fun _ z => z) fmUp_s (Nat.le_of_ble_eq_true rfl) rfl rfl dJ13_init_11 ?_
  refine r_hp (h' := fmUp (fmUp h it (true, .inr (.inl (13, [.int (nI 0), .int 0, .int 0, .ref l])))) it (true, .inr (.inl (13, [.int (nI 0), .int (-1), .int 0, .ref l])))) (rfl) ?_
  refine r_aload_n E dJ13_init_14 rfl ?_
  refine r_aload_n E dJ13_init_15 rfl ?_
  refine r_getf E cl_J13 3 (by decide) q387 fmUp_s rfl dJ13_init_16 ?_
  refine r_getfG E cl_J2 0 (by decide) q157 (fun x9 h9 => u_same (E.ts _ q158) x9 h9) ((fmUp_n (Ne.symm hil)).trans ((fmUp_n (Ne.symm hil)).trans hl1)) rfl dJ13_init_19 ?_
  refine r_putf E cl_J13 2 (by decide) rfl q386 (fun _ z => z) fmUp_s (Nat.le_of_ble_eq_true rfl) rfl rfl dJ13_init_22 ?_
  refine r_hp (h' := fmUp (fmUp (fmUp h it (true, .inr (.inl (13, [.int (nI 0), .int 0, .int 0, .ref l])))) it (true, .inr (.inl (13, [.int (nI 0), .int (-1), .int 0, .ref l])))) it (true, .inr (.inl (13, [.int (nI 0), .int (-1), .int mc, .ref l])))) (rfl) ?_
  exact r_return E P rfl dJ13_init_25 ⟨rfl, by rw [fmUp_uu, fmUp_uu]⟩

set_option maxHeartbeats 4000000 in
theorem ct_J2_iterator (G : fmG) (hl : (fmLn G).stackTraces = false) (h : fmHp) (l e n : Nat) (mc : Int32) (hl1 : h l = some (true, .inr (.inl (12, [.int mc, .ref e, .int (nI n)]))))  : Ct G yJ2_iterator (ws_ yJ2_iterator cJ2_iterator 1 (some (.object "java/util/Iterator"))) { frames := 2, cells := 1, slots := 4, locals := 51 } [.ref l] h (fun v h' => ∃ it, h it = none ∧ (fmK0 G).size ≤ it ∧ v = some (.ref it) ∧ h' = fmUp h it (true, .inr (.inl (13, [.int (nI 0), .int (-1), .int mc, .ref l])))) fmNo := by
  refine Ct.of hl (by decide +kernel) (Nat.le_of_ble_eq_true rfl) (fun Γ E P => ?_)
  refine r_new E cl_J13 [.int 0, .int 0, .int 0, .null] q378 q379 q98 (by decide) 0 0 (Nat.le_of_ble_eq_true rfl) (Nat.le_of_ble_eq_true rfl) dJ2_iterator_0 (fun it ha ha0 => ?_)
  have hil : it ≠ l := fun q => by rw [← q, ha] at hl1; cases hl1
  refine r_dup E dJ2_iterator_3 rfl ?_
  refine r_aload_n E dJ2_iterator_4 rfl ?_
  refine r_callI0 E (ct_J13_init G hl (fmUp h it (true, .inr (.inl (13, [.int 0, .int 0, .int 0, .null])))) l e n mc ((fmUp_n (Ne.symm hil)).trans hl1) it fmUp_s) mJ13_init rfl q380 q381 rfl rfl (Nat.le_of_ble_eq_true rfl) (Nat.le_of_ble_eq_true rfl) (Nat.le_of_ble_eq_true rfl) dJ2_iterator_5 0 0 (Nat.le_of_ble_eq_true rfl) (Nat.le_of_ble_eq_true rfl) ?_
  exact r_areturn E P rfl (Or.inl ⟨_, rfl⟩) dJ2_iterator_8 ⟨it, ha, ha0, rfl, fmUp_uu _ _ _ _⟩

set_option maxHeartbeats 4000000 in
theorem ct_J20_init (G : fmG) (hl : (fmLn G).stackTraces = false) (h : fmHp) (o : Nat) (x : Int32) (ho : h o = some (true, .inr (.inl (17, [.int 0])))) : Ct G yJ20_init (ws_ yJ20_init cJ20_init 2 none) { frames := 2, cells := 0, slots := 0, locals := 50 } [.ref o, .int x] h (fmRet none (fmUp h o (true, .inr (.inl (17, [.int x]))))) fmNo := by
  refine Ct.of hl (by decide +kernel) (Nat.le_of_ble_eq_true rfl) (fun Γ E P => ?_)
  refine r_aload_n E dJ20_init_0 rfl ?_
  refine r_callI0 E (ct_J19_init G hl (h) o) mJ19_init rfl q771 q772 rfl rfl (Nat.le_of_ble_eq_true rfl) (Nat.le_of_ble_eq_true rfl) (Nat.le_of_ble_eq_true rfl) dJ20_init_1 0 0 (Nat.le_of_ble_eq_true rfl) (Nat.le_of_ble_eq_true rfl) ?_
  refine r_aload_n E dJ20_init_4 rfl ?_
  refine r_iload_n E dJ20_init_5 rfl ?_
  refine r_putfF E cl_J20 0 (by decide) rfl rfl rfl q775 (fun _ z => z) ho (Nat.le_of_ble_eq_true rfl) rfl rfl dJ20_init_6 ?_
  refine r_hp (h' := fmUp h o (true, .inr (.inl (17, [.int x])))) (rfl) ?_
  exact r_return E P rfl dJ20_init_9 ⟨rfl, rfl⟩

