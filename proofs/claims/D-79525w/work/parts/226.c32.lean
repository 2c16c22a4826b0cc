set_option maxHeartbeats 4000000 in
theorem ct_X1_saveSnapshot (G : fmG) (hl : (fmLn G).stackTraces = false) (h : fmHp) {x far qu pa sb : Nat} {fl re de : Int32} {sv : Value} {d g sl se pl pe : Nat} {gf sf pf : Nat → Nat} {N : Nat → Int32} {K pk : Nat} (hC : CC G h) (hx : DkO h x far qu d pa sb fl re de sv) (hM : MineAt G h d g sl se pl pe gf sf pf N K pk)  : Ct G yX1_saveSnapshot (ws_ yX1_saveSnapshot cX1_saveSnapshot 1 (some .int)) { frames := 8, cells := 21, slots := 2987, locals := 214 } [.ref x] h (fun v h' => v = some (.int (nI K)) ∧ (∃ (dn g1 sl1 se1 pl1 pe1 : Nat), MineAt G h' dn g1 sl1 se1 pl1 pe1 gf sf pf N K pk ∧ h dn = none ∧ (h se1 = none ∨ se1 = fmAd G 10) ∧ (h pe1 = none ∨ pe1 = fmAd G 10) ∧ h' x = some (true, .inr (.inl (1, [.ref far, .ref qu, .ref d, .ref pa, .ref sb, .int fl, .int re, .int de, .ref dn]))) ∧ (∀ q y, h q = some y → q ≠ x → h' q = some y))) fmNo := by
  refine Ct.of hl (by decide +kernel) (Nat.le_of_ble_eq_true rfl) (fun Γ E P => ?_)
  obtain ⟨hd, ⟨gq, hg, hgq⟩, hgd, hS, hSh, hP, hPk, hK8, hP6, hsp, hse⟩ := id hM
  obtain ⟨mcS, hsl⟩ := hS.o
  obtain ⟨mcP, hpl⟩ := hP.o
  refine r_aload_n E dX1_saveSnapshot_0 rfl ?_
  refine r_new E cl_X2 [.null, .null, .null, (.int 0), (.int 0), (.int 0), (.int 0)] q128 q129 q79 (by decide) 20 2980 (Nat.le_of_ble_eq_true rfl) (Nat.le_of_ble_eq_true rfl) dX1_saveSnapshot_1 (fun dn hdn kdn => ?_)
  refine r_dup E dX1_saveSnapshot_4 rfl ?_
  refine r_aload_n E dX1_saveSnapshot_5 rfl ?_
  refine r_getf E cl_X1 2 (by decide) q272 (fmUp_of hx hdn) rfl dX1_saveSnapshot_6 ?_
  refine r_callI E (ct_X2_init_2 G hl hC hM hdn) mX2_init_2 rfl q362 q363 rfl rfl (Nat.le_of_ble_eq_true rfl) (Nat.le_of_ble_eq_true rfl) (Nat.le_of_ble_eq_true rfl) dX1_saveSnapshot_9 0 0 (Nat.le_of_ble_eq_true rfl) (Nat.le_of_ble_eq_true rfl) (fun v' h1 q => ?_) (fun _ _ _ q => q.elim)
  obtain ⟨rfl, g1, sl1, se1, pl1, pe1, hM1, hD1⟩ := q
  obtain ⟨hk1, hdn0, hgn0, hsln0, hpln0, hsen, hpen⟩ := id hD1
  have hx1 := hk1 _ _ hx
  refine r_putf E cl_X1 8 (by decide) rfl q279 (fun _ z => z) hx1 (Nat.le_of_ble_eq_true rfl) rfl rfl dX1_saveSnapshot_12 ?_
  refine r_hp (h' := fmUp h1 x (true, .inr (.inl (1, [.ref far, .ref qu, .ref d, .ref pa, .ref sb, .int fl, .int re, .int de, .ref dn])))) (rfl) ?_
  have hM2 := hM1.upx (fs' := [.ref far, .ref qu, .ref d, .ref pa, .ref sb, .int fl, .int re, .int de, .ref dn]) hx1
  obtain ⟨hdn2, -, -, hS2, -⟩ := id hM2
  obtain ⟨mc2, hsl2⟩ := hS2.o
  refine r_aload_n E dX1_saveSnapshot_15 rfl ?_
  refine r_getf E cl_X1 8 (by decide) q279 fmUp_s rfl dX1_saveSnapshot_16 ?_
  refine r_getfN E cl_X2 1 (by decide) q188 hdn2 rfl dX1_saveSnapshot_19 ?_
  refine r_callF1 (v1 := .int (nI K)) E (ctA_J2_size G hl (fmUp h1 x (true, .inr (.inl (1, [.ref far, .ref qu, .ref d, .ref pa, .ref sb, .int fl, .int re, .int de, .ref dn])))) sl1 se1 K sf hS2 (by omega)) mJ2_size (ci := 12) rfl hsl2 3 rfl q576 q581 q579 fx_3 rfl rfl (Nat.le_of_ble_eq_true rfl) (Nat.le_of_ble_eq_true rfl) (Nat.le_of_ble_eq_true rfl) dX1_saveSnapshot_22 0 0 (Nat.le_of_ble_eq_true rfl) (Nat.le_of_ble_eq_true rfl) ?_
  exact r_ireturn E P rfl dX1_saveSnapshot_27 ⟨rfl, ⟨dn, g1, sl1, se1, pl1, pe1, hM2, hdn0, hsen, hpen, fmUp_s, fun q y hq h1 => by rw [fmUp_n h1]; exact hk1 q y hq⟩⟩

