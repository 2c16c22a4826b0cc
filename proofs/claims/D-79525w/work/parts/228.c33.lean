set_option maxHeartbeats 4000000 in
theorem ctF_X1_restoreSnapshot (G : fmG) (hl : (fmLn G).stackTraces = false) (h : fmHp) {x far qu d pa sb : Nat} {fl re de : Int32} (hC : CC G h) (hx : DkO h x far qu d pa sb fl re de .null)  : Ct G yX1_restoreSnapshot (ws_ yX1_restoreSnapshot cX1_restoreSnapshot 1 (some .int)) { frames := 7, cells := 1, slots := 6, locals := 120 } [.ref x] h (fun _ _ => False) (fun _ Ex h' => Ex = "java/lang/IllegalStateException" ∧ Kp h h') := by
  refine Ct.of hl (by decide +kernel) (Nat.le_of_ble_eq_true rfl) (fun Γ E P => ?_)
  refine r_aload_n E dX1_restoreSnapshot_0 rfl ?_
  refine r_getf E cl_X1 8 (by decide) q279 hx rfl dX1_restoreSnapshot_1 ?_
  refine r_ifnullN (tgt := 11) E dX1_restoreSnapshot_4 (by decide) ?_
  refine r_iconst E (nI 0) dX1_restoreSnapshot_11 (by decide) ?_
  refine r_top (v' := .int (bI false)) rfl ?_
  refine r_callS E (ctF_X1_requireState G hl h) mX1_requireState q78 q1147 q1148 rfl rfl (Nat.le_of_ble_eq_true rfl) (Nat.le_of_ble_eq_true rfl) (Nat.le_of_ble_eq_true rfl) dX1_restoreSnapshot_12 0 0 (Nat.le_of_ble_eq_true rfl) (Nat.le_of_ble_eq_true rfl) (fun _ _ q => q.elim) (fun q Ex h' hx => ?_)
  exact r_xout E P (fun x hx => by cases hx) ⟨hx.1, xO_kp hx⟩

set_option maxHeartbeats 4000000 in
theorem ctT_X1_restoreSnapshot (G : fmG) (hl : (fmLn G).stackTraces = false) (h : fmHp) {s : Nat} {x far qu d pa sb : Nat} {fl re de : Int32} (hC : CC G h) (hx : DkO h x far qu d pa sb fl re de (.ref s)) {g sl se pl pe : Nat} {gf sf pf : Nat → Nat} {N : Nat → Int32} {K pk : Nat} (hM : MineAt G h s g sl se pl pe gf sf pf N K pk) (e dh kp : Nat) (pm : Nat → Nat) (hA : AD h pa e dh kp pm)  : Ct G yX1_restoreSnapshot (ws_ yX1_restoreSnapshot cX1_restoreSnapshot 1 (some .int)) { frames := 8, cells := 21, slots := 2987, locals := 214 } [.ref x] h (fun v h' => v = some (.int (nI K)) ∧ ∃ (dn g1 sl1 se1 pl1 pe1 : Nat), MineAt G h' dn g1 sl1 se1 pl1 pe1 gf sf pf N K pk ∧ (h dn = none ∧ dn ≠ e ∧ se1 ≠ e ∧ pe1 ≠ e) ∧ (h se1 = none ∨ se1 = fmAd G 10) ∧ (h pe1 = none ∨ pe1 = fmAd G 10) ∧ h' x = some (true, .inr (.inl (1, [.ref far, .ref qu, .ref dn, .ref pa, .ref sb, .int fl, .int re, .int de, .ref s]))) ∧ AD h' pa e 0 0 pm ∧ (∀ q y, h q = some y → q ≠ x → q ≠ pa → q ≠ e → h' q = some y)) fmNo := by
  refine Ct.of hl (by decide +kernel) (Nat.le_of_ble_eq_true rfl) (fun Γ E P => ?_)
  obtain ⟨hnp, hne⟩ := hA.nx hx
  refine r_aload_n E dX1_restoreSnapshot_0 rfl ?_
  refine r_getf E cl_X1 8 (by decide) q279 hx rfl dX1_restoreSnapshot_1 ?_
  refine r_ifnull E dX1_restoreSnapshot_4 ?_
  refine r_iconst E (nI 1) dX1_restoreSnapshot_7 (by decide) ?_
  refine r_goto (tgt := 12) E dX1_restoreSnapshot_8 (by decide) ?_
  refine r_top (v' := .int (bI true)) rfl ?_
  refine r_callS0 E (ctT_X1_requireState G hl h) mX1_requireState q78 q1147 q1148 rfl rfl (Nat.le_of_ble_eq_true rfl) (Nat.le_of_ble_eq_true rfl) (Nat.le_of_ble_eq_true rfl) dX1_restoreSnapshot_12 21 2987 (Nat.le_of_ble_eq_true rfl) (Nat.le_of_ble_eq_true rfl) ?_
  refine r_aload_n E dX1_restoreSnapshot_15 rfl ?_
  refine r_new E cl_X2 [.null, .null, .null, (.int 0), (.int 0), (.int 0), (.int 0)] q128 q129 q79 (by decide) 20 2980 (Nat.le_of_ble_eq_true rfl) (Nat.le_of_ble_eq_true rfl) dX1_restoreSnapshot_16 (fun dn hdn kdn => ?_)
  refine r_dup E dX1_restoreSnapshot_19 rfl ?_
  refine r_aload_n E dX1_restoreSnapshot_20 rfl ?_
  refine r_getf E cl_X1 8 (by decide) q279 (fmUp_of hx hdn) rfl dX1_restoreSnapshot_21 ?_
  refine r_callI E (ct_X2_init_2 G hl hC hM hdn) mX2_init_2 rfl q362 q363 rfl rfl (Nat.le_of_ble_eq_true rfl) (Nat.le_of_ble_eq_true rfl) (Nat.le_of_ble_eq_true rfl) dX1_restoreSnapshot_24 0 0 (Nat.le_of_ble_eq_true rfl) (Nat.le_of_ble_eq_true rfl) (fun v' h1 q => ?_) (fun _ _ _ q => q.elim)
  obtain ⟨rfl, g1, sl1, se1, pl1, pe1, hM1, hD1⟩ := q
  obtain ⟨hk1, hdn0, hgn0, hsln0, hpln0, hsen, hpen⟩ := id hD1
  have hs1e := ne_e hC hA hsen
  have hp1e := ne_e hC hA hpen
  have hdne := ne_e hC hA (Or.inl hdn0)
  have hx1 := hk1 _ _ hx
  have hA2 := (hA.kp hk1).upx (fs' := [.ref far, .ref qu, .ref dn, .ref pa, .ref sb, .int fl, .int re, .int de, .ref s]) hx1
  obtain ⟨dg8, hpa8, -⟩ := id hA2
  have hM2 := hM1.upx (fs' := [.ref far, .ref qu, .ref dn, .ref pa, .ref sb, .int fl, .int re, .int de, .ref s]) hx1
  refine r_putf E cl_X1 2 (by decide) rfl q272 (fun _ z => z) hx1 (Nat.le_of_ble_eq_true rfl) rfl rfl dX1_restoreSnapshot_27 ?_
  refine r_hp (h' := fmUp h1 x (true, .inr (.inl (1, [.ref far, .ref qu, .ref dn, .ref pa, .ref sb, .int fl, .int re, .int de, .ref s])))) (rfl) ?_
  refine r_aload_n E dX1_restoreSnapshot_30 rfl ?_
  refine r_getf E cl_X1 3 (by decide) q273 fmUp_s rfl dX1_restoreSnapshot_31 ?_
  refine r_callV E (ct_J3_clear G hl _ pa e dh kp pm hA2) mJ3_clear q1871 q1872 q1873 (fun H a1 => fm_rc (ci := 14) (C := RJ3) (T := TJ3) (N := 3) a1 rfl E.v hpa8) rfl rfl (Nat.le_of_ble_eq_true rfl) (Nat.le_of_ble_eq_true rfl) (Nat.le_of_ble_eq_true rfl) dX1_restoreSnapshot_34 0 0 (Nat.le_of_ble_eq_true rfl) (Nat.le_of_ble_eq_true rfl) (fun v' h2 q => ?_) (fun _ _ _ q => q.elim)
  obtain ⟨rfl, hA3, hfr⟩ := q
  have hx2 := hfr _ _ fmUp_s hnp hne
  have hM3 := hM2.kd (Kd.ad hA2 hfr) hs1e hp1e
  obtain ⟨hdn2, -, -, hS2, -, -, -, hK8, -⟩ := id hM3
  obtain ⟨mc2, hsl2⟩ := hS2.o
  refine r_aload_n E dX1_restoreSnapshot_37 rfl ?_
  refine r_getf E cl_X1 2 (by decide) q272 hx2 rfl dX1_restoreSnapshot_38 ?_
  refine r_getfN E cl_X2 1 (by decide) q188 hdn2 rfl dX1_restoreSnapshot_41 ?_
  refine r_callF1 (v1 := .int (nI K)) E (ctA_J2_size G hl (h2) sl1 se1 K sf hS2 (by omega)) mJ2_size (ci := 12) rfl hsl2 3 rfl q576 q581 q579 fx_3 rfl rfl (Nat.le_of_ble_eq_true rfl) (Nat.le_of_ble_eq_true rfl) (Nat.le_of_ble_eq_true rfl) dX1_restoreSnapshot_44 0 0 (Nat.le_of_ble_eq_true rfl) (Nat.le_of_ble_eq_true rfl) ?_
  exact r_ireturn E P rfl dX1_restoreSnapshot_49 ⟨rfl, dn, g1, sl1, se1, pl1, pe1, hM3, ⟨hdn0, hdne, hs1e, hp1e⟩, hsen, hpen, hx2, hA3, fun q y hq h1 h2 h3 => hfr q y (by rw [fmUp_n h1]; exact hk1 q y hq) h2 h3⟩

