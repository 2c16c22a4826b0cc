set_option maxHeartbeats 4000000 in
theorem ct_X1_init_2 (G : fmG) (hl : (fmLn G).stackTraces = false) (h : fmHp) (x d : Nat) (hx : h x = some (true, .inr (.inl (1, [.null, .null, .null, .null, .null, .int 0, .int 0, .int 0, .null])))) : Ct G yX1_init_2 (ws_ yX1_init_2 cX1_init_2 2 none) { frames := 3, cells := 6, slots := 240, locals := 81 } [.ref x, .ref d] h (fun v0 h' => v0 = none ∧ ∃ far qu pa e sb v : Nat, h' x = some (xOb far qu d pa sb (-1) 0 0 .null) ∧ h' far = some (fqA (fun _ => 0)) ∧ h' qu = some (fqA (fun _ => 0)) ∧ far ≠ qu ∧ AD h' pa e 0 0 (fun _ => 0) ∧ SBt h' sb v 0 (fun _ => 0) ∧ FrX x h h' ∧ (h far = none ∧ h qu = none ∧ h pa = none ∧ h e = none ∧ h sb = none ∧ h v = none)) fmNo := by
  refine Ct.of hl (by decide +kernel) (Nat.le_of_ble_eq_true rfl) (fun Γ E P => ?_)
  have hf0 : FrX x h h := fun _ _ z _ => z
  refine r_aload_n E dX1_init_2_0 rfl ?_
  refine r_objInit E q217 q134 q135 dX1_init_2_1 (Nat.le_of_ble_eq_true rfl) (Nat.le_of_ble_eq_true rfl) ?_
  refine r_aload_n E dX1_init_2_4 rfl ?_
  refine r_bipush E (nI 64) dX1_init_2_5 (by decide) ?_
  refine r_newa E 0 (.inl (fun _ => 0)) rfl (z_ai 64) q236 (fun e => e) (Nat.le_of_ble_eq_true rfl) (Nat.le_of_ble_eq_true rfl) 5 176 (Nat.le_of_ble_eq_true rfl) (Nat.le_of_ble_eq_true rfl) dX1_init_2_7 (fun far hfar kfar => ?_)
  refine r_putfF E cl_X1 0 (by decide) rfl rfl rfl q270 (fun _ z => z) (fmUp_of hx hfar) (Nat.le_of_ble_eq_true rfl) rfl rfl dX1_init_2_9 ?_
  refine r_hp (h' := fmUp (fmUp h far (fqA (fun _ => 0))) x (true, .inr (.inl (1, [.ref far, .null, .null, .null, .null, .int 0, .int 0, .int 0, .null])))) (rfl) ?_
  obtain ⟨vfar, xfar, ffar, zfar, nfar⟩ := ini_1 (y := fqA (fun _ => 0)) (o' := (true, .inr (.inl (1, [.ref far, .null, .null, .null, .null, .int 0, .int 0, .int 0, .null])))) hf0 hx hfar
  have hf1 := hf0.trans ffar
  generalize hgfar : fmUp (fmUp h far (fqA (fun _ => 0))) x (true, .inr (.inl (1, [.ref far, .null, .null, .null, .null, .int 0, .int 0, .int 0, .null]))) = Hfar at *
  refine r_aload_n E dX1_init_2_12 rfl ?_
  refine r_bipush E (nI 64) dX1_init_2_13 (by decide) ?_
  refine r_newa E 0 (.inl (fun _ => 0)) rfl (z_ai 64) q236 (fun e => e) (Nat.le_of_ble_eq_true rfl) (Nat.le_of_ble_eq_true rfl) 4 112 (Nat.le_of_ble_eq_true rfl) (Nat.le_of_ble_eq_true rfl) dX1_init_2_15 (fun qu hqu kqu => ?_)
  refine r_putfF E cl_X1 1 (by decide) rfl rfl rfl q271 (fun _ z => z) (fmUp_of xfar hqu) (Nat.le_of_ble_eq_true rfl) rfl rfl dX1_init_2_17 ?_
  refine r_hp (h' := fmUp (fmUp Hfar qu (fqA (fun _ => 0))) x (true, .inr (.inl (1, [.ref far, .ref qu, .null, .null, .null, .int 0, .int 0, .int 0, .null])))) (rfl) ?_
  obtain ⟨vqu, xqu, fqu, zqu, nqu⟩ := ini_1 (y := fqA (fun _ => 0)) (o' := (true, .inr (.inl (1, [.ref far, .ref qu, .null, .null, .null, .int 0, .int 0, .int 0, .null])))) hf1 xfar hqu
  have hf2 := hf1.trans fqu
  generalize hgqu : fmUp (fmUp Hfar qu (fqA (fun _ => 0))) x (true, .inr (.inl (1, [.ref far, .ref qu, .null, .null, .null, .int 0, .int 0, .int 0, .null]))) = Hqu at *
  have vfar2 := fqu _ _ vfar nfar
  refine r_aload_n E dX1_init_2_20 rfl ?_
  refine r_new E cl_J3 [.null, .int 0, .int 0] q218 q219 q84 (by decide) 3 70 (Nat.le_of_ble_eq_true rfl) (Nat.le_of_ble_eq_true rfl) dX1_init_2_21 (fun pa hpa kpa => ?_)
  refine r_dup E dX1_init_2_24 rfl ?_
  refine r_callI E (ct_J3_init G hl _ pa fmUp_s) mJ3_init rfl q220 q221 rfl rfl (Nat.le_of_ble_eq_true rfl) (Nat.le_of_ble_eq_true rfl) (Nat.le_of_ble_eq_true rfl) dX1_init_2_25 2 50 (Nat.le_of_ble_eq_true rfl) (Nat.le_of_ble_eq_true rfl) (fun v' hzpa q => ?_) (fun _ _ _ q => q.elim)
  obtain ⟨rfl, e, he, ke, rfl⟩ := q
  have nxpa : x ≠ pa := fun z => by rw [← z, xqu] at hpa; cases hpa
  have nee : x ≠ e := fun z => by rw [← z, fmUp_of xqu hpa] at he; cases he
  refine r_putfF E cl_X1 3 (by decide) rfl rfl rfl q273 (fun _ z => z) ((fmUp_n nxpa).trans ((fmUp_n nee).trans (fmUp_of xqu hpa))) (Nat.le_of_ble_eq_true rfl) rfl rfl dX1_init_2_28 ?_
  refine r_hp (h' := fmUp (fmUp (fmUp (fmUp Hqu pa (true, .inr (.inl (14, [.null, .int 0, .int 0])))) e (true, .inl (6, 17, .inr (.inr (.inr (.inr (fun _ => none))))))) pa (true, .inr (.inl (14, [.ref e, .int 0, .int 0])))) x (true, .inr (.inl (1, [.ref far, .ref qu, .null, .ref pa, .null, .int 0, .int 0, .int 0, .null])))) (rfl) ?_
  obtain ⟨vpa, wpa, xpa, fpa, zpa, ypa, npa, mpa, lpa⟩ := ini_2 (y0 := (true, .inr (.inl (14, [.null, .int 0, .int 0])))) (y := (true, .inr (.inl (14, [.ref e, .int 0, .int 0])))) (z0 := (true, .inl (6, 17, .inr (.inr (.inr (.inr (fun _ => none))))))) (o' := (true, .inr (.inl (1, [.ref far, .ref qu, .null, .ref pa, .null, .int 0, .int 0, .int 0, .null])))) hf2 xqu hpa he
  have hf3 := hf2.trans fpa
  generalize hgpa : fmUp (fmUp (fmUp (fmUp Hqu pa (true, .inr (.inl (14, [.null, .int 0, .int 0])))) e (true, .inl (6, 17, .inr (.inr (.inr (.inr (fun _ => none))))))) pa (true, .inr (.inl (14, [.ref e, .int 0, .int 0])))) x (true, .inr (.inl (1, [.ref far, .ref qu, .null, .ref pa, .null, .int 0, .int 0, .int 0, .null]))) = Hpa at *
  refine r_aload_n E dX1_init_2_31 rfl ?_
  refine r_new E cl_J5 [.null, .int 0, .int 0, .int 0] q237 q238 q86 (by decide) 1 20 (Nat.le_of_ble_eq_true rfl) (Nat.le_of_ble_eq_true rfl) dX1_init_2_32 (fun sb hsb ksb => ?_)
  refine r_dup E dX1_init_2_35 rfl ?_
  refine r_callI E (ct_J5_init G hl _ sb fmUp_s) mJ5_init rfl q239 q240 rfl rfl (Nat.le_of_ble_eq_true rfl) (Nat.le_of_ble_eq_true rfl) (Nat.le_of_ble_eq_true rfl) dX1_init_2_36 0 0 (Nat.le_of_ble_eq_true rfl) (Nat.le_of_ble_eq_true rfl) (fun v' hzsb q => ?_) (fun _ _ _ q => q.elim)
  obtain ⟨rfl, v, hv, kv, rfl⟩ := q
  have nxsb : x ≠ sb := fun z => by rw [← z, xpa] at hsb; cases hsb
  have nev : x ≠ v := fun z => by rw [← z, fmUp_of xpa hsb] at hv; cases hv
  refine r_putfF E cl_X1 4 (by decide) rfl rfl rfl q275 (fun _ z => z) ((fmUp_n nxsb).trans ((fmUp_n nev).trans (fmUp_of xpa hsb))) (Nat.le_of_ble_eq_true rfl) rfl rfl dX1_init_2_39 ?_
  refine r_hp (h' := fmUp (fmUp (fmUp (fmUp Hpa sb (true, .inr (.inl (15, [.null, .int 0, .int 0, .int 0])))) v (true, .inl (3, 16, .inl (fun _ => 0)))) sb (true, .inr (.inl (15, [.ref v, .int (bI false), .int (bI false), .int (nI 0)])))) x (true, .inr (.inl (1, [.ref far, .ref qu, .null, .ref pa, .ref sb, .int 0, .int 0, .int 0, .null])))) (rfl) ?_
  obtain ⟨vsb, wsb, xsb, fsb, zsb, ysb, nsb, msb, lsb⟩ := ini_2 (y0 := (true, .inr (.inl (15, [.null, .int 0, .int 0, .int 0])))) (y := (true, .inr (.inl (15, [.ref v, .int (bI false), .int (bI false), .int (nI 0)])))) (z0 := (true, .inl (3, 16, .inl (fun _ => 0)))) (o' := (true, .inr (.inl (1, [.ref far, .ref qu, .null, .ref pa, .ref sb, .int 0, .int 0, .int 0, .null])))) hf3 xpa hsb hv
  have hf4 := hf3.trans fsb
  generalize hgsb : fmUp (fmUp (fmUp (fmUp Hpa sb (true, .inr (.inl (15, [.null, .int 0, .int 0, .int 0])))) v (true, .inl (3, 16, .inl (fun _ => 0)))) sb (true, .inr (.inl (15, [.ref v, .int (bI false), .int (bI false), .int (nI 0)])))) x (true, .inr (.inl (1, [.ref far, .ref qu, .null, .ref pa, .ref sb, .int 0, .int 0, .int 0, .null]))) = Hsb at *
  refine r_aload_n E dX1_init_2_42 rfl ?_
  refine r_iconst E (-1) dX1_init_2_43 (by decide) ?_
  refine r_putf E cl_X1 5 (by decide) rfl q276 (fun _ z => z) xsb (Nat.le_of_ble_eq_true rfl) rfl rfl dX1_init_2_44 ?_
  refine r_hp (h' := fmUp Hsb x (true, .inr (.inl (1, [.ref far, .ref qu, .null, .ref pa, .ref sb, .int (-1), .int 0, .int 0, .null])))) (rfl) ?_
  refine r_aload_n E dX1_init_2_47 rfl ?_
  refine r_aload_n E dX1_init_2_48 rfl ?_
  refine r_putf E cl_X1 2 (by decide) rfl q272 (fun _ z => z) fmUp_s (Nat.le_of_ble_eq_true rfl) rfl rfl dX1_init_2_49 ?_
  refine r_hp (h' := fmUp (fmUp Hsb x (true, .inr (.inl (1, [.ref far, .ref qu, .null, .ref pa, .ref sb, .int (-1), .int 0, .int 0, .null])))) x (true, .inr (.inl (1, [.ref far, .ref qu, .ref d, .ref pa, .ref sb, .int (-1), .int 0, .int 0, .null])))) (rfl) ?_
  have hfin : ∀ o9, FrX x Hsb (fmUp Hsb x o9) := fun o9 q y hq hn => (fmUp_n hn).trans hq
  refine r_hp (h' := fmUp Hsb x (xOb far qu d pa sb (-1) 0 0 .null)) (fmUp_uu _ _ _ _) ?_
  have hq9 := hfin (xOb far qu d pa sb (-1) 0 0 .null)
  have hfq : far ≠ qu := fun z => by rw [← z, vfar] at hqu; cases hqu
  exact r_return E P rfl dX1_init_2_52 ⟨rfl, far, qu, pa, e, sb, v, fmUp_s, hq9 _ _ (fsb _ _ (fpa _ _ vfar2 nfar) nfar) nfar, hq9 _ _ (fsb _ _ (fpa _ _ vqu nqu) nqu) nqu, hfq, ⟨fun _ => none, hq9 _ _ (fsb _ _ vpa npa) npa, hq9 _ _ (fsb _ _ wpa mpa) mpa, by decide, by decide, fun i hi => absurd hi (Nat.not_lt_zero _), fun _ _ _ => rfl⟩, ⟨false, false, 16, fun _ => 0, hq9 _ _ vsb nsb, hq9 _ _ wsb msb, sb_fit0, fun _ => ⟨by decide, by decide, fun i hi => absurd hi (Nat.not_lt_zero _)⟩, fun z => by cases z⟩, hf4.trans hq9, zfar, zqu, zpa, ypa, zsb, ysb⟩

