set_option maxHeartbeats 4000000 in
theorem ct_X2_init_2 (G : fmG) (hl : (fmLn G).stackTraces = false) {h0 : fmHp} {d d1 g1 sl1 se1 pl1 pe1 : Nat} {gf sf pf : Nat → Nat} {N : Nat → Int32} {K pk : Nat} (hC : CC G h0) (hM : MineAt G h0 d1 g1 sl1 se1 pl1 pe1 gf sf pf N K pk) (hd0 : h0 d = none) : Ct G yX2_init_2 (ws_ yX2_init_2 cX2_init_2 4 none) { frames := 7, cells := 20, slots := 2980, locals := 191 } [.ref d, .ref d1] (fmUp h0 d (true, .inr (.inl (2, [.null, .null, .null, .int 0, .int 0, .int 0, .int 0])))) (fun v h' => v = none ∧ ∃ (g sl se pl pe : Nat), MineAt G h' d g sl se pl pe gf sf pf N K pk ∧ Dr G h0 h' d g sl se pl pe) fmNo := by
  refine Ct.of hl (by decide +kernel) (Nat.le_of_ble_eq_true rfl) (fun Γ E P => ?_)
  obtain ⟨hd1, ⟨gq, hg1, hgq⟩, hgd1, hS1, hSh, hP1, hPk, hK8, hP6, hsp1, hse1⟩ := id hM
  obtain ⟨mcS, capS, feS, gS, hsl1, heS, ncS, capS2, -, -, elS, -⟩ := hS1
  obtain ⟨mcP, capP, feP, gP, hpl1, heP, ncP, capP2, -, -, elP, -⟩ := hP1
  refine r_aload_n E dX2_init_2_0 rfl ?_
  refine r_objInit E q133 q134 q135 dX2_init_2_1 (Nat.le_of_ble_eq_true rfl) (Nat.le_of_ble_eq_true rfl) ?_
  refine r_aload_n E dX2_init_2_4 rfl ?_
  refine r_bipush E (nI 64) dX2_init_2_5 (by decide) ?_
  refine r_anew E 7 rfl q136 q137 (by decide) 19 2916 (Nat.le_of_ble_eq_true rfl) (Nat.le_of_ble_eq_true rfl) dX2_init_2_7 (fun g hg0 kg => ?_)
  have hgd : g ≠ d := fun z => by rw [z, fmUp_s] at hg0; cases hg0
  refine r_putfF E cl_X2 0 (by decide) rfl rfl rfl q185 (fun _ z => z) (fmUp_of fmUp_s hg0) (Nat.le_of_ble_eq_true rfl) rfl rfl dX2_init_2_10 ?_
  refine r_hp (h' := fmUp (fmUp (fmUp h0 d (true, .inr (.inl (2, [.null, .null, .null, .int 0, .int 0, .int 0, .int 0])))) g (true, .inl (7, 64, .inr (.inr (.inr (.inr (fun _ => none))))))) d (true, .inr (.inl (2, [.ref g, .null, .null, .int 0, .int 0, .int 0, .int 0])))) (rfl) ?_
  refine r_aload_n E dX2_init_2_13 rfl ?_
  refine r_new E cl_J2 [.int 0, .null, .int 0] q138 q139 q82 (by decide) 18 2913 (Nat.le_of_ble_eq_true rfl) (Nat.le_of_ble_eq_true rfl) dX2_init_2_14 (fun sl hsl ksl => ?_)
  refine r_dup E dX2_init_2_17 rfl ?_
  refine r_callI0 E (ct_J2_init G hl (fmUp (fmUp (fmUp (fmUp h0 d (true, .inr (.inl (2, [.null, .null, .null, .int 0, .int 0, .int 0, .int 0])))) g (true, .inl (7, 64, .inr (.inr (.inr (.inr (fun _ => none))))))) d (true, .inr (.inl (2, [.ref g, .null, .null, .int 0, .int 0, .int 0, .int 0])))) sl (true, .inr (.inl (12, [.int 0, .null, .int 0])))) sl fmUp_s) mJ2_init rfl q140 q141 rfl rfl (Nat.le_of_ble_eq_true rfl) (Nat.le_of_ble_eq_true rfl) (Nat.le_of_ble_eq_true rfl) dX2_init_2_18 18 2913 (Nat.le_of_ble_eq_true rfl) (Nat.le_of_ble_eq_true rfl) ?_
  refine r_hp (h' := fmUp (fmUp (fmUp (fmUp h0 d (true, .inr (.inl (2, [.null, .null, .null, .int 0, .int 0, .int 0, .int 0])))) g (true, .inl (7, 64, .inr (.inr (.inr (.inr (fun _ => none))))))) d (true, .inr (.inl (2, [.ref g, .null, .null, .int 0, .int 0, .int 0, .int 0])))) sl (true, .inr (.inl (12, [.int (nI 0), .ref (fmAd G 10), .int (nI 0)])))) (fmUp_uu _ _ _ _) ?_
  have hndsl : sl ≠ d := fun z => by rw [z, fmUp_s] at hsl; cases hsl
  refine r_putfF E cl_X2 1 (by decide) rfl rfl rfl q187 (fun _ z => z) (fmUp_of fmUp_s hsl) (Nat.le_of_ble_eq_true rfl) rfl rfl dX2_init_2_21 ?_
  refine r_hp (h' := fmUp (fmUp (fmUp (fmUp (fmUp h0 d (true, .inr (.inl (2, [.null, .null, .null, .int 0, .int 0, .int 0, .int 0])))) g (true, .inl (7, 64, .inr (.inr (.inr (.inr (fun _ => none))))))) d (true, .inr (.inl (2, [.ref g, .null, .null, .int 0, .int 0, .int 0, .int 0])))) sl (true, .inr (.inl (12, [.int (nI 0), .ref (fmAd G 10), .int (nI 0)])))) d (true, .inr (.inl (2, [.ref g, .ref sl, .null, .int 0, .int 0, .int 0, .int 0])))) (rfl) ?_
  refine r_aload_n E dX2_init_2_24 rfl ?_
  refine r_new E cl_J2 [.int 0, .null, .int 0] q138 q139 q82 (by decide) 17 2910 (Nat.le_of_ble_eq_true rfl) (Nat.le_of_ble_eq_true rfl) dX2_init_2_25 (fun pl hpl kpl => ?_)
  refine r_dup E dX2_init_2_28 rfl ?_
  refine r_callI0 E (ct_J2_init G hl (fmUp (fmUp (fmUp (fmUp (fmUp (fmUp h0 d (true, .inr (.inl (2, [.null, .null, .null, .int 0, .int 0, .int 0, .int 0])))) g (true, .inl (7, 64, .inr (.inr (.inr (.inr (fun _ => none))))))) d (true, .inr (.inl (2, [.ref g, .null, .null, .int 0, .int 0, .int 0, .int 0])))) sl (true, .inr (.inl (12, [.int (nI 0), .ref (fmAd G 10), .int (nI 0)])))) d (true, .inr (.inl (2, [.ref g, .ref sl, .null, .int 0, .int 0, .int 0, .int 0])))) pl (true, .inr (.inl (12, [.int 0, .null, .int 0])))) pl fmUp_s) mJ2_init rfl q140 q141 rfl rfl (Nat.le_of_ble_eq_true rfl) (Nat.le_of_ble_eq_true rfl) (Nat.le_of_ble_eq_true rfl) dX2_init_2_29 17 2910 (Nat.le_of_ble_eq_true rfl) (Nat.le_of_ble_eq_true rfl) ?_
  refine r_hp (h' := fmUp (fmUp (fmUp (fmUp (fmUp (fmUp h0 d (true, .inr (.inl (2, [.null, .null, .null, .int 0, .int 0, .int 0, .int 0])))) g (true, .inl (7, 64, .inr (.inr (.inr (.inr (fun _ => none))))))) d (true, .inr (.inl (2, [.ref g, .null, .null, .int 0, .int 0, .int 0, .int 0])))) sl (true, .inr (.inl (12, [.int (nI 0), .ref (fmAd G 10), .int (nI 0)])))) d (true, .inr (.inl (2, [.ref g, .ref sl, .null, .int 0, .int 0, .int 0, .int 0])))) pl (true, .inr (.inl (12, [.int (nI 0), .ref (fmAd G 10), .int (nI 0)])))) (fmUp_uu _ _ _ _) ?_
  have hndpl : pl ≠ d := fun z => by rw [z, fmUp_s] at hpl; cases hpl
  refine r_putfF E cl_X2 2 (by decide) rfl rfl rfl q189 (fun _ z => z) (fmUp_of fmUp_s hpl) (Nat.le_of_ble_eq_true rfl) rfl rfl dX2_init_2_32 ?_
  refine r_hp (h' := fmUp (fmUp (fmUp (fmUp (fmUp (fmUp (fmUp h0 d (true, .inr (.inl (2, [.null, .null, .null, .int 0, .int 0, .int 0, .int 0])))) g (true, .inl (7, 64, .inr (.inr (.inr (.inr (fun _ => none))))))) d (true, .inr (.inl (2, [.ref g, .null, .null, .int 0, .int 0, .int 0, .int 0])))) sl (true, .inr (.inl (12, [.int (nI 0), .ref (fmAd G 10), .int (nI 0)])))) d (true, .inr (.inl (2, [.ref g, .ref sl, .null, .int 0, .int 0, .int 0, .int 0])))) pl (true, .inr (.inl (12, [.int (nI 0), .ref (fmAd G 10), .int (nI 0)])))) d (true, .inr (.inl (2, [.ref g, .ref sl, .ref pl, .int 0, .int 0, .int 0, .int 0])))) (rfl) ?_
  refine r_aload_n E dX2_init_2_35 rfl ?_
  refine r_iconst E (nI 3) dX2_init_2_36 (by decide) ?_
  refine r_putf E cl_X2 3 (by decide) rfl q191 (fun _ z => z) fmUp_s (Nat.le_of_ble_eq_true rfl) rfl rfl dX2_init_2_37 ?_
  refine r_hp (h' := fmUp (fmUp (fmUp (fmUp (fmUp (fmUp (fmUp (fmUp h0 d (true, .inr (.inl (2, [.null, .null, .null, .int 0, .int 0, .int 0, .int 0])))) g (true, .inl (7, 64, .inr (.inr (.inr (.inr (fun _ => none))))))) d (true, .inr (.inl (2, [.ref g, .null, .null, .int 0, .int 0, .int 0, .int 0])))) sl (true, .inr (.inl (12, [.int (nI 0), .ref (fmAd G 10), .int (nI 0)])))) d (true, .inr (.inl (2, [.ref g, .ref sl, .null, .int 0, .int 0, .int 0, .int 0])))) pl (true, .inr (.inl (12, [.int (nI 0), .ref (fmAd G 10), .int (nI 0)])))) d (true, .inr (.inl (2, [.ref g, .ref sl, .ref pl, .int 0, .int 0, .int 0, .int 0])))) d (true, .inr (.inl (2, [.ref g, .ref sl, .ref pl, .int (nI 3), .int 0, .int 0, .int 0])))) (rfl) ?_
  have hg00 : h0 g = none := Kp.none (Kp.up hd0) hg0
  have hsl00 : h0 sl = none := Kp.none (Kp.up0 (Kp.trans (Kp.up hd0) (Kp.up hg0)) hd0) hsl
  have hpl00 : h0 pl = none := Kp.none (Kp.up0 (Kp.trans (Kp.up0 (Kp.trans (Kp.up hd0) (Kp.up hg0)) hd0) (Kp.up hsl)) hd0) hpl
  have hsp : sl ≠ pl := fun z => by rw [← z, fmUp_n hndsl, fmUp_s] at hpl; cases hpl
  have hk0 : Kp h0 (fmUp (fmUp (fmUp (fmUp (fmUp (fmUp (fmUp (fmUp h0 d (true, .inr (.inl (2, [.null, .null, .null, .int 0, .int 0, .int 0, .int 0])))) g (true, .inl (7, 64, .inr (.inr (.inr (.inr (fun _ => none))))))) d (true, .inr (.inl (2, [.ref g, .null, .null, .int 0, .int 0, .int 0, .int 0])))) sl (true, .inr (.inl (12, [.int (nI 0), .ref (fmAd G 10), .int (nI 0)])))) d (true, .inr (.inl (2, [.ref g, .ref sl, .null, .int 0, .int 0, .int 0, .int 0])))) pl (true, .inr (.inl (12, [.int (nI 0), .ref (fmAd G 10), .int (nI 0)])))) d (true, .inr (.inl (2, [.ref g, .ref sl, .ref pl, .int 0, .int 0, .int 0, .int 0])))) d (true, .inr (.inl (2, [.ref g, .ref sl, .ref pl, .int (nI 3), .int 0, .int 0, .int 0])))) := (Kp.up0 (Kp.up0 (Kp.trans (Kp.up0 (Kp.trans (Kp.up0 (Kp.trans (Kp.up hd0) (Kp.up hg0)) hd0) (Kp.up hsl)) hd0) (Kp.up hpl)) hd0) hd0)
  have hK : MkS G h0 (fmUp (fmUp (fmUp (fmUp (fmUp (fmUp (fmUp (fmUp h0 d (true, .inr (.inl (2, [.null, .null, .null, .int 0, .int 0, .int 0, .int 0])))) g (true, .inl (7, 64, .inr (.inr (.inr (.inr (fun _ => none))))))) d (true, .inr (.inl (2, [.ref g, .null, .null, .int 0, .int 0, .int 0, .int 0])))) sl (true, .inr (.inl (12, [.int (nI 0), .ref (fmAd G 10), .int (nI 0)])))) d (true, .inr (.inl (2, [.ref g, .ref sl, .null, .int 0, .int 0, .int 0, .int 0])))) pl (true, .inr (.inl (12, [.int (nI 0), .ref (fmAd G 10), .int (nI 0)])))) d (true, .inr (.inl (2, [.ref g, .ref sl, .ref pl, .int 0, .int 0, .int 0, .int 0])))) d (true, .inr (.inl (2, [.ref g, .ref sl, .ref pl, .int (nI 3), .int 0, .int 0, .int 0])))) d g sl (fmAd G 10) pl (fmAd G 10) (fun _ => none) 0 (fun _ => 0) 0 (fun _ => 0) (nI 3) 0 0 0 := ⟨hk0, fmUp_s, ((fmUp_n hgd).trans ((fmUp_n hgd).trans (fmUp_of ((fmUp_n hgd).trans (fmUp_of ((fmUp_n hgd).trans fmUp_s) hsl)) hpl))), AL.zero (hC.kp hk0) ((fmUp_n hndsl).trans ((fmUp_n hndsl).trans (fmUp_of ((fmUp_n hndsl).trans fmUp_s) hpl))), AL.zero (hC.kp hk0) ((fmUp_n hndpl).trans ((fmUp_n hndpl).trans fmUp_s)), hd0, hg00, hsl00, hpl00, Or.inr rfl, Or.inr rfl, hsp, fun _ => rfl⟩
  refine r_aload_n E dX2_init_2_40 rfl ?_
  refine r_getf E cl_X2 0 (by decide) q185 (hK.1 _ _ hd1) rfl dX2_init_2_41 ?_
  refine r_iconst E (nI 0) dX2_init_2_44 (by decide) ?_
  refine r_aload_n E dX2_init_2_45 rfl ?_
  refine r_getf E cl_X2 0 (by decide) q185 fmUp_s rfl dX2_init_2_46 ?_
  refine r_iconst E (nI 0) dX2_init_2_49 (by decide) ?_
  refine r_bipush E (nI 64) dX2_init_2_50 (by decide) ?_
  refine r_copyQ E (E1 := "FlintMine$Ground") (sp := 0) (dp := 0) (n := 64) (t0 := 7) (t1 := 7) (E0 := "FlintMine$Ground") rfl rfl (hK.1 _ _ hg1) ((fmUp_n hgd).trans ((fmUp_n hgd).trans (fmUp_of ((fmUp_n hgd).trans (fmUp_of ((fmUp_n hgd).trans fmUp_s) hsl)) hpl))) (by decide) (by decide) (by decide) (by decide) (fun H a1 i hi y hy => ?_) q365 q366 q367 q97 (Nat.le_of_ble_eq_true rfl) (Nat.le_of_ble_eq_true rfl) dX2_init_2_52 ?_
  · rw [Nat.zero_add, hgq i hi] at hy
    cases hy
    rcases hgd1 i hi with ⟨_, _, _, q4⟩ | ⟨p, _, _, q4⟩ | ⟨_, _, q4⟩
    · obtain ⟨cell, z1, z2, z3⟩ := fm_rc a1 cl_X3.1 E.v (hK.1 _ _ q4)
      exact ⟨_, cell, q315, z1, z2, z3⟩
    · obtain ⟨cell, z1, z2, z3⟩ := fm_rc a1 cl_X6.1 E.v (hK.1 _ _ q4)
      exact ⟨_, cell, q322, z1, z2, z3⟩
    · obtain ⟨cell, z1, z2, z3⟩ := fm_rc a1 cl_X8.1 E.v (hK.1 _ _ q4)
      exact ⟨_, cell, q320, z1, z2, z3⟩
  have hK1 := hK.arr (gc' := va_cpy gq (fun _ => none) 0 0 64)
  have hgc : ∀ c, c < 64 → (va_cpy gq (fun _ => none) 0 0 64) c = some (gf c) := fun c hc => (va_cpy_0 hc).trans (hgq c hc)
  refine r_aload_n E dX2_init_2_55 rfl ?_
  refine r_getf E cl_X2 1 (by decide) q187 (hK1.1 _ _ hd1) rfl dX2_init_2_56 ?_
  refine r_callF E (ct_J2_iterator G hl _ sl1 se1 K mcS (hK1.1 _ _ hsl1)) mJ2_iterator (ci := 12) rfl (hK1.1 _ _ hsl1) 0 rfl q369 q375 q373 fx_0 rfl rfl (Nat.le_of_ble_eq_true rfl) (Nat.le_of_ble_eq_true rfl) (Nat.le_of_ble_eq_true rfl) dX2_init_2_59 16 2906 (Nat.le_of_ble_eq_true rfl) (Nat.le_of_ble_eq_true rfl) (fun v' hx q => ?_) (fun _ _ _ q => q.elim)
  obtain ⟨it, hit0, kit, rfl, rfl⟩ := q
  have hit00 : h0 it = none := hK1.1.none hit0
  have hK2 := hK1.kp (Kp.up (e := (true, .inr (.inl (13, [.int (nI 0), .int (-1), .int mcS, .ref sl1])))) hit0)
  refine r_astore_n E [some (.ref d), some (.ref d1), some (.ref it), none] dX2_init_2_64 rfl rfl ?_
  have lp : ∀ (n i : Nat) (hh : fmHp) (f : Nat → Nat) (e : Nat) (lr : Int32), i + n = K → MkS G h0 hh d g sl e pl (fmAd G 10) (va_cpy gq (fun _ => none) 0 0 64) i f 0 (fun _ => 0) (nI 3) 0 0 0 → (∀ k, k < i → f k = sf k) → hh it = some (true, .inr (.inl (13, [.int (nI i), .int lr, .int mcS, .ref sl1]))) → fmW G Γ hh (n + 8) (n * 200 + 1300) 65 [some (.ref d), some (.ref d1), some (.ref it), none] [] := by
    intro n
    induction n with
    | zero =>
      intro i hh f e lr hi hS hf hit
      refine r_aload_n E dX2_init_2_65 rfl ?_
      refine r_callF1 (v1 := .int (bI (decide (i < K)))) E (ct_J13_hasNext G hl (hh) sl1 se1 K mcS (hS.1 _ _ hsl1) it i lr hit (by omega) (by omega)) mJ13_hasNext (ci := 13) rfl hit 6 rfl q398 q404 q402 fx_6 rfl rfl (Nat.le_of_ble_eq_true rfl) (Nat.le_of_ble_eq_true rfl) (Nat.le_of_ble_eq_true rfl) dX2_init_2_66 (0 + 8) (0 * 200 + 1300) (Nat.le_refl _) (Nat.le_refl _) ?_
      refine r_ifB_eq (b := decide (i < K)) (tgt := 98) E dX2_init_2_71 (by decide) (fun c1 => ?_) (fun c1 => ?_)
      · have hiK : i = K := by omega
        rw [hiK] at hS hf
        obtain ⟨eS, he9⟩ : ∃ eS, eS = e := ⟨_, rfl⟩
        subst he9
        obtain ⟨fS, hf9⟩ : ∃ fS, fS = f := ⟨_, rfl⟩
        subst hf9
        have fS_h : ∀ k, k < K → fS k = sf k := hf
        refine r_aload_n E dX2_init_2_98 rfl ?_
        refine r_getf E cl_X2 2 (by decide) q189 (hS.1 _ _ hd1) rfl dX2_init_2_99 ?_
        refine r_callF E (ct_J2_iterator G hl _ pl1 pe1 pk mcP (hS.1 _ _ hpl1)) mJ2_iterator (ci := 12) rfl (hS.1 _ _ hpl1) 0 rfl q369 q375 q373 fx_0 rfl rfl (Nat.le_of_ble_eq_true rfl) (Nat.le_of_ble_eq_true rfl) (Nat.le_of_ble_eq_true rfl) dX2_init_2_102 6 1200 (show 6 + 1 ≤ (0 + 8) by omega) (show 1200 + 4 ≤ (0 * 200 + 1300) by omega) (fun v' hx q => ?_) (fun _ _ _ q => q.elim)
        obtain ⟨it2, hit20, kit2, rfl, rfl⟩ := q
        have hit200 : h0 it2 = none := hS.1.none hit20
        have hK3 := hS.kp (Kp.up (e := (true, .inr (.inl (13, [.int (nI 0), .int (-1), .int mcP, .ref pl1])))) hit20)
        refine fmW.few (L' := [some (.ref d), some (.ref d1), none, none]) (fmFew_n (L := [some (.ref d), some (.ref d1), some (.ref it), none]) 2) ?_
        refine r_astore_n E [some (.ref d), some (.ref d1), some (.ref it2), none] dX2_init_2_107 rfl rfl ?_
        have lp : ∀ (n i : Nat) (hh : fmHp) (f : Nat → Nat) (e : Nat) (lr : Int32), i + n = pk → MkS G h0 hh d g sl eS pl e (va_cpy gq (fun _ => none) 0 0 64) K fS i f (nI 3) 0 0 0 → (∀ k, k < i → f k = pf k) → hh it2 = some (true, .inr (.inl (13, [.int (nI i), .int lr, .int mcP, .ref pl1]))) → fmW G Γ hh (n + 0) (n * 200 + 0) 108 [some (.ref d), some (.ref d1), some (.ref it2), none] [] := by
          intro n
          induction n with
          | zero =>
            intro i hh f e lr hi hS hf hit
            refine r_aload_n E dX2_init_2_108 rfl ?_
            refine r_callF1 (v1 := .int (bI (decide (i < pk)))) E (ct_J13_hasNext G hl (hh) pl1 pe1 pk mcP (hS.1 _ _ hpl1) it2 i lr hit (by omega) (by omega)) mJ13_hasNext (ci := 13) rfl hit 6 rfl q398 q404 q402 fx_6 rfl rfl (Nat.le_of_ble_eq_true rfl) (Nat.le_of_ble_eq_true rfl) (Nat.le_of_ble_eq_true rfl) dX2_init_2_109 (0 + 0) (0 * 200 + 0) (Nat.le_refl _) (Nat.le_refl _) ?_
            refine r_ifB_eq (b := decide (i < pk)) (tgt := 141) E dX2_init_2_114 (by decide) (fun c2 => ?_) (fun c2 => ?_)
            · have hiK : i = pk := by omega
              rw [hiK] at hS hf
              have hdd : d1 ≠ d := fun z => by rw [z, hd0] at hd1; cases hd1
              refine r_aload_n E dX2_init_2_141 rfl ?_
              refine r_aload_n E dX2_init_2_142 rfl ?_
              refine r_getf E cl_X2 3 (by decide) q191 (hS.1 _ _ hd1) rfl dX2_init_2_143 ?_
              refine r_putf E cl_X2 3 (by decide) rfl q191 (fun _ z => z) hS.2.1 (Nat.le_of_ble_eq_true rfl) rfl rfl dX2_init_2_146 ?_
              refine r_hp (h' := fmUp hh d (true, .inr (.inl (2, [.ref g, .ref sl, .ref pl, .int (N 355), .int 0, .int 0, .int 0])))) (rfl) ?_
              refine r_aload_n E dX2_init_2_149 rfl ?_
              refine r_aload_n E dX2_init_2_150 rfl ?_
              refine r_getf E cl_X2 4 (by decide) q193 ((fmUp_n hdd).trans (hS.1 _ _ hd1)) rfl dX2_init_2_151 ?_
              refine r_putf E cl_X2 4 (by decide) rfl q193 (fun _ z => z) fmUp_s (Nat.le_of_ble_eq_true rfl) rfl rfl dX2_init_2_154 ?_
              refine r_hp (h' := fmUp (fmUp hh d (true, .inr (.inl (2, [.ref g, .ref sl, .ref pl, .int (N 355), .int 0, .int 0, .int 0])))) d (true, .inr (.inl (2, [.ref g, .ref sl, .ref pl, .int (N 355), .int (N 352), .int 0, .int 0])))) (rfl) ?_
              refine r_aload_n E dX2_init_2_157 rfl ?_
              refine r_aload_n E dX2_init_2_158 rfl ?_
              refine r_getf E cl_X2 5 (by decide) q195 ((fmUp_n hdd).trans ((fmUp_n hdd).trans (hS.1 _ _ hd1))) rfl dX2_init_2_159 ?_
              refine r_putf E cl_X2 5 (by decide) rfl q195 (fun _ z => z) fmUp_s (Nat.le_of_ble_eq_true rfl) rfl rfl dX2_init_2_162 ?_
              refine r_hp (h' := fmUp (fmUp (fmUp hh d (true, .inr (.inl (2, [.ref g, .ref sl, .ref pl, .int (N 355), .int 0, .int 0, .int 0])))) d (true, .inr (.inl (2, [.ref g, .ref sl, .ref pl, .int (N 355), .int (N 352), .int 0, .int 0])))) d (true, .inr (.inl (2, [.ref g, .ref sl, .ref pl, .int (N 355), .int (N 352), .int (N 353), .int 0])))) (rfl) ?_
              refine r_aload_n E dX2_init_2_165 rfl ?_
              refine r_aload_n E dX2_init_2_166 rfl ?_
              refine r_getf E cl_X2 6 (by decide) q197 ((fmUp_n hdd).trans ((fmUp_n hdd).trans ((fmUp_n hdd).trans (hS.1 _ _ hd1)))) rfl dX2_init_2_167 ?_
              refine r_putf E cl_X2 6 (by decide) rfl q197 (fun _ z => z) fmUp_s (Nat.le_of_ble_eq_true rfl) rfl rfl dX2_init_2_170 ?_
              refine r_hp (h' := fmUp (fmUp (fmUp (fmUp hh d (true, .inr (.inl (2, [.ref g, .ref sl, .ref pl, .int (N 355), .int 0, .int 0, .int 0])))) d (true, .inr (.inl (2, [.ref g, .ref sl, .ref pl, .int (N 355), .int (N 352), .int 0, .int 0])))) d (true, .inr (.inl (2, [.ref g, .ref sl, .ref pl, .int (N 355), .int (N 352), .int (N 353), .int 0])))) d (true, .inr (.inl (2, [.ref g, .ref sl, .ref pl, .int (N 355), .int (N 352), .int (N 353), .int (N 354)])))) (rfl) ?_
              exact r_return E P rfl dX2_init_2_173 ⟨rfl, g, sl, eS, pl, e, hS.setd.setd.setd.setd.mine hM hgc fS_h hf, hS.setd.setd.setd.setd.dr⟩
            · have hlt := of_decide_eq_true c2; exfalso; omega
          | succ n ih =>
            intro i hh f e lr hi hS hf hit
            refine r_aload_n E dX2_init_2_108 rfl ?_
            refine r_callF1 (v1 := .int (bI (decide (i < pk)))) E (ct_J13_hasNext G hl (hh) pl1 pe1 pk mcP (hS.1 _ _ hpl1) it2 i lr hit (by omega) (by omega)) mJ13_hasNext (ci := 13) rfl hit 6 rfl q398 q404 q402 fx_6 rfl rfl (Nat.le_of_ble_eq_true rfl) (Nat.le_of_ble_eq_true rfl) (Nat.le_of_ble_eq_true rfl) dX2_init_2_109 ((n + 1) + 0) ((n + 1) * 200 + 0) (Nat.le_refl _) (Nat.le_refl _) ?_
            refine r_ifB_eq (b := decide (i < pk)) (tgt := 141) E dX2_init_2_114 (by decide) (fun c3 => ?_) (fun c3 => ?_)
            · have hlt := of_decide_eq_false c3; exfalso; omega
            · have hi0 : h0 it2 = none := hit200
              have hS2 := hS.obj (e := (true, .inr (.inl (13, [.int (nI (i + 1)), .int (nI i), .int mcP, .ref pl1])))) hit hi0 (by decide) (by decide)
              refine r_aload_n E dX2_init_2_117 rfl ?_
              refine r_callF1 (v1 := .ref (pf i)) E (ct_J13_next G hl hh pl1 pe1 pk mcP (hS.1 _ _ hpl1) it2 i lr hit (by omega) (by omega) capP feP gP (hS.1 _ _ heP) (by omega) ncP capP2 (pf i) (elP i (by omega))) mJ13_next (ci := 13) rfl hit 7 rfl q408 q413 q411 fx_7 rfl rfl (Nat.le_of_ble_eq_true rfl) (Nat.le_of_ble_eq_true rfl) (Nat.le_of_ble_eq_true rfl) dX2_init_2_118 ((n + 1) + 0) ((n + 1) * 200 + 0) (Nat.le_refl _) (Nat.le_refl _) ?_
              refine r_castS E cl_J20 q574 (hS2.1 _ _ (hPk i (by omega))) dX2_init_2_123 ?_
              refine r_astore_n E [some (.ref d), some (.ref d1), some (.ref it2), some (.ref (pf i))] dX2_init_2_126 rfl rfl ?_
              refine r_aload_n E dX2_init_2_127 rfl ?_
              refine r_getf E cl_X2 2 (by decide) q189 hS2.2.1 rfl dX2_init_2_128 ?_
              refine r_aload_n E dX2_init_2_131 rfl ?_
              obtain ⟨mc9, hl9⟩ := hS2.2.2.2.2.1.o
              obtain ⟨fe9, cap9, gg9, hel9⟩ := hS2.2.2.2.2.1.el
              have hit9 : (fmUp hh it2 (true, .inr (.inl (13, [.int (nI (i + 1)), .int (nI i), .int mcP, .ref pl1])))) it2 = some (true, .inr (.inl (13, [.int (nI (i + 1)), .int (nI i), .int mcP, .ref pl1]))) := fmUp_s
              have hAL := hS2.2.2.2.2.1
              refine r_callF E (ct_J2_add G hl _ pl e i f hAL (by omega) (by omega) (fun k hk => by rw [hf k hk]; exact Pk.isO (hS2.1 _ _ (hPk k (by omega)))) (pf i) (Pk.isO (hS2.1 _ _ (hPk i (by omega))))) mJ2_add (ci := 12) rfl hl9 1 rfl q493 q498 q496 fx_1 rfl rfl (Nat.le_of_ble_eq_true rfl) (Nat.le_of_ble_eq_true rfl) (Nat.le_of_ble_eq_true rfl) dX2_init_2_132 (n + 0) (n * 200 + 0) (show (n + 0) + 1 ≤ ((n + 1) + 0) by omega) (show (n * 200 + 0) + 200 ≤ ((n + 1) * 200 + 0) by omega) (fun v' h2 q => ?_) (fun _ _ _ q => q.elim)
              obtain ⟨rfl, e2, hA, he2, hfr⟩ := q
              refine r_pop E dX2_init_2_137 rfl ?_
              refine r_goto (tgt := 108) E dX2_init_2_138 (by decide) ?_
              refine fmW.few (L' := [some (.ref d), some (.ref d1), some (.ref it2), none]) (fmFew_n (L := [some (.ref d), some (.ref d1), some (.ref it2), some (.ref (pf i))]) 3) ?_
              exact ih (i + 1) _ _ e2 _ (by omega) (hS2.addP hC hA he2 hfr) (fun k hk => by
                by_cases q : k = i
                · rw [q, updN_s]
                · rw [updN_n q]; exact hf k (by omega)) (hfr _ _ fmUp_s (fun z => by have q := hl9; rw [← z] at q; cases q.symm.trans hit9) (Or.inl fun z => by have q := hel9; rw [← z] at q; cases q.symm.trans hit9))
        exact fmW.less (by omega) (by omega) (lp pk 0 _ (fun _ => 0) (fmAd G 10) _ (by omega) hK3 (fun k hk => absurd hk (Nat.not_lt_zero _)) fmUp_s)
      · have hlt := of_decide_eq_true c1; exfalso; omega
    | succ n ih =>
      intro i hh f e lr hi hS hf hit
      refine r_aload_n E dX2_init_2_65 rfl ?_
      refine r_callF1 (v1 := .int (bI (decide (i < K)))) E (ct_J13_hasNext G hl (hh) sl1 se1 K mcS (hS.1 _ _ hsl1) it i lr hit (by omega) (by omega)) mJ13_hasNext (ci := 13) rfl hit 6 rfl q398 q404 q402 fx_6 rfl rfl (Nat.le_of_ble_eq_true rfl) (Nat.le_of_ble_eq_true rfl) (Nat.le_of_ble_eq_true rfl) dX2_init_2_66 ((n + 1) + 8) ((n + 1) * 200 + 1300) (Nat.le_refl _) (Nat.le_refl _) ?_
      refine r_ifB_eq (b := decide (i < K)) (tgt := 98) E dX2_init_2_71 (by decide) (fun c1 => ?_) (fun c1 => ?_)
      · have hlt := of_decide_eq_false c1; exfalso; omega
      · have hi0 : h0 it = none := hit00
        have hS2 := hS.obj (e := (true, .inr (.inl (13, [.int (nI (i + 1)), .int (nI i), .int mcS, .ref sl1])))) hit hi0 (by decide) (by decide)
        obtain ⟨cl9, hcl9, hso⟩ := hSh i (by omega)
        refine r_aload_n E dX2_init_2_74 rfl ?_
        refine r_callF1 (v1 := .ref (sf i)) E (ct_J13_next G hl hh sl1 se1 K mcS (hS.1 _ _ hsl1) it i lr hit (by omega) (by omega) capS feS gS (hS.1 _ _ heS) (by omega) ncS capS2 (sf i) (elS i (by omega))) mJ13_next (ci := 13) rfl hit 7 rfl q408 q413 q411 fx_7 rfl rfl (Nat.le_of_ble_eq_true rfl) (Nat.le_of_ble_eq_true rfl) (Nat.le_of_ble_eq_true rfl) dX2_init_2_75 ((n + 1) + 8) ((n + 1) * 200 + 1300) (Nat.le_refl _) (Nat.le_refl _) ?_
        refine r_castS E cl_X7 q491 (hS2.1 _ _ hso) dX2_init_2_80 ?_
        refine r_astore_n E [some (.ref d), some (.ref d1), some (.ref it), some (.ref (sf i))] dX2_init_2_83 rfl rfl ?_
        refine r_aload_n E dX2_init_2_84 rfl ?_
        refine r_getf E cl_X2 1 (by decide) q187 hS2.2.1 rfl dX2_init_2_85 ?_
        refine r_aload_n E dX2_init_2_88 rfl ?_
        obtain ⟨mc9, hl9⟩ := hS2.2.2.2.1.o
        obtain ⟨fe9, cap9, gg9, hel9⟩ := hS2.2.2.2.1.el
        have hit9 : (fmUp hh it (true, .inr (.inl (13, [.int (nI (i + 1)), .int (nI i), .int mcS, .ref sl1])))) it = some (true, .inr (.inl (13, [.int (nI (i + 1)), .int (nI i), .int mcS, .ref sl1]))) := fmUp_s
        have hAL := hS2.2.2.2.1
        refine r_callF E (ct_J2_add G hl _ sl e i f hAL (by omega) (by omega) (fun k hk => by rw [hf k hk]; exact ((hSh k (by omega)).kp hS2.1).isO) (sf i) ((hSh i (by omega)).kp hS2.1).isO) mJ2_add (ci := 12) rfl hl9 1 rfl q493 q498 q496 fx_1 rfl rfl (Nat.le_of_ble_eq_true rfl) (Nat.le_of_ble_eq_true rfl) (Nat.le_of_ble_eq_true rfl) dX2_init_2_89 (n + 8) (n * 200 + 1300) (show (n + 8) + 1 ≤ ((n + 1) + 8) by omega) (show (n * 200 + 1300) + 200 ≤ ((n + 1) * 200 + 1300) by omega) (fun v' h2 q => ?_) (fun _ _ _ q => q.elim)
        obtain ⟨rfl, e2, hA, he2, hfr⟩ := q
        refine r_pop E dX2_init_2_94 rfl ?_
        refine r_goto (tgt := 65) E dX2_init_2_95 (by decide) ?_
        refine fmW.few (L' := [some (.ref d), some (.ref d1), some (.ref it), none]) (fmFew_n (L := [some (.ref d), some (.ref d1), some (.ref it), some (.ref (sf i))]) 3) ?_
        exact ih (i + 1) _ _ e2 _ (by omega) (hS2.addS hC hA he2 hfr) (fun k hk => by
          by_cases q : k = i
          · rw [q, updN_s]
          · rw [updN_n q]; exact hf k (by omega)) (hfr _ _ fmUp_s (fun z => by have q := hl9; rw [← z] at q; cases q.symm.trans hit9) (Or.inl fun z => by have q := hel9; rw [← z] at q; cases q.symm.trans hit9))
  exact fmW.less (by omega) (by omega) (lp K 0 _ (fun _ => 0) (fmAd G 10) _ (by omega) hK2 (fun k hk => absurd hk (Nat.not_lt_zero _)) fmUp_s)

