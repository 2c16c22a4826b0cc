set_option maxHeartbeats 4000000 in
theorem ct_X2_init (G : fmG) (hl : (fmLn G).stackTraces = false) {h0 : fmHp} {d : Nat} (hC : CC G h0) (hd0 : h0 d = none) : Ct G yX2_init (ws_ yX2_init cX2_init 3 none) { frames := 4, cells := 4, slots := 72, locals := 90 } [.ref d] (fmUp h0 d (true, .inr (.inl (2, [.null, .null, .null, .int 0, .int 0, .int 0, .int 0])))) (fun v h' => v = none ∧ ∃ (g sl pl : Nat) (gf sf pf : Nat → Nat), MineAt G h' d g sl (fmAd G 10) pl (fmAd G 10) gf sf pf sIni 0 0 ∧ Dr G h0 h' d g sl (fmAd G 10) pl (fmAd G 10)) fmNo := by
  refine Ct.of hl (by decide +kernel) (Nat.le_of_ble_eq_true rfl) (fun Γ E P => ?_)
  refine r_aload_n E dX2_init_0 rfl ?_
  refine r_objInit E q133 q134 q135 dX2_init_1 (Nat.le_of_ble_eq_true rfl) (Nat.le_of_ble_eq_true rfl) ?_
  refine r_aload_n E dX2_init_4 rfl ?_
  refine r_bipush E (nI 64) dX2_init_5 (by decide) ?_
  refine r_anew E 7 rfl q136 q137 (by decide) 3 8 (Nat.le_of_ble_eq_true rfl) (Nat.le_of_ble_eq_true rfl) dX2_init_7 (fun g hg0 kg => ?_)
  have hgd : g ≠ d := fun z => by rw [z, fmUp_s] at hg0; cases hg0
  refine r_putfF E cl_X2 0 (by decide) rfl rfl rfl q185 (fun _ z => z) (fmUp_of fmUp_s hg0) (Nat.le_of_ble_eq_true rfl) rfl rfl dX2_init_10 ?_
  refine r_hp (h' := fmUp (fmUp (fmUp h0 d (true, .inr (.inl (2, [.null, .null, .null, .int 0, .int 0, .int 0, .int 0])))) g (true, .inl (7, 64, .inr (.inr (.inr (.inr (fun _ => none))))))) d (true, .inr (.inl (2, [.ref g, .null, .null, .int 0, .int 0, .int 0, .int 0])))) (rfl) ?_
  refine r_aload_n E dX2_init_13 rfl ?_
  refine r_new E cl_J2 [.int 0, .null, .int 0] q138 q139 q82 (by decide) 2 5 (Nat.le_of_ble_eq_true rfl) (Nat.le_of_ble_eq_true rfl) dX2_init_14 (fun sl hsl ksl => ?_)
  refine r_dup E dX2_init_17 rfl ?_
  refine r_callI0 E (ct_J2_init G hl (fmUp (fmUp (fmUp (fmUp h0 d (true, .inr (.inl (2, [.null, .null, .null, .int 0, .int 0, .int 0, .int 0])))) g (true, .inl (7, 64, .inr (.inr (.inr (.inr (fun _ => none))))))) d (true, .inr (.inl (2, [.ref g, .null, .null, .int 0, .int 0, .int 0, .int 0])))) sl (true, .inr (.inl (12, [.int 0, .null, .int 0])))) sl fmUp_s) mJ2_init rfl q140 q141 rfl rfl (Nat.le_of_ble_eq_true rfl) (Nat.le_of_ble_eq_true rfl) (Nat.le_of_ble_eq_true rfl) dX2_init_18 2 5 (Nat.le_of_ble_eq_true rfl) (Nat.le_of_ble_eq_true rfl) ?_
  refine r_hp (h' := fmUp (fmUp (fmUp (fmUp h0 d (true, .inr (.inl (2, [.null, .null, .null, .int 0, .int 0, .int 0, .int 0])))) g (true, .inl (7, 64, .inr (.inr (.inr (.inr (fun _ => none))))))) d (true, .inr (.inl (2, [.ref g, .null, .null, .int 0, .int 0, .int 0, .int 0])))) sl (true, .inr (.inl (12, [.int (nI 0), .ref (fmAd G 10), .int (nI 0)])))) (fmUp_uu _ _ _ _) ?_
  have hndsl : sl ≠ d := fun z => by rw [z, fmUp_s] at hsl; cases hsl
  refine r_putfF E cl_X2 1 (by decide) rfl rfl rfl q187 (fun _ z => z) (fmUp_of fmUp_s hsl) (Nat.le_of_ble_eq_true rfl) rfl rfl dX2_init_21 ?_
  refine r_hp (h' := fmUp (fmUp (fmUp (fmUp (fmUp h0 d (true, .inr (.inl (2, [.null, .null, .null, .int 0, .int 0, .int 0, .int 0])))) g (true, .inl (7, 64, .inr (.inr (.inr (.inr (fun _ => none))))))) d (true, .inr (.inl (2, [.ref g, .null, .null, .int 0, .int 0, .int 0, .int 0])))) sl (true, .inr (.inl (12, [.int (nI 0), .ref (fmAd G 10), .int (nI 0)])))) d (true, .inr (.inl (2, [.ref g, .ref sl, .null, .int 0, .int 0, .int 0, .int 0])))) (rfl) ?_
  refine r_aload_n E dX2_init_24 rfl ?_
  refine r_new E cl_J2 [.int 0, .null, .int 0] q138 q139 q82 (by decide) 1 2 (Nat.le_of_ble_eq_true rfl) (Nat.le_of_ble_eq_true rfl) dX2_init_25 (fun pl hpl kpl => ?_)
  refine r_dup E dX2_init_28 rfl ?_
  refine r_callI0 E (ct_J2_init G hl (fmUp (fmUp (fmUp (fmUp (fmUp (fmUp h0 d (true, .inr (.inl (2, [.null, .null, .null, .int 0, .int 0, .int 0, .int 0])))) g (true, .inl (7, 64, .inr (.inr (.inr (.inr (fun _ => none))))))) d (true, .inr (.inl (2, [.ref g, .null, .null, .int 0, .int 0, .int 0, .int 0])))) sl (true, .inr (.inl (12, [.int (nI 0), .ref (fmAd G 10), .int (nI 0)])))) d (true, .inr (.inl (2, [.ref g, .ref sl, .null, .int 0, .int 0, .int 0, .int 0])))) pl (true, .inr (.inl (12, [.int 0, .null, .int 0])))) pl fmUp_s) mJ2_init rfl q140 q141 rfl rfl (Nat.le_of_ble_eq_true rfl) (Nat.le_of_ble_eq_true rfl) (Nat.le_of_ble_eq_true rfl) dX2_init_29 1 2 (Nat.le_of_ble_eq_true rfl) (Nat.le_of_ble_eq_true rfl) ?_
  refine r_hp (h' := fmUp (fmUp (fmUp (fmUp (fmUp (fmUp h0 d (true, .inr (.inl (2, [.null, .null, .null, .int 0, .int 0, .int 0, .int 0])))) g (true, .inl (7, 64, .inr (.inr (.inr (.inr (fun _ => none))))))) d (true, .inr (.inl (2, [.ref g, .null, .null, .int 0, .int 0, .int 0, .int 0])))) sl (true, .inr (.inl (12, [.int (nI 0), .ref (fmAd G 10), .int (nI 0)])))) d (true, .inr (.inl (2, [.ref g, .ref sl, .null, .int 0, .int 0, .int 0, .int 0])))) pl (true, .inr (.inl (12, [.int (nI 0), .ref (fmAd G 10), .int (nI 0)])))) (fmUp_uu _ _ _ _) ?_
  have hndpl : pl ≠ d := fun z => by rw [z, fmUp_s] at hpl; cases hpl
  refine r_putfF E cl_X2 2 (by decide) rfl rfl rfl q189 (fun _ z => z) (fmUp_of fmUp_s hpl) (Nat.le_of_ble_eq_true rfl) rfl rfl dX2_init_32 ?_
  refine r_hp (h' := fmUp (fmUp (fmUp (fmUp (fmUp (fmUp (fmUp h0 d (true, .inr (.inl (2, [.null, .null, .null, .int 0, .int 0, .int 0, .int 0])))) g (true, .inl (7, 64, .inr (.inr (.inr (.inr (fun _ => none))))))) d (true, .inr (.inl (2, [.ref g, .null, .null, .int 0, .int 0, .int 0, .int 0])))) sl (true, .inr (.inl (12, [.int (nI 0), .ref (fmAd G 10), .int (nI 0)])))) d (true, .inr (.inl (2, [.ref g, .ref sl, .null, .int 0, .int 0, .int 0, .int 0])))) pl (true, .inr (.inl (12, [.int (nI 0), .ref (fmAd G 10), .int (nI 0)])))) d (true, .inr (.inl (2, [.ref g, .ref sl, .ref pl, .int 0, .int 0, .int 0, .int 0])))) (rfl) ?_
  refine r_aload_n E dX2_init_35 rfl ?_
  refine r_iconst E (nI 3) dX2_init_36 (by decide) ?_
  refine r_putf E cl_X2 3 (by decide) rfl q191 (fun _ z => z) fmUp_s (Nat.le_of_ble_eq_true rfl) rfl rfl dX2_init_37 ?_
  refine r_hp (h' := fmUp (fmUp (fmUp (fmUp (fmUp (fmUp (fmUp (fmUp h0 d (true, .inr (.inl (2, [.null, .null, .null, .int 0, .int 0, .int 0, .int 0])))) g (true, .inl (7, 64, .inr (.inr (.inr (.inr (fun _ => none))))))) d (true, .inr (.inl (2, [.ref g, .null, .null, .int 0, .int 0, .int 0, .int 0])))) sl (true, .inr (.inl (12, [.int (nI 0), .ref (fmAd G 10), .int (nI 0)])))) d (true, .inr (.inl (2, [.ref g, .ref sl, .null, .int 0, .int 0, .int 0, .int 0])))) pl (true, .inr (.inl (12, [.int (nI 0), .ref (fmAd G 10), .int (nI 0)])))) d (true, .inr (.inl (2, [.ref g, .ref sl, .ref pl, .int 0, .int 0, .int 0, .int 0])))) d (true, .inr (.inl (2, [.ref g, .ref sl, .ref pl, .int (nI 3), .int 0, .int 0, .int 0])))) (rfl) ?_
  have hg00 : h0 g = none := Kp.none (Kp.up hd0) hg0
  have hsl00 : h0 sl = none := Kp.none (Kp.up0 (Kp.trans (Kp.up hd0) (Kp.up hg0)) hd0) hsl
  have hpl00 : h0 pl = none := Kp.none (Kp.up0 (Kp.trans (Kp.up0 (Kp.trans (Kp.up hd0) (Kp.up hg0)) hd0) (Kp.up hsl)) hd0) hpl
  have hsp : sl ≠ pl := fun z => by rw [← z, fmUp_n hndsl, fmUp_s] at hpl; cases hpl
  have hk0 : Kp h0 (fmUp (fmUp (fmUp (fmUp (fmUp (fmUp (fmUp (fmUp h0 d (true, .inr (.inl (2, [.null, .null, .null, .int 0, .int 0, .int 0, .int 0])))) g (true, .inl (7, 64, .inr (.inr (.inr (.inr (fun _ => none))))))) d (true, .inr (.inl (2, [.ref g, .null, .null, .int 0, .int 0, .int 0, .int 0])))) sl (true, .inr (.inl (12, [.int (nI 0), .ref (fmAd G 10), .int (nI 0)])))) d (true, .inr (.inl (2, [.ref g, .ref sl, .null, .int 0, .int 0, .int 0, .int 0])))) pl (true, .inr (.inl (12, [.int (nI 0), .ref (fmAd G 10), .int (nI 0)])))) d (true, .inr (.inl (2, [.ref g, .ref sl, .ref pl, .int 0, .int 0, .int 0, .int 0])))) d (true, .inr (.inl (2, [.ref g, .ref sl, .ref pl, .int (nI 3), .int 0, .int 0, .int 0])))) := (Kp.up0 (Kp.up0 (Kp.trans (Kp.up0 (Kp.trans (Kp.up0 (Kp.trans (Kp.up hd0) (Kp.up hg0)) hd0) (Kp.up hsl)) hd0) (Kp.up hpl)) hd0) hd0)
  have hK : MkS G h0 (fmUp (fmUp (fmUp (fmUp (fmUp (fmUp (fmUp (fmUp h0 d (true, .inr (.inl (2, [.null, .null, .null, .int 0, .int 0, .int 0, .int 0])))) g (true, .inl (7, 64, .inr (.inr (.inr (.inr (fun _ => none))))))) d (true, .inr (.inl (2, [.ref g, .null, .null, .int 0, .int 0, .int 0, .int 0])))) sl (true, .inr (.inl (12, [.int (nI 0), .ref (fmAd G 10), .int (nI 0)])))) d (true, .inr (.inl (2, [.ref g, .ref sl, .null, .int 0, .int 0, .int 0, .int 0])))) pl (true, .inr (.inl (12, [.int (nI 0), .ref (fmAd G 10), .int (nI 0)])))) d (true, .inr (.inl (2, [.ref g, .ref sl, .ref pl, .int 0, .int 0, .int 0, .int 0])))) d (true, .inr (.inl (2, [.ref g, .ref sl, .ref pl, .int (nI 3), .int 0, .int 0, .int 0])))) d g sl (fmAd G 10) pl (fmAd G 10) (fun _ => none) 0 (fun _ => 0) 0 (fun _ => 0) (nI 3) 0 0 0 := ⟨hk0, fmUp_s, ((fmUp_n hgd).trans ((fmUp_n hgd).trans (fmUp_of ((fmUp_n hgd).trans (fmUp_of ((fmUp_n hgd).trans fmUp_s) hsl)) hpl))), AL.zero (hC.kp hk0) ((fmUp_n hndsl).trans ((fmUp_n hndsl).trans (fmUp_of ((fmUp_n hndsl).trans fmUp_s) hpl))), AL.zero (hC.kp hk0) ((fmUp_n hndpl).trans ((fmUp_n hndpl).trans fmUp_s)), hd0, hg00, hsl00, hpl00, Or.inr rfl, Or.inr rfl, hsp, fun _ => rfl⟩
  refine r_new E cl_X3 [.int 0, .int 0] q167 q168 q83 (by decide) 0 0 (Nat.le_of_ble_eq_true rfl) (Nat.le_of_ble_eq_true rfl) dX2_init_40 (fun a1 ha1 ka1 => ?_)
  refine r_dup E dX2_init_43 rfl ?_
  refine r_callI0 E (ct_X3_init G hl (fmUp (fmUp (fmUp (fmUp (fmUp (fmUp (fmUp (fmUp (fmUp h0 d (true, .inr (.inl (2, [.null, .null, .null, .int 0, .int 0, .int 0, .int 0])))) g (true, .inl (7, 64, .inr (.inr (.inr (.inr (fun _ => none))))))) d (true, .inr (.inl (2, [.ref g, .null, .null, .int 0, .int 0, .int 0, .int 0])))) sl (true, .inr (.inl (12, [.int (nI 0), .ref (fmAd G 10), .int (nI 0)])))) d (true, .inr (.inl (2, [.ref g, .ref sl, .null, .int 0, .int 0, .int 0, .int 0])))) pl (true, .inr (.inl (12, [.int (nI 0), .ref (fmAd G 10), .int (nI 0)])))) d (true, .inr (.inl (2, [.ref g, .ref sl, .ref pl, .int 0, .int 0, .int 0, .int 0])))) d (true, .inr (.inl (2, [.ref g, .ref sl, .ref pl, .int (nI 3), .int 0, .int 0, .int 0])))) a1 (true, .inr (.inl (3, [.int 0, .int 0])))) a1 fmUp_s) mX3_init rfl q169 q170 rfl rfl (Nat.le_of_ble_eq_true rfl) (Nat.le_of_ble_eq_true rfl) (Nat.le_of_ble_eq_true rfl) dX2_init_44 0 0 (Nat.le_of_ble_eq_true rfl) (Nat.le_of_ble_eq_true rfl) ?_
  refine r_hp (h' := fmUp (fmUp (fmUp (fmUp (fmUp (fmUp (fmUp (fmUp (fmUp h0 d (true, .inr (.inl (2, [.null, .null, .null, .int 0, .int 0, .int 0, .int 0])))) g (true, .inl (7, 64, .inr (.inr (.inr (.inr (fun _ => none))))))) d (true, .inr (.inl (2, [.ref g, .null, .null, .int 0, .int 0, .int 0, .int 0])))) sl (true, .inr (.inl (12, [.int (nI 0), .ref (fmAd G 10), .int (nI 0)])))) d (true, .inr (.inl (2, [.ref g, .ref sl, .null, .int 0, .int 0, .int 0, .int 0])))) pl (true, .inr (.inl (12, [.int (nI 0), .ref (fmAd G 10), .int (nI 0)])))) d (true, .inr (.inl (2, [.ref g, .ref sl, .ref pl, .int 0, .int 0, .int 0, .int 0])))) d (true, .inr (.inl (2, [.ref g, .ref sl, .ref pl, .int (nI 3), .int 0, .int 0, .int 0])))) a1 (true, .inr (.inl (3, [.int (nI 3), .int (nI 0)])))) (fmUp_uu _ _ _ _) ?_
  refine r_astore_n E [some (.ref d), some (.ref a1), none] dX2_init_47 rfl rfl ?_
  refine r_iconst E (nI 0) dX2_init_48 (by decide) ?_
  refine r_istore_n E [some (.ref d), some (.ref a1), some (.int (nI 0))] dX2_init_49 rfl rfl ?_
  have hK1 := hK.kp (Kp.up (e := (true, .inr (.inl (3, [.int (nI 3), .int (nI 0)])))) ha1)
  have lp : ∀ (n i : Nat) (hh : fmHp) (gc : Nat → Option Nat), i + n = 64 → MkS G h0 hh d g sl (fmAd G 10) pl (fmAd G 10) gc 0 (fun _ => 0) 0 (fun _ => 0) (nI 3) 0 0 0 → (∀ c, c < i → gc c = some a1) → hh a1 = some (true, .inr (.inl (3, [.int (nI 3), .int (nI 0)]))) → fmW G Γ hh 0 0 50 [some (.ref d), some (.ref a1), some (.int (nI i))] [] := by
    intro n
    induction n with
    | zero =>
      intro i hh gc hi hS hgc ha
      refine r_iload_n E dX2_init_50 rfl ?_
      refine r_bipush E (nI 64) dX2_init_51 (by decide) ?_
      refine r_icmpN_ge (tgt := 69) E dX2_init_53 (by decide) (by omega) (by omega) (fun c2 => ?_) (fun c2 => ?_)
      · obtain rfl : i = 64 := by omega
        exact r_return E P rfl dX2_init_69 ⟨rfl, g, sl, pl, _, _, _, hS.fresh hgc ha, hS.dr⟩
      · exfalso; omega
    | succ n ih =>
      intro i hh gc hi hS hgc ha
      refine r_iload_n E dX2_init_50 rfl ?_
      refine r_bipush E (nI 64) dX2_init_51 (by decide) ?_
      refine r_icmpN_ge (tgt := 69) E dX2_init_53 (by decide) (by omega) (by omega) (fun c3 => ?_) (fun c3 => ?_)
      · exfalso; omega
      · refine r_aload_n E dX2_init_56 rfl ?_
        refine r_getf E cl_X2 0 (by decide) q185 hS.2.1 rfl dX2_init_57 ?_
        refine r_iload_n E dX2_init_60 rfl ?_
        refine r_aload_n E dX2_init_61 rfl ?_
        have hg3 := hS.2.2.1
        refine r_aast E (t := 7) (Ev := "FlintMine$Ground") rfl (fun H a1 => fm_rc a1 cl_X3.1 E.v ha) q315 hg3 (by omega) (by decide) dX2_init_62 ?_
        refine r_iinc E (nI (i + 1)) [some (.ref d), some (.ref a1), some (.int (nI (i + 1)))] dX2_init_63 rfl (nI_1 i) rfl rfl ?_
        refine r_goto (tgt := 50) E dX2_init_66 (by decide) ?_
        exact ih (i + 1) _ _ (by omega) (hS.arr (gc' := va_up gc i (some a1))) (fun c hc => by
          unfold va_up
          by_cases q : c = i
          · rw [if_pos q]
          · rw [if_neg q]; exact hgc c (by omega)) ((fmUp_n (fun z => by rw [z, hg3] at ha; cases ha)).trans ha)
  exact lp 64 0 _ _ (by omega) hK1 (fun c hc => absurd hc (Nat.not_lt_zero _)) fmUp_s

