set_option maxHeartbeats 4000000 in
theorem ct_X1_read (G : fmG) (hl : (fmLn G).stackTraces = false) (h : fmHp) {x far qu pa sb : Nat} {fl re de : Int32} {sv : Value} {d g sl se pl pe : Nat} {gf sf pf : Nat → Nat} {N : Nat → Int32} {K pk : Nat} (hC : CC G h) (hx : DkO h x far qu d pa sb fl re de sv) (hM : MineAt G h d g sl se pl pe gf sf pf N K pk) (e dh kp : Nat) (pm : Nat → Nat) (hA : AD h pa e dh kp pm) (hk8 : kp ≤ 8) (hpm : ∀ i, i < kp → ∃ fs : List Value, h (pm i) = some (true, .inr (.inl (2, fs)))) (hR : RV N K pk) (v len : Nat) (T : Nat → Int32) (hSB : SBt h sb v len T) (hlen : len ≤ 60) (hch : ∀ i, i < len → ∃ k, k < 65536 ∧ T i = nI k) (u : Int32) (u2 : Int32) : Ct G yX1_read (wsW_ yX1_read cX1_read 4 (some .int) [(35, 40, 43, 26)]) { frames := 18, cells := 4600, slots := 33000, locals := 645 } [.ref x] h (fun v0 h' => (pAll T len u).1.2.2.2.2.2 = false ∧ (tRun T len (pAll T len u).2 0 0 u2 N).1 = none ∧ v0 = some (.int (nI (pAll T len u).2)) ∧ ∃ (dn g1 sl1 se1 pl1 pe1 : Nat) (gf1 sf1 pf1 : Nat → Nat) (K1 pk1 : Nat), MineAt G h' dn g1 sl1 se1 pl1 pe1 gf1 sf1 pf1 (tRun T len (pAll T len u).2 0 0 u2 N).2 K1 pk1 ∧ RV (tRun T len (pAll T len u).2 0 0 u2 N).2 K1 pk1 ∧ se1 ≠ e ∧ pe1 ≠ e ∧ (∃ dh', AD h' pa e dh' (kp1 kp) (fPush pm d)) ∧ h' x = some (xOb far qu dn pa sb fl re de sv) ∧ (∃ v', SBt h' sb v' 0 T ∧ (v' = v ∨ h v' = none)) ∧ ∀ q y, h q = some y → q ≠ x → q ≠ pa → q ≠ e → q ≠ sb → h' q = some y) (fun _ Ex h' => (∃ v', SBt h' sb v' 0 T ∧ (v' = v ∨ h v' = none)) ∧ (∀ q y, h q = some y → q ≠ x → q ≠ sb → h' q = some y) ∧ (((pAll T len u).1.2.2.2.2.2 = true ∧ Ex = "java/lang/IllegalArgumentException" ∧ h' x = some (xOb far qu d pa sb (nI (pAll T len u).1.2.2.2.2.1) re de sv)) ∨ ((pAll T len u).1.2.2.2.2.2 = false ∧ ∃ wy mm, (tRun T len (pAll T len u).2 0 0 u2 N).1 = some (wy, mm) ∧ Ex = "java/lang/UnsupportedOperationException" ∧ h' x = some (xOb far qu d pa sb fl wy mm sv)))) := by
  refine Ct.ofH hl (by decide +kernel) (Nat.le_of_ble_eq_true rfl) (fun Γ E P => ?_)
  obtain ⟨hd, ⟨gq, hg, hgq⟩, hgd, hS, hSh, hP, hPk, hK8, hP6, hsp, hse⟩ := id hM
  obtain ⟨mcS, hsl⟩ := hS.o
  obtain ⟨mcP, hpl⟩ := hP.o
  obtain ⟨dg9, hpa9, hee9, -⟩ := id hA
  obtain ⟨hnp, hne⟩ := hA.nx hx
  obtain ⟨us, mls, caps, bfs, hsb, hv, -⟩ := id hSB
  have hx0 : h x = some (true, .inr (.inl (1, [.ref far, .ref qu, .ref d, .ref pa, .ref sb, .int fl, .int re, .int de, sv]))) := hx
  have hxs : x ≠ sb := fun z => by rw [z, hsb] at hx0; cases hx0
  refine r_aload_n E dX1_read_0 rfl ?_
  refine r_callVH E (ct_X1_taken G hl h hC hx v len T hSB hlen hch u) mX1_taken q1477 q1479 qs26 (fun H a1 => fm_rc (ci := 1) (C := RX1) (T := TX1) (N := 9) a1 rfl E.v hx) rfl rfl (Nat.le_of_ble_eq_true rfl) (Nat.le_of_ble_eq_true rfl) (Nat.le_of_ble_eq_true rfl) dX1_read_1 4224 17900 (Nat.le_of_ble_eq_true rfl) (Nat.le_of_ble_eq_true rfl) (fun v' h1 q => ?_) (fun _ _ _ q => q.elim)
  obtain ⟨⟨v1, hS1, hv1⟩, ⟨hw, hfr1, li, m, e9, fc, rfl, hA1, hcs1, hm62, hmm, hJ⟩ | ⟨hw, rfl, hx1, hfr1⟩⟩ := q
  · subst hmm
    have hx1 := hfr1 _ _ hx hxs
    have hM1 := hM.oth hsb (Or.inr (Or.inr rfl)) hfr1
    have hC1 : CC G h1 := hC.kept (fun q z hq => hfr1 _ _ hq (fun z => by rw [z, hsb] at hq; cases hq))
    have hA2 := hA.oth hsb (by decide) hfr1
    have hpm1 : ∀ i, i < kp → ∃ fs : List Value, h1 (pm i) = some (true, .inr (.inl (2, fs))) := fun i hi => by obtain ⟨fs, z⟩ := hpm i hi; exact ⟨fs, hfr1 _ _ z (fun w => by rw [w, hsb] at z; cases z)⟩
    have hne9 : e9 ≠ e := fun z => by have := hJ _ (by rw [z]; exact hee9); cases this
    refine r_astore_n E [some (.ref x), some (.ref li), none, none] dX1_read_4 rfl rfl ?_
    refine r_iconst E (nI 1) dX1_read_5 (by decide) ?_
    refine r_newa E 5 (.inl (fun _ => 0)) rfl (z_ab 1) q681 (fun e => e) (Nat.le_of_ble_eq_true rfl) (Nat.le_of_ble_eq_true rfl) 4223 17899 (Nat.le_of_ble_eq_true rfl) (Nat.le_of_ble_eq_true rfl) dX1_read_6 (fun b hb kb => ?_)
    refine r_dup E dX1_read_8 rfl ?_
    refine r_iconst E (nI 0) dX1_read_9 (by decide) ?_
    refine r_aload_n E dX1_read_10 rfl ?_
    refine r_ifnull E dX1_read_11 ?_
    refine r_iconst E (nI 1) dX1_read_14 (by decide) ?_
    refine r_goto (tgt := 19) E dX1_read_15 (by decide) ?_
    refine r_top (v' := .int (bI true)) rfl ?_
    refine r_zast E fmUp_s (by decide) (by decide) dX1_read_19 ?_
    refine r_hp (h' := fmUp h1 b (true, .inl (5, 1, .inl (upd (fun _ => 0) 0 (bI true))))) (fmUp_uu _ _ _ _) ?_
    have kb : Kp h1 (fmUp h1 b (true, .inl (5, 1, .inl (upd (fun _ => 0) 0 (bI true))))) := Kp.up hb
    refine r_callS0 E (ctT1_X1_require G hl _ b _ fmUp_s (upd_eq' rfl)) mX1_require q78 q1102 q664 rfl rfl (Nat.le_of_ble_eq_true rfl) (Nat.le_of_ble_eq_true rfl) (Nat.le_of_ble_eq_true rfl) dX1_read_20 4223 17899 (Nat.le_of_ble_eq_true rfl) (Nat.le_of_ble_eq_true rfl) ?_
    generalize hHB : fmUp h1 b (true, .inl (5, 1, .inl (upd (fun _ => 0) 0 (bI true)))) = hb9 at *
    refine r_new E cl_X2 [.null, .null, .null, (.int 0), (.int 0), (.int 0), (.int 0)] q128 q129 q79 (by decide) 4222 17892 (Nat.le_of_ble_eq_true rfl) (Nat.le_of_ble_eq_true rfl) dX1_read_23 (fun dn hdn kdn => ?_)
    refine r_dup E dX1_read_26 rfl ?_
    refine r_aload_n E dX1_read_27 rfl ?_
    refine r_getf E cl_X1 2 (by decide) q272 (fmUp_of (kb _ _ hx1) hdn) rfl dX1_read_28 ?_
    refine r_callI E (ct_X2_init_2 G hl (hC1.kp kb) (hM1.kp kb) hdn) mX2_init_2 rfl q362 q363 rfl rfl (Nat.le_of_ble_eq_true rfl) (Nat.le_of_ble_eq_true rfl) (Nat.le_of_ble_eq_true rfl) dX1_read_31 4202 14912 (Nat.le_of_ble_eq_true rfl) (Nat.le_of_ble_eq_true rfl) (fun v' h2 q => ?_) (fun _ _ _ q => q.elim)
    obtain ⟨rfl, g2, sl2, se2, pl2, pe2, hM2, hD2⟩ := q
    have hk2 : Kp h1 h2 := kb.trans hD2.1
    refine r_astore_n E [some (.ref x), some (.ref li), some (.ref dn), none] dX1_read_34 rfl rfl ?_
    refine r_aload_n E dX1_read_35 rfl ?_
    refine r_aload_n E dX1_read_36 rfl ?_
    refine r_callSH E (ct_X1_doAll G hl h2 (hC1.kp kb) hM2 hD2 hR li (pAll T len u).2 e9 fc (hA1.kp kb) T len (hcs1.kept (fun q c9 fs hq _ => kb _ _ hq) (fun q n9 f9 hq => kb _ _ hq)) hm62 u2) mX1_doAll q78 q1809 q1810 rfl rfl (Nat.le_of_ble_eq_true rfl) (Nat.le_of_ble_eq_true rfl) (Nat.le_of_ble_eq_true rfl) dX1_read_37 102 612 (Nat.le_of_ble_eq_true rfl) (Nat.le_of_ble_eq_true rfl) (fun v' h3 q => ?_) (fun q Ex h3 hx3 => ?_)
    · obtain ⟨rfl, hT3, se3, pe3, gf3, sf3, pf3, K3, pk3, hM3, hD3, hR3⟩ := q
      have hk3 : Kp h1 h3 := kb.trans hD3.1
      refine r_goto (tgt := 57) E dX1_read_40 (by decide) ?_
      refine r_aload_n E dX1_read_57 rfl ?_
      refine r_aload_n E dX1_read_58 rfl ?_
      have hpm3 : ∀ i, i < kp → ∃ fs : List Value, h3 (pm i) = some (true, .inr (.inl (2, fs))) := fun i hi => by obtain ⟨fs, z⟩ := hpm1 i hi; exact ⟨fs, hk3 _ _ z⟩
      obtain ⟨hd1, -⟩ := id hM1
      refine r_callV E (ct_X1_replace G hl h3 (hC1.kp hk3) (hk3 _ _ hx1) e dh kp pm (hA2.kp hk3) hk8 hpm3 ⟨_, hk3 _ _ hd1⟩ dn) mX1_replace q975 q977 qs13 (fun H a1 => fm_rc (ci := 1) (C := RX1) (T := TX1) (N := 9) a1 rfl E.v (hk3 _ _ hx1)) rfl rfl (Nat.le_of_ble_eq_true rfl) (Nat.le_of_ble_eq_true rfl) (Nat.le_of_ble_eq_true rfl) dX1_read_59 0 0 (Nat.le_of_ble_eq_true rfl) (Nat.le_of_ble_eq_true rfl) (fun v' h4 q => ?_) (fun _ _ _ q => q.elim)
      obtain ⟨rfl, hA4, hx4, hfr4⟩ := q
      have hL4 := ((hA1.kp hk3).rp (hA2.kp hk3) (hk3 _ _ hx1) hne9 hfr4)
      obtain ⟨mcL, hlo4⟩ := hL4.o
      refine r_aload_n E dX1_read_62 rfl ?_
      refine r_callF1 (v1 := .int (nI ((pAll T len u).2))) E (ctA_J2_size G hl (h4) li e9 ((pAll T len u).2) fc hL4 (by omega)) mJ2_size (ci := 12) rfl hlo4 3 rfl q576 q581 q579 fx_3 rfl rfl (Nat.le_of_ble_eq_true rfl) (Nat.le_of_ble_eq_true rfl) (Nat.le_of_ble_eq_true rfl) dX1_read_63 0 0 (Nat.le_of_ble_eq_true rfl) (Nat.le_of_ble_eq_true rfl) ?_
      have hs3 : se3 ≠ e := ne_e (hC1.kp kb) (hA2.kp kb) hD3.2.2.2.2.2.1
      have hp3 : pe3 ≠ e := ne_e (hC1.kp kb) (hA2.kp kb) hD3.2.2.2.2.2.2
      have hS4 := (hS1.kept (fun y z => hk3 _ _ z) (fun y z => hk3 _ _ z) : SBt h3 sb v1 0 T).rp (hA2.kp hk3) (hk3 _ _ hx1) hfr4
      exact r_ireturn E P rfl dX1_read_68 ⟨hw, hT3, rfl, dn, g2, sl2, se3, pl2, pe3, gf3, sf3, pf3, K3, pk3, hM3.kd (Kd.ux (hA2.kp hk3) (hk3 _ _ hx1) hfr4) hs3 hp3, hR3, hs3, hp3, hA4, hx4, ⟨v1, hS4, hv1⟩, fun q y hq h1 h2 h3 h5 => hfr4 q y (hk3 _ _ (hfr1 q y hq h5)) h1 h2 h3⟩
    · obtain ⟨wy, mm, hT3, rfl, hk3b, hq⟩ := hx3
      have hk3 : Kp h1 h3 := kb.trans hk3b
      refine r_xcatchS E [] ⟨35, 40, 43, 26⟩ [] rfl (fun z hz => by cases hz) (by decide) (by decide) q655 (classAt_of (E.ts _ q693)) ?_
      refine r_astore_n E [some (.ref x), some (.ref li), some (.ref dn), some (.ref q)] dX1_read_43 rfl rfl ?_
      refine r_aload_n E dX1_read_44 rfl ?_
      refine r_aload_n E dX1_read_45 rfl ?_
      refine r_getfN E cl_X5 6 (by decide) q711 hq rfl dX1_read_46 ?_
      refine r_aload_n E dX1_read_49 rfl ?_
      refine r_getfN E cl_X5 7 (by decide) q713 hq rfl dX1_read_50 ?_
      refine r_callV E (ct_X1_refuse G hl h3 (hC1.kp hk3) (hk3 _ _ hx1) wy mm) mX1_refuse q1038 q1040 qs16 (fun H a1 => fm_rc (ci := 1) (C := RX1) (T := TX1) (N := 9) a1 rfl E.v (hk3 _ _ hx1)) rfl rfl (Nat.le_of_ble_eq_true rfl) (Nat.le_of_ble_eq_true rfl) (Nat.le_of_ble_eq_true rfl) dX1_read_53 0 0 (Nat.le_of_ble_eq_true rfl) (Nat.le_of_ble_eq_true rfl) (fun v' h4 q => ?_) (fun _ _ _ q => q.elim)
      obtain ⟨u9, rfl, hu9, rfl⟩ := q
      have hux : u9 ≠ x := fun z => by have h9 := hk3 _ _ hx1; rw [← z, hu9] at h9; cases h9
      have hf9 : FrX x h1 (fmUp (fmUp h3 x (true, .inr (.inl (1, [.ref far, .ref qu, .ref d, .ref pa, .ref sb, .int fl, .int wy, .int mm, sv])))) u9 (true, .inr (.inl (22, [])))) := fun q y hq h9 => by rw [fmUp_n (fun z => by have h8 := hk3 _ _ hq; rw [z, hu9] at h8; cases h8), fmUp_n h9]; exact hk3 _ _ hq
      obtain ⟨us1, mls1, caps1, bfs1, hsb1, hvv1, -⟩ := id hS1
      have hS9 := hS1.kept (fun y z => hf9 _ _ z (fun w => hxs w.symm)) (fun y z => hf9 _ _ z (fun w => by rw [w, hx1] at hvv1; cases hvv1))
      refine r_athrow E (ci := 22) rfl fmUp_s dX1_read_56 ?_
      exact r_xout E P (fun z hz => by rcases List.mem_singleton.mp hz with rfl; decide) ⟨⟨v1, hS9, hv1⟩, fun q y hq h1 h2 => hf9 q y (hfr1 q y hq h2) h1, Or.inr ⟨hw, wy, mm, hT3, rfl, (fmUp_n (fun z => hux z.symm)).trans fmUp_s⟩⟩
  · obtain ⟨us1, mls1, caps1, bfs1, hsb1, hvv1, -⟩ := id hS1
    refine r_astore_nN E [some (.ref x), some (.null), none, none] dX1_read_4 rfl rfl ?_
    refine r_iconst E (nI 1) dX1_read_5 (by decide) ?_
    refine r_newa E 5 (.inl (fun _ => 0)) rfl (z_ab 1) q681 (fun e => e) (Nat.le_of_ble_eq_true rfl) (Nat.le_of_ble_eq_true rfl) 4223 17899 (Nat.le_of_ble_eq_true rfl) (Nat.le_of_ble_eq_true rfl) dX1_read_6 (fun b hb kb => ?_)
    refine r_dup E dX1_read_8 rfl ?_
    refine r_iconst E (nI 0) dX1_read_9 (by decide) ?_
    refine r_aload_nN E dX1_read_10 rfl ?_
    refine r_ifnullN (tgt := 18) E dX1_read_11 (by decide) ?_
    refine r_iconst E (nI 0) dX1_read_18 (by decide) ?_
    refine r_top (v' := .int (bI false)) rfl ?_
    refine r_zast E fmUp_s (by decide) (by decide) dX1_read_19 ?_
    refine r_hp (h' := fmUp h1 b (true, .inl (5, 1, .inl (upd (fun _ => 0) 0 (bI false))))) (fmUp_uu _ _ _ _) ?_
    refine r_callS E (ctF1_X1_require G hl _ b _ fmUp_s (upd_eq' rfl)) mX1_require q78 q1102 q664 rfl rfl (Nat.le_of_ble_eq_true rfl) (Nat.le_of_ble_eq_true rfl) (Nat.le_of_ble_eq_true rfl) dX1_read_20 0 0 (Nat.le_of_ble_eq_true rfl) (Nat.le_of_ble_eq_true rfl) (fun _ _ q => q.elim) (fun q Ex h' hx => ?_)
    obtain ⟨rfl, hqn, -, rfl⟩ := hx
    have kb : Kp h1 _ := (Kp.up hb).trans (Kp.up (e := (true, .inr (.inl (19, [])))) hqn)
    exact r_xout E P (fun z hz => by rcases List.mem_singleton.mp hz with rfl; decide) ⟨⟨v1, hS1.kept (fun y z => kb _ _ z) (fun y z => kb _ _ z), hv1⟩, fun q y hq h1 h2 => kb _ _ (hfr1 q y hq h2 h1), Or.inl ⟨hw, rfl, kb _ _ hx1⟩⟩

