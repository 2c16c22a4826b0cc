set_option maxHeartbeats 4000000 in
theorem ct0_X1_change (G : fmG) (hl : (fmLn G).stackTraces = false) (h : fmHp) {x far qu pa sb : Nat} {fl re de : Int32} {sv : Value} {d g sl se pl pe : Nat} {gf sf pf : Nat → Nat} {N : Nat → Int32} {K pk : Nat} (hC : CC G h) (hx : DkO h x far qu d pa sb fl re de sv) (hM : MineAt G h d g sl se pl pe gf sf pf N K pk) (e dh kp : Nat) (pm : Nat → Nat) (hA : AD h pa e dh kp pm) (hk8 : kp ≤ 8) (hpm : ∀ i, i < kp → ∃ fs : List Value, h (pm i) = some (true, .inr (.inl (2, fs)))) (hR : RV N K pk) (a : Nat) (f : Nat → Int32) (ha : h a = some (true, .inl (0, 3, .inl f))) (c : Nat) (hc : c < 64) (hf : f 0 = nI c) : Ct G yX1_change (wsW_ yX1_change cX1_change 5 (some .int) [(12, 27, 28, 26)]) { frames := 8, cells := 25, slots := 3005, locals := 214 } [.ref x, .ref (fmAd G 1), .ref a] h (cPost G h x far qu d pa e sb fl re de sv kp pm (aRock N (f 0) (f 1) (f 2))) (cXp h x far qu d pa sb fl sv (aRock N (f 0) (f 1) (f 2))) := by
  refine Ct.ofH hl (by decide +kernel) (Nat.le_of_ble_eq_true rfl) (fun Γ E P => ?_)
  obtain ⟨hd, ⟨gq, hg, hgq⟩, hgd, hS, hSh, hP, hPk, hK8, hP6, hsp, hse⟩ := id hM
  obtain ⟨mcS, hsl⟩ := hS.o
  obtain ⟨mcP, hpl⟩ := hP.o
  obtain ⟨dg9, hpa9, hee9, -⟩ := id hA
  obtain ⟨hnp, hne⟩ := hA.nx hx
  refine r_new E cl_X2 [.null, .null, .null, (.int 0), (.int 0), (.int 0), (.int 0)] q128 q129 q79 (by decide) 24 2998 (Nat.le_of_ble_eq_true rfl) (Nat.le_of_ble_eq_true rfl) dX1_change_0 (fun dn hdn kdn => ?_)
  refine r_dup E dX1_change_3 rfl ?_
  refine r_aload_n E dX1_change_4 rfl ?_
  refine r_getf E cl_X1 2 (by decide) q272 (fmUp_of hx hdn) rfl dX1_change_5 ?_
  refine r_callI E (ct_X2_init_2 G hl hC hM hdn) mX2_init_2 rfl q362 q363 rfl rfl (Nat.le_of_ble_eq_true rfl) (Nat.le_of_ble_eq_true rfl) (Nat.le_of_ble_eq_true rfl) dX1_change_8 4 18 (Nat.le_of_ble_eq_true rfl) (Nat.le_of_ble_eq_true rfl) (fun v' h1 q => ?_) (fun _ _ _ q => q.elim)
  obtain ⟨rfl, g1, sl1, se1, pl1, pe1, hM1, hD1⟩ := q
  have hk1 : Kp h h1 := hD1.1
  refine r_astore_n E [some (.ref x), some (.ref (fmAd G 1)), some (.ref a), some (.ref dn), none] dX1_change_11 rfl rfl ?_
  refine r_aload_n E dX1_change_12 rfl ?_
  refine r_aload_n E dX1_change_13 rfl ?_
  refine r_aload_n E dX1_change_14 rfl ?_
  refine r_callO E (ct_X14_done G hl h1 hC hM1 hD1 (fmAd G 1) a true f (hk1 _ _ ha) hR c hc hf) mX14_done q658 q657 ⟨⟨by decide, by decide⟩, by decide +kernel⟩ q656 q660 q659 (fun H a1 => fm_ro (kk := 0) a1 rfl E.v (hk1 _ _ (hC.2.1 0 (by decide)))) rfl rfl (Nat.le_of_ble_eq_true rfl) (Nat.le_of_ble_eq_true rfl) (Nat.le_of_ble_eq_true rfl) dX1_change_15 1 6 (Nat.le_of_ble_eq_true rfl) (Nat.le_of_ble_eq_true rfl) (fun v' h2 q => ?_) (fun q Ex h2 hx2 => ?_)
  · obtain ⟨hr0, rfl, se2, pe2, gf2, sf2, pf2, K2, pk2, hM2, hD2, h350, h351⟩ := q
    have hk2 : Kp h h2 := hD2.1
    refine r_istore E [some (.ref x), some (.ref (fmAd G 1)), some (.ref a), some (.ref dn), some (.int ((aRock N (f 0) (f 1) (f 2)).2.2.1))] dX1_change_18 rfl rfl ?_
    refine r_aload_n E dX1_change_20 rfl ?_
    refine r_aload_n E dX1_change_21 rfl ?_
    have hpm2 : ∀ i, i < kp → ∃ fs : List Value, h2 (pm i) = some (true, .inr (.inl (2, fs))) := fun i hi => by obtain ⟨fs, z⟩ := hpm i hi; exact ⟨fs, hk2 _ _ z⟩
    refine r_callV E (ct_X1_replace G hl h2 (hC.kp hk2) (hk2 _ _ hx) e dh kp pm (hA.kp hk2) hk8 hpm2 ⟨_, hk2 _ _ hd⟩ dn) mX1_replace q975 q977 qs13 (fun H a1 => fm_rc (ci := 1) (C := RX1) (T := TX1) (N := 9) a1 rfl E.v (hk2 _ _ hx)) rfl rfl (Nat.le_of_ble_eq_true rfl) (Nat.le_of_ble_eq_true rfl) (Nat.le_of_ble_eq_true rfl) dX1_change_22 0 0 (Nat.le_of_ble_eq_true rfl) (Nat.le_of_ble_eq_true rfl) (fun v' h3 q => ?_) (fun _ _ _ q => q.elim)
    obtain ⟨rfl, hA3, hx3, hfr3⟩ := q
    refine r_iload E dX1_change_25 rfl ?_
    have hs2 := ne_e hC hA hD2.2.2.2.2.2.1
    have hp2 := ne_e hC hA hD2.2.2.2.2.2.2
    exact r_ireturn E P rfl dX1_change_27 ⟨hr0, rfl, dn, g1, sl1, se2, pl1, pe2, gf2, sf2, pf2, K2, pk2, hM2.kd (Kd.ux (hA.kp hk2) (hk2 _ _ hx) hfr3) hs2 hp2, hD2.2.1, hs2, hp2, h350, h351, hA3, hx3, fun q y hq h1 h2 h3 => hfr3 q y (hk2 _ _ hq) h1 h2 h3⟩
  · obtain ⟨hk3, hx3⟩ := hx2
    have hk2 : Kp h h2 := hk3
    rcases hx3 with ⟨hr, rfl⟩ | ⟨hr, rfl⟩ | ⟨hr, rfl, hq⟩
    · exact r_xoutP E P (fun z hz => by rcases List.mem_singleton.mp hz with rfl; exact Or.inr ⟨by decide, "FlintMine$Refusal", q655, by decide +kernel⟩) (Or.inl ⟨hr, rfl, hk2⟩)
    · exact r_xoutP E P (fun z hz => by rcases List.mem_singleton.mp hz with rfl; exact Or.inr ⟨by decide, "FlintMine$Refusal", q655, by decide +kernel⟩) (Or.inr (Or.inl ⟨hr, rfl, hk2⟩))
    · refine r_xcatchS E [] ⟨12, 27, 28, 26⟩ [] rfl (fun z hz => by cases hz) (by decide) (by decide) q655 (classAt_of (E.ts _ q693)) ?_
      refine r_astore E [some (.ref x), some (.ref (fmAd G 1)), some (.ref a), some (.ref dn), some (.ref q)] dX1_change_28 rfl rfl ?_
      refine r_aload_n E dX1_change_30 rfl ?_
      refine r_aload E dX1_change_31 rfl ?_
      refine r_getfN E cl_X5 6 (by decide) q711 hq rfl dX1_change_33 ?_
      refine r_aload E dX1_change_36 rfl ?_
      refine r_getfN E cl_X5 7 (by decide) q713 hq rfl dX1_change_38 ?_
      refine r_callV E (ct_X1_refuse G hl h2 (hC.kp hk2) (hk2 _ _ hx) (aRock N (f 0) (f 1) (f 2)).2.1.1 (aRock N (f 0) (f 1) (f 2)).2.1.2) mX1_refuse q1038 q1040 qs16 (fun H a1 => fm_rc (ci := 1) (C := RX1) (T := TX1) (N := 9) a1 rfl E.v (hk2 _ _ hx)) rfl rfl (Nat.le_of_ble_eq_true rfl) (Nat.le_of_ble_eq_true rfl) (Nat.le_of_ble_eq_true rfl) dX1_change_41 0 0 (Nat.le_of_ble_eq_true rfl) (Nat.le_of_ble_eq_true rfl) (fun v' h3 q => ?_) (fun _ _ _ q => q.elim)
      obtain ⟨u, rfl, hu, rfl⟩ := q
      have hux : u ≠ x := fun z => by have h9 := hk2 _ _ hx; rw [← z, hu] at h9; cases h9
      refine r_athrow E (ci := 22) rfl fmUp_s dX1_change_44 ?_
      exact r_xout E P (fun z hz => by rcases List.mem_singleton.mp hz with rfl; decide) (Or.inr (Or.inr ⟨hr, rfl, (fmUp_n (fun z => hux z.symm)).trans fmUp_s, fun q y hq h9 => by rw [fmUp_n (fun z => by have h8 := hk2 _ _ hq; rw [z, hu] at h8; cases h8), fmUp_n h9]; exact hk2 _ _ hq⟩))

set_option maxHeartbeats 4000000 in
theorem ct1_X1_change (G : fmG) (hl : (fmLn G).stackTraces = false) (h : fmHp) {x far qu pa sb : Nat} {fl re de : Int32} {sv : Value} {d g sl se pl pe : Nat} {gf sf pf : Nat → Nat} {N : Nat → Int32} {K pk : Nat} (hC : CC G h) (hx : DkO h x far qu d pa sb fl re de sv) (hM : MineAt G h d g sl se pl pe gf sf pf N K pk) (e dh kp : Nat) (pm : Nat → Nat) (hA : AD h pa e dh kp pm) (hk8 : kp ≤ 8) (hpm : ∀ i, i < kp → ∃ fs : List Value, h (pm i) = some (true, .inr (.inl (2, fs)))) (hR : RV N K pk) (a : Nat) (f : Nat → Int32) (ha : h a = some (true, .inl (0, 1, .inl f)))  : Ct G yX1_change (wsW_ yX1_change cX1_change 5 (some .int) [(12, 27, 28, 26)]) { frames := 8, cells := 24, slots := 3002, locals := 214 } [.ref x, .ref (fmAd G 2), .ref a] h (cPost G h x far qu d pa e sb fl re de sv kp pm (aRoof N (f 0))) (cXp h x far qu d pa sb fl sv (aRoof N (f 0))) := by
  refine Ct.ofH hl (by decide +kernel) (Nat.le_of_ble_eq_true rfl) (fun Γ E P => ?_)
  obtain ⟨hd, ⟨gq, hg, hgq⟩, hgd, hS, hSh, hP, hPk, hK8, hP6, hsp, hse⟩ := id hM
  obtain ⟨mcS, hsl⟩ := hS.o
  obtain ⟨mcP, hpl⟩ := hP.o
  obtain ⟨dg9, hpa9, hee9, -⟩ := id hA
  obtain ⟨hnp, hne⟩ := hA.nx hx
  refine r_new E cl_X2 [.null, .null, .null, (.int 0), (.int 0), (.int 0), (.int 0)] q128 q129 q79 (by decide) 23 2995 (Nat.le_of_ble_eq_true rfl) (Nat.le_of_ble_eq_true rfl) dX1_change_0 (fun dn hdn kdn => ?_)
  refine r_dup E dX1_change_3 rfl ?_
  refine r_aload_n E dX1_change_4 rfl ?_
  refine r_getf E cl_X1 2 (by decide) q272 (fmUp_of hx hdn) rfl dX1_change_5 ?_
  refine r_callI E (ct_X2_init_2 G hl hC hM hdn) mX2_init_2 rfl q362 q363 rfl rfl (Nat.le_of_ble_eq_true rfl) (Nat.le_of_ble_eq_true rfl) (Nat.le_of_ble_eq_true rfl) dX1_change_8 3 15 (Nat.le_of_ble_eq_true rfl) (Nat.le_of_ble_eq_true rfl) (fun v' h1 q => ?_) (fun _ _ _ q => q.elim)
  obtain ⟨rfl, g1, sl1, se1, pl1, pe1, hM1, hD1⟩ := q
  have hk1 : Kp h h1 := hD1.1
  refine r_astore_n E [some (.ref x), some (.ref (fmAd G 2)), some (.ref a), some (.ref dn), none] dX1_change_11 rfl rfl ?_
  refine r_aload_n E dX1_change_12 rfl ?_
  refine r_aload_n E dX1_change_13 rfl ?_
  refine r_aload_n E dX1_change_14 rfl ?_
  refine r_callO E (ct_X15_done G hl h1 hC hM1 hD1 (fmAd G 2) a true f (hk1 _ _ ha) hR ) mX15_done q658 q657 ⟨⟨by decide, by decide⟩, by decide +kernel⟩ q656 q725 q724 (fun H a1 => fm_ro (kk := 1) a1 rfl E.v (hk1 _ _ (hC.2.1 1 (by decide)))) rfl rfl (Nat.le_of_ble_eq_true rfl) (Nat.le_of_ble_eq_true rfl) (Nat.le_of_ble_eq_true rfl) dX1_change_15 1 6 (Nat.le_of_ble_eq_true rfl) (Nat.le_of_ble_eq_true rfl) (fun v' h2 q => ?_) (fun q Ex h2 hx2 => ?_)
  · obtain ⟨hr0, rfl, se2, pe2, gf2, sf2, pf2, K2, pk2, hM2, hD2, h350, h351⟩ := q
    have hk2 : Kp h h2 := hD2.1
    refine r_istore E [some (.ref x), some (.ref (fmAd G 2)), some (.ref a), some (.ref dn), some (.int ((aRoof N (f 0)).2.2.1))] dX1_change_18 rfl rfl ?_
    refine r_aload_n E dX1_change_20 rfl ?_
    refine r_aload_n E dX1_change_21 rfl ?_
    have hpm2 : ∀ i, i < kp → ∃ fs : List Value, h2 (pm i) = some (true, .inr (.inl (2, fs))) := fun i hi => by obtain ⟨fs, z⟩ := hpm i hi; exact ⟨fs, hk2 _ _ z⟩
    refine r_callV E (ct_X1_replace G hl h2 (hC.kp hk2) (hk2 _ _ hx) e dh kp pm (hA.kp hk2) hk8 hpm2 ⟨_, hk2 _ _ hd⟩ dn) mX1_replace q975 q977 qs13 (fun H a1 => fm_rc (ci := 1) (C := RX1) (T := TX1) (N := 9) a1 rfl E.v (hk2 _ _ hx)) rfl rfl (Nat.le_of_ble_eq_true rfl) (Nat.le_of_ble_eq_true rfl) (Nat.le_of_ble_eq_true rfl) dX1_change_22 0 0 (Nat.le_of_ble_eq_true rfl) (Nat.le_of_ble_eq_true rfl) (fun v' h3 q => ?_) (fun _ _ _ q => q.elim)
    obtain ⟨rfl, hA3, hx3, hfr3⟩ := q
    refine r_iload E dX1_change_25 rfl ?_
    have hs2 := ne_e hC hA hD2.2.2.2.2.2.1
    have hp2 := ne_e hC hA hD2.2.2.2.2.2.2
    exact r_ireturn E P rfl dX1_change_27 ⟨hr0, rfl, dn, g1, sl1, se2, pl1, pe2, gf2, sf2, pf2, K2, pk2, hM2.kd (Kd.ux (hA.kp hk2) (hk2 _ _ hx) hfr3) hs2 hp2, hD2.2.1, hs2, hp2, h350, h351, hA3, hx3, fun q y hq h1 h2 h3 => hfr3 q y (hk2 _ _ hq) h1 h2 h3⟩
  · obtain ⟨hk3, hx3⟩ := hx2
    have hk2 : Kp h h2 := hk3
    rcases hx3 with ⟨hr, rfl⟩ | ⟨hr, rfl⟩ | ⟨hr, rfl, hq⟩
    · exact r_xoutP E P (fun z hz => by rcases List.mem_singleton.mp hz with rfl; exact Or.inr ⟨by decide, "FlintMine$Refusal", q655, by decide +kernel⟩) (Or.inl ⟨hr, rfl, hk2⟩)
    · exact r_xoutP E P (fun z hz => by rcases List.mem_singleton.mp hz with rfl; exact Or.inr ⟨by decide, "FlintMine$Refusal", q655, by decide +kernel⟩) (Or.inr (Or.inl ⟨hr, rfl, hk2⟩))
    · refine r_xcatchS E [] ⟨12, 27, 28, 26⟩ [] rfl (fun z hz => by cases hz) (by decide) (by decide) q655 (classAt_of (E.ts _ q693)) ?_
      refine r_astore E [some (.ref x), some (.ref (fmAd G 2)), some (.ref a), some (.ref dn), some (.ref q)] dX1_change_28 rfl rfl ?_
      refine r_aload_n E dX1_change_30 rfl ?_
      refine r_aload E dX1_change_31 rfl ?_
      refine r_getfN E cl_X5 6 (by decide) q711 hq rfl dX1_change_33 ?_
      refine r_aload E dX1_change_36 rfl ?_
      refine r_getfN E cl_X5 7 (by decide) q713 hq rfl dX1_change_38 ?_
      refine r_callV E (ct_X1_refuse G hl h2 (hC.kp hk2) (hk2 _ _ hx) (aRoof N (f 0)).2.1.1 (aRoof N (f 0)).2.1.2) mX1_refuse q1038 q1040 qs16 (fun H a1 => fm_rc (ci := 1) (C := RX1) (T := TX1) (N := 9) a1 rfl E.v (hk2 _ _ hx)) rfl rfl (Nat.le_of_ble_eq_true rfl) (Nat.le_of_ble_eq_true rfl) (Nat.le_of_ble_eq_true rfl) dX1_change_41 0 0 (Nat.le_of_ble_eq_true rfl) (Nat.le_of_ble_eq_true rfl) (fun v' h3 q => ?_) (fun _ _ _ q => q.elim)
      obtain ⟨u, rfl, hu, rfl⟩ := q
      have hux : u ≠ x := fun z => by have h9 := hk2 _ _ hx; rw [← z, hu] at h9; cases h9
      refine r_athrow E (ci := 22) rfl fmUp_s dX1_change_44 ?_
      exact r_xout E P (fun z hz => by rcases List.mem_singleton.mp hz with rfl; decide) (Or.inr (Or.inr ⟨hr, rfl, (fmUp_n (fun z => hux z.symm)).trans fmUp_s, fun q y hq h9 => by rw [fmUp_n (fun z => by have h8 := hk2 _ _ hq; rw [z, hu] at h8; cases h8), fmUp_n h9]; exact hk2 _ _ hq⟩))

set_option maxHeartbeats 4000000 in
theorem ct2_X1_change (G : fmG) (hl : (fmLn G).stackTraces = false) (h : fmHp) {x far qu pa sb : Nat} {fl re de : Int32} {sv : Value} {d g sl se pl pe : Nat} {gf sf pf : Nat → Nat} {N : Nat → Int32} {K pk : Nat} (hC : CC G h) (hx : DkO h x far qu d pa sb fl re de sv) (hM : MineAt G h d g sl se pl pe gf sf pf N K pk) (e dh kp : Nat) (pm : Nat → Nat) (hA : AD h pa e dh kp pm) (hk8 : kp ≤ 8) (hpm : ∀ i, i < kp → ∃ fs : List Value, h (pm i) = some (true, .inr (.inl (2, fs)))) (hR : RV N K pk) (a : Nat) (f : Nat → Int32) (ha : h a = some (true, .inl (0, 1, .inl f)))  : Ct G yX1_change (wsW_ yX1_change cX1_change 5 (some .int) [(12, 27, 28, 26)]) { frames := 8, cells := 24, slots := 3002, locals := 214 } [.ref x, .ref (fmAd G 3), .ref a] h (cPost G h x far qu d pa e sb fl re de sv kp pm (aProps N (f 0))) (cXp h x far qu d pa sb fl sv (aProps N (f 0))) := by
  refine Ct.ofH hl (by decide +kernel) (Nat.le_of_ble_eq_true rfl) (fun Γ E P => ?_)
  obtain ⟨hd, ⟨gq, hg, hgq⟩, hgd, hS, hSh, hP, hPk, hK8, hP6, hsp, hse⟩ := id hM
  obtain ⟨mcS, hsl⟩ := hS.o
  obtain ⟨mcP, hpl⟩ := hP.o
  obtain ⟨dg9, hpa9, hee9, -⟩ := id hA
  obtain ⟨hnp, hne⟩ := hA.nx hx
  refine r_new E cl_X2 [.null, .null, .null, (.int 0), (.int 0), (.int 0), (.int 0)] q128 q129 q79 (by decide) 23 2995 (Nat.le_of_ble_eq_true rfl) (Nat.le_of_ble_eq_true rfl) dX1_change_0 (fun dn hdn kdn => ?_)
  refine r_dup E dX1_change_3 rfl ?_
  refine r_aload_n E dX1_change_4 rfl ?_
  refine r_getf E cl_X1 2 (by decide) q272 (fmUp_of hx hdn) rfl dX1_change_5 ?_
  refine r_callI E (ct_X2_init_2 G hl hC hM hdn) mX2_init_2 rfl q362 q363 rfl rfl (Nat.le_of_ble_eq_true rfl) (Nat.le_of_ble_eq_true rfl) (Nat.le_of_ble_eq_true rfl) dX1_change_8 3 15 (Nat.le_of_ble_eq_true rfl) (Nat.le_of_ble_eq_true rfl) (fun v' h1 q => ?_) (fun _ _ _ q => q.elim)
  obtain ⟨rfl, g1, sl1, se1, pl1, pe1, hM1, hD1⟩ := q
  have hk1 : Kp h h1 := hD1.1
  refine r_astore_n E [some (.ref x), some (.ref (fmAd G 3)), some (.ref a), some (.ref dn), none] dX1_change_11 rfl rfl ?_
  refine r_aload_n E dX1_change_12 rfl ?_
  refine r_aload_n E dX1_change_13 rfl ?_
  refine r_aload_n E dX1_change_14 rfl ?_
  refine r_callO E (ct_X16_done G hl h1 hC hM1 hD1 (fmAd G 3) a true f (hk1 _ _ ha) hR ) mX16_done q658 q657 ⟨⟨by decide, by decide⟩, by decide +kernel⟩ q656 q739 q738 (fun H a1 => fm_ro (kk := 2) a1 rfl E.v (hk1 _ _ (hC.2.1 2 (by decide)))) rfl rfl (Nat.le_of_ble_eq_true rfl) (Nat.le_of_ble_eq_true rfl) (Nat.le_of_ble_eq_true rfl) dX1_change_15 1 6 (Nat.le_of_ble_eq_true rfl) (Nat.le_of_ble_eq_true rfl) (fun v' h2 q => ?_) (fun q Ex h2 hx2 => ?_)
  · obtain ⟨hr0, rfl, se2, pe2, gf2, sf2, pf2, K2, pk2, hM2, hD2, h350, h351⟩ := q
    have hk2 : Kp h h2 := hD2.1
    refine r_istore E [some (.ref x), some (.ref (fmAd G 3)), some (.ref a), some (.ref dn), some (.int ((aProps N (f 0)).2.2.1))] dX1_change_18 rfl rfl ?_
    refine r_aload_n E dX1_change_20 rfl ?_
    refine r_aload_n E dX1_change_21 rfl ?_
    have hpm2 : ∀ i, i < kp → ∃ fs : List Value, h2 (pm i) = some (true, .inr (.inl (2, fs))) := fun i hi => by obtain ⟨fs, z⟩ := hpm i hi; exact ⟨fs, hk2 _ _ z⟩
    refine r_callV E (ct_X1_replace G hl h2 (hC.kp hk2) (hk2 _ _ hx) e dh kp pm (hA.kp hk2) hk8 hpm2 ⟨_, hk2 _ _ hd⟩ dn) mX1_replace q975 q977 qs13 (fun H a1 => fm_rc (ci := 1) (C := RX1) (T := TX1) (N := 9) a1 rfl E.v (hk2 _ _ hx)) rfl rfl (Nat.le_of_ble_eq_true rfl) (Nat.le_of_ble_eq_true rfl) (Nat.le_of_ble_eq_true rfl) dX1_change_22 0 0 (Nat.le_of_ble_eq_true rfl) (Nat.le_of_ble_eq_true rfl) (fun v' h3 q => ?_) (fun _ _ _ q => q.elim)
    obtain ⟨rfl, hA3, hx3, hfr3⟩ := q
    refine r_iload E dX1_change_25 rfl ?_
    have hs2 := ne_e hC hA hD2.2.2.2.2.2.1
    have hp2 := ne_e hC hA hD2.2.2.2.2.2.2
    exact r_ireturn E P rfl dX1_change_27 ⟨hr0, rfl, dn, g1, sl1, se2, pl1, pe2, gf2, sf2, pf2, K2, pk2, hM2.kd (Kd.ux (hA.kp hk2) (hk2 _ _ hx) hfr3) hs2 hp2, hD2.2.1, hs2, hp2, h350, h351, hA3, hx3, fun q y hq h1 h2 h3 => hfr3 q y (hk2 _ _ hq) h1 h2 h3⟩
  · obtain ⟨hk3, hx3⟩ := hx2
    have hk2 : Kp h h2 := hk3
    rcases hx3 with ⟨hr, rfl⟩ | ⟨hr, rfl⟩ | ⟨hr, rfl, hq⟩
    · exact r_xoutP E P (fun z hz => by rcases List.mem_singleton.mp hz with rfl; exact Or.inr ⟨by decide, "FlintMine$Refusal", q655, by decide +kernel⟩) (Or.inl ⟨hr, rfl, hk2⟩)
    · exact r_xoutP E P (fun z hz => by rcases List.mem_singleton.mp hz with rfl; exact Or.inr ⟨by decide, "FlintMine$Refusal", q655, by decide +kernel⟩) (Or.inr (Or.inl ⟨hr, rfl, hk2⟩))
    · refine r_xcatchS E [] ⟨12, 27, 28, 26⟩ [] rfl (fun z hz => by cases hz) (by decide) (by decide) q655 (classAt_of (E.ts _ q693)) ?_
      refine r_astore E [some (.ref x), some (.ref (fmAd G 3)), some (.ref a), some (.ref dn), some (.ref q)] dX1_change_28 rfl rfl ?_
      refine r_aload_n E dX1_change_30 rfl ?_
      refine r_aload E dX1_change_31 rfl ?_
      refine r_getfN E cl_X5 6 (by decide) q711 hq rfl dX1_change_33 ?_
      refine r_aload E dX1_change_36 rfl ?_
      refine r_getfN E cl_X5 7 (by decide) q713 hq rfl dX1_change_38 ?_
      refine r_callV E (ct_X1_refuse G hl h2 (hC.kp hk2) (hk2 _ _ hx) (aProps N (f 0)).2.1.1 (aProps N (f 0)).2.1.2) mX1_refuse q1038 q1040 qs16 (fun H a1 => fm_rc (ci := 1) (C := RX1) (T := TX1) (N := 9) a1 rfl E.v (hk2 _ _ hx)) rfl rfl (Nat.le_of_ble_eq_true rfl) (Nat.le_of_ble_eq_true rfl) (Nat.le_of_ble_eq_true rfl) dX1_change_41 0 0 (Nat.le_of_ble_eq_true rfl) (Nat.le_of_ble_eq_true rfl) (fun v' h3 q => ?_) (fun _ _ _ q => q.elim)
      obtain ⟨u, rfl, hu, rfl⟩ := q
      have hux : u ≠ x := fun z => by have h9 := hk2 _ _ hx; rw [← z, hu] at h9; cases h9
      refine r_athrow E (ci := 22) rfl fmUp_s dX1_change_44 ?_
      exact r_xout E P (fun z hz => by rcases List.mem_singleton.mp hz with rfl; decide) (Or.inr (Or.inr ⟨hr, rfl, (fmUp_n (fun z => hux z.symm)).trans fmUp_s, fun q y hq h9 => by rw [fmUp_n (fun z => by have h8 := hk2 _ _ hq; rw [z, hu] at h8; cases h8), fmUp_n h9]; exact hk2 _ _ hq⟩))

set_option maxHeartbeats 4000000 in
theorem ct3_X1_change (G : fmG) (hl : (fmLn G).stackTraces = false) (h : fmHp) {x far qu pa sb : Nat} {fl re de : Int32} {sv : Value} {d g sl se pl pe : Nat} {gf sf pf : Nat → Nat} {N : Nat → Int32} {K pk : Nat} (hC : CC G h) (hx : DkO h x far qu d pa sb fl re de sv) (hM : MineAt G h d g sl se pl pe gf sf pf N K pk) (e dh kp : Nat) (pm : Nat → Nat) (hA : AD h pa e dh kp pm) (hk8 : kp ≤ 8) (hpm : ∀ i, i < kp → ∃ fs : List Value, h (pm i) = some (true, .inr (.inl (2, fs)))) (hR : RV N K pk) (a : Nat) (f : Nat → Int32) (ha : h a = some (true, .inl (0, 1, .inl f)))  : Ct G yX1_change (wsW_ yX1_change cX1_change 5 (some .int) [(12, 27, 28, 26)]) { frames := 9, cells := 24, slots := 3194, locals := 234 } [.ref x, .ref (fmAd G 4), .ref a] h (cPost G h x far qu d pa e sb fl re de sv kp pm (aPick N (f 0) pk)) (cXp h x far qu d pa sb fl sv (aPick N (f 0) pk)) := by
  refine Ct.ofH hl (by decide +kernel) (Nat.le_of_ble_eq_true rfl) (fun Γ E P => ?_)
  obtain ⟨hd, ⟨gq, hg, hgq⟩, hgd, hS, hSh, hP, hPk, hK8, hP6, hsp, hse⟩ := id hM
  obtain ⟨mcS, hsl⟩ := hS.o
  obtain ⟨mcP, hpl⟩ := hP.o
  obtain ⟨dg9, hpa9, hee9, -⟩ := id hA
  obtain ⟨hnp, hne⟩ := hA.nx hx
  refine r_new E cl_X2 [.null, .null, .null, (.int 0), (.int 0), (.int 0), (.int 0)] q128 q129 q79 (by decide) 23 3187 (Nat.le_of_ble_eq_true rfl) (Nat.le_of_ble_eq_true rfl) dX1_change_0 (fun dn hdn kdn => ?_)
  refine r_dup E dX1_change_3 rfl ?_
  refine r_aload_n E dX1_change_4 rfl ?_
  refine r_getf E cl_X1 2 (by decide) q272 (fmUp_of hx hdn) rfl dX1_change_5 ?_
  refine r_callI E (ct_X2_init_2 G hl hC hM hdn) mX2_init_2 rfl q362 q363 rfl rfl (Nat.le_of_ble_eq_true rfl) (Nat.le_of_ble_eq_true rfl) (Nat.le_of_ble_eq_true rfl) dX1_change_8 3 207 (Nat.le_of_ble_eq_true rfl) (Nat.le_of_ble_eq_true rfl) (fun v' h1 q => ?_) (fun _ _ _ q => q.elim)
  obtain ⟨rfl, g1, sl1, se1, pl1, pe1, hM1, hD1⟩ := q
  have hk1 : Kp h h1 := hD1.1
  refine r_astore_n E [some (.ref x), some (.ref (fmAd G 4)), some (.ref a), some (.ref dn), none] dX1_change_11 rfl rfl ?_
  refine r_aload_n E dX1_change_12 rfl ?_
  refine r_aload_n E dX1_change_13 rfl ?_
  refine r_aload_n E dX1_change_14 rfl ?_
  refine r_callO E (ct_X17_done G hl h1 hC hM1 hD1 (fmAd G 4) a true f (hk1 _ _ ha) hR ) mX17_done q658 q657 ⟨⟨by decide, by decide⟩, by decide +kernel⟩ q656 q749 q748 (fun H a1 => fm_ro (kk := 3) a1 rfl E.v (hk1 _ _ (hC.2.1 3 (by decide)))) rfl rfl (Nat.le_of_ble_eq_true rfl) (Nat.le_of_ble_eq_true rfl) (Nat.le_of_ble_eq_true rfl) dX1_change_15 1 6 (Nat.le_of_ble_eq_true rfl) (Nat.le_of_ble_eq_true rfl) (fun v' h2 q => ?_) (fun q Ex h2 hx2 => ?_)
  · obtain ⟨hr0, rfl, se2, pe2, gf2, sf2, pf2, K2, pk2, hM2, hD2, h350, h351⟩ := q
    have hk2 : Kp h h2 := hD2.1
    refine r_istore E [some (.ref x), some (.ref (fmAd G 4)), some (.ref a), some (.ref dn), some (.int ((aPick N (f 0) pk).2.2.1))] dX1_change_18 rfl rfl ?_
    refine r_aload_n E dX1_change_20 rfl ?_
    refine r_aload_n E dX1_change_21 rfl ?_
    have hpm2 : ∀ i, i < kp → ∃ fs : List Value, h2 (pm i) = some (true, .inr (.inl (2, fs))) := fun i hi => by obtain ⟨fs, z⟩ := hpm i hi; exact ⟨fs, hk2 _ _ z⟩
    refine r_callV E (ct_X1_replace G hl h2 (hC.kp hk2) (hk2 _ _ hx) e dh kp pm (hA.kp hk2) hk8 hpm2 ⟨_, hk2 _ _ hd⟩ dn) mX1_replace q975 q977 qs13 (fun H a1 => fm_rc (ci := 1) (C := RX1) (T := TX1) (N := 9) a1 rfl E.v (hk2 _ _ hx)) rfl rfl (Nat.le_of_ble_eq_true rfl) (Nat.le_of_ble_eq_true rfl) (Nat.le_of_ble_eq_true rfl) dX1_change_22 0 0 (Nat.le_of_ble_eq_true rfl) (Nat.le_of_ble_eq_true rfl) (fun v' h3 q => ?_) (fun _ _ _ q => q.elim)
    obtain ⟨rfl, hA3, hx3, hfr3⟩ := q
    refine r_iload E dX1_change_25 rfl ?_
    have hs2 := ne_e hC hA hD2.2.2.2.2.2.1
    have hp2 := ne_e hC hA hD2.2.2.2.2.2.2
    exact r_ireturn E P rfl dX1_change_27 ⟨hr0, rfl, dn, g1, sl1, se2, pl1, pe2, gf2, sf2, pf2, K2, pk2, hM2.kd (Kd.ux (hA.kp hk2) (hk2 _ _ hx) hfr3) hs2 hp2, hD2.2.1, hs2, hp2, h350, h351, hA3, hx3, fun q y hq h1 h2 h3 => hfr3 q y (hk2 _ _ hq) h1 h2 h3⟩
  · obtain ⟨hk3, hx3⟩ := hx2
    have hk2 : Kp h h2 := hk3
    rcases hx3 with ⟨hr, rfl⟩ | ⟨hr, rfl⟩ | ⟨hr, rfl, hq⟩
    · exact r_xoutP E P (fun z hz => by rcases List.mem_singleton.mp hz with rfl; exact Or.inr ⟨by decide, "FlintMine$Refusal", q655, by decide +kernel⟩) (Or.inl ⟨hr, rfl, hk2⟩)
    · exact r_xoutP E P (fun z hz => by rcases List.mem_singleton.mp hz with rfl; exact Or.inr ⟨by decide, "FlintMine$Refusal", q655, by decide +kernel⟩) (Or.inr (Or.inl ⟨hr, rfl, hk2⟩))
    · refine r_xcatchS E [] ⟨12, 27, 28, 26⟩ [] rfl (fun z hz => by cases hz) (by decide) (by decide) q655 (classAt_of (E.ts _ q693)) ?_
      refine r_astore E [some (.ref x), some (.ref (fmAd G 4)), some (.ref a), some (.ref dn), some (.ref q)] dX1_change_28 rfl rfl ?_
      refine r_aload_n E dX1_change_30 rfl ?_
      refine r_aload E dX1_change_31 rfl ?_
      refine r_getfN E cl_X5 6 (by decide) q711 hq rfl dX1_change_33 ?_
      refine r_aload E dX1_change_36 rfl ?_
      refine r_getfN E cl_X5 7 (by decide) q713 hq rfl dX1_change_38 ?_
      refine r_callV E (ct_X1_refuse G hl h2 (hC.kp hk2) (hk2 _ _ hx) (aPick N (f 0) pk).2.1.1 (aPick N (f 0) pk).2.1.2) mX1_refuse q1038 q1040 qs16 (fun H a1 => fm_rc (ci := 1) (C := RX1) (T := TX1) (N := 9) a1 rfl E.v (hk2 _ _ hx)) rfl rfl (Nat.le_of_ble_eq_true rfl) (Nat.le_of_ble_eq_true rfl) (Nat.le_of_ble_eq_true rfl) dX1_change_41 0 0 (Nat.le_of_ble_eq_true rfl) (Nat.le_of_ble_eq_true rfl) (fun v' h3 q => ?_) (fun _ _ _ q => q.elim)
      obtain ⟨u, rfl, hu, rfl⟩ := q
      have hux : u ≠ x := fun z => by have h9 := hk2 _ _ hx; rw [← z, hu] at h9; cases h9
      refine r_athrow E (ci := 22) rfl fmUp_s dX1_change_44 ?_
      exact r_xout E P (fun z hz => by rcases List.mem_singleton.mp hz with rfl; decide) (Or.inr (Or.inr ⟨hr, rfl, (fmUp_n (fun z => hux z.symm)).trans fmUp_s, fun q y hq h9 => by rw [fmUp_n (fun z => by have h8 := hk2 _ _ hq; rw [z, hu] at h8; cases h8), fmUp_n h9]; exact hk2 _ _ hq⟩))

set_option maxHeartbeats 4000000 in
theorem ct4_X1_change (G : fmG) (hl : (fmLn G).stackTraces = false) (h : fmHp) {x far qu pa sb : Nat} {fl re de : Int32} {sv : Value} {d g sl se pl pe : Nat} {gf sf pf : Nat → Nat} {N : Nat → Int32} {K pk : Nat} (hC : CC G h) (hx : DkO h x far qu d pa sb fl re de sv) (hM : MineAt G h d g sl se pl pe gf sf pf N K pk) (e dh kp : Nat) (pm : Nat → Nat) (hA : AD h pa e dh kp pm) (hk8 : kp ≤ 8) (hpm : ∀ i, i < kp → ∃ fs : List Value, h (pm i) = some (true, .inr (.inl (2, fs)))) (hR : RV N K pk) (a : Nat) (f : Nat → Int32) (ha : h a = some (true, .inl (0, 1, .inl f)))  : Ct G yX1_change (wsW_ yX1_change cX1_change 5 (some .int) [(12, 27, 28, 26)]) { frames := 9, cells := 25, slots := 3198, locals := 236 } [.ref x, .ref (fmAd G 5), .ref a] h (cPost G h x far qu d pa e sb fl re de sv kp pm (aSink N (f 0) K pk)) (cXp h x far qu d pa sb fl sv (aSink N (f 0) K pk)) := by
  refine Ct.ofH hl (by decide +kernel) (Nat.le_of_ble_eq_true rfl) (fun Γ E P => ?_)
  obtain ⟨hd, ⟨gq, hg, hgq⟩, hgd, hS, hSh, hP, hPk, hK8, hP6, hsp, hse⟩ := id hM
  obtain ⟨mcS, hsl⟩ := hS.o
  obtain ⟨mcP, hpl⟩ := hP.o
  obtain ⟨dg9, hpa9, hee9, -⟩ := id hA
  obtain ⟨hnp, hne⟩ := hA.nx hx
  refine r_new E cl_X2 [.null, .null, .null, (.int 0), (.int 0), (.int 0), (.int 0)] q128 q129 q79 (by decide) 24 3191 (Nat.le_of_ble_eq_true rfl) (Nat.le_of_ble_eq_true rfl) dX1_change_0 (fun dn hdn kdn => ?_)
  refine r_dup E dX1_change_3 rfl ?_
  refine r_aload_n E dX1_change_4 rfl ?_
  refine r_getf E cl_X1 2 (by decide) q272 (fmUp_of hx hdn) rfl dX1_change_5 ?_
  refine r_callI E (ct_X2_init_2 G hl hC hM hdn) mX2_init_2 rfl q362 q363 rfl rfl (Nat.le_of_ble_eq_true rfl) (Nat.le_of_ble_eq_true rfl) (Nat.le_of_ble_eq_true rfl) dX1_change_8 4 211 (Nat.le_of_ble_eq_true rfl) (Nat.le_of_ble_eq_true rfl) (fun v' h1 q => ?_) (fun _ _ _ q => q.elim)
  obtain ⟨rfl, g1, sl1, se1, pl1, pe1, hM1, hD1⟩ := q
  have hk1 : Kp h h1 := hD1.1
  refine r_astore_n E [some (.ref x), some (.ref (fmAd G 5)), some (.ref a), some (.ref dn), none] dX1_change_11 rfl rfl ?_
  refine r_aload_n E dX1_change_12 rfl ?_
  refine r_aload_n E dX1_change_13 rfl ?_
  refine r_aload_n E dX1_change_14 rfl ?_
  refine r_callO E (ct_X18_done G hl h1 hC hM1 hD1 (fmAd G 5) a true f (hk1 _ _ ha) hR ) mX18_done q658 q657 ⟨⟨by decide, by decide⟩, by decide +kernel⟩ q656 q780 q779 (fun H a1 => fm_ro (kk := 4) a1 rfl E.v (hk1 _ _ (hC.2.1 4 (by decide)))) rfl rfl (Nat.le_of_ble_eq_true rfl) (Nat.le_of_ble_eq_true rfl) (Nat.le_of_ble_eq_true rfl) dX1_change_15 1 6 (Nat.le_of_ble_eq_true rfl) (Nat.le_of_ble_eq_true rfl) (fun v' h2 q => ?_) (fun q Ex h2 hx2 => ?_)
  · obtain ⟨hr0, rfl, se2, pe2, gf2, sf2, pf2, K2, pk2, hM2, hD2, h350, h351⟩ := q
    have hk2 : Kp h h2 := hD2.1
    refine r_istore E [some (.ref x), some (.ref (fmAd G 5)), some (.ref a), some (.ref dn), some (.int ((aSink N (f 0) K pk).2.2.1))] dX1_change_18 rfl rfl ?_
    refine r_aload_n E dX1_change_20 rfl ?_
    refine r_aload_n E dX1_change_21 rfl ?_
    have hpm2 : ∀ i, i < kp → ∃ fs : List Value, h2 (pm i) = some (true, .inr (.inl (2, fs))) := fun i hi => by obtain ⟨fs, z⟩ := hpm i hi; exact ⟨fs, hk2 _ _ z⟩
    refine r_callV E (ct_X1_replace G hl h2 (hC.kp hk2) (hk2 _ _ hx) e dh kp pm (hA.kp hk2) hk8 hpm2 ⟨_, hk2 _ _ hd⟩ dn) mX1_replace q975 q977 qs13 (fun H a1 => fm_rc (ci := 1) (C := RX1) (T := TX1) (N := 9) a1 rfl E.v (hk2 _ _ hx)) rfl rfl (Nat.le_of_ble_eq_true rfl) (Nat.le_of_ble_eq_true rfl) (Nat.le_of_ble_eq_true rfl) dX1_change_22 0 0 (Nat.le_of_ble_eq_true rfl) (Nat.le_of_ble_eq_true rfl) (fun v' h3 q => ?_) (fun _ _ _ q => q.elim)
    obtain ⟨rfl, hA3, hx3, hfr3⟩ := q
    refine r_iload E dX1_change_25 rfl ?_
    have hs2 := ne_e hC hA hD2.2.2.2.2.2.1
    have hp2 := ne_e hC hA hD2.2.2.2.2.2.2
    exact r_ireturn E P rfl dX1_change_27 ⟨hr0, rfl, dn, g1, sl1, se2, pl1, pe2, gf2, sf2, pf2, K2, pk2, hM2.kd (Kd.ux (hA.kp hk2) (hk2 _ _ hx) hfr3) hs2 hp2, hD2.2.1, hs2, hp2, h350, h351, hA3, hx3, fun q y hq h1 h2 h3 => hfr3 q y (hk2 _ _ hq) h1 h2 h3⟩
  · obtain ⟨hk3, hx3⟩ := hx2
    have hk2 : Kp h h2 := hk3
    rcases hx3 with ⟨hr, rfl⟩ | ⟨hr, rfl⟩ | ⟨hr, rfl, hq⟩
    · exact r_xoutP E P (fun z hz => by rcases List.mem_singleton.mp hz with rfl; exact Or.inr ⟨by decide, "FlintMine$Refusal", q655, by decide +kernel⟩) (Or.inl ⟨hr, rfl, hk2⟩)
    · exact r_xoutP E P (fun z hz => by rcases List.mem_singleton.mp hz with rfl; exact Or.inr ⟨by decide, "FlintMine$Refusal", q655, by decide +kernel⟩) (Or.inr (Or.inl ⟨hr, rfl, hk2⟩))
    · refine r_xcatchS E [] ⟨12, 27, 28, 26⟩ [] rfl (fun z hz => by cases hz) (by decide) (by decide) q655 (classAt_of (E.ts _ q693)) ?_
      refine r_astore E [some (.ref x), some (.ref (fmAd G 5)), some (.ref a), some (.ref dn), some (.ref q)] dX1_change_28 rfl rfl ?_
      refine r_aload_n E dX1_change_30 rfl ?_
      refine r_aload E dX1_change_31 rfl ?_
      refine r_getfN E cl_X5 6 (by decide) q711 hq rfl dX1_change_33 ?_
      refine r_aload E dX1_change_36 rfl ?_
      refine r_getfN E cl_X5 7 (by decide) q713 hq rfl dX1_change_38 ?_
      refine r_callV E (ct_X1_refuse G hl h2 (hC.kp hk2) (hk2 _ _ hx) (aSink N (f 0) K pk).2.1.1 (aSink N (f 0) K pk).2.1.2) mX1_refuse q1038 q1040 qs16 (fun H a1 => fm_rc (ci := 1) (C := RX1) (T := TX1) (N := 9) a1 rfl E.v (hk2 _ _ hx)) rfl rfl (Nat.le_of_ble_eq_true rfl) (Nat.le_of_ble_eq_true rfl) (Nat.le_of_ble_eq_true rfl) dX1_change_41 0 0 (Nat.le_of_ble_eq_true rfl) (Nat.le_of_ble_eq_true rfl) (fun v' h3 q => ?_) (fun _ _ _ q => q.elim)
      obtain ⟨u, rfl, hu, rfl⟩ := q
      have hux : u ≠ x := fun z => by have h9 := hk2 _ _ hx; rw [← z, hu] at h9; cases h9
      refine r_athrow E (ci := 22) rfl fmUp_s dX1_change_44 ?_
      exact r_xout E P (fun z hz => by rcases List.mem_singleton.mp hz with rfl; decide) (Or.inr (Or.inr ⟨hr, rfl, (fmUp_n (fun z => hux z.symm)).trans fmUp_s, fun q y hq h9 => by rw [fmUp_n (fun z => by have h8 := hk2 _ _ hq; rw [z, hu] at h8; cases h8), fmUp_n h9]; exact hk2 _ _ hq⟩))

set_option maxHeartbeats 4000000 in
theorem ct5_X1_change (G : fmG) (hl : (fmLn G).stackTraces = false) (h : fmHp) {x far qu pa sb : Nat} {fl re de : Int32} {sv : Value} {d g sl se pl pe : Nat} {gf sf pf : Nat → Nat} {N : Nat → Int32} {K pk : Nat} (hC : CC G h) (hx : DkO h x far qu d pa sb fl re de sv) (hM : MineAt G h d g sl se pl pe gf sf pf N K pk) (e dh kp : Nat) (pm : Nat → Nat) (hA : AD h pa e dh kp pm) (hk8 : kp ≤ 8) (hpm : ∀ i, i < kp → ∃ fs : List Value, h (pm i) = some (true, .inr (.inl (2, fs)))) (hR : RV N K pk) (a : Nat) (f : Nat → Int32) (ha : h a = some (true, .inl (0, 3, .inl f)))  : Ct G yX1_change (wsW_ yX1_change cX1_change 5 (some .int) [(12, 27, 28, 26)]) { frames := 10, cells := 27, slots := 3209, locals := 214 } [.ref x, .ref (fmAd G 6), .ref a] h (cPost G h x far qu d pa e sb fl re de sv kp pm (aDig N (f 0) (f 1) (decide (0 < f 2)) K pk)) (cXp h x far qu d pa sb fl sv (aDig N (f 0) (f 1) (decide (0 < f 2)) K pk)) := by
  refine Ct.ofH hl (by decide +kernel) (Nat.le_of_ble_eq_true rfl) (fun Γ E P => ?_)
  obtain ⟨hd, ⟨gq, hg, hgq⟩, hgd, hS, hSh, hP, hPk, hK8, hP6, hsp, hse⟩ := id hM
  obtain ⟨mcS, hsl⟩ := hS.o
  obtain ⟨mcP, hpl⟩ := hP.o
  obtain ⟨dg9, hpa9, hee9, -⟩ := id hA
  obtain ⟨hnp, hne⟩ := hA.nx hx
  refine r_new E cl_X2 [.null, .null, .null, (.int 0), (.int 0), (.int 0), (.int 0)] q128 q129 q79 (by decide) 26 3202 (Nat.le_of_ble_eq_true rfl) (Nat.le_of_ble_eq_true rfl) dX1_change_0 (fun dn hdn kdn => ?_)
  refine r_dup E dX1_change_3 rfl ?_
  refine r_aload_n E dX1_change_4 rfl ?_
  refine r_getf E cl_X1 2 (by decide) q272 (fmUp_of hx hdn) rfl dX1_change_5 ?_
  refine r_callI E (ct_X2_init_2 G hl hC hM hdn) mX2_init_2 rfl q362 q363 rfl rfl (Nat.le_of_ble_eq_true rfl) (Nat.le_of_ble_eq_true rfl) (Nat.le_of_ble_eq_true rfl) dX1_change_8 6 222 (Nat.le_of_ble_eq_true rfl) (Nat.le_of_ble_eq_true rfl) (fun v' h1 q => ?_) (fun _ _ _ q => q.elim)
  obtain ⟨rfl, g1, sl1, se1, pl1, pe1, hM1, hD1⟩ := q
  have hk1 : Kp h h1 := hD1.1
  refine r_astore_n E [some (.ref x), some (.ref (fmAd G 6)), some (.ref a), some (.ref dn), none] dX1_change_11 rfl rfl ?_
  refine r_aload_n E dX1_change_12 rfl ?_
  refine r_aload_n E dX1_change_13 rfl ?_
  refine r_aload_n E dX1_change_14 rfl ?_
  refine r_callO E (ct_X19_done G hl h1 hC hM1 hD1 (fmAd G 6) a true f (hk1 _ _ ha) hR ) mX19_done q658 q657 ⟨⟨by decide, by decide⟩, by decide +kernel⟩ q656 q902 q901 (fun H a1 => fm_ro (kk := 5) a1 rfl E.v (hk1 _ _ (hC.2.1 5 (by decide)))) rfl rfl (Nat.le_of_ble_eq_true rfl) (Nat.le_of_ble_eq_true rfl) (Nat.le_of_ble_eq_true rfl) dX1_change_15 1 6 (Nat.le_of_ble_eq_true rfl) (Nat.le_of_ble_eq_true rfl) (fun v' h2 q => ?_) (fun q Ex h2 hx2 => ?_)
  · obtain ⟨hr0, rfl, se2, pe2, gf2, sf2, pf2, K2, pk2, hM2, hD2, h350, h351⟩ := q
    have hk2 : Kp h h2 := hD2.1
    refine r_istore E [some (.ref x), some (.ref (fmAd G 6)), some (.ref a), some (.ref dn), some (.int ((aDig N (f 0) (f 1) (decide (0 < f 2)) K pk).2.2.1))] dX1_change_18 rfl rfl ?_
    refine r_aload_n E dX1_change_20 rfl ?_
    refine r_aload_n E dX1_change_21 rfl ?_
    have hpm2 : ∀ i, i < kp → ∃ fs : List Value, h2 (pm i) = some (true, .inr (.inl (2, fs))) := fun i hi => by obtain ⟨fs, z⟩ := hpm i hi; exact ⟨fs, hk2 _ _ z⟩
    refine r_callV E (ct_X1_replace G hl h2 (hC.kp hk2) (hk2 _ _ hx) e dh kp pm (hA.kp hk2) hk8 hpm2 ⟨_, hk2 _ _ hd⟩ dn) mX1_replace q975 q977 qs13 (fun H a1 => fm_rc (ci := 1) (C := RX1) (T := TX1) (N := 9) a1 rfl E.v (hk2 _ _ hx)) rfl rfl (Nat.le_of_ble_eq_true rfl) (Nat.le_of_ble_eq_true rfl) (Nat.le_of_ble_eq_true rfl) dX1_change_22 0 0 (Nat.le_of_ble_eq_true rfl) (Nat.le_of_ble_eq_true rfl) (fun v' h3 q => ?_) (fun _ _ _ q => q.elim)
    obtain ⟨rfl, hA3, hx3, hfr3⟩ := q
    refine r_iload E dX1_change_25 rfl ?_
    have hs2 := ne_e hC hA hD2.2.2.2.2.2.1
    have hp2 := ne_e hC hA hD2.2.2.2.2.2.2
    exact r_ireturn E P rfl dX1_change_27 ⟨hr0, rfl, dn, g1, sl1, se2, pl1, pe2, gf2, sf2, pf2, K2, pk2, hM2.kd (Kd.ux (hA.kp hk2) (hk2 _ _ hx) hfr3) hs2 hp2, hD2.2.1, hs2, hp2, h350, h351, hA3, hx3, fun q y hq h1 h2 h3 => hfr3 q y (hk2 _ _ hq) h1 h2 h3⟩
  · obtain ⟨hk3, hx3⟩ := hx2
    have hk2 : Kp h h2 := hk3
    rcases hx3 with ⟨hr, rfl⟩ | ⟨hr, rfl⟩ | ⟨hr, rfl, hq⟩
    · exact r_xoutP E P (fun z hz => by rcases List.mem_singleton.mp hz with rfl; exact Or.inr ⟨by decide, "FlintMine$Refusal", q655, by decide +kernel⟩) (Or.inl ⟨hr, rfl, hk2⟩)
    · exact r_xoutP E P (fun z hz => by rcases List.mem_singleton.mp hz with rfl; exact Or.inr ⟨by decide, "FlintMine$Refusal", q655, by decide +kernel⟩) (Or.inr (Or.inl ⟨hr, rfl, hk2⟩))
    · refine r_xcatchS E [] ⟨12, 27, 28, 26⟩ [] rfl (fun z hz => by cases hz) (by decide) (by decide) q655 (classAt_of (E.ts _ q693)) ?_
      refine r_astore E [some (.ref x), some (.ref (fmAd G 6)), some (.ref a), some (.ref dn), some (.ref q)] dX1_change_28 rfl rfl ?_
      refine r_aload_n E dX1_change_30 rfl ?_
      refine r_aload E dX1_change_31 rfl ?_
      refine r_getfN E cl_X5 6 (by decide) q711 hq rfl dX1_change_33 ?_
      refine r_aload E dX1_change_36 rfl ?_
      refine r_getfN E cl_X5 7 (by decide) q713 hq rfl dX1_change_38 ?_
      refine r_callV E (ct_X1_refuse G hl h2 (hC.kp hk2) (hk2 _ _ hx) (aDig N (f 0) (f 1) (decide (0 < f 2)) K pk).2.1.1 (aDig N (f 0) (f 1) (decide (0 < f 2)) K pk).2.1.2) mX1_refuse q1038 q1040 qs16 (fun H a1 => fm_rc (ci := 1) (C := RX1) (T := TX1) (N := 9) a1 rfl E.v (hk2 _ _ hx)) rfl rfl (Nat.le_of_ble_eq_true rfl) (Nat.le_of_ble_eq_true rfl) (Nat.le_of_ble_eq_true rfl) dX1_change_41 0 0 (Nat.le_of_ble_eq_true rfl) (Nat.le_of_ble_eq_true rfl) (fun v' h3 q => ?_) (fun _ _ _ q => q.elim)
      obtain ⟨u, rfl, hu, rfl⟩ := q
      have hux : u ≠ x := fun z => by have h9 := hk2 _ _ hx; rw [← z, hu] at h9; cases h9
      refine r_athrow E (ci := 22) rfl fmUp_s dX1_change_44 ?_
      exact r_xout E P (fun z hz => by rcases List.mem_singleton.mp hz with rfl; decide) (Or.inr (Or.inr ⟨hr, rfl, (fmUp_n (fun z => hux z.symm)).trans fmUp_s, fun q y hq h9 => by rw [fmUp_n (fun z => by have h8 := hk2 _ _ hq; rw [z, hu] at h8; cases h8), fmUp_n h9]; exact hk2 _ _ hq⟩))

set_option maxHeartbeats 4000000 in
theorem ct6_X1_change (G : fmG) (hl : (fmLn G).stackTraces = false) (h : fmHp) {x far qu pa sb : Nat} {fl re de : Int32} {sv : Value} {d g sl se pl pe : Nat} {gf sf pf : Nat → Nat} {N : Nat → Int32} {K pk : Nat} (hC : CC G h) (hx : DkO h x far qu d pa sb fl re de sv) (hM : MineAt G h d g sl se pl pe gf sf pf N K pk) (e dh kp : Nat) (pm : Nat → Nat) (hA : AD h pa e dh kp pm) (hk8 : kp ≤ 8) (hpm : ∀ i, i < kp → ∃ fs : List Value, h (pm i) = some (true, .inr (.inl (2, fs)))) (hR : RV N K pk) (a : Nat) (f : Nat → Int32) (ha : h a = some (true, .inl (0, 1, .inl f)))  : Ct G yX1_change (wsW_ yX1_change cX1_change 5 (some .int) [(12, 27, 28, 26)]) { frames := 9, cells := 23, slots := 3001, locals := 214 } [.ref x, .ref (fmAd G 7), .ref a] h (cPost G h x far qu d pa e sb fl re de sv kp pm (aProp N (f 0))) (cXp h x far qu d pa sb fl sv (aProp N (f 0))) := by
  refine Ct.ofH hl (by decide +kernel) (Nat.le_of_ble_eq_true rfl) (fun Γ E P => ?_)
  obtain ⟨hd, ⟨gq, hg, hgq⟩, hgd, hS, hSh, hP, hPk, hK8, hP6, hsp, hse⟩ := id hM
  obtain ⟨mcS, hsl⟩ := hS.o
  obtain ⟨mcP, hpl⟩ := hP.o
  obtain ⟨dg9, hpa9, hee9, -⟩ := id hA
  obtain ⟨hnp, hne⟩ := hA.nx hx
  refine r_new E cl_X2 [.null, .null, .null, (.int 0), (.int 0), (.int 0), (.int 0)] q128 q129 q79 (by decide) 22 2994 (Nat.le_of_ble_eq_true rfl) (Nat.le_of_ble_eq_true rfl) dX1_change_0 (fun dn hdn kdn => ?_)
  refine r_dup E dX1_change_3 rfl ?_
  refine r_aload_n E dX1_change_4 rfl ?_
  refine r_getf E cl_X1 2 (by decide) q272 (fmUp_of hx hdn) rfl dX1_change_5 ?_
  refine r_callI E (ct_X2_init_2 G hl hC hM hdn) mX2_init_2 rfl q362 q363 rfl rfl (Nat.le_of_ble_eq_true rfl) (Nat.le_of_ble_eq_true rfl) (Nat.le_of_ble_eq_true rfl) dX1_change_8 2 14 (Nat.le_of_ble_eq_true rfl) (Nat.le_of_ble_eq_true rfl) (fun v' h1 q => ?_) (fun _ _ _ q => q.elim)
  obtain ⟨rfl, g1, sl1, se1, pl1, pe1, hM1, hD1⟩ := q
  have hk1 : Kp h h1 := hD1.1
  refine r_astore_n E [some (.ref x), some (.ref (fmAd G 7)), some (.ref a), some (.ref dn), none] dX1_change_11 rfl rfl ?_
  refine r_aload_n E dX1_change_12 rfl ?_
  refine r_aload_n E dX1_change_13 rfl ?_
  refine r_aload_n E dX1_change_14 rfl ?_
  refine r_callO E (ct_X20_done G hl h1 hC hM1 hD1 (fmAd G 7) a true f (hk1 _ _ ha) hR ) mX20_done q658 q657 ⟨⟨by decide, by decide⟩, by decide +kernel⟩ q656 q926 q925 (fun H a1 => fm_ro (kk := 6) a1 rfl E.v (hk1 _ _ (hC.2.1 6 (by decide)))) rfl rfl (Nat.le_of_ble_eq_true rfl) (Nat.le_of_ble_eq_true rfl) (Nat.le_of_ble_eq_true rfl) dX1_change_15 1 6 (Nat.le_of_ble_eq_true rfl) (Nat.le_of_ble_eq_true rfl) (fun v' h2 q => ?_) (fun q Ex h2 hx2 => ?_)
  · obtain ⟨hr0, rfl, se2, pe2, gf2, sf2, pf2, K2, pk2, hM2, hD2, h350, h351⟩ := q
    have hk2 : Kp h h2 := hD2.1
    refine r_istore E [some (.ref x), some (.ref (fmAd G 7)), some (.ref a), some (.ref dn), some (.int ((aProp N (f 0)).2.2.1))] dX1_change_18 rfl rfl ?_
    refine r_aload_n E dX1_change_20 rfl ?_
    refine r_aload_n E dX1_change_21 rfl ?_
    have hpm2 : ∀ i, i < kp → ∃ fs : List Value, h2 (pm i) = some (true, .inr (.inl (2, fs))) := fun i hi => by obtain ⟨fs, z⟩ := hpm i hi; exact ⟨fs, hk2 _ _ z⟩
    refine r_callV E (ct_X1_replace G hl h2 (hC.kp hk2) (hk2 _ _ hx) e dh kp pm (hA.kp hk2) hk8 hpm2 ⟨_, hk2 _ _ hd⟩ dn) mX1_replace q975 q977 qs13 (fun H a1 => fm_rc (ci := 1) (C := RX1) (T := TX1) (N := 9) a1 rfl E.v (hk2 _ _ hx)) rfl rfl (Nat.le_of_ble_eq_true rfl) (Nat.le_of_ble_eq_true rfl) (Nat.le_of_ble_eq_true rfl) dX1_change_22 0 0 (Nat.le_of_ble_eq_true rfl) (Nat.le_of_ble_eq_true rfl) (fun v' h3 q => ?_) (fun _ _ _ q => q.elim)
    obtain ⟨rfl, hA3, hx3, hfr3⟩ := q
    refine r_iload E dX1_change_25 rfl ?_
    have hs2 := ne_e hC hA hD2.2.2.2.2.2.1
    have hp2 := ne_e hC hA hD2.2.2.2.2.2.2
    exact r_ireturn E P rfl dX1_change_27 ⟨hr0, rfl, dn, g1, sl1, se2, pl1, pe2, gf2, sf2, pf2, K2, pk2, hM2.kd (Kd.ux (hA.kp hk2) (hk2 _ _ hx) hfr3) hs2 hp2, hD2.2.1, hs2, hp2, h350, h351, hA3, hx3, fun q y hq h1 h2 h3 => hfr3 q y (hk2 _ _ hq) h1 h2 h3⟩
  · obtain ⟨hk3, hx3⟩ := hx2
    have hk2 : Kp h h2 := hk3
    rcases hx3 with ⟨hr, rfl⟩ | ⟨hr, rfl⟩ | ⟨hr, rfl, hq⟩
    · exact r_xoutP E P (fun z hz => by rcases List.mem_singleton.mp hz with rfl; exact Or.inr ⟨by decide, "FlintMine$Refusal", q655, by decide +kernel⟩) (Or.inl ⟨hr, rfl, hk2⟩)
    · exact r_xoutP E P (fun z hz => by rcases List.mem_singleton.mp hz with rfl; exact Or.inr ⟨by decide, "FlintMine$Refusal", q655, by decide +kernel⟩) (Or.inr (Or.inl ⟨hr, rfl, hk2⟩))
    · refine r_xcatchS E [] ⟨12, 27, 28, 26⟩ [] rfl (fun z hz => by cases hz) (by decide) (by decide) q655 (classAt_of (E.ts _ q693)) ?_
      refine r_astore E [some (.ref x), some (.ref (fmAd G 7)), some (.ref a), some (.ref dn), some (.ref q)] dX1_change_28 rfl rfl ?_
      refine r_aload_n E dX1_change_30 rfl ?_
      refine r_aload E dX1_change_31 rfl ?_
      refine r_getfN E cl_X5 6 (by decide) q711 hq rfl dX1_change_33 ?_
      refine r_aload E dX1_change_36 rfl ?_
      refine r_getfN E cl_X5 7 (by decide) q713 hq rfl dX1_change_38 ?_
      refine r_callV E (ct_X1_refuse G hl h2 (hC.kp hk2) (hk2 _ _ hx) (aProp N (f 0)).2.1.1 (aProp N (f 0)).2.1.2) mX1_refuse q1038 q1040 qs16 (fun H a1 => fm_rc (ci := 1) (C := RX1) (T := TX1) (N := 9) a1 rfl E.v (hk2 _ _ hx)) rfl rfl (Nat.le_of_ble_eq_true rfl) (Nat.le_of_ble_eq_true rfl) (Nat.le_of_ble_eq_true rfl) dX1_change_41 0 0 (Nat.le_of_ble_eq_true rfl) (Nat.le_of_ble_eq_true rfl) (fun v' h3 q => ?_) (fun _ _ _ q => q.elim)
      obtain ⟨u, rfl, hu, rfl⟩ := q
      have hux : u ≠ x := fun z => by have h9 := hk2 _ _ hx; rw [← z, hu] at h9; cases h9
      refine r_athrow E (ci := 22) rfl fmUp_s dX1_change_44 ?_
      exact r_xout E P (fun z hz => by rcases List.mem_singleton.mp hz with rfl; decide) (Or.inr (Or.inr ⟨hr, rfl, (fmUp_n (fun z => hux z.symm)).trans fmUp_s, fun q y hq h9 => by rw [fmUp_n (fun z => by have h8 := hk2 _ _ hq; rw [z, hu] at h8; cases h8), fmUp_n h9]; exact hk2 _ _ hq⟩))

set_option maxHeartbeats 4000000 in
theorem ct7_X1_change (G : fmG) (hl : (fmLn G).stackTraces = false) (h : fmHp) {x far qu pa sb : Nat} {fl re de : Int32} {sv : Value} {d g sl se pl pe : Nat} {gf sf pf : Nat → Nat} {N : Nat → Int32} {K pk : Nat} (hC : CC G h) (hx : DkO h x far qu d pa sb fl re de sv) (hM : MineAt G h d g sl se pl pe gf sf pf N K pk) (e dh kp : Nat) (pm : Nat → Nat) (hA : AD h pa e dh kp pm) (hk8 : kp ≤ 8) (hpm : ∀ i, i < kp → ∃ fs : List Value, h (pm i) = some (true, .inr (.inl (2, fs)))) (hR : RV N K pk) (a : Nat) (f : Nat → Int32) (ha : h a = some (true, .inl (0, 1, .inl f)))  : Ct G yX1_change (wsW_ yX1_change cX1_change 5 (some .int) [(12, 27, 28, 26)]) { frames := 9, cells := 23, slots := 3001, locals := 214 } [.ref x, .ref (fmAd G 8), .ref a] h (cPost G h x far qu d pa e sb fl re de sv kp pm (aUnprop N (f 0))) (cXp h x far qu d pa sb fl sv (aUnprop N (f 0))) := by
  refine Ct.ofH hl (by decide +kernel) (Nat.le_of_ble_eq_true rfl) (fun Γ E P => ?_)
  obtain ⟨hd, ⟨gq, hg, hgq⟩, hgd, hS, hSh, hP, hPk, hK8, hP6, hsp, hse⟩ := id hM
  obtain ⟨mcS, hsl⟩ := hS.o
  obtain ⟨mcP, hpl⟩ := hP.o
  obtain ⟨dg9, hpa9, hee9, -⟩ := id hA
  obtain ⟨hnp, hne⟩ := hA.nx hx
  refine r_new E cl_X2 [.null, .null, .null, (.int 0), (.int 0), (.int 0), (.int 0)] q128 q129 q79 (by decide) 22 2994 (Nat.le_of_ble_eq_true rfl) (Nat.le_of_ble_eq_true rfl) dX1_change_0 (fun dn hdn kdn => ?_)
  refine r_dup E dX1_change_3 rfl ?_
  refine r_aload_n E dX1_change_4 rfl ?_
  refine r_getf E cl_X1 2 (by decide) q272 (fmUp_of hx hdn) rfl dX1_change_5 ?_
  refine r_callI E (ct_X2_init_2 G hl hC hM hdn) mX2_init_2 rfl q362 q363 rfl rfl (Nat.le_of_ble_eq_true rfl) (Nat.le_of_ble_eq_true rfl) (Nat.le_of_ble_eq_true rfl) dX1_change_8 2 14 (Nat.le_of_ble_eq_true rfl) (Nat.le_of_ble_eq_true rfl) (fun v' h1 q => ?_) (fun _ _ _ q => q.elim)
  obtain ⟨rfl, g1, sl1, se1, pl1, pe1, hM1, hD1⟩ := q
  have hk1 : Kp h h1 := hD1.1
  refine r_astore_n E [some (.ref x), some (.ref (fmAd G 8)), some (.ref a), some (.ref dn), none] dX1_change_11 rfl rfl ?_
  refine r_aload_n E dX1_change_12 rfl ?_
  refine r_aload_n E dX1_change_13 rfl ?_
  refine r_aload_n E dX1_change_14 rfl ?_
  refine r_callO E (ct_X21_done G hl h1 hC hM1 hD1 (fmAd G 8) a true f (hk1 _ _ ha) hR ) mX21_done q658 q657 ⟨⟨by decide, by decide⟩, by decide +kernel⟩ q656 q938 q937 (fun H a1 => fm_ro (kk := 7) a1 rfl E.v (hk1 _ _ (hC.2.1 7 (by decide)))) rfl rfl (Nat.le_of_ble_eq_true rfl) (Nat.le_of_ble_eq_true rfl) (Nat.le_of_ble_eq_true rfl) dX1_change_15 1 6 (Nat.le_of_ble_eq_true rfl) (Nat.le_of_ble_eq_true rfl) (fun v' h2 q => ?_) (fun q Ex h2 hx2 => ?_)
  · obtain ⟨hr0, rfl, se2, pe2, gf2, sf2, pf2, K2, pk2, hM2, hD2, h350, h351⟩ := q
    have hk2 : Kp h h2 := hD2.1
    refine r_istore E [some (.ref x), some (.ref (fmAd G 8)), some (.ref a), some (.ref dn), some (.int ((aUnprop N (f 0)).2.2.1))] dX1_change_18 rfl rfl ?_
    refine r_aload_n E dX1_change_20 rfl ?_
    refine r_aload_n E dX1_change_21 rfl ?_
    have hpm2 : ∀ i, i < kp → ∃ fs : List Value, h2 (pm i) = some (true, .inr (.inl (2, fs))) := fun i hi => by obtain ⟨fs, z⟩ := hpm i hi; exact ⟨fs, hk2 _ _ z⟩
    refine r_callV E (ct_X1_replace G hl h2 (hC.kp hk2) (hk2 _ _ hx) e dh kp pm (hA.kp hk2) hk8 hpm2 ⟨_, hk2 _ _ hd⟩ dn) mX1_replace q975 q977 qs13 (fun H a1 => fm_rc (ci := 1) (C := RX1) (T := TX1) (N := 9) a1 rfl E.v (hk2 _ _ hx)) rfl rfl (Nat.le_of_ble_eq_true rfl) (Nat.le_of_ble_eq_true rfl) (Nat.le_of_ble_eq_true rfl) dX1_change_22 0 0 (Nat.le_of_ble_eq_true rfl) (Nat.le_of_ble_eq_true rfl) (fun v' h3 q => ?_) (fun _ _ _ q => q.elim)
    obtain ⟨rfl, hA3, hx3, hfr3⟩ := q
    refine r_iload E dX1_change_25 rfl ?_
    have hs2 := ne_e hC hA hD2.2.2.2.2.2.1
    have hp2 := ne_e hC hA hD2.2.2.2.2.2.2
    exact r_ireturn E P rfl dX1_change_27 ⟨hr0, rfl, dn, g1, sl1, se2, pl1, pe2, gf2, sf2, pf2, K2, pk2, hM2.kd (Kd.ux (hA.kp hk2) (hk2 _ _ hx) hfr3) hs2 hp2, hD2.2.1, hs2, hp2, h350, h351, hA3, hx3, fun q y hq h1 h2 h3 => hfr3 q y (hk2 _ _ hq) h1 h2 h3⟩
  · obtain ⟨hk3, hx3⟩ := hx2
    have hk2 : Kp h h2 := hk3
    rcases hx3 with ⟨hr, rfl⟩ | ⟨hr, rfl⟩ | ⟨hr, rfl, hq⟩
    · exact r_xoutP E P (fun z hz => by rcases List.mem_singleton.mp hz with rfl; exact Or.inr ⟨by decide, "FlintMine$Refusal", q655, by decide +kernel⟩) (Or.inl ⟨hr, rfl, hk2⟩)
    · exact r_xoutP E P (fun z hz => by rcases List.mem_singleton.mp hz with rfl; exact Or.inr ⟨by decide, "FlintMine$Refusal", q655, by decide +kernel⟩) (Or.inr (Or.inl ⟨hr, rfl, hk2⟩))
    · refine r_xcatchS E [] ⟨12, 27, 28, 26⟩ [] rfl (fun z hz => by cases hz) (by decide) (by decide) q655 (classAt_of (E.ts _ q693)) ?_
      refine r_astore E [some (.ref x), some (.ref (fmAd G 8)), some (.ref a), some (.ref dn), some (.ref q)] dX1_change_28 rfl rfl ?_
      refine r_aload_n E dX1_change_30 rfl ?_
      refine r_aload E dX1_change_31 rfl ?_
      refine r_getfN E cl_X5 6 (by decide) q711 hq rfl dX1_change_33 ?_
      refine r_aload E dX1_change_36 rfl ?_
      refine r_getfN E cl_X5 7 (by decide) q713 hq rfl dX1_change_38 ?_
      refine r_callV E (ct_X1_refuse G hl h2 (hC.kp hk2) (hk2 _ _ hx) (aUnprop N (f 0)).2.1.1 (aUnprop N (f 0)).2.1.2) mX1_refuse q1038 q1040 qs16 (fun H a1 => fm_rc (ci := 1) (C := RX1) (T := TX1) (N := 9) a1 rfl E.v (hk2 _ _ hx)) rfl rfl (Nat.le_of_ble_eq_true rfl) (Nat.le_of_ble_eq_true rfl) (Nat.le_of_ble_eq_true rfl) dX1_change_41 0 0 (Nat.le_of_ble_eq_true rfl) (Nat.le_of_ble_eq_true rfl) (fun v' h3 q => ?_) (fun _ _ _ q => q.elim)
      obtain ⟨u, rfl, hu, rfl⟩ := q
      have hux : u ≠ x := fun z => by have h9 := hk2 _ _ hx; rw [← z, hu] at h9; cases h9
      refine r_athrow E (ci := 22) rfl fmUp_s dX1_change_44 ?_
      exact r_xout E P (fun z hz => by rcases List.mem_singleton.mp hz with rfl; decide) (Or.inr (Or.inr ⟨hr, rfl, (fmUp_n (fun z => hux z.symm)).trans fmUp_s, fun q y hq h9 => by rw [fmUp_n (fun z => by have h8 := hk2 _ _ hq; rw [z, hu] at h8; cases h8), fmUp_n h9]; exact hk2 _ _ hq⟩))

set_option maxHeartbeats 4000000 in
theorem ct8_X1_change (G : fmG) (hl : (fmLn G).stackTraces = false) (h : fmHp) {x far qu pa sb : Nat} {fl re de : Int32} {sv : Value} {d g sl se pl pe : Nat} {gf sf pf : Nat → Nat} {N : Nat → Int32} {K pk : Nat} (hC : CC G h) (hx : DkO h x far qu d pa sb fl re de sv) (hM : MineAt G h d g sl se pl pe gf sf pf N K pk) (e dh kp : Nat) (pm : Nat → Nat) (hA : AD h pa e dh kp pm) (hk8 : kp ≤ 8) (hpm : ∀ i, i < kp → ∃ fs : List Value, h (pm i) = some (true, .inr (.inl (2, fs)))) (hR : RV N K pk) (a : Nat) (f : Nat → Int32) (ha : h a = some (true, .inl (0, 1, .inl f)))  : Ct G yX1_change (wsW_ yX1_change cX1_change 5 (some .int) [(12, 27, 28, 26)]) { frames := 10, cells := 87, slots := 3060, locals := 214 } [.ref x, .ref (fmAd G 9), .ref a] h (cPost G h x far qu d pa e sb fl re de sv kp pm (aClose N (f 0) K)) (cXp h x far qu d pa sb fl sv (aClose N (f 0) K)) := by
  refine Ct.ofH hl (by decide +kernel) (Nat.le_of_ble_eq_true rfl) (fun Γ E P => ?_)
  obtain ⟨hd, ⟨gq, hg, hgq⟩, hgd, hS, hSh, hP, hPk, hK8, hP6, hsp, hse⟩ := id hM
  obtain ⟨mcS, hsl⟩ := hS.o
  obtain ⟨mcP, hpl⟩ := hP.o
  obtain ⟨dg9, hpa9, hee9, -⟩ := id hA
  obtain ⟨hnp, hne⟩ := hA.nx hx
  refine r_new E cl_X2 [.null, .null, .null, (.int 0), (.int 0), (.int 0), (.int 0)] q128 q129 q79 (by decide) 86 3053 (Nat.le_of_ble_eq_true rfl) (Nat.le_of_ble_eq_true rfl) dX1_change_0 (fun dn hdn kdn => ?_)
  refine r_dup E dX1_change_3 rfl ?_
  refine r_aload_n E dX1_change_4 rfl ?_
  refine r_getf E cl_X1 2 (by decide) q272 (fmUp_of hx hdn) rfl dX1_change_5 ?_
  refine r_callI E (ct_X2_init_2 G hl hC hM hdn) mX2_init_2 rfl q362 q363 rfl rfl (Nat.le_of_ble_eq_true rfl) (Nat.le_of_ble_eq_true rfl) (Nat.le_of_ble_eq_true rfl) dX1_change_8 66 73 (Nat.le_of_ble_eq_true rfl) (Nat.le_of_ble_eq_true rfl) (fun v' h1 q => ?_) (fun _ _ _ q => q.elim)
  obtain ⟨rfl, g1, sl1, se1, pl1, pe1, hM1, hD1⟩ := q
  have hk1 : Kp h h1 := hD1.1
  refine r_astore_n E [some (.ref x), some (.ref (fmAd G 9)), some (.ref a), some (.ref dn), none] dX1_change_11 rfl rfl ?_
  refine r_aload_n E dX1_change_12 rfl ?_
  refine r_aload_n E dX1_change_13 rfl ?_
  refine r_aload_n E dX1_change_14 rfl ?_
  refine r_callO E (ct_X22_done G hl h1 hC hM1 hD1 (fmAd G 9) a true f (hk1 _ _ ha) hR ) mX22_done q658 q657 ⟨⟨by decide, by decide⟩, by decide +kernel⟩ q656 q947 q946 (fun H a1 => fm_ro (kk := 8) a1 rfl E.v (hk1 _ _ (hC.2.1 8 (by decide)))) rfl rfl (Nat.le_of_ble_eq_true rfl) (Nat.le_of_ble_eq_true rfl) (Nat.le_of_ble_eq_true rfl) dX1_change_15 1 6 (Nat.le_of_ble_eq_true rfl) (Nat.le_of_ble_eq_true rfl) (fun v' h2 q => ?_) (fun q Ex h2 hx2 => ?_)
  · obtain ⟨hr0, rfl, se2, pe2, gf2, sf2, pf2, K2, pk2, hM2, hD2, h350, h351⟩ := q
    have hk2 : Kp h h2 := hD2.1
    refine r_istore E [some (.ref x), some (.ref (fmAd G 9)), some (.ref a), some (.ref dn), some (.int ((aClose N (f 0) K).2.2.1))] dX1_change_18 rfl rfl ?_
    refine r_aload_n E dX1_change_20 rfl ?_
    refine r_aload_n E dX1_change_21 rfl ?_
    have hpm2 : ∀ i, i < kp → ∃ fs : List Value, h2 (pm i) = some (true, .inr (.inl (2, fs))) := fun i hi => by obtain ⟨fs, z⟩ := hpm i hi; exact ⟨fs, hk2 _ _ z⟩
    refine r_callV E (ct_X1_replace G hl h2 (hC.kp hk2) (hk2 _ _ hx) e dh kp pm (hA.kp hk2) hk8 hpm2 ⟨_, hk2 _ _ hd⟩ dn) mX1_replace q975 q977 qs13 (fun H a1 => fm_rc (ci := 1) (C := RX1) (T := TX1) (N := 9) a1 rfl E.v (hk2 _ _ hx)) rfl rfl (Nat.le_of_ble_eq_true rfl) (Nat.le_of_ble_eq_true rfl) (Nat.le_of_ble_eq_true rfl) dX1_change_22 0 0 (Nat.le_of_ble_eq_true rfl) (Nat.le_of_ble_eq_true rfl) (fun v' h3 q => ?_) (fun _ _ _ q => q.elim)
    obtain ⟨rfl, hA3, hx3, hfr3⟩ := q
    refine r_iload E dX1_change_25 rfl ?_
    have hs2 := ne_e hC hA hD2.2.2.2.2.2.1
    have hp2 := ne_e hC hA hD2.2.2.2.2.2.2
    exact r_ireturn E P rfl dX1_change_27 ⟨hr0, rfl, dn, g1, sl1, se2, pl1, pe2, gf2, sf2, pf2, K2, pk2, hM2.kd (Kd.ux (hA.kp hk2) (hk2 _ _ hx) hfr3) hs2 hp2, hD2.2.1, hs2, hp2, h350, h351, hA3, hx3, fun q y hq h1 h2 h3 => hfr3 q y (hk2 _ _ hq) h1 h2 h3⟩
  · obtain ⟨hk3, hx3⟩ := hx2
    have hk2 : Kp h h2 := hk3
    rcases hx3 with ⟨hr, rfl⟩ | ⟨hr, rfl⟩ | ⟨hr, rfl, hq⟩
    · exact r_xoutP E P (fun z hz => by rcases List.mem_singleton.mp hz with rfl; exact Or.inr ⟨by decide, "FlintMine$Refusal", q655, by decide +kernel⟩) (Or.inl ⟨hr, rfl, hk2⟩)
    · exact r_xoutP E P (fun z hz => by rcases List.mem_singleton.mp hz with rfl; exact Or.inr ⟨by decide, "FlintMine$Refusal", q655, by decide +kernel⟩) (Or.inr (Or.inl ⟨hr, rfl, hk2⟩))
    · refine r_xcatchS E [] ⟨12, 27, 28, 26⟩ [] rfl (fun z hz => by cases hz) (by decide) (by decide) q655 (classAt_of (E.ts _ q693)) ?_
      refine r_astore E [some (.ref x), some (.ref (fmAd G 9)), some (.ref a), some (.ref dn), some (.ref q)] dX1_change_28 rfl rfl ?_
      refine r_aload_n E dX1_change_30 rfl ?_
      refine r_aload E dX1_change_31 rfl ?_
      refine r_getfN E cl_X5 6 (by decide) q711 hq rfl dX1_change_33 ?_
      refine r_aload E dX1_change_36 rfl ?_
      refine r_getfN E cl_X5 7 (by decide) q713 hq rfl dX1_change_38 ?_
      refine r_callV E (ct_X1_refuse G hl h2 (hC.kp hk2) (hk2 _ _ hx) (aClose N (f 0) K).2.1.1 (aClose N (f 0) K).2.1.2) mX1_refuse q1038 q1040 qs16 (fun H a1 => fm_rc (ci := 1) (C := RX1) (T := TX1) (N := 9) a1 rfl E.v (hk2 _ _ hx)) rfl rfl (Nat.le_of_ble_eq_true rfl) (Nat.le_of_ble_eq_true rfl) (Nat.le_of_ble_eq_true rfl) dX1_change_41 0 0 (Nat.le_of_ble_eq_true rfl) (Nat.le_of_ble_eq_true rfl) (fun v' h3 q => ?_) (fun _ _ _ q => q.elim)
      obtain ⟨u, rfl, hu, rfl⟩ := q
      have hux : u ≠ x := fun z => by have h9 := hk2 _ _ hx; rw [← z, hu] at h9; cases h9
      refine r_athrow E (ci := 22) rfl fmUp_s dX1_change_44 ?_
      exact r_xout E P (fun z hz => by rcases List.mem_singleton.mp hz with rfl; decide) (Or.inr (Or.inr ⟨hr, rfl, (fmUp_n (fun z => hux z.symm)).trans fmUp_s, fun q y hq h9 => by rw [fmUp_n (fun z => by have h8 := hk2 _ _ hq; rw [z, hu] at h8; cases h8), fmUp_n h9]; exact hk2 _ _ hq⟩))

