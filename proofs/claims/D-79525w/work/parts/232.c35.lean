set_option maxHeartbeats 4000000 in
theorem ct_X1_roof (G : fmG) (hl : (fmLn G).stackTraces = false) (h : fmHp) {x far qu pa sb : Nat} {fl re de : Int32} {sv : Value} {d g sl se pl pe : Nat} {gf sf pf : Nat → Nat} {N : Nat → Int32} {K pk : Nat} (hC : CC G h) (hx : DkO h x far qu d pa sb fl re de sv) (hM : MineAt G h d g sl se pl pe gf sf pf N K pk) (e dh kp : Nat) (pm : Nat → Nat) (hA : AD h pa e dh kp pm) (hk8 : kp ≤ 8) (hpm : ∀ i, i < kp → ∃ fs : List Value, h (pm i) = some (true, .inr (.inl (2, fs)))) (hR : RV N K pk) (v : Int32) : Ct G yX1_roof (ws_ yX1_roof cX1_roof 2 (some .int)) { frames := 9, cells := 25, slots := 3003, locals := 238 } [.ref x, .int v] h (cPost G h x far qu d pa e sb fl re de sv kp pm (aRoof N v)) (cXp h x far qu d pa sb fl sv (aRoof N v)) := by
  refine Ct.of hl (by decide +kernel) (Nat.le_of_ble_eq_true rfl) (fun Γ E P => ?_)
  obtain ⟨hd, ⟨gq, hg, hgq⟩, hgd, hS, hSh, hP, hPk, hK8, hP6, hsp, hse⟩ := id hM
  obtain ⟨mcS, hsl⟩ := hS.o
  obtain ⟨mcP, hpl⟩ := hP.o
  refine r_aload_n E dX1_roof_0 rfl ?_
  refine r_gets E 2 rfl q1064 dX1_roof_1 ?_
  refine r_iconst E (nI 1) dX1_roof_4 (by decide) ?_
  refine r_newa E 0 (.inl (fun _ => 0)) rfl (z_ai 1) q236 (fun e => e) (Nat.le_of_ble_eq_true rfl) (Nat.le_of_ble_eq_true rfl) 24 3002 (Nat.le_of_ble_eq_true rfl) (Nat.le_of_ble_eq_true rfl) dX1_roof_5 (fun b1 hb1 kb1 => ?_)
  refine r_dup E dX1_roof_7 rfl ?_
  refine r_iconst E (nI 0) dX1_roof_8 (by decide) ?_
  refine r_iload_n E dX1_roof_9 rfl ?_
  refine r_iast E fmUp_s (by decide) (by decide) dX1_roof_10 ?_
  refine r_hp (h' := fmUp h b1 (true, .inl (0, 1, .inl (upd (fun _ => 0) 0 v)))) (fmUp_uu _ _ _ _) ?_
  have hkp : Kp h (fmUp h b1 (true, .inl (0, 1, .inl (upd (fun _ => 0) 0 v)))) := (Kp.up hb1)
  have hpm1 : ∀ i, i < kp → ∃ fs : List Value, (fmUp h b1 (true, .inl (0, 1, .inl (upd (fun _ => 0) 0 v)))) (pm i) = some (true, .inr (.inl (2, fs))) := fun i hi => by obtain ⟨fs, z⟩ := hpm i hi; exact ⟨fs, hkp _ _ z⟩
  refine r_callVH E (ct1_X1_change G hl _ (hC.kp hkp) (hkp _ _ hx) (hM.kp hkp) e dh kp pm (hA.kp hkp) hk8 hpm1 hR b1 (upd (fun _ => 0) 0 v) fmUp_s ) mX1_change q651 q653 qs6 (fun H a1 => fm_rc (ci := 1) (C := RX1) (T := TX1) (N := 9) a1 rfl E.v (hkp _ _ hx)) rfl rfl (Nat.le_of_ble_eq_true rfl) (Nat.le_of_ble_eq_true rfl) (Nat.le_of_ble_eq_true rfl) dX1_roof_11 0 0 (Nat.le_of_ble_eq_true rfl) (Nat.le_of_ble_eq_true rfl) (fun v' h2 q => ?_) (fun q Ex h' hx2 => r_xout E P (fun x hx => by cases hx) (cXp.kp hkp hx2))
  obtain ⟨hr0, rfl, hrest⟩ := q
  exact r_ireturn E P rfl dX1_roof_14 (cPost.kp hkp ⟨hr0, rfl, hrest⟩)

set_option maxHeartbeats 4000000 in
theorem ct_X1_props (G : fmG) (hl : (fmLn G).stackTraces = false) (h : fmHp) {x far qu pa sb : Nat} {fl re de : Int32} {sv : Value} {d g sl se pl pe : Nat} {gf sf pf : Nat → Nat} {N : Nat → Int32} {K pk : Nat} (hC : CC G h) (hx : DkO h x far qu d pa sb fl re de sv) (hM : MineAt G h d g sl se pl pe gf sf pf N K pk) (e dh kp : Nat) (pm : Nat → Nat) (hA : AD h pa e dh kp pm) (hk8 : kp ≤ 8) (hpm : ∀ i, i < kp → ∃ fs : List Value, h (pm i) = some (true, .inr (.inl (2, fs)))) (hR : RV N K pk) (v : Int32) : Ct G yX1_props (ws_ yX1_props cX1_props 2 (some .int)) { frames := 9, cells := 25, slots := 3003, locals := 238 } [.ref x, .int v] h (cPost G h x far qu d pa e sb fl re de sv kp pm (aProps N v)) (cXp h x far qu d pa sb fl sv (aProps N v)) := by
  refine Ct.of hl (by decide +kernel) (Nat.le_of_ble_eq_true rfl) (fun Γ E P => ?_)
  obtain ⟨hd, ⟨gq, hg, hgq⟩, hgd, hS, hSh, hP, hPk, hK8, hP6, hsp, hse⟩ := id hM
  obtain ⟨mcS, hsl⟩ := hS.o
  obtain ⟨mcP, hpl⟩ := hP.o
  refine r_aload_n E dX1_props_0 rfl ?_
  refine r_gets E 3 rfl q1073 dX1_props_1 ?_
  refine r_iconst E (nI 1) dX1_props_4 (by decide) ?_
  refine r_newa E 0 (.inl (fun _ => 0)) rfl (z_ai 1) q236 (fun e => e) (Nat.le_of_ble_eq_true rfl) (Nat.le_of_ble_eq_true rfl) 24 3002 (Nat.le_of_ble_eq_true rfl) (Nat.le_of_ble_eq_true rfl) dX1_props_5 (fun b1 hb1 kb1 => ?_)
  refine r_dup E dX1_props_7 rfl ?_
  refine r_iconst E (nI 0) dX1_props_8 (by decide) ?_
  refine r_iload_n E dX1_props_9 rfl ?_
  refine r_iast E fmUp_s (by decide) (by decide) dX1_props_10 ?_
  refine r_hp (h' := fmUp h b1 (true, .inl (0, 1, .inl (upd (fun _ => 0) 0 v)))) (fmUp_uu _ _ _ _) ?_
  have hkp : Kp h (fmUp h b1 (true, .inl (0, 1, .inl (upd (fun _ => 0) 0 v)))) := (Kp.up hb1)
  have hpm1 : ∀ i, i < kp → ∃ fs : List Value, (fmUp h b1 (true, .inl (0, 1, .inl (upd (fun _ => 0) 0 v)))) (pm i) = some (true, .inr (.inl (2, fs))) := fun i hi => by obtain ⟨fs, z⟩ := hpm i hi; exact ⟨fs, hkp _ _ z⟩
  refine r_callVH E (ct2_X1_change G hl _ (hC.kp hkp) (hkp _ _ hx) (hM.kp hkp) e dh kp pm (hA.kp hkp) hk8 hpm1 hR b1 (upd (fun _ => 0) 0 v) fmUp_s ) mX1_change q651 q653 qs6 (fun H a1 => fm_rc (ci := 1) (C := RX1) (T := TX1) (N := 9) a1 rfl E.v (hkp _ _ hx)) rfl rfl (Nat.le_of_ble_eq_true rfl) (Nat.le_of_ble_eq_true rfl) (Nat.le_of_ble_eq_true rfl) dX1_props_11 0 0 (Nat.le_of_ble_eq_true rfl) (Nat.le_of_ble_eq_true rfl) (fun v' h2 q => ?_) (fun q Ex h' hx2 => r_xout E P (fun x hx => by cases hx) (cXp.kp hkp hx2))
  obtain ⟨hr0, rfl, hrest⟩ := q
  exact r_ireturn E P rfl dX1_props_14 (cPost.kp hkp ⟨hr0, rfl, hrest⟩)

set_option maxHeartbeats 4000000 in
theorem ct_X1_pick (G : fmG) (hl : (fmLn G).stackTraces = false) (h : fmHp) {x far qu pa sb : Nat} {fl re de : Int32} {sv : Value} {d g sl se pl pe : Nat} {gf sf pf : Nat → Nat} {N : Nat → Int32} {K pk : Nat} (hC : CC G h) (hx : DkO h x far qu d pa sb fl re de sv) (hM : MineAt G h d g sl se pl pe gf sf pf N K pk) (e dh kp : Nat) (pm : Nat → Nat) (hA : AD h pa e dh kp pm) (hk8 : kp ≤ 8) (hpm : ∀ i, i < kp → ∃ fs : List Value, h (pm i) = some (true, .inr (.inl (2, fs)))) (hR : RV N K pk) (v : Int32) : Ct G yX1_pick (ws_ yX1_pick cX1_pick 2 (some .int)) { frames := 10, cells := 25, slots := 3195, locals := 258 } [.ref x, .int v] h (cPost G h x far qu d pa e sb fl re de sv kp pm (aPick N v pk)) (cXp h x far qu d pa sb fl sv (aPick N v pk)) := by
  refine Ct.of hl (by decide +kernel) (Nat.le_of_ble_eq_true rfl) (fun Γ E P => ?_)
  obtain ⟨hd, ⟨gq, hg, hgq⟩, hgd, hS, hSh, hP, hPk, hK8, hP6, hsp, hse⟩ := id hM
  obtain ⟨mcS, hsl⟩ := hS.o
  obtain ⟨mcP, hpl⟩ := hP.o
  refine r_aload_n E dX1_pick_0 rfl ?_
  refine r_gets E 4 rfl q1082 dX1_pick_1 ?_
  refine r_iconst E (nI 1) dX1_pick_4 (by decide) ?_
  refine r_newa E 0 (.inl (fun _ => 0)) rfl (z_ai 1) q236 (fun e => e) (Nat.le_of_ble_eq_true rfl) (Nat.le_of_ble_eq_true rfl) 24 3194 (Nat.le_of_ble_eq_true rfl) (Nat.le_of_ble_eq_true rfl) dX1_pick_5 (fun b1 hb1 kb1 => ?_)
  refine r_dup E dX1_pick_7 rfl ?_
  refine r_iconst E (nI 0) dX1_pick_8 (by decide) ?_
  refine r_iload_n E dX1_pick_9 rfl ?_
  refine r_iast E fmUp_s (by decide) (by decide) dX1_pick_10 ?_
  refine r_hp (h' := fmUp h b1 (true, .inl (0, 1, .inl (upd (fun _ => 0) 0 v)))) (fmUp_uu _ _ _ _) ?_
  have hkp : Kp h (fmUp h b1 (true, .inl (0, 1, .inl (upd (fun _ => 0) 0 v)))) := (Kp.up hb1)
  have hpm1 : ∀ i, i < kp → ∃ fs : List Value, (fmUp h b1 (true, .inl (0, 1, .inl (upd (fun _ => 0) 0 v)))) (pm i) = some (true, .inr (.inl (2, fs))) := fun i hi => by obtain ⟨fs, z⟩ := hpm i hi; exact ⟨fs, hkp _ _ z⟩
  refine r_callVH E (ct3_X1_change G hl _ (hC.kp hkp) (hkp _ _ hx) (hM.kp hkp) e dh kp pm (hA.kp hkp) hk8 hpm1 hR b1 (upd (fun _ => 0) 0 v) fmUp_s ) mX1_change q651 q653 qs6 (fun H a1 => fm_rc (ci := 1) (C := RX1) (T := TX1) (N := 9) a1 rfl E.v (hkp _ _ hx)) rfl rfl (Nat.le_of_ble_eq_true rfl) (Nat.le_of_ble_eq_true rfl) (Nat.le_of_ble_eq_true rfl) dX1_pick_11 0 0 (Nat.le_of_ble_eq_true rfl) (Nat.le_of_ble_eq_true rfl) (fun v' h2 q => ?_) (fun q Ex h' hx2 => r_xout E P (fun x hx => by cases hx) (cXp.kp hkp hx2))
  obtain ⟨hr0, rfl, hrest⟩ := q
  exact r_ireturn E P rfl dX1_pick_14 (cPost.kp hkp ⟨hr0, rfl, hrest⟩)

set_option maxHeartbeats 4000000 in
theorem ct_X1_sink (G : fmG) (hl : (fmLn G).stackTraces = false) (h : fmHp) {x far qu pa sb : Nat} {fl re de : Int32} {sv : Value} {d g sl se pl pe : Nat} {gf sf pf : Nat → Nat} {N : Nat → Int32} {K pk : Nat} (hC : CC G h) (hx : DkO h x far qu d pa sb fl re de sv) (hM : MineAt G h d g sl se pl pe gf sf pf N K pk) (e dh kp : Nat) (pm : Nat → Nat) (hA : AD h pa e dh kp pm) (hk8 : kp ≤ 8) (hpm : ∀ i, i < kp → ∃ fs : List Value, h (pm i) = some (true, .inr (.inl (2, fs)))) (hR : RV N K pk) (v : Int32) : Ct G yX1_sink (ws_ yX1_sink cX1_sink 2 (some .int)) { frames := 10, cells := 26, slots := 3199, locals := 260 } [.ref x, .int v] h (cPost G h x far qu d pa e sb fl re de sv kp pm (aSink N v K pk)) (cXp h x far qu d pa sb fl sv (aSink N v K pk)) := by
  refine Ct.of hl (by decide +kernel) (Nat.le_of_ble_eq_true rfl) (fun Γ E P => ?_)
  obtain ⟨hd, ⟨gq, hg, hgq⟩, hgd, hS, hSh, hP, hPk, hK8, hP6, hsp, hse⟩ := id hM
  obtain ⟨mcS, hsl⟩ := hS.o
  obtain ⟨mcP, hpl⟩ := hP.o
  refine r_aload_n E dX1_sink_0 rfl ?_
  refine r_gets E 5 rfl q1163 dX1_sink_1 ?_
  refine r_iconst E (nI 1) dX1_sink_4 (by decide) ?_
  refine r_newa E 0 (.inl (fun _ => 0)) rfl (z_ai 1) q236 (fun e => e) (Nat.le_of_ble_eq_true rfl) (Nat.le_of_ble_eq_true rfl) 25 3198 (Nat.le_of_ble_eq_true rfl) (Nat.le_of_ble_eq_true rfl) dX1_sink_5 (fun b1 hb1 kb1 => ?_)
  refine r_dup E dX1_sink_7 rfl ?_
  refine r_iconst E (nI 0) dX1_sink_8 (by decide) ?_
  refine r_iload_n E dX1_sink_9 rfl ?_
  refine r_iast E fmUp_s (by decide) (by decide) dX1_sink_10 ?_
  refine r_hp (h' := fmUp h b1 (true, .inl (0, 1, .inl (upd (fun _ => 0) 0 v)))) (fmUp_uu _ _ _ _) ?_
  have hkp : Kp h (fmUp h b1 (true, .inl (0, 1, .inl (upd (fun _ => 0) 0 v)))) := (Kp.up hb1)
  have hpm1 : ∀ i, i < kp → ∃ fs : List Value, (fmUp h b1 (true, .inl (0, 1, .inl (upd (fun _ => 0) 0 v)))) (pm i) = some (true, .inr (.inl (2, fs))) := fun i hi => by obtain ⟨fs, z⟩ := hpm i hi; exact ⟨fs, hkp _ _ z⟩
  refine r_callVH E (ct4_X1_change G hl _ (hC.kp hkp) (hkp _ _ hx) (hM.kp hkp) e dh kp pm (hA.kp hkp) hk8 hpm1 hR b1 (upd (fun _ => 0) 0 v) fmUp_s ) mX1_change q651 q653 qs6 (fun H a1 => fm_rc (ci := 1) (C := RX1) (T := TX1) (N := 9) a1 rfl E.v (hkp _ _ hx)) rfl rfl (Nat.le_of_ble_eq_true rfl) (Nat.le_of_ble_eq_true rfl) (Nat.le_of_ble_eq_true rfl) dX1_sink_11 0 0 (Nat.le_of_ble_eq_true rfl) (Nat.le_of_ble_eq_true rfl) (fun v' h2 q => ?_) (fun q Ex h' hx2 => r_xout E P (fun x hx => by cases hx) (cXp.kp hkp hx2))
  obtain ⟨hr0, rfl, hrest⟩ := q
  exact r_ireturn E P rfl dX1_sink_14 (cPost.kp hkp ⟨hr0, rfl, hrest⟩)

set_option maxHeartbeats 4000000 in
theorem ct_X1_prop (G : fmG) (hl : (fmLn G).stackTraces = false) (h : fmHp) {x far qu pa sb : Nat} {fl re de : Int32} {sv : Value} {d g sl se pl pe : Nat} {gf sf pf : Nat → Nat} {N : Nat → Int32} {K pk : Nat} (hC : CC G h) (hx : DkO h x far qu d pa sb fl re de sv) (hM : MineAt G h d g sl se pl pe gf sf pf N K pk) (e dh kp : Nat) (pm : Nat → Nat) (hA : AD h pa e dh kp pm) (hk8 : kp ≤ 8) (hpm : ∀ i, i < kp → ∃ fs : List Value, h (pm i) = some (true, .inr (.inl (2, fs)))) (hR : RV N K pk) (v : Int32) : Ct G yX1_prop (ws_ yX1_prop cX1_prop 2 (some .int)) { frames := 10, cells := 24, slots := 3002, locals := 238 } [.ref x, .int v] h (cPost G h x far qu d pa e sb fl re de sv kp pm (aProp N v)) (cXp h x far qu d pa sb fl sv (aProp N v)) := by
  refine Ct.of hl (by decide +kernel) (Nat.le_of_ble_eq_true rfl) (fun Γ E P => ?_)
  obtain ⟨hd, ⟨gq, hg, hgq⟩, hgd, hS, hSh, hP, hPk, hK8, hP6, hsp, hse⟩ := id hM
  obtain ⟨mcS, hsl⟩ := hS.o
  obtain ⟨mcP, hpl⟩ := hP.o
  refine r_aload_n E dX1_prop_0 rfl ?_
  refine r_gets E 7 rfl q1181 dX1_prop_1 ?_
  refine r_iconst E (nI 1) dX1_prop_4 (by decide) ?_
  refine r_newa E 0 (.inl (fun _ => 0)) rfl (z_ai 1) q236 (fun e => e) (Nat.le_of_ble_eq_true rfl) (Nat.le_of_ble_eq_true rfl) 23 3001 (Nat.le_of_ble_eq_true rfl) (Nat.le_of_ble_eq_true rfl) dX1_prop_5 (fun b1 hb1 kb1 => ?_)
  refine r_dup E dX1_prop_7 rfl ?_
  refine r_iconst E (nI 0) dX1_prop_8 (by decide) ?_
  refine r_iload_n E dX1_prop_9 rfl ?_
  refine r_iast E fmUp_s (by decide) (by decide) dX1_prop_10 ?_
  refine r_hp (h' := fmUp h b1 (true, .inl (0, 1, .inl (upd (fun _ => 0) 0 v)))) (fmUp_uu _ _ _ _) ?_
  have hkp : Kp h (fmUp h b1 (true, .inl (0, 1, .inl (upd (fun _ => 0) 0 v)))) := (Kp.up hb1)
  have hpm1 : ∀ i, i < kp → ∃ fs : List Value, (fmUp h b1 (true, .inl (0, 1, .inl (upd (fun _ => 0) 0 v)))) (pm i) = some (true, .inr (.inl (2, fs))) := fun i hi => by obtain ⟨fs, z⟩ := hpm i hi; exact ⟨fs, hkp _ _ z⟩
  refine r_callVH E (ct6_X1_change G hl _ (hC.kp hkp) (hkp _ _ hx) (hM.kp hkp) e dh kp pm (hA.kp hkp) hk8 hpm1 hR b1 (upd (fun _ => 0) 0 v) fmUp_s ) mX1_change q651 q653 qs6 (fun H a1 => fm_rc (ci := 1) (C := RX1) (T := TX1) (N := 9) a1 rfl E.v (hkp _ _ hx)) rfl rfl (Nat.le_of_ble_eq_true rfl) (Nat.le_of_ble_eq_true rfl) (Nat.le_of_ble_eq_true rfl) dX1_prop_11 0 0 (Nat.le_of_ble_eq_true rfl) (Nat.le_of_ble_eq_true rfl) (fun v' h2 q => ?_) (fun q Ex h' hx2 => r_xout E P (fun x hx => by cases hx) (cXp.kp hkp hx2))
  obtain ⟨hr0, rfl, hrest⟩ := q
  exact r_ireturn E P rfl dX1_prop_14 (cPost.kp hkp ⟨hr0, rfl, hrest⟩)

set_option maxHeartbeats 4000000 in
theorem ct_X1_unprop (G : fmG) (hl : (fmLn G).stackTraces = false) (h : fmHp) {x far qu pa sb : Nat} {fl re de : Int32} {sv : Value} {d g sl se pl pe : Nat} {gf sf pf : Nat → Nat} {N : Nat → Int32} {K pk : Nat} (hC : CC G h) (hx : DkO h x far qu d pa sb fl re de sv) (hM : MineAt G h d g sl se pl pe gf sf pf N K pk) (e dh kp : Nat) (pm : Nat → Nat) (hA : AD h pa e dh kp pm) (hk8 : kp ≤ 8) (hpm : ∀ i, i < kp → ∃ fs : List Value, h (pm i) = some (true, .inr (.inl (2, fs)))) (hR : RV N K pk) (v : Int32) : Ct G yX1_unprop (ws_ yX1_unprop cX1_unprop 2 (some .int)) { frames := 10, cells := 24, slots := 3002, locals := 238 } [.ref x, .int v] h (cPost G h x far qu d pa e sb fl re de sv kp pm (aUnprop N v)) (cXp h x far qu d pa sb fl sv (aUnprop N v)) := by
  refine Ct.of hl (by decide +kernel) (Nat.le_of_ble_eq_true rfl) (fun Γ E P => ?_)
  obtain ⟨hd, ⟨gq, hg, hgq⟩, hgd, hS, hSh, hP, hPk, hK8, hP6, hsp, hse⟩ := id hM
  obtain ⟨mcS, hsl⟩ := hS.o
  obtain ⟨mcP, hpl⟩ := hP.o
  refine r_aload_n E dX1_unprop_0 rfl ?_
  refine r_gets E 8 rfl q1190 dX1_unprop_1 ?_
  refine r_iconst E (nI 1) dX1_unprop_4 (by decide) ?_
  refine r_newa E 0 (.inl (fun _ => 0)) rfl (z_ai 1) q236 (fun e => e) (Nat.le_of_ble_eq_true rfl) (Nat.le_of_ble_eq_true rfl) 23 3001 (Nat.le_of_ble_eq_true rfl) (Nat.le_of_ble_eq_true rfl) dX1_unprop_5 (fun b1 hb1 kb1 => ?_)
  refine r_dup E dX1_unprop_7 rfl ?_
  refine r_iconst E (nI 0) dX1_unprop_8 (by decide) ?_
  refine r_iload_n E dX1_unprop_9 rfl ?_
  refine r_iast E fmUp_s (by decide) (by decide) dX1_unprop_10 ?_
  refine r_hp (h' := fmUp h b1 (true, .inl (0, 1, .inl (upd (fun _ => 0) 0 v)))) (fmUp_uu _ _ _ _) ?_
  have hkp : Kp h (fmUp h b1 (true, .inl (0, 1, .inl (upd (fun _ => 0) 0 v)))) := (Kp.up hb1)
  have hpm1 : ∀ i, i < kp → ∃ fs : List Value, (fmUp h b1 (true, .inl (0, 1, .inl (upd (fun _ => 0) 0 v)))) (pm i) = some (true, .inr (.inl (2, fs))) := fun i hi => by obtain ⟨fs, z⟩ := hpm i hi; exact ⟨fs, hkp _ _ z⟩
  refine r_callVH E (ct7_X1_change G hl _ (hC.kp hkp) (hkp _ _ hx) (hM.kp hkp) e dh kp pm (hA.kp hkp) hk8 hpm1 hR b1 (upd (fun _ => 0) 0 v) fmUp_s ) mX1_change q651 q653 qs6 (fun H a1 => fm_rc (ci := 1) (C := RX1) (T := TX1) (N := 9) a1 rfl E.v (hkp _ _ hx)) rfl rfl (Nat.le_of_ble_eq_true rfl) (Nat.le_of_ble_eq_true rfl) (Nat.le_of_ble_eq_true rfl) dX1_unprop_11 0 0 (Nat.le_of_ble_eq_true rfl) (Nat.le_of_ble_eq_true rfl) (fun v' h2 q => ?_) (fun q Ex h' hx2 => r_xout E P (fun x hx => by cases hx) (cXp.kp hkp hx2))
  obtain ⟨hr0, rfl, hrest⟩ := q
  exact r_ireturn E P rfl dX1_unprop_14 (cPost.kp hkp ⟨hr0, rfl, hrest⟩)

set_option maxHeartbeats 4000000 in
theorem ct_X1_close (G : fmG) (hl : (fmLn G).stackTraces = false) (h : fmHp) {x far qu pa sb : Nat} {fl re de : Int32} {sv : Value} {d g sl se pl pe : Nat} {gf sf pf : Nat → Nat} {N : Nat → Int32} {K pk : Nat} (hC : CC G h) (hx : DkO h x far qu d pa sb fl re de sv) (hM : MineAt G h d g sl se pl pe gf sf pf N K pk) (e dh kp : Nat) (pm : Nat → Nat) (hA : AD h pa e dh kp pm) (hk8 : kp ≤ 8) (hpm : ∀ i, i < kp → ∃ fs : List Value, h (pm i) = some (true, .inr (.inl (2, fs)))) (hR : RV N K pk) (v : Int32) : Ct G yX1_close (ws_ yX1_close cX1_close 2 (some .int)) { frames := 11, cells := 88, slots := 3061, locals := 238 } [.ref x, .int v] h (cPost G h x far qu d pa e sb fl re de sv kp pm (aClose N v K)) (cXp h x far qu d pa sb fl sv (aClose N v K)) := by
  refine Ct.of hl (by decide +kernel) (Nat.le_of_ble_eq_true rfl) (fun Γ E P => ?_)
  obtain ⟨hd, ⟨gq, hg, hgq⟩, hgd, hS, hSh, hP, hPk, hK8, hP6, hsp, hse⟩ := id hM
  obtain ⟨mcS, hsl⟩ := hS.o
  obtain ⟨mcP, hpl⟩ := hP.o
  refine r_aload_n E dX1_close_0 rfl ?_
  refine r_gets E 9 rfl q1199 dX1_close_1 ?_
  refine r_iconst E (nI 1) dX1_close_4 (by decide) ?_
  refine r_newa E 0 (.inl (fun _ => 0)) rfl (z_ai 1) q236 (fun e => e) (Nat.le_of_ble_eq_true rfl) (Nat.le_of_ble_eq_true rfl) 87 3060 (Nat.le_of_ble_eq_true rfl) (Nat.le_of_ble_eq_true rfl) dX1_close_5 (fun b1 hb1 kb1 => ?_)
  refine r_dup E dX1_close_7 rfl ?_
  refine r_iconst E (nI 0) dX1_close_8 (by decide) ?_
  refine r_iload_n E dX1_close_9 rfl ?_
  refine r_iast E fmUp_s (by decide) (by decide) dX1_close_10 ?_
  refine r_hp (h' := fmUp h b1 (true, .inl (0, 1, .inl (upd (fun _ => 0) 0 v)))) (fmUp_uu _ _ _ _) ?_
  have hkp : Kp h (fmUp h b1 (true, .inl (0, 1, .inl (upd (fun _ => 0) 0 v)))) := (Kp.up hb1)
  have hpm1 : ∀ i, i < kp → ∃ fs : List Value, (fmUp h b1 (true, .inl (0, 1, .inl (upd (fun _ => 0) 0 v)))) (pm i) = some (true, .inr (.inl (2, fs))) := fun i hi => by obtain ⟨fs, z⟩ := hpm i hi; exact ⟨fs, hkp _ _ z⟩
  refine r_callVH E (ct8_X1_change G hl _ (hC.kp hkp) (hkp _ _ hx) (hM.kp hkp) e dh kp pm (hA.kp hkp) hk8 hpm1 hR b1 (upd (fun _ => 0) 0 v) fmUp_s ) mX1_change q651 q653 qs6 (fun H a1 => fm_rc (ci := 1) (C := RX1) (T := TX1) (N := 9) a1 rfl E.v (hkp _ _ hx)) rfl rfl (Nat.le_of_ble_eq_true rfl) (Nat.le_of_ble_eq_true rfl) (Nat.le_of_ble_eq_true rfl) dX1_close_11 0 0 (Nat.le_of_ble_eq_true rfl) (Nat.le_of_ble_eq_true rfl) (fun v' h2 q => ?_) (fun q Ex h' hx2 => r_xout E P (fun x hx => by cases hx) (cXp.kp hkp hx2))
  obtain ⟨hr0, rfl, hrest⟩ := q
  exact r_ireturn E P rfl dX1_close_14 (cPost.kp hkp ⟨hr0, rfl, hrest⟩)

set_option maxHeartbeats 4000000 in
theorem ct_X1_dig (G : fmG) (hl : (fmLn G).stackTraces = false) (h : fmHp) {x far qu pa sb : Nat} {fl re de : Int32} {sv : Value} {d g sl se pl pe : Nat} {gf sf pf : Nat → Nat} {N : Nat → Int32} {K pk : Nat} (hC : CC G h) (hx : DkO h x far qu d pa sb fl re de sv) (hM : MineAt G h d g sl se pl pe gf sf pf N K pk) (e dh kp : Nat) (pm : Nat → Nat) (hA : AD h pa e dh kp pm) (hk8 : kp ≤ 8) (hpm : ∀ i, i < kp → ∃ fs : List Value, h (pm i) = some (true, .inr (.inl (2, fs)))) (hR : RV N K pk) (s v : Int32) (p : Bool) : Ct G yX1_dig (ws_ yX1_dig cX1_dig 4 (some .int)) { frames := 11, cells := 28, slots := 3212, locals := 238 } [.ref x, .int s, .int v, .int (bI p)] h (cPost G h x far qu d pa e sb fl re de sv kp pm (aDig N s v p K pk)) (cXp h x far qu d pa sb fl sv (aDig N s v p K pk)) := by
  refine Ct.of hl (by decide +kernel) (Nat.le_of_ble_eq_true rfl) (fun Γ E P => ?_)
  obtain ⟨hd, ⟨gq, hg, hgq⟩, hgd, hS, hSh, hP, hPk, hK8, hP6, hsp, hse⟩ := id hM
  obtain ⟨mcS, hsl⟩ := hS.o
  obtain ⟨mcP, hpl⟩ := hP.o
  cases p with
  | true =>
    refine r_aload_n E dX1_dig_0 rfl ?_
    refine r_gets E 6 rfl q1172 dX1_dig_1 ?_
    refine r_iconst E (nI 3) dX1_dig_4 (by decide) ?_
    refine r_newa E 0 (.inl (fun _ => 0)) rfl (z_ai 3) q236 (fun e => e) (Nat.le_of_ble_eq_true rfl) (Nat.le_of_ble_eq_true rfl) 27 3209 (Nat.le_of_ble_eq_true rfl) (Nat.le_of_ble_eq_true rfl) dX1_dig_5 (fun b1 hb1 kb1 => ?_)
    refine r_dup E dX1_dig_7 rfl ?_
    refine r_iconst E (nI 0) dX1_dig_8 (by decide) ?_
    refine r_iload_n E dX1_dig_9 rfl ?_
    refine r_iast E fmUp_s (by decide) (by decide) dX1_dig_10 ?_
    refine r_hp (h' := fmUp h b1 (true, .inl (0, 3, .inl (upd (fun _ => 0) 0 s)))) (fmUp_uu _ _ _ _) ?_
    refine r_dup E dX1_dig_11 rfl ?_
    refine r_iconst E (nI 1) dX1_dig_12 (by decide) ?_
    refine r_iload_n E dX1_dig_13 rfl ?_
    refine r_iast E fmUp_s (by decide) (by decide) dX1_dig_14 ?_
    refine r_hp (h' := fmUp h b1 (true, .inl (0, 3, .inl (upd (upd (fun _ => 0) 0 s) 1 v)))) (fmUp_uu _ _ _ _) ?_
    refine r_dup E dX1_dig_15 rfl ?_
    refine r_iconst E (nI 2) dX1_dig_16 (by decide) ?_
    refine r_iload_n E dX1_dig_17 rfl ?_
    refine r_ifB_eq (b := true) (tgt := 25) E dX1_dig_18 (by decide) (fun c => absurd c (by decide)) (fun _ => ?_)
    refine r_iconst E (nI 1) dX1_dig_21 (by decide) ?_
    refine r_goto (tgt := 26) E dX1_dig_22 (by decide) ?_
    refine r_iast E fmUp_s (by decide) (by decide) dX1_dig_26 ?_
    refine r_hp (h' := fmUp h b1 (true, .inl (0, 3, .inl (upd (upd (upd (fun _ => 0) 0 s) 1 v) 2 (nI 1))))) (fmUp_uu _ _ _ _) ?_
    have hkp : Kp h (fmUp h b1 (true, .inl (0, 3, .inl (upd (upd (upd (fun _ => 0) 0 s) 1 v) 2 (nI 1))))) := (Kp.up hb1)
    have hpm1 : ∀ i, i < kp → ∃ fs : List Value, (fmUp h b1 (true, .inl (0, 3, .inl (upd (upd (upd (fun _ => 0) 0 s) 1 v) 2 (nI 1))))) (pm i) = some (true, .inr (.inl (2, fs))) := fun i hi => by obtain ⟨fs, z⟩ := hpm i hi; exact ⟨fs, hkp _ _ z⟩
    refine r_callVH E (ct5_X1_change G hl _ (hC.kp hkp) (hkp _ _ hx) (hM.kp hkp) e dh kp pm (hA.kp hkp) hk8 hpm1 hR b1 (upd (upd (upd (fun _ => 0) 0 s) 1 v) 2 (nI 1)) fmUp_s ) mX1_change q651 q653 qs6 (fun H a1 => fm_rc (ci := 1) (C := RX1) (T := TX1) (N := 9) a1 rfl E.v (hkp _ _ hx)) rfl rfl (Nat.le_of_ble_eq_true rfl) (Nat.le_of_ble_eq_true rfl) (Nat.le_of_ble_eq_true rfl) dX1_dig_27 0 0 (Nat.le_of_ble_eq_true rfl) (Nat.le_of_ble_eq_true rfl) (fun v' h2 q => ?_) (fun q Ex h' hx2 => r_xout E P (fun x hx => by cases hx) (cXp.kp hkp hx2))
    obtain ⟨hr0, rfl, hrest⟩ := q
    exact r_ireturn E P rfl dX1_dig_30 (cPost.kp hkp ⟨hr0, rfl, hrest⟩)
  | false =>
    refine r_aload_n E dX1_dig_0 rfl ?_
    refine r_gets E 6 rfl q1172 dX1_dig_1 ?_
    refine r_iconst E (nI 3) dX1_dig_4 (by decide) ?_
    refine r_newa E 0 (.inl (fun _ => 0)) rfl (z_ai 3) q236 (fun e => e) (Nat.le_of_ble_eq_true rfl) (Nat.le_of_ble_eq_true rfl) 27 3209 (Nat.le_of_ble_eq_true rfl) (Nat.le_of_ble_eq_true rfl) dX1_dig_5 (fun b1 hb1 kb1 => ?_)
    refine r_dup E dX1_dig_7 rfl ?_
    refine r_iconst E (nI 0) dX1_dig_8 (by decide) ?_
    refine r_iload_n E dX1_dig_9 rfl ?_
    refine r_iast E fmUp_s (by decide) (by decide) dX1_dig_10 ?_
    refine r_hp (h' := fmUp h b1 (true, .inl (0, 3, .inl (upd (fun _ => 0) 0 s)))) (fmUp_uu _ _ _ _) ?_
    refine r_dup E dX1_dig_11 rfl ?_
    refine r_iconst E (nI 1) dX1_dig_12 (by decide) ?_
    refine r_iload_n E dX1_dig_13 rfl ?_
    refine r_iast E fmUp_s (by decide) (by decide) dX1_dig_14 ?_
    refine r_hp (h' := fmUp h b1 (true, .inl (0, 3, .inl (upd (upd (fun _ => 0) 0 s) 1 v)))) (fmUp_uu _ _ _ _) ?_
    refine r_dup E dX1_dig_15 rfl ?_
    refine r_iconst E (nI 2) dX1_dig_16 (by decide) ?_
    refine r_iload_n E dX1_dig_17 rfl ?_
    refine r_ifB_eq (b := false) (tgt := 25) E dX1_dig_18 (by decide) (fun _ => ?_) (fun c => absurd c (by decide))
    refine r_iconst E (nI 0) dX1_dig_25 (by decide) ?_
    refine r_iast E fmUp_s (by decide) (by decide) dX1_dig_26 ?_
    refine r_hp (h' := fmUp h b1 (true, .inl (0, 3, .inl (upd (upd (upd (fun _ => 0) 0 s) 1 v) 2 (nI 0))))) (fmUp_uu _ _ _ _) ?_
    have hkp : Kp h (fmUp h b1 (true, .inl (0, 3, .inl (upd (upd (upd (fun _ => 0) 0 s) 1 v) 2 (nI 0))))) := (Kp.up hb1)
    have hpm1 : ∀ i, i < kp → ∃ fs : List Value, (fmUp h b1 (true, .inl (0, 3, .inl (upd (upd (upd (fun _ => 0) 0 s) 1 v) 2 (nI 0))))) (pm i) = some (true, .inr (.inl (2, fs))) := fun i hi => by obtain ⟨fs, z⟩ := hpm i hi; exact ⟨fs, hkp _ _ z⟩
    refine r_callVH E (ct5_X1_change G hl _ (hC.kp hkp) (hkp _ _ hx) (hM.kp hkp) e dh kp pm (hA.kp hkp) hk8 hpm1 hR b1 (upd (upd (upd (fun _ => 0) 0 s) 1 v) 2 (nI 0)) fmUp_s ) mX1_change q651 q653 qs6 (fun H a1 => fm_rc (ci := 1) (C := RX1) (T := TX1) (N := 9) a1 rfl E.v (hkp _ _ hx)) rfl rfl (Nat.le_of_ble_eq_true rfl) (Nat.le_of_ble_eq_true rfl) (Nat.le_of_ble_eq_true rfl) dX1_dig_27 0 0 (Nat.le_of_ble_eq_true rfl) (Nat.le_of_ble_eq_true rfl) (fun v' h2 q => ?_) (fun q Ex h' hx2 => r_xout E P (fun x hx => by cases hx) (cXp.kp hkp hx2))
    obtain ⟨hr0, rfl, hrest⟩ := q
    exact r_ireturn E P rfl dX1_dig_30 (cPost.kp hkp ⟨hr0, rfl, hrest⟩)

set_option maxHeartbeats 4000000 in
theorem ct_X1_rock (G : fmG) (hl : (fmLn G).stackTraces = false) (h : fmHp) {x far qu pa sb : Nat} {fl re de : Int32} {sv : Value} {d g sl se pl pe : Nat} {gf sf pf : Nat → Nat} {N : Nat → Int32} {K pk : Nat} (hC : CC G h) (hx : DkO h x far qu d pa sb fl re de sv) (hM : MineAt G h d g sl se pl pe gf sf pf N K pk) (e dh kp : Nat) (pm : Nat → Nat) (hA : AD h pa e dh kp pm) (hk8 : kp ≤ 8) (hpm : ∀ i, i < kp → ∃ fs : List Value, h (pm i) = some (true, .inr (.inl (2, fs)))) (hR : RV N K pk) (v t1 t2 : Int32) : Ct G yX1_rock (ws_ yX1_rock cX1_rock 5 (some .int)) { frames := 9, cells := 28, slots := 3011, locals := 238 } [.ref x, .int v, .int t1, .int t2] h (cPost G h x far qu d pa e sb fl re de sv kp pm (aRock N v t1 t2)) (cXp h x far qu d pa sb fl sv (aRock N v t1 t2)) := by
  refine Ct.of hl (by decide +kernel) (Nat.le_of_ble_eq_true rfl) (fun Γ E P => ?_)
  obtain ⟨hd, ⟨gq, hg, hgq⟩, hgd, hS, hSh, hP, hPk, hK8, hP6, hsp, hse⟩ := id hM
  obtain ⟨mcS, hsl⟩ := hS.o
  obtain ⟨mcP, hpl⟩ := hP.o
  refine r_iconst E (nI 1) dX1_rock_0 (by decide) ?_
  refine r_newa E 0 (.inl (fun _ => 0)) rfl (z_ai 1) q236 (fun e => e) (Nat.le_of_ble_eq_true rfl) (Nat.le_of_ble_eq_true rfl) 27 3010 (Nat.le_of_ble_eq_true rfl) (Nat.le_of_ble_eq_true rfl) dX1_rock_1 (fun b1 hb1 kb1 => ?_)
  refine r_dup E dX1_rock_3 rfl ?_
  refine r_iconst E (nI 0) dX1_rock_4 (by decide) ?_
  refine r_iload_n E dX1_rock_5 rfl ?_
  refine r_iast E fmUp_s (by decide) (by decide) dX1_rock_6 ?_
  refine r_hp (h' := fmUp h b1 (true, .inl (0, 1, .inl (upd (fun _ => 0) 0 v)))) (fmUp_uu _ _ _ _) ?_
  cases hv : sBetween v (nI 0) (nI 63) with
  | false =>
    refine r_callS E (ctF_X1_cellOf G hl _ b1 true _ fmUp_s (by rw [upd_eq' rfl]; exact hv)) mX1_cellOf q78 q625 q626 rfl rfl (Nat.le_of_ble_eq_true rfl) (Nat.le_of_ble_eq_true rfl) (Nat.le_of_ble_eq_true rfl) dX1_rock_7 0 0 (Nat.le_of_ble_eq_true rfl) (Nat.le_of_ble_eq_true rfl) (fun _ _ q => q.elim) (fun q Ex h' hx => ?_)
    exact r_xout E P (fun x hx => by cases hx) (Or.inl ⟨congrArg (fun z => z.1) (show aRock N v t1 t2 = aThr 1 by unfold aRock; rw [hv]; rfl), hx.1, (Kp.up hb1).trans (xO_kp hx)⟩)
  | true =>
    obtain ⟨c, hc0, rfl⟩ := sBtw_of (by decide) hv
    have hc : c < 64 := by omega
    refine r_callS1 (v1 := .int (nI c)) E (ctT_X1_cellOf G hl (fmUp h b1 (true, .inl (0, 1, .inl (upd (fun _ => 0) 0 (nI c))))) b1 true (upd (fun _ => 0) 0 (nI c)) fmUp_s c hc (upd_eq' rfl)) mX1_cellOf q78 q625 q626 rfl rfl (Nat.le_of_ble_eq_true rfl) (Nat.le_of_ble_eq_true rfl) (Nat.le_of_ble_eq_true rfl) dX1_rock_7 27 3010 (Nat.le_of_ble_eq_true rfl) (Nat.le_of_ble_eq_true rfl) ?_
    have hkp0 : Kp h (fmUp h b1 (true, .inl (0, 1, .inl (upd (fun _ => 0) 0 (nI c))))) := Kp.up hb1
    refine r_istore E [some (.ref x), some (.int (nI c)), some (.int t1), some (.int t2), some (.int (nI c))] dX1_rock_10 rfl rfl ?_
    refine r_aload_n E dX1_rock_12 rfl ?_
    refine r_gets E 1 rfl q649 dX1_rock_13 ?_
    refine r_iconst E (nI 3) dX1_rock_16 (by decide) ?_
    refine r_newa E 0 (.inl (fun _ => 0)) rfl (z_ai 3) q236 (fun e => e) (Nat.le_of_ble_eq_true rfl) (Nat.le_of_ble_eq_true rfl) 25 3005 (Nat.le_of_ble_eq_true rfl) (Nat.le_of_ble_eq_true rfl) dX1_rock_17 (fun b2 hb2 kb2 => ?_)
    refine r_dup E dX1_rock_19 rfl ?_
    refine r_iconst E (nI 0) dX1_rock_20 (by decide) ?_
    refine r_iload E dX1_rock_21 rfl ?_
    refine r_iast E fmUp_s (by decide) (by decide) dX1_rock_23 ?_
    refine r_hp (h' := fmUp (fmUp h b1 (true, .inl (0, 1, .inl (upd (fun _ => 0) 0 (nI c))))) b2 (true, .inl (0, 3, .inl (upd (fun _ => 0) 0 (nI c))))) (fmUp_uu _ _ _ _) ?_
    refine r_dup E dX1_rock_24 rfl ?_
    refine r_iconst E (nI 1) dX1_rock_25 (by decide) ?_
    refine r_iload_n E dX1_rock_26 rfl ?_
    refine r_iast E fmUp_s (by decide) (by decide) dX1_rock_27 ?_
    refine r_hp (h' := fmUp (fmUp h b1 (true, .inl (0, 1, .inl (upd (fun _ => 0) 0 (nI c))))) b2 (true, .inl (0, 3, .inl (upd (upd (fun _ => 0) 0 (nI c)) 1 t1)))) (fmUp_uu _ _ _ _) ?_
    refine r_dup E dX1_rock_28 rfl ?_
    refine r_iconst E (nI 2) dX1_rock_29 (by decide) ?_
    refine r_iload_n E dX1_rock_30 rfl ?_
    refine r_iast E fmUp_s (by decide) (by decide) dX1_rock_31 ?_
    refine r_hp (h' := fmUp (fmUp h b1 (true, .inl (0, 1, .inl (upd (fun _ => 0) 0 (nI c))))) b2 (true, .inl (0, 3, .inl (upd (upd (upd (fun _ => 0) 0 (nI c)) 1 t1) 2 t2)))) (fmUp_uu _ _ _ _) ?_
    have hkp : Kp h (fmUp (fmUp h b1 (true, .inl (0, 1, .inl (upd (fun _ => 0) 0 (nI c))))) b2 (true, .inl (0, 3, .inl (upd (upd (upd (fun _ => 0) 0 (nI c)) 1 t1) 2 t2)))) := hkp0.trans (Kp.up hb2)
    have hpm1 : ∀ i, i < kp → ∃ fs : List Value, (fmUp (fmUp h b1 (true, .inl (0, 1, .inl (upd (fun _ => 0) 0 (nI c))))) b2 (true, .inl (0, 3, .inl (upd (upd (upd (fun _ => 0) 0 (nI c)) 1 t1) 2 t2)))) (pm i) = some (true, .inr (.inl (2, fs))) := fun i hi => by obtain ⟨fs, z⟩ := hpm i hi; exact ⟨fs, hkp _ _ z⟩
    refine r_callVH E (ct0_X1_change G hl _ (hC.kp hkp) (hkp _ _ hx) (hM.kp hkp) e dh kp pm (hA.kp hkp) hk8 hpm1 hR b2 (upd (upd (upd (fun _ => 0) 0 (nI c)) 1 t1) 2 t2) fmUp_s c hc rfl) mX1_change q651 q653 qs6 (fun H a1 => fm_rc (ci := 1) (C := RX1) (T := TX1) (N := 9) a1 rfl E.v (hkp _ _ hx)) rfl rfl (Nat.le_of_ble_eq_true rfl) (Nat.le_of_ble_eq_true rfl) (Nat.le_of_ble_eq_true rfl) dX1_rock_32 0 0 (Nat.le_of_ble_eq_true rfl) (Nat.le_of_ble_eq_true rfl) (fun v' h2 q => ?_) (fun q Ex h' hx2 => r_xout E P (fun x hx => by cases hx) (cXp.kp hkp hx2))
    obtain ⟨hr0, rfl, hrest⟩ := q
    exact r_ireturn E P rfl dX1_rock_35 (cPost.kp hkp ⟨hr0, rfl, hrest⟩)

