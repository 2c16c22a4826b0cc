set_option maxHeartbeats 4000000 in
theorem ct_X1_reached (G : fmG) (hl : (fmLn G).stackTraces = false) (h : fmHp) {x far qu pa sb : Nat} {fl re de : Int32} {sv : Value} {d g sl se pl pe : Nat} {gf sf pf : Nat → Nat} {N : Nat → Int32} {K pk : Nat} (hC : CC G h) (hx : DkO h x far qu d pa sb fl re de sv) (hM : MineAt G h d g sl se pl pe gf sf pf N K pk) {X0 W0 : Nat → Int32} (hfar : h far = some (fqA X0)) (hqu : h qu = some (fqA W0)) (hfq : far ≠ qu) (hR : RV N K pk) (j : Nat) (hj : j < K) : Ct G yX1_reached (ws_ yX1_reached cX1_reached 4 (some .int)) { frames := 71, cells := 4096, slots := 12288, locals := 2025 } [.ref x, .int (nI j)] h (fun v h' => v = some (.int (nI (bAll N j K).2.2)) ∧ ∃ X W, Kp (fqH h far qu X W) h') fmNo := by
  refine Ct.of hl (by decide +kernel) (Nat.le_of_ble_eq_true rfl) (fun Γ E P => ?_)
  obtain ⟨hd, ⟨gq, hg, hgq⟩, hgd, hS, hSh, hP, hPk, hK8, hP6, hsp, hse⟩ := id hM
  obtain ⟨mcS, hsl⟩ := hS.o
  obtain ⟨mcP, hpl⟩ := hP.o
  have KX : ∀ X W, Kz h (fqH h far qu X W) := fun X W => fqH_kz hfar hqu
  refine r_iconst E (nI 0) dX1_reached_0 (by decide) ?_
  refine r_istore_n E [some (.ref x), some (.int (nI j)), some (.int (nI 0)), none] dX1_reached_1 rfl rfl ?_
  refine r_iconst E (nI 0) dX1_reached_2 (by decide) ?_
  refine r_istore_n E [some (.ref x), some (.int (nI j)), some (.int (nI 0)), some (.int (nI 0))] dX1_reached_3 rfl rfl ?_
  have lp : ∀ (n i : Nat) (hh : fmHp) (X W : Nat → Int32), i + n = 64 → Kp (fqH h far qu X W) hh → fmW G Γ hh (n * 64) (n * 192) 4 [some (.ref x), some (.int (nI j)), some (.int (nI (sCount (fun c => (sFirK N (cFar N j c K).1 (nI j) 64).isSome) i))), some (.int (nI i))] [] := by
    intro n
    induction n with
    | zero =>
      intro i hh X W hi hk
      have hz : Kz h hh := (fqH_kz hfar hqu).trans (Kz.of hk)
      refine r_iload_n E dX1_reached_4 rfl ?_
      refine r_bipush E (nI 64) dX1_reached_5 (by decide) ?_
      refine r_icmpN_ge (tgt := 33) E dX1_reached_7 (by decide) (by omega) (by omega) (fun c1 => ?_) (fun c1 => ?_)
      · refine r_iload_n E dX1_reached_33 rfl ?_
        have h64 : i = 64 := by omega
        refine r_top (v' := .int (nI (bAll N j K).2.2)) (congrArg (fun z => Value.int (nI z)) (by rw [h64]; exact cReach_eq hR hj)) ?_
        exact r_ireturn E P rfl dX1_reached_34 ⟨rfl, X, W, hk⟩
      · exfalso; omega
    | succ n ih =>
      intro i hh X W hi hk
      have hz : Kz h hh := (fqH_kz hfar hqu).trans (Kz.of hk)
      refine r_iload_n E dX1_reached_4 rfl ?_
      refine r_bipush E (nI 64) dX1_reached_5 (by decide) ?_
      refine r_icmpN_ge (tgt := 33) E dX1_reached_7 (by decide) (by omega) (by omega) (fun c1 => ?_) (fun c1 => ?_)
      · exfalso; omega
      · refine r_iload_n E dX1_reached_10 rfl ?_
        refine r_aload_n E dX1_reached_11 rfl ?_
        refine r_iload_n E dX1_reached_12 rfl ?_
        refine r_iload_n E dX1_reached_13 rfl ?_
        refine r_callV E (ct_X1_trail G hl hh (hC.kz hz) (hz _ _ hx (fun _ _ z => by cases z)) (hM.kz hz) (hk _ _ (fqH_f hfq)) (hk _ _ fqH_q) hfq j i (by omega) (by omega)) mX1_trail q1215 q1217 qs18 (fun H a1 => fm_rc (ci := 1) (C := RX1) (T := TX1) (N := 9) a1 rfl E.v (hz _ _ hx (fun _ _ z => by cases z))) rfl rfl (Nat.le_of_ble_eq_true rfl) (Nat.le_of_ble_eq_true rfl) (Nat.le_of_ble_eq_true rfl) dX1_reached_14 (n * 64) (n * 192) (show (n * 64) + 64 ≤ ((n + 1) * 64) by omega) (show (n * 192) + 192 ≤ ((n + 1) * 192) by omega) (fun v' h1 q => ?_) (fun _ _ _ q => q.elim)
        obtain ⟨X', W', hk2, hor⟩ := q
        have hk3 := fqH_next hfq hk hk2
        rcases hor with ⟨hb, rfl⟩ | ⟨b, a, hb, rfl, hT⟩
        · refine r_ifnullN (tgt := 24) E dX1_reached_17 (by decide) ?_
          refine r_iconst E (nI 0) dX1_reached_24 (by decide) ?_
          refine r_iaddN E dX1_reached_25 ?_
          refine r_topi (congrArg nI (Nat.add_zero _)) ?_
          refine r_top (v' := .int (nI (sCount (fun c => (sFirK N (cFar N j c K).1 (nI j) 64).isSome) (i + 1)))) (congrArg (fun z => Value.int (nI z)) (by show sCount (fun c => (sFirK N (cFar N j c K).1 (nI j) 64).isSome) i = sCount (fun c => (sFirK N (cFar N j c K).1 (nI j) 64).isSome) i + (if (sFirK N (cFar N j i K).1 (nI j) 64).isSome = true then 1 else 0); rw [hb]; rfl)) ?_
          refine r_istore_n E [some (.ref x), some (.int (nI j)), some (.int (nI (sCount (fun c => (sFirK N (cFar N j c K).1 (nI j) 64).isSome) (i + 1)))), some (.int (nI i))] dX1_reached_26 rfl rfl ?_
          refine r_iinc E (nI (i + 1)) [some (.ref x), some (.int (nI j)), some (.int (nI (sCount (fun c => (sFirK N (cFar N j c K).1 (nI j) 64).isSome) (i + 1)))), some (.int (nI (i + 1)))] dX1_reached_27 rfl (nI_1 i) rfl rfl ?_
          refine r_goto (tgt := 4) E dX1_reached_30 (by decide) ?_
          exact ih (i + 1) h1 X' W' (by omega) hk3
        · refine r_ifnull E dX1_reached_17 ?_
          refine r_iconst E (nI 1) dX1_reached_20 (by decide) ?_
          refine r_goto (tgt := 25) E dX1_reached_21 (by decide) ?_
          refine r_iaddN E dX1_reached_25 ?_
          refine r_top (v' := .int (nI (sCount (fun c => (sFirK N (cFar N j c K).1 (nI j) 64).isSome) (i + 1)))) (congrArg (fun z => Value.int (nI z)) (by show sCount (fun c => (sFirK N (cFar N j c K).1 (nI j) 64).isSome) i + 1 = sCount (fun c => (sFirK N (cFar N j c K).1 (nI j) 64).isSome) i + (if (sFirK N (cFar N j i K).1 (nI j) 64).isSome = true then 1 else 0); rw [hb]; rfl)) ?_
          refine r_istore_n E [some (.ref x), some (.int (nI j)), some (.int (nI (sCount (fun c => (sFirK N (cFar N j c K).1 (nI j) 64).isSome) (i + 1)))), some (.int (nI i))] dX1_reached_26 rfl rfl ?_
          refine r_iinc E (nI (i + 1)) [some (.ref x), some (.int (nI j)), some (.int (nI (sCount (fun c => (sFirK N (cFar N j c K).1 (nI j) 64).isSome) (i + 1)))), some (.int (nI (i + 1)))] dX1_reached_27 rfl (nI_1 i) rfl rfl ?_
          refine r_goto (tgt := 4) E dX1_reached_30 (by decide) ?_
          exact ih (i + 1) h1 X' W' (by omega) hk3
  exact lp 64 0 h X0 W0 rfl (by rw [← fqH_id hfar hqu]; exact Kp.refl)

set_option maxHeartbeats 4000000 in
theorem ct_X1_shaft (G : fmG) (hl : (fmLn G).stackTraces = false) (h : fmHp) {x far qu pa sb : Nat} {fl re de : Int32} {sv : Value} {d g sl se pl pe : Nat} {gf sf pf : Nat → Nat} {N : Nat → Int32} {K pk : Nat} (hC : CC G h) (hx : DkO h x far qu d pa sb fl re de sv) (hM : MineAt G h d g sl se pl pe gf sf pf N K pk) {X0 W0 : Nat → Int32} (hfar : h far = some (fqA X0)) (hqu : h qu = some (fqA W0)) (hfq : far ≠ qu) (hR : RV N K pk) (s u : Int32) : Ct G yX1_shaft (ws_ yX1_shaft cX1_shaft 4 (some .int)) { frames := 72, cells := 4098, slots := 12300, locals := 2048 } [.ref x, .int s, .int u] h (rPost h far qu (aShaft N s u K)) (rXp h far qu (exQ "java/lang/IndexOutOfBoundsException" "java/lang/IllegalArgumentException") (aShaft N s u K)) := by
  refine Ct.of hl (by decide +kernel) (Nat.le_of_ble_eq_true rfl) (fun Γ E P => ?_)
  obtain ⟨hd, ⟨gq, hg, hgq⟩, hgd, hS, hSh, hP, hPk, hK8, hP6, hsp, hse⟩ := id hM
  obtain ⟨mcS, hsl⟩ := hS.o
  obtain ⟨mcP, hpl⟩ := hP.o
  have KX : ∀ X W, Kz h (fqH h far qu X W) := fun X W => fqH_kz hfar hqu
  refine r_aload_n E dX1_shaft_0 rfl ?_
  refine r_getf E cl_X1 2 (by decide) q272 hx rfl dX1_shaft_1 ?_
  refine r_iload_n E dX1_shaft_4 rfl ?_
  cases hs : sBetween s (nI 0) (nI K - nI 1) with
  | false =>
    refine r_callV E (ctF_X2_shaft G hl h hC hM s hs) mX2_shaft q1208 q909 q910 (fun H a1 => fm_rc (ci := 2) (C := RX2) (T := TX2) (N := 7) a1 rfl E.v hd) rfl rfl (Nat.le_of_ble_eq_true rfl) (Nat.le_of_ble_eq_true rfl) (Nat.le_of_ble_eq_true rfl) dX1_shaft_5 0 0 (Nat.le_of_ble_eq_true rfl) (Nat.le_of_ble_eq_true rfl) (fun _ _ q => q.elim) (fun q Ex h' hx => ?_)
    exact r_xout E P (fun x hx => by cases hx) (rX_thr (k := 1) (rKq hfar hqu Kp.refl) (aG_t (by rw [hs]; rfl)) (by decide) rfl hx)
  | true =>
    obtain ⟨j, hj, rfl⟩ := sShaft_of (by omega) hs
    have hjn : cN (nI j) = j := cN_n (by omega)
    obtain ⟨cl, hcl, hso⟩ := hSh j hj
    refine r_callV1 (v1 := .ref (sf j)) E (ctT_X2_shaft G hl h hC hM j hj) mX2_shaft q1208 q909 q910 (fun H a1 => fm_rc (ci := 2) (C := RX2) (T := TX2) (N := 7) a1 rfl E.v hd) rfl rfl (Nat.le_of_ble_eq_true rfl) (Nat.le_of_ble_eq_true rfl) (Nat.le_of_ble_eq_true rfl) dX1_shaft_5 4098 12300 (Nat.le_of_ble_eq_true rfl) (Nat.le_of_ble_eq_true rfl) ?_
    refine r_astore_n E [some (.ref x), some (.int (nI j)), some (.int u), some (.ref (sf j))] dX1_shaft_8 rfl rfl ?_
    refine r_iconst E (nI 1) dX1_shaft_9 (by decide) ?_
    refine r_newa E 5 (.inl (fun _ => 0)) rfl (z_ab 1) q681 (fun e => e) (Nat.le_of_ble_eq_true rfl) (Nat.le_of_ble_eq_true rfl) 4097 12299 (Nat.le_of_ble_eq_true rfl) (Nat.le_of_ble_eq_true rfl) dX1_shaft_10 (fun b1 hb1 kb1 => ?_)
    refine r_dup E dX1_shaft_12 rfl ?_
    refine r_iconst E (nI 0) dX1_shaft_13 (by decide) ?_
    refine r_iload_n E dX1_shaft_14 rfl ?_
    refine r_iconst E (nI 0) dX1_shaft_15 (by decide) ?_
    refine r_iconst E (nI 5) dX1_shaft_16 (by decide) ?_
    refine r_callS1 (v1 := .int (bI (sBetween u (nI 0) (nI 5)))) E (ct_X1_inRange G hl (fmUp h b1 (true, .inl (5, 1, .inl (fun _ => 0)))) u (nI 0) (nI 5)) mX1_inRange q78 q628 q629 rfl rfl (Nat.le_of_ble_eq_true rfl) (Nat.le_of_ble_eq_true rfl) (Nat.le_of_ble_eq_true rfl) dX1_shaft_17 4097 12299 (Nat.le_of_ble_eq_true rfl) (Nat.le_of_ble_eq_true rfl) ?_
    refine r_zast E fmUp_s (by decide) (by decide) dX1_shaft_20 ?_
    refine r_hp (h' := fmUp h b1 (true, .inl (5, 1, .inl (upd (fun _ => 0) 0 (bI (sBetween u (nI 0) (nI 5))))))) (fmUp_uu _ _ _ _) ?_
    cases hu : sBetween u (nI 0) (nI 5) with
    | false =>
      refine r_callS E (ctF1_X1_require G hl _ b1 _ fmUp_s rfl) mX1_require q78 q1102 q664 rfl rfl (Nat.le_of_ble_eq_true rfl) (Nat.le_of_ble_eq_true rfl) (Nat.le_of_ble_eq_true rfl) dX1_shaft_21 0 0 (Nat.le_of_ble_eq_true rfl) (Nat.le_of_ble_eq_true rfl) (fun _ _ q => q.elim) (fun q Ex h' hx => ?_)
      exact r_xout E P (fun x hx => by cases hx) (rX_thr (k := 2) (rKq hfar hqu (Kp.up hb1)) (by unfold aShaft; rw [hs, hu]; rfl) (by decide) rfl hx)
    | true =>
      refine r_callS0 E (ctT1_X1_require G hl (_) b1 _ fmUp_s rfl) mX1_require q78 q1102 q664 rfl rfl (Nat.le_of_ble_eq_true rfl) (Nat.le_of_ble_eq_true rfl) (Nat.le_of_ble_eq_true rfl) dX1_shaft_21 4097 12299 (Nat.le_of_ble_eq_true rfl) (Nat.le_of_ble_eq_true rfl) ?_
      have hkq : Kp h (fmUp h b1 (true, .inl (5, 1, .inl (upd (fun _ => 0) 0 (bI (true)))))) := Kp.up hb1
      obtain ⟨q, hq, rfl⟩ := sBtw_of (by decide) hu
      have hqn : cN (nI q) = q := cN_n (by omega)
      have hM2 := hM.kp hkq
      have hC2 := hC.kp hkq
      obtain ⟨hd2, ⟨gq2, hg2, hgq2⟩, hgd2, hS2, hSh2, hP2, hPk2, hK82, hP62, hsp2, hse2⟩ := id hM2
      obtain ⟨mcS2, hsl2⟩ := hS2.o
      obtain ⟨mcP2, hpl2⟩ := hP2.o
      obtain ⟨feS2, capS2, geS2, hseA2⟩ := hS2.el
      obtain ⟨feP2, capP2, geP2, hpeA2⟩ := hP2.el
      refine r_iload_n E dX1_shaft_24 rfl ?_
      rcases (by omega : q = 0 ∨ q = 1 ∨ q = 2 ∨ q = 3 ∨ q = 4 ∨ q = 5) with rfl | rfl | rfl | rfl | rfl | rfl
      · refine r_tableIn (tgt := 60) E dX1_shaft_25 (by decide) (by decide) rfl (by decide) ?_
        refine r_aload_n E dX1_shaft_60 rfl ?_
        refine r_getfN E cl_X7 0 (by decide) q887 (hkq _ _ hso) rfl dX1_shaft_61 ?_
        exact r_ireturn E P rfl dX1_shaft_64 (rP_don (by unfold aShaft; rw [hs, hu, hjn, hqn]; exact congrArg (fun z => aDon z N) (rfl)) (rKq hfar hqu hkq))
      · refine r_tableIn (tgt := 65) E dX1_shaft_25 (by decide) (by decide) rfl (by decide) ?_
        refine r_aload_n E dX1_shaft_65 rfl ?_
        refine r_getf E cl_X1 2 (by decide) q272 (hkq _ _ hx) rfl dX1_shaft_66 ?_
        refine r_iload_n E dX1_shaft_69 rfl ?_
        refine r_callV1 (v1 := .int (nI (sOpens N (nI j)))) E (ct_X2_openCells G hl (fmUp h b1 (true, .inl (5, 1, .inl (upd (fun _ => 0) 0 (bI (true)))))) hC2 hM2 (nI j)) mX2_openCells q1209 q954 q955 (fun H a1 => fm_rc (ci := 2) (C := RX2) (T := TX2) (N := 7) a1 rfl E.v hd2) rfl rfl (Nat.le_of_ble_eq_true rfl) (Nat.le_of_ble_eq_true rfl) (Nat.le_of_ble_eq_true rfl) dX1_shaft_70 4097 12299 (Nat.le_of_ble_eq_true rfl) (Nat.le_of_ble_eq_true rfl) ?_
        exact r_ireturn E P rfl dX1_shaft_73 (rP_don (by unfold aShaft; rw [hs, hu, hjn, hqn]; exact congrArg (fun z => aDon z N) (rfl)) (rKq hfar hqu hkq))
      · refine r_tableIn (tgt := 74) E dX1_shaft_25 (by decide) (by decide) rfl (by decide) ?_
        refine r_aload_n E dX1_shaft_74 rfl ?_
        refine r_getfN E cl_X7 1 (by decide) q890 (hkq _ _ hso) rfl dX1_shaft_75 ?_
        exact r_ireturn E P rfl dX1_shaft_78 (rP_don (by unfold aShaft; rw [hs, hu, hjn, hqn]; exact congrArg (fun z => aDon z N) (rfl)) (rKq hfar hqu hkq))
      · refine r_tableIn (tgt := 79) E dX1_shaft_25 (by decide) (by decide) rfl (by decide) ?_
        refine r_aload_n E dX1_shaft_79 rfl ?_
        refine r_getf E cl_X1 2 (by decide) q272 (hkq _ _ hx) rfl dX1_shaft_80 ?_
        refine r_iload_n E dX1_shaft_83 rfl ?_
        refine r_callV1 (v1 := .int (nI (sCount (fun c => sOpenOf N (some c) (nI j) && !sBare N (some c)) 64))) E (ct_X2_propsOf G hl (fmUp h b1 (true, .inl (5, 1, .inl (upd (fun _ => 0) 0 (bI (true)))))) hC2 hM2 (nI j)) mX2_propsOf q1210 q958 q959 (fun H a1 => fm_rc (ci := 2) (C := RX2) (T := TX2) (N := 7) a1 rfl E.v hd2) rfl rfl (Nat.le_of_ble_eq_true rfl) (Nat.le_of_ble_eq_true rfl) (Nat.le_of_ble_eq_true rfl) dX1_shaft_84 4097 12299 (Nat.le_of_ble_eq_true rfl) (Nat.le_of_ble_eq_true rfl) ?_
        exact r_ireturn E P rfl dX1_shaft_87 (rP_don (by unfold aShaft; rw [hs, hu, hjn, hqn]; exact congrArg (fun z => aDon z N) ((hM.propsOf (by omega)).symm)) (rKq hfar hqu hkq))
      · refine r_tableIn (tgt := 88) E dX1_shaft_25 (by decide) (by decide) rfl (by decide) ?_
        refine r_aload_n E dX1_shaft_88 rfl ?_
        refine r_getfN E cl_X7 2 (by decide) q892 (hkq _ _ hso) rfl dX1_shaft_89 ?_
        refine r_ifB_eq (b := cl) (tgt := 99) E dX1_shaft_92 (by decide) (fun hcc => ?_) (fun hcc => ?_)
        · refine r_iconst E (nI 0) dX1_shaft_99 (by decide) ?_
          exact r_ireturn E P rfl dX1_shaft_100 (rP_don (by unfold aShaft; rw [hs, hu, hjn, hqn]; exact congrArg (fun z => aDon z N) (hcl.trans (by rw [hcc]; rfl))) (rKq hfar hqu hkq))
        · refine r_iconst E (nI 1) dX1_shaft_95 (by decide) ?_
          refine r_goto (tgt := 100) E dX1_shaft_96 (by decide) ?_
          exact r_ireturn E P rfl dX1_shaft_100 (rP_don (by unfold aShaft; rw [hs, hu, hjn, hqn]; exact congrArg (fun z => aDon z N) (hcl.trans (by rw [hcc]; rfl))) (rKq hfar hqu hkq))
      · refine r_tableOut (tgt := 101) E dX1_shaft_25 (by decide) (by decide) ?_
        refine r_aload_n E dX1_shaft_101 rfl ?_
        refine r_iload_n E dX1_shaft_102 rfl ?_
        refine r_callV E (ct_X1_reached G hl _ hC2 (hkq _ _ hx) hM2 (hkq _ _ hfar) (hkq _ _ hqu) hfq hR j hj) mX1_reached q1211 q1213 qs17 (fun H a1 => fm_rc (ci := 1) (C := RX1) (T := TX1) (N := 9) a1 rfl E.v (hkq _ _ hx)) rfl rfl (Nat.le_of_ble_eq_true rfl) (Nat.le_of_ble_eq_true rfl) (Nat.le_of_ble_eq_true rfl) dX1_shaft_103 0 0 (Nat.le_of_ble_eq_true rfl) (Nat.le_of_ble_eq_true rfl) (fun v' h2 q => ?_) (fun _ _ _ q => q.elim)
        obtain ⟨rfl, X, W, hk⟩ := q
        exact r_ireturn E P rfl dX1_shaft_106 (rP_don (by unfold aShaft; rw [hs, hu, hjn, hqn]; exact congrArg (fun z => aDon z N) (rfl)) ⟨X, W, (fqH_kp hkq).trans hk⟩)

