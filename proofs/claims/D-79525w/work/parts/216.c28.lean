set_option maxHeartbeats 4000000 in
theorem ct_X1_way_2 (G : fmG) (hl : (fmLn G).stackTraces = false) (h : fmHp) {x far qu pa sb : Nat} {fl re de : Int32} {sv : Value} {d g sl se pl pe : Nat} {gf sf pf : Nat → Nat} {N : Nat → Int32} {K pk : Nat} (hC : CC G h) (hx : DkO h x far qu d pa sb fl re de sv) (hM : MineAt G h d g sl se pl pe gf sf pf N K pk) {X0 W0 : Nat → Int32} (hfar : h far = some (fqA X0)) (hqu : h qu = some (fqA W0)) (hfq : far ≠ qu) (hR : RV N K pk) (j c : Nat) (hj : j < K) (hc : c < 64) : Ct G yX1_way_2 (ws_ yX1_way_2 cX1_way_2 5 (some (.object "FlintMine$Trail"))) { frames := 71, cells := 65, slots := 198, locals := 2025 } [.ref x, .ref (sf j), .int (nI j), .int (nI c)] h (fun v h' => N (328 + j) = nI 0 ∧ ∃ X W, Kp (fqH h far qu X W) h' ∧ ∃ b a, sFirst N j c K = some b ∧ v = some (.ref a) ∧ TrL h' (bFar N j c K).1 b ((bFar N j c K).1 b - 1) a) (fun _ Ex h' => Ex = "java/util/NoSuchElementException" ∧ sFirst N j c K = none ∧ ∃ X W, Kp (fqH h far qu X W) h') := by
  refine Ct.of hl (by decide +kernel) (Nat.le_of_ble_eq_true rfl) (fun Γ E P => ?_)
  obtain ⟨hd, ⟨gq, hg, hgq⟩, hgd, hS, hSh, hP, hPk, hK8, hP6, hsp, hse⟩ := id hM
  obtain ⟨mcS, hsl⟩ := hS.o
  obtain ⟨mcP, hpl⟩ := hP.o
  have KX : ∀ X W, Kz h (fqH h far qu X W) := fun X W => fqH_kz hfar hqu
  obtain ⟨cl, hcl, hso⟩ := hSh j hj
  refine r_aload_n E dX1_way_2_0 rfl ?_
  refine r_getfN E cl_X7 2 (by decide) q892 hso rfl dX1_way_2_1 ?_
  refine r_ifB_ne (b := cl) (tgt := 11) E dX1_way_2_4 (by decide) (fun c1 => ?_) (fun c1 => ?_)
  · refine r_iconst E (nI 0) dX1_way_2_11 (by decide) ?_
    refine r_top (v' := .int (bI false)) rfl ?_
    refine r_callS E (ctF_X1_requireElement G hl h) mX1_requireElement q78 q1273 q1274 rfl rfl (Nat.le_of_ble_eq_true rfl) (Nat.le_of_ble_eq_true rfl) (Nat.le_of_ble_eq_true rfl) dX1_way_2_12 0 0 (Nat.le_of_ble_eq_true rfl) (Nat.le_of_ble_eq_true rfl) (fun _ _ q => q.elim) (fun q Ex h' hx => ?_)
    exact r_xout E P (fun x hx => by cases hx) ⟨hx.1, (reached_closed (by rw [hcl, c1]; decide)).2 c, rKq hfar hqu (xO_kp hx)⟩
  · have ho : N (328 + j) = nI 0 := by rw [hcl, c1]; rfl
    refine r_iconst E (nI 1) dX1_way_2_7 (by decide) ?_
    refine r_goto (tgt := 12) E dX1_way_2_8 (by decide) ?_
    refine r_top (v' := .int (bI true)) rfl ?_
    refine r_callS0 E (ctT_X1_requireElement G hl h) mX1_requireElement q78 q1273 q1274 rfl rfl (Nat.le_of_ble_eq_true rfl) (Nat.le_of_ble_eq_true rfl) (Nat.le_of_ble_eq_true rfl) dX1_way_2_12 65 198 (Nat.le_of_ble_eq_true rfl) (Nat.le_of_ble_eq_true rfl) ?_
    refine r_aload_n E dX1_way_2_15 rfl ?_
    refine r_iload_n E dX1_way_2_16 rfl ?_
    refine r_iload_n E dX1_way_2_17 rfl ?_
    refine r_callV E (ct_X1_trail G hl h hC hx hM hfar hqu hfq j c (by omega) hc) mX1_trail q1215 q1217 qs18 (fun H a1 => fm_rc (ci := 1) (C := RX1) (T := TX1) (N := 9) a1 rfl E.v hx) rfl rfl (Nat.le_of_ble_eq_true rfl) (Nat.le_of_ble_eq_true rfl) (Nat.le_of_ble_eq_true rfl) dX1_way_2_18 1 6 (Nat.le_of_ble_eq_true rfl) (Nat.le_of_ble_eq_true rfl) (fun v' h1 q => ?_) (fun _ _ _ q => q.elim)
    obtain ⟨X, W, hk, hor⟩ := q
    rw [cFirst_eq hR hj, cFar_eq ho] at hor
    rcases hor with ⟨hb, rfl⟩ | ⟨b, a, hb, rfl, hT⟩
    · refine r_astoreN E [some (.ref x), some (.ref (sf j)), some (.int (nI j)), some (.int (nI c)), some (.null)] dX1_way_2_21 rfl rfl ?_
      refine r_aloadN E dX1_way_2_23 rfl ?_
      refine r_ifnullN (tgt := 32) E dX1_way_2_25 (by decide) ?_
      refine r_iconst E (nI 0) dX1_way_2_32 (by decide) ?_
      refine r_top (v' := .int (bI false)) rfl ?_
      refine r_callS E (ctF_X1_requireElement G hl h1) mX1_requireElement q78 q1273 q1274 rfl rfl (Nat.le_of_ble_eq_true rfl) (Nat.le_of_ble_eq_true rfl) (Nat.le_of_ble_eq_true rfl) dX1_way_2_33 0 0 (Nat.le_of_ble_eq_true rfl) (Nat.le_of_ble_eq_true rfl) (fun _ _ q => q.elim) (fun q Ex h' hx => ?_)
      exact r_xout E P (fun x hx => by cases hx) ⟨hx.1, hb, X, W, hk.trans (xO_kp hx)⟩
    · refine r_astore E [some (.ref x), some (.ref (sf j)), some (.int (nI j)), some (.int (nI c)), some (.ref a)] dX1_way_2_21 rfl rfl ?_
      refine r_aload E dX1_way_2_23 rfl ?_
      refine r_ifnull E dX1_way_2_25 ?_
      refine r_iconst E (nI 1) dX1_way_2_28 (by decide) ?_
      refine r_goto (tgt := 33) E dX1_way_2_29 (by decide) ?_
      refine r_top (v' := .int (bI true)) rfl ?_
      refine r_callS0 E (ctT_X1_requireElement G hl h1) mX1_requireElement q78 q1273 q1274 rfl rfl (Nat.le_of_ble_eq_true rfl) (Nat.le_of_ble_eq_true rfl) (Nat.le_of_ble_eq_true rfl) dX1_way_2_33 1 6 (Nat.le_of_ble_eq_true rfl) (Nat.le_of_ble_eq_true rfl) ?_
      refine r_aload E dX1_way_2_36 rfl ?_
      exact r_areturn E P rfl (Or.inl ⟨_, rfl⟩) dX1_way_2_38 ⟨ho, X, W, hk, b, a, hb, rfl, hT⟩

set_option maxHeartbeats 4000000 in
theorem ct_X1_way (G : fmG) (hl : (fmLn G).stackTraces = false) (h : fmHp) {x far qu pa sb : Nat} {fl re de : Int32} {sv : Value} {d g sl se pl pe : Nat} {gf sf pf : Nat → Nat} {N : Nat → Int32} {K pk : Nat} (hC : CC G h) (hx : DkO h x far qu d pa sb fl re de sv) (hM : MineAt G h d g sl se pl pe gf sf pf N K pk) {X0 W0 : Nat → Int32} (hfar : h far = some (fqA X0)) (hqu : h qu = some (fqA W0)) (hfq : far ≠ qu) (hR : RV N K pk) (s v : Int32) : Ct G yX1_way (ws_ yX1_way cX1_way 4 (some .int)) { frames := 72, cells := 68, slots := 220, locals := 2049 } [.ref x, .int s, .int v] h (rPost h far qu (aWay N s v K)) (rXp h far qu (exQ "java/lang/IndexOutOfBoundsException" "java/util/NoSuchElementException") (aWay N s v K)) := by
  refine Ct.of hl (by decide +kernel) (Nat.le_of_ble_eq_true rfl) (fun Γ E P => ?_)
  obtain ⟨hd, ⟨gq, hg, hgq⟩, hgd, hS, hSh, hP, hPk, hK8, hP6, hsp, hse⟩ := id hM
  obtain ⟨mcS, hsl⟩ := hS.o
  obtain ⟨mcP, hpl⟩ := hP.o
  have KX : ∀ X W, Kz h (fqH h far qu X W) := fun X W => fqH_kz hfar hqu
  refine r_aload_n E dX1_way_0 rfl ?_
  refine r_getf E cl_X1 2 (by decide) q272 hx rfl dX1_way_1 ?_
  refine r_iload_n E dX1_way_4 rfl ?_
  cases hs : sBetween s (nI 0) (nI K - nI 1) with
  | false =>
    refine r_callV E (ctF_X2_shaft G hl h hC hM s hs) mX2_shaft q1208 q909 q910 (fun H a1 => fm_rc (ci := 2) (C := RX2) (T := TX2) (N := 7) a1 rfl E.v hd) rfl rfl (Nat.le_of_ble_eq_true rfl) (Nat.le_of_ble_eq_true rfl) (Nat.le_of_ble_eq_true rfl) dX1_way_5 0 0 (Nat.le_of_ble_eq_true rfl) (Nat.le_of_ble_eq_true rfl) (fun _ _ q => q.elim) (fun q Ex h' hx => ?_)
    exact r_xout E P (fun x hx => by cases hx) (rX_thr (k := 1) (rKq hfar hqu Kp.refl) (aG_t (by rw [hs]; rfl)) (by decide) rfl hx)
  | true =>
    obtain ⟨j, hj, rfl⟩ := sShaft_of (by omega) hs
    have hjn : cN (nI j) = j := cN_n (by omega)
    obtain ⟨cl, hcl, hso⟩ := hSh j hj
    refine r_callV1 (v1 := .ref (sf j)) E (ctT_X2_shaft G hl h hC hM j hj) mX2_shaft q1208 q909 q910 (fun H a1 => fm_rc (ci := 2) (C := RX2) (T := TX2) (N := 7) a1 rfl E.v hd) rfl rfl (Nat.le_of_ble_eq_true rfl) (Nat.le_of_ble_eq_true rfl) (Nat.le_of_ble_eq_true rfl) dX1_way_5 68 220 (Nat.le_of_ble_eq_true rfl) (Nat.le_of_ble_eq_true rfl) ?_
    refine r_astore_n E [some (.ref x), some (.int (nI j)), some (.int v), some (.ref (sf j))] dX1_way_8 rfl rfl ?_
    refine r_aload_n E dX1_way_9 rfl ?_
    refine r_aload_n E dX1_way_10 rfl ?_
    refine r_iload_n E dX1_way_11 rfl ?_
    refine r_iconst E (nI 1) dX1_way_12 (by decide) ?_
    refine r_newa E 0 (.inl (fun _ => 0)) rfl (z_ai 1) q236 (fun e => e) (Nat.le_of_ble_eq_true rfl) (Nat.le_of_ble_eq_true rfl) 67 219 (Nat.le_of_ble_eq_true rfl) (Nat.le_of_ble_eq_true rfl) dX1_way_13 (fun b1 hb1 kb1 => ?_)
    refine r_dup E dX1_way_15 rfl ?_
    refine r_iconst E (nI 0) dX1_way_16 (by decide) ?_
    refine r_iload_n E dX1_way_17 rfl ?_
    refine r_iast E fmUp_s (by decide) (by decide) dX1_way_18 ?_
    refine r_hp (h' := fmUp h b1 (true, .inl (0, 1, .inl (upd (fun _ => 0) 0 v)))) (fmUp_uu _ _ _ _) ?_
    cases hv : sBetween v (nI 0) (nI 63) with
    | false =>
      refine r_callS E (ctF_X1_cellOf G hl _ b1 true _ fmUp_s (by rw [upd_eq' rfl]; exact hv)) mX1_cellOf q78 q625 q626 rfl rfl (Nat.le_of_ble_eq_true rfl) (Nat.le_of_ble_eq_true rfl) (Nat.le_of_ble_eq_true rfl) dX1_way_19 0 0 (Nat.le_of_ble_eq_true rfl) (Nat.le_of_ble_eq_true rfl) (fun _ _ q => q.elim) (fun q Ex h' hx => ?_)
      exact r_xout E P (fun x hx => by cases hx) (rX_thr (k := 1) (rKq hfar hqu (Kp.up hb1)) (aG_t (by rw [hs, hv]; rfl)) (by decide) rfl hx)
    | true =>
      obtain ⟨c, hc0, rfl⟩ := sBtw_of (by decide) hv
      have hc : c < 64 := by omega
      have hcn : cN (nI c) = c := cN_n (by omega)
      refine r_callS1 (v1 := .int (nI c)) E (ctT_X1_cellOf G hl (fmUp h b1 (true, .inl (0, 1, .inl (upd (fun _ => 0) 0 (nI c))))) b1 true (upd (fun _ => 0) 0 (nI c)) fmUp_s c hc (upd_eq' rfl)) mX1_cellOf q78 q625 q626 rfl rfl (Nat.le_of_ble_eq_true rfl) (Nat.le_of_ble_eq_true rfl) (Nat.le_of_ble_eq_true rfl) dX1_way_19 67 219 (Nat.le_of_ble_eq_true rfl) (Nat.le_of_ble_eq_true rfl) ?_
      have hkp : Kp h (fmUp h b1 (true, .inl (0, 1, .inl (upd (fun _ => 0) 0 (nI c))))) := Kp.up hb1
      refine r_callV E (ct_X1_way_2 G hl _ (hC.kp hkp) (hkp _ _ hx) (hM.kp hkp) (hkp _ _ hfar) (hkp _ _ hqu) hfq hR j c hj hc) mX1_way_2 q1285 q1287 qs22 (fun H a1 => fm_rc (ci := 1) (C := RX1) (T := TX1) (N := 9) a1 rfl E.v (hkp _ _ hx)) rfl rfl (Nat.le_of_ble_eq_true rfl) (Nat.le_of_ble_eq_true rfl) (Nat.le_of_ble_eq_true rfl) dX1_way_22 2 21 (Nat.le_of_ble_eq_true rfl) (Nat.le_of_ble_eq_true rfl) (fun v' h2 q => ?_) (fun q Ex h' hx => r_xout E P (fun x hx => by cases hx) (rX_w (k := 2) (by obtain ⟨-, -, X, W, hk⟩ := hx; exact ⟨X, W, (fqH_kp hkp).trans hk⟩) (aWayG_none hs hv hjn hcn hx.2.1) (by decide) rfl hx.1))
      obtain ⟨ho, X, W, hk1, b, a9, hb, rfl, hT⟩ := q
      have hk2 : ∃ X W, Kp (fqH h far qu X W) h2 := ⟨X, W, (fqH_kp hkp).trans hk1⟩
      have hb6 : b < 64 := sFirK_lt hb
      have hbF := sFirK_F hb
      have hFb := (bFar_ok (N := N) (j := j) (K := K) hc).f b
      obtain ⟨ah, hta, -, -⟩ := hT.top
      refine r_getfN E cl_X9 2 (by decide) q1241 hta rfl dX1_way_25 ?_
      refine r_top (v' := .int (nI ((bFar N j c K).1 b))) (congrArg (fun z => Value.int (nI z)) (by omega)) ?_
      exact r_ireturn E P rfl dX1_way_28 (rP_don ((aWayG_some hs hv hjn hcn hb).trans (by rw [hjn, hcn])) hk2)

set_option maxHeartbeats 4000000 in
theorem ct_X1_step (G : fmG) (hl : (fmLn G).stackTraces = false) (h : fmHp) {x far qu pa sb : Nat} {fl re de : Int32} {sv : Value} {d g sl se pl pe : Nat} {gf sf pf : Nat → Nat} {N : Nat → Int32} {K pk : Nat} (hC : CC G h) (hx : DkO h x far qu d pa sb fl re de sv) (hM : MineAt G h d g sl se pl pe gf sf pf N K pk) {X0 W0 : Nat → Int32} (hfar : h far = some (fqA X0)) (hqu : h qu = some (fqA W0)) (hfq : far ≠ qu) (hR : RV N K pk) (s v i : Int32) : Ct G yX1_step (ws_ yX1_step cX1_step 6 (some .int)) { frames := 75, cells := 68, slots := 220, locals := 2100 } [.ref x, .int s, .int v, .int i] h (rPost h far qu (aStep N s v i K)) (rXp h far qu (exQ "java/lang/IndexOutOfBoundsException" "java/util/NoSuchElementException") (aStep N s v i K)) := by
  refine Ct.of hl (by decide +kernel) (Nat.le_of_ble_eq_true rfl) (fun Γ E P => ?_)
  obtain ⟨hd, ⟨gq, hg, hgq⟩, hgd, hS, hSh, hP, hPk, hK8, hP6, hsp, hse⟩ := id hM
  obtain ⟨mcS, hsl⟩ := hS.o
  obtain ⟨mcP, hpl⟩ := hP.o
  have KX : ∀ X W, Kz h (fqH h far qu X W) := fun X W => fqH_kz hfar hqu
  refine r_aload_n E dX1_step_0 rfl ?_
  refine r_getf E cl_X1 2 (by decide) q272 hx rfl dX1_step_1 ?_
  refine r_iload_n E dX1_step_4 rfl ?_
  cases hs : sBetween s (nI 0) (nI K - nI 1) with
  | false =>
    refine r_callV E (ctF_X2_shaft G hl h hC hM s hs) mX2_shaft q1208 q909 q910 (fun H a1 => fm_rc (ci := 2) (C := RX2) (T := TX2) (N := 7) a1 rfl E.v hd) rfl rfl (Nat.le_of_ble_eq_true rfl) (Nat.le_of_ble_eq_true rfl) (Nat.le_of_ble_eq_true rfl) dX1_step_5 0 0 (Nat.le_of_ble_eq_true rfl) (Nat.le_of_ble_eq_true rfl) (fun _ _ q => q.elim) (fun q Ex h' hx => ?_)
    exact r_xout E P (fun x hx => by cases hx) (rX_thr (k := 1) (rKq hfar hqu Kp.refl) (aG_t (by rw [hs]; rfl)) (by decide) rfl hx)
  | true =>
    obtain ⟨j, hj, rfl⟩ := sShaft_of (by omega) hs
    have hjn : cN (nI j) = j := cN_n (by omega)
    obtain ⟨cl, hcl, hso⟩ := hSh j hj
    refine r_callV1 (v1 := .ref (sf j)) E (ctT_X2_shaft G hl h hC hM j hj) mX2_shaft q1208 q909 q910 (fun H a1 => fm_rc (ci := 2) (C := RX2) (T := TX2) (N := 7) a1 rfl E.v hd) rfl rfl (Nat.le_of_ble_eq_true rfl) (Nat.le_of_ble_eq_true rfl) (Nat.le_of_ble_eq_true rfl) dX1_step_5 68 220 (Nat.le_of_ble_eq_true rfl) (Nat.le_of_ble_eq_true rfl) ?_
    refine r_astore E [some (.ref x), some (.int (nI j)), some (.int v), some (.int i), some (.ref (sf j)), none] dX1_step_8 rfl rfl ?_
    refine r_aload_n E dX1_step_10 rfl ?_
    refine r_aload E dX1_step_11 rfl ?_
    refine r_iload_n E dX1_step_13 rfl ?_
    refine r_iconst E (nI 1) dX1_step_14 (by decide) ?_
    refine r_newa E 0 (.inl (fun _ => 0)) rfl (z_ai 1) q236 (fun e => e) (Nat.le_of_ble_eq_true rfl) (Nat.le_of_ble_eq_true rfl) 67 219 (Nat.le_of_ble_eq_true rfl) (Nat.le_of_ble_eq_true rfl) dX1_step_15 (fun b1 hb1 kb1 => ?_)
    refine r_dup E dX1_step_17 rfl ?_
    refine r_iconst E (nI 0) dX1_step_18 (by decide) ?_
    refine r_iload_n E dX1_step_19 rfl ?_
    refine r_iast E fmUp_s (by decide) (by decide) dX1_step_20 ?_
    refine r_hp (h' := fmUp h b1 (true, .inl (0, 1, .inl (upd (fun _ => 0) 0 v)))) (fmUp_uu _ _ _ _) ?_
    cases hv : sBetween v (nI 0) (nI 63) with
    | false =>
      refine r_callS E (ctF_X1_cellOf G hl _ b1 true _ fmUp_s (by rw [upd_eq' rfl]; exact hv)) mX1_cellOf q78 q625 q626 rfl rfl (Nat.le_of_ble_eq_true rfl) (Nat.le_of_ble_eq_true rfl) (Nat.le_of_ble_eq_true rfl) dX1_step_21 0 0 (Nat.le_of_ble_eq_true rfl) (Nat.le_of_ble_eq_true rfl) (fun _ _ q => q.elim) (fun q Ex h' hx => ?_)
      exact r_xout E P (fun x hx => by cases hx) (rX_thr (k := 1) (rKq hfar hqu (Kp.up hb1)) (aG_t (by rw [hs, hv]; rfl)) (by decide) rfl hx)
    | true =>
      obtain ⟨c, hc0, rfl⟩ := sBtw_of (by decide) hv
      have hc : c < 64 := by omega
      have hcn : cN (nI c) = c := cN_n (by omega)
      refine r_callS1 (v1 := .int (nI c)) E (ctT_X1_cellOf G hl (fmUp h b1 (true, .inl (0, 1, .inl (upd (fun _ => 0) 0 (nI c))))) b1 true (upd (fun _ => 0) 0 (nI c)) fmUp_s c hc (upd_eq' rfl)) mX1_cellOf q78 q625 q626 rfl rfl (Nat.le_of_ble_eq_true rfl) (Nat.le_of_ble_eq_true rfl) (Nat.le_of_ble_eq_true rfl) dX1_step_21 67 219 (Nat.le_of_ble_eq_true rfl) (Nat.le_of_ble_eq_true rfl) ?_
      have hkp : Kp h (fmUp h b1 (true, .inl (0, 1, .inl (upd (fun _ => 0) 0 (nI c))))) := Kp.up hb1
      refine r_callV E (ct_X1_way_2 G hl _ (hC.kp hkp) (hkp _ _ hx) (hM.kp hkp) (hkp _ _ hfar) (hkp _ _ hqu) hfq hR j c hj hc) mX1_way_2 q1285 q1287 qs22 (fun H a1 => fm_rc (ci := 1) (C := RX1) (T := TX1) (N := 9) a1 rfl E.v (hkp _ _ hx)) rfl rfl (Nat.le_of_ble_eq_true rfl) (Nat.le_of_ble_eq_true rfl) (Nat.le_of_ble_eq_true rfl) dX1_step_24 2 21 (Nat.le_of_ble_eq_true rfl) (Nat.le_of_ble_eq_true rfl) (fun v' h2 q => ?_) (fun q Ex h' hx => r_xout E P (fun x hx => by cases hx) (rX_w (k := 2) (by obtain ⟨-, -, X, W, hk⟩ := hx; exact ⟨X, W, (fqH_kp hkp).trans hk⟩) (aWayG_none hs hv hjn hcn hx.2.1) (by decide) rfl hx.1))
      obtain ⟨ho, X, W, hk1, b, a9, hb, rfl, hT⟩ := q
      have hk2 : ∃ X W, Kp (fqH h far qu X W) h2 := ⟨X, W, (fqH_kp hkp).trans hk1⟩
      have hb6 : b < 64 := sFirK_lt hb
      have hbF := sFirK_F hb
      have hFb := (bFar_ok (N := N) (j := j) (K := K) hc).f b
      obtain ⟨ah, hta, -, -⟩ := hT.top
      refine r_astore E [some (.ref x), some (.int (nI j)), some (.int (nI c)), some (.int i), some (.ref (sf j)), some (.ref a9)] dX1_step_27 rfl rfl ?_
      refine r_iload_n E dX1_step_29 rfl ?_
      refine r_iconst E (nI 0) dX1_step_30 (by decide) ?_
      refine r_aload E dX1_step_31 rfl ?_
      refine r_getfN E cl_X9 2 (by decide) q1241 hta rfl dX1_step_33 ?_
      refine r_iconst E (nI 1) dX1_step_36 (by decide) ?_
      refine r_isubN E dX1_step_37 (by omega) ?_
      refine r_top (v' := .int (nI ((bFar N j c K).1 b - 1))) (congrArg (fun z => Value.int (nI z)) (by omega)) ?_
      refine r_callS1 (v1 := .int (bI (sBetween i (nI 0) (nI ((bFar N j c K).1 b - 1))))) E (ct_X1_inRange G hl (h2) i (nI 0) (nI ((bFar N j c K).1 b - 1))) mX1_inRange q78 q628 q629 rfl rfl (Nat.le_of_ble_eq_true rfl) (Nat.le_of_ble_eq_true rfl) (Nat.le_of_ble_eq_true rfl) dX1_step_38 2 21 (Nat.le_of_ble_eq_true rfl) (Nat.le_of_ble_eq_true rfl) ?_
      cases hiv : sBetween i (nI 0) (nI ((bFar N j c K).1 b - 1)) with
      | false =>
        refine r_callS E (ctF_X1_requireElement G hl h2) mX1_requireElement q78 q1273 q1274 rfl rfl (Nat.le_of_ble_eq_true rfl) (Nat.le_of_ble_eq_true rfl) (Nat.le_of_ble_eq_true rfl) dX1_step_41 0 0 (Nat.le_of_ble_eq_true rfl) (Nat.le_of_ble_eq_true rfl) (fun _ _ q => q.elim) (fun q Ex h' hx => ?_)
        exact r_xout E P (fun x hx => by cases hx) (rX_thr (k := 2) hk2 ((aWayG_some hs hv hjn hcn hb).trans (by rw [hjn, hcn]; exact aG_t (by rw [hiv]; rfl))) (by decide) rfl hx)
      | true =>
        refine r_callS0 E (ctT_X1_requireElement G hl h2) mX1_requireElement q78 q1273 q1274 rfl rfl (Nat.le_of_ble_eq_true rfl) (Nat.le_of_ble_eq_true rfl) (Nat.le_of_ble_eq_true rfl) dX1_step_41 2 21 (Nat.le_of_ble_eq_true rfl) (Nat.le_of_ble_eq_true rfl) ?_
        obtain ⟨i0, hi0, rfl⟩ := sBtw_of (by omega) hiv
        have hin : cN (nI i0) = i0 := cN_n (by omega)
        refine r_aload E dX1_step_44 rfl ?_
        refine r_iload_n E dX1_step_46 rfl ?_
        refine r_callV1 (v1 := .int (nI (sWalk (bFar N j c K).1 b i0))) E (ct_X9_cell G hl (bFar N j c K).1 b ((bFar N j c K).1 b - 1) h2 a9 i0 hi0 (by omega) hT) mX9_cell q1307 q1308 q1309 (fun H a1 => fm_rc (ci := 7) (C := RX9) (T := TX9) (N := 3) a1 rfl E.v hta) rfl rfl (by show (bFar N j c K).1 b - 1 + 2 + 1 ≤ 75; omega) (by show 8 + (2 + 11) + (22 * ((bFar N j c K).1 b - 1) + 40) ≤ 2100; omega) (Nat.le_of_ble_eq_true rfl) dX1_step_47 0 0 (Nat.le_of_ble_eq_true rfl) (Nat.le_of_ble_eq_true rfl) ?_
        exact r_ireturn E P rfl dX1_step_50 (rP_don ((aWayG_some hs hv hjn hcn hb).trans (by rw [hjn, hcn, hin, hiv]; rfl)) hk2)

set_option maxHeartbeats 4000000 in
theorem ct_X1_strokes (G : fmG) (hl : (fmLn G).stackTraces = false) (h : fmHp) {x far qu pa sb : Nat} {fl re de : Int32} {sv : Value} {d g sl se pl pe : Nat} {gf sf pf : Nat → Nat} {N : Nat → Int32} {K pk : Nat} (hC : CC G h) (hx : DkO h x far qu d pa sb fl re de sv) (hM : MineAt G h d g sl se pl pe gf sf pf N K pk) {X0 W0 : Nat → Int32} (hfar : h far = some (fqA X0)) (hqu : h qu = some (fqA W0)) (hfq : far ≠ qu) (hR : RV N K pk) (s v : Int32) : Ct G yX1_strokes (ws_ yX1_strokes cX1_strokes 4 (some .int)) { frames := 75, cells := 68, slots := 220, locals := 2100 } [.ref x, .int s, .int v] h (rPost h far qu (aStrokes N s v K)) (rXp h far qu (exQ "java/lang/IndexOutOfBoundsException" "java/util/NoSuchElementException") (aStrokes N s v K)) := by
  refine Ct.of hl (by decide +kernel) (Nat.le_of_ble_eq_true rfl) (fun Γ E P => ?_)
  obtain ⟨hd, ⟨gq, hg, hgq⟩, hgd, hS, hSh, hP, hPk, hK8, hP6, hsp, hse⟩ := id hM
  obtain ⟨mcS, hsl⟩ := hS.o
  obtain ⟨mcP, hpl⟩ := hP.o
  have KX : ∀ X W, Kz h (fqH h far qu X W) := fun X W => fqH_kz hfar hqu
  refine r_aload_n E dX1_strokes_0 rfl ?_
  refine r_getf E cl_X1 2 (by decide) q272 hx rfl dX1_strokes_1 ?_
  refine r_iload_n E dX1_strokes_4 rfl ?_
  cases hs : sBetween s (nI 0) (nI K - nI 1) with
  | false =>
    refine r_callV E (ctF_X2_shaft G hl h hC hM s hs) mX2_shaft q1208 q909 q910 (fun H a1 => fm_rc (ci := 2) (C := RX2) (T := TX2) (N := 7) a1 rfl E.v hd) rfl rfl (Nat.le_of_ble_eq_true rfl) (Nat.le_of_ble_eq_true rfl) (Nat.le_of_ble_eq_true rfl) dX1_strokes_5 0 0 (Nat.le_of_ble_eq_true rfl) (Nat.le_of_ble_eq_true rfl) (fun _ _ q => q.elim) (fun q Ex h' hx => ?_)
    exact r_xout E P (fun x hx => by cases hx) (rX_thr (k := 1) (rKq hfar hqu Kp.refl) (aG_t (by rw [hs]; rfl)) (by decide) rfl hx)
  | true =>
    obtain ⟨j, hj, rfl⟩ := sShaft_of (by omega) hs
    have hjn : cN (nI j) = j := cN_n (by omega)
    obtain ⟨cl, hcl, hso⟩ := hSh j hj
    refine r_callV1 (v1 := .ref (sf j)) E (ctT_X2_shaft G hl h hC hM j hj) mX2_shaft q1208 q909 q910 (fun H a1 => fm_rc (ci := 2) (C := RX2) (T := TX2) (N := 7) a1 rfl E.v hd) rfl rfl (Nat.le_of_ble_eq_true rfl) (Nat.le_of_ble_eq_true rfl) (Nat.le_of_ble_eq_true rfl) dX1_strokes_5 68 220 (Nat.le_of_ble_eq_true rfl) (Nat.le_of_ble_eq_true rfl) ?_
    refine r_astore_n E [some (.ref x), some (.int (nI j)), some (.int v), some (.ref (sf j))] dX1_strokes_8 rfl rfl ?_
    refine r_aload_n E dX1_strokes_9 rfl ?_
    refine r_aload_n E dX1_strokes_10 rfl ?_
    refine r_iload_n E dX1_strokes_11 rfl ?_
    refine r_iconst E (nI 1) dX1_strokes_12 (by decide) ?_
    refine r_newa E 0 (.inl (fun _ => 0)) rfl (z_ai 1) q236 (fun e => e) (Nat.le_of_ble_eq_true rfl) (Nat.le_of_ble_eq_true rfl) 67 219 (Nat.le_of_ble_eq_true rfl) (Nat.le_of_ble_eq_true rfl) dX1_strokes_13 (fun b1 hb1 kb1 => ?_)
    refine r_dup E dX1_strokes_15 rfl ?_
    refine r_iconst E (nI 0) dX1_strokes_16 (by decide) ?_
    refine r_iload_n E dX1_strokes_17 rfl ?_
    refine r_iast E fmUp_s (by decide) (by decide) dX1_strokes_18 ?_
    refine r_hp (h' := fmUp h b1 (true, .inl (0, 1, .inl (upd (fun _ => 0) 0 v)))) (fmUp_uu _ _ _ _) ?_
    cases hv : sBetween v (nI 0) (nI 63) with
    | false =>
      refine r_callS E (ctF_X1_cellOf G hl _ b1 true _ fmUp_s (by rw [upd_eq' rfl]; exact hv)) mX1_cellOf q78 q625 q626 rfl rfl (Nat.le_of_ble_eq_true rfl) (Nat.le_of_ble_eq_true rfl) (Nat.le_of_ble_eq_true rfl) dX1_strokes_19 0 0 (Nat.le_of_ble_eq_true rfl) (Nat.le_of_ble_eq_true rfl) (fun _ _ q => q.elim) (fun q Ex h' hx => ?_)
      exact r_xout E P (fun x hx => by cases hx) (rX_thr (k := 1) (rKq hfar hqu (Kp.up hb1)) (aG_t (by rw [hs, hv]; rfl)) (by decide) rfl hx)
    | true =>
      obtain ⟨c, hc0, rfl⟩ := sBtw_of (by decide) hv
      have hc : c < 64 := by omega
      have hcn : cN (nI c) = c := cN_n (by omega)
      refine r_callS1 (v1 := .int (nI c)) E (ctT_X1_cellOf G hl (fmUp h b1 (true, .inl (0, 1, .inl (upd (fun _ => 0) 0 (nI c))))) b1 true (upd (fun _ => 0) 0 (nI c)) fmUp_s c hc (upd_eq' rfl)) mX1_cellOf q78 q625 q626 rfl rfl (Nat.le_of_ble_eq_true rfl) (Nat.le_of_ble_eq_true rfl) (Nat.le_of_ble_eq_true rfl) dX1_strokes_19 67 219 (Nat.le_of_ble_eq_true rfl) (Nat.le_of_ble_eq_true rfl) ?_
      have hkp : Kp h (fmUp h b1 (true, .inl (0, 1, .inl (upd (fun _ => 0) 0 (nI c))))) := Kp.up hb1
      refine r_callV E (ct_X1_way_2 G hl _ (hC.kp hkp) (hkp _ _ hx) (hM.kp hkp) (hkp _ _ hfar) (hkp _ _ hqu) hfq hR j c hj hc) mX1_way_2 q1285 q1287 qs22 (fun H a1 => fm_rc (ci := 1) (C := RX1) (T := TX1) (N := 9) a1 rfl E.v (hkp _ _ hx)) rfl rfl (Nat.le_of_ble_eq_true rfl) (Nat.le_of_ble_eq_true rfl) (Nat.le_of_ble_eq_true rfl) dX1_strokes_22 2 21 (Nat.le_of_ble_eq_true rfl) (Nat.le_of_ble_eq_true rfl) (fun v' h2 q => ?_) (fun q Ex h' hx => r_xout E P (fun x hx => by cases hx) (rX_w (k := 2) (by obtain ⟨-, -, X, W, hk⟩ := hx; exact ⟨X, W, (fqH_kp hkp).trans hk⟩) (aWayG_none hs hv hjn hcn hx.2.1) (by decide) rfl hx.1))
      obtain ⟨ho, X, W, hk1, b, a9, hb, rfl, hT⟩ := q
      have hk2 : ∃ X W, Kp (fqH h far qu X W) h2 := ⟨X, W, (fqH_kp hkp).trans hk1⟩
      have hb6 : b < 64 := sFirK_lt hb
      have hbF := sFirK_F hb
      have hFb := (bFar_ok (N := N) (j := j) (K := K) hc).f b
      obtain ⟨ah, hta, -, -⟩ := hT.top
      have hz2 : Kz h h2 := (Kz.of hkp).trans ((fqH_kz (hkp _ _ hfar) (hkp _ _ hqu)).trans (Kz.of hk1))
      refine r_aload_n E dX1_strokes_25 rfl ?_
      refine r_getf E cl_X1 2 (by decide) q272 (hz2 _ _ hx (fun _ _ z => by cases z)) rfl dX1_strokes_26 ?_
      refine r_callV1 (v1 := .int (sWayS N (bFar N j c K).1 b ((bFar N j c K).1 b - 1 + 1))) E (ct_X9_strokes G hl (bFar N j c K).1 (bFar_pre hc) (fun x hx => cFar_ch hc (by rw [cFar_eq ho]; exact hx)) b hb6 ((bFar N j c K).1 b - 1) h2 (hC.kz hz2) (hM.kz hz2) a9 (by omega) hT) mX9_strokes q1319 q1320 q1321 (fun H a1 => fm_rc (ci := 7) (C := RX9) (T := TX9) (N := 3) a1 rfl E.v hta) rfl rfl (by show (bFar N j c K).1 b - 1 + 4 + 1 ≤ 75; omega) (by show 8 + (2 + 11) + (22 * ((bFar N j c K).1 b - 1) + 100) ≤ 2100; omega) (Nat.le_of_ble_eq_true rfl) dX1_strokes_29 0 0 (Nat.le_of_ble_eq_true rfl) (Nat.le_of_ble_eq_true rfl) ?_
      refine r_top (v' := .int (sWayS N (bFar N j c K).1 b ((bFar N j c K).1 b))) (congrArg (fun z => Value.int (sWayS N (bFar N j c K).1 b z)) (by omega)) ?_
      exact r_ireturn E P rfl dX1_strokes_32 (rP_don ((aWayG_some hs hv hjn hcn hb).trans (by rw [hjn, hcn])) hk2)

