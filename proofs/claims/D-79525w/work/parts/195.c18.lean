set_option maxHeartbeats 4000000 in
theorem ct_X2_won (G : fmG) (hl : (fmLn G).stackTraces = false) (h : fmHp) {d g sl se pl pe : Nat} {gf sf pf : Nat → Nat} {N : Nat → Int32} {K pk : Nat} (hC : CC G h) (hM : MineAt G h d g sl se pl pe gf sf pf N K pk)  : Ct G yX2_won (ws_ yX2_won cX2_won 4 (some .int)) { frames := 3, cells := 1, slots := 4, locals := 71 } [.ref d] h (fun v h' => v = some (.int (sSum (fun k => N (336 + k)) K)) ∧ Kp h h') fmNo := by
  refine Ct.of hl (by decide +kernel) (Nat.le_of_ble_eq_true rfl) (fun Γ E P => ?_)
  obtain ⟨hd, ⟨gq, hg, hgq⟩, hgd, hS, hSh, hP, hPk, hK8, hP6, hsp, hse⟩ := id hM
  obtain ⟨mcS, hsl⟩ := hS.o
  obtain ⟨mcP, hpl⟩ := hP.o
  obtain ⟨mcS, capS, feS, gS, hsl, heS, ncS, capS2, -, -, elS, -⟩ := hS
  refine r_iconst E (nI 0) dX2_won_0 (by decide) ?_
  refine r_top (v' := .int (sSum (fun k => N (336 + k)) 0)) rfl ?_
  refine r_istore_n E [some (.ref d), some (.int (sSum (fun k => N (336 + k)) 0)), none, none] dX2_won_1 rfl rfl ?_
  refine r_aload_n E dX2_won_2 rfl ?_
  refine r_getf E cl_X2 1 (by decide) q187 hd rfl dX2_won_3 ?_
  refine r_callF E (ct_J2_iterator G hl h sl se K mcS hsl) mJ2_iterator (ci := 12) rfl hsl 0 rfl q369 q375 q373 fx_0 rfl rfl (Nat.le_of_ble_eq_true rfl) (Nat.le_of_ble_eq_true rfl) (Nat.le_of_ble_eq_true rfl) dX2_won_6 0 0 (Nat.le_of_ble_eq_true rfl) (Nat.le_of_ble_eq_true rfl) (fun v' hx q => ?_) (fun _ _ _ q => q.elim)
  obtain ⟨it, hit0, kit, rfl, rfl⟩ := q
  refine r_astore_n E [some (.ref d), some (.int (sSum (fun k => N (336 + k)) 0)), some (.ref it), none] dX2_won_11 rfl rfl ?_
  have lp : ∀ (n i : Nat) (lr : Int32), i + n = K → fmW G Γ (fmUp h it (true, .inr (.inl (13, [.int (nI i), .int lr, .int mcS, .ref sl])))) 0 0 12 [some (.ref d), some (.int (sSum (fun k => N (336 + k)) i)), some (.ref it), none] [] := by
    intro n
    induction n with
    | zero =>
      intro i lr hi
      refine r_aload_n E dX2_won_12 rfl ?_
      refine r_callF1 (v1 := .int (bI (decide (i < K)))) E (ct_J13_hasNext G hl (fmUp h it (true, .inr (.inl (13, [.int (nI i), .int lr, .int mcS, .ref sl])))) sl se K mcS (fmUp_of hsl hit0) it i lr fmUp_s (by omega) (by omega)) mJ13_hasNext (ci := 13) rfl fmUp_s 6 rfl q398 q404 q402 fx_6 rfl rfl (Nat.le_of_ble_eq_true rfl) (Nat.le_of_ble_eq_true rfl) (Nat.le_of_ble_eq_true rfl) dX2_won_13 0 0 (Nat.le_of_ble_eq_true rfl) (Nat.le_of_ble_eq_true rfl) ?_
      refine r_ifB_eq (b := decide (i < K)) (tgt := 41) E dX2_won_18 (by decide) (fun c1 => ?_) (fun c1 => ?_)
      · refine r_iload_n E dX2_won_41 rfl ?_
        have hin : i = K := by omega
        exact r_ireturn E P rfl dX2_won_42 ⟨by rw [hin], Kp.up hit0⟩
      · have hlt := of_decide_eq_true c1; exfalso; omega
    | succ n ih =>
      intro i lr hi
      refine r_aload_n E dX2_won_12 rfl ?_
      refine r_callF1 (v1 := .int (bI (decide (i < K)))) E (ct_J13_hasNext G hl (fmUp h it (true, .inr (.inl (13, [.int (nI i), .int lr, .int mcS, .ref sl])))) sl se K mcS (fmUp_of hsl hit0) it i lr fmUp_s (by omega) (by omega)) mJ13_hasNext (ci := 13) rfl fmUp_s 6 rfl q398 q404 q402 fx_6 rfl rfl (Nat.le_of_ble_eq_true rfl) (Nat.le_of_ble_eq_true rfl) (Nat.le_of_ble_eq_true rfl) dX2_won_13 0 0 (Nat.le_of_ble_eq_true rfl) (Nat.le_of_ble_eq_true rfl) ?_
      refine r_ifB_eq (b := decide (i < K)) (tgt := 41) E dX2_won_18 (by decide) (fun c1 => ?_) (fun c1 => ?_)
      · have hlt := of_decide_eq_false c1; exfalso; omega
      · obtain ⟨cl9, hcl9, hso⟩ := hSh i (by omega)
        refine r_aload_n E dX2_won_21 rfl ?_
        refine r_callF1 (v1 := .ref (sf i)) E (ct_J13_next G hl (fmUp h it (true, .inr (.inl (13, [.int (nI i), .int lr, .int mcS, .ref sl])))) sl se K mcS (fmUp_of hsl hit0) it i lr fmUp_s (by omega) (by omega) capS feS gS (fmUp_of heS hit0) (by omega) ncS capS2 (sf i) (elS i (by omega))) mJ13_next (ci := 13) rfl fmUp_s 7 rfl q408 q413 q411 fx_7 rfl rfl (Nat.le_of_ble_eq_true rfl) (Nat.le_of_ble_eq_true rfl) (Nat.le_of_ble_eq_true rfl) dX2_won_22 0 0 (Nat.le_of_ble_eq_true rfl) (Nat.le_of_ble_eq_true rfl) ?_
        refine r_hp (h' := fmUp h it (true, .inr (.inl (13, [.int (nI (i + 1)), .int (nI i), .int mcS, .ref sl])))) (fmUp_uu _ _ _ _) ?_
        refine r_castS E cl_X7 q491 (fmUp_of hso hit0) dX2_won_27 ?_
        refine r_astore_n E [some (.ref d), some (.int (sSum (fun k => N (336 + k)) i)), some (.ref it), some (.ref (sf i))] dX2_won_30 rfl rfl ?_
        refine r_iload_n E dX2_won_31 rfl ?_
        refine r_aload_n E dX2_won_32 rfl ?_
        refine r_getfN E cl_X7 1 (by decide) q889 (fmUp_of hso hit0) rfl dX2_won_33 ?_
        refine r_iadd E dX2_won_36 ?_
        refine r_top (v' := .int (sSum (fun k => N (336 + k)) (i + 1))) rfl ?_
        refine r_istore_n E [some (.ref d), some (.int (sSum (fun k => N (336 + k)) (i + 1))), some (.ref it), some (.ref (sf i))] dX2_won_37 rfl rfl ?_
        refine r_goto (tgt := 12) E dX2_won_38 (by decide) ?_
        refine fmW.few (L' := [some (.ref d), some (.int (sSum (fun k => N (336 + k)) (i + 1))), some (.ref it), none]) (fmFew_n (L := [some (.ref d), some (.int (sSum (fun k => N (336 + k)) (i + 1))), some (.ref it), some (.ref (sf i))]) 3) ?_
        exact ih (i + 1) _ (by omega)
  exact lp K 0 _ (by omega)

set_option maxHeartbeats 4000000 in
theorem ct_X2_edges (G : fmG) (hl : (fmLn G).stackTraces = false) (h : fmHp) {d g sl se pl pe : Nat} {gf sf pf : Nat → Nat} {N : Nat → Int32} {K pk : Nat} (hC : CC G h) (hM : MineAt G h d g sl se pl pe gf sf pf N K pk)  : Ct G yX2_edges (ws_ yX2_edges cX2_edges 4 (some .int)) { frames := 3, cells := 1, slots := 4, locals := 71 } [.ref d] h (fun v h' => v = some (.int (sSum (fun k => N (344 + k)) pk)) ∧ Kp h h') fmNo := by
  refine Ct.of hl (by decide +kernel) (Nat.le_of_ble_eq_true rfl) (fun Γ E P => ?_)
  obtain ⟨hd, ⟨gq, hg, hgq⟩, hgd, hS, hSh, hP, hPk, hK8, hP6, hsp, hse⟩ := id hM
  obtain ⟨mcS, hsl⟩ := hS.o
  obtain ⟨mcP, hpl⟩ := hP.o
  obtain ⟨mcP, capP, feP, gP, hpl, heP, ncP, capP2, -, -, elP, -⟩ := hP
  refine r_iconst E (nI 0) dX2_edges_0 (by decide) ?_
  refine r_top (v' := .int (sSum (fun k => N (344 + k)) 0)) rfl ?_
  refine r_istore_n E [some (.ref d), some (.int (sSum (fun k => N (344 + k)) 0)), none, none] dX2_edges_1 rfl rfl ?_
  refine r_aload_n E dX2_edges_2 rfl ?_
  refine r_getf E cl_X2 2 (by decide) q189 hd rfl dX2_edges_3 ?_
  refine r_callF E (ct_J2_iterator G hl h pl pe pk mcP hpl) mJ2_iterator (ci := 12) rfl hpl 0 rfl q369 q375 q373 fx_0 rfl rfl (Nat.le_of_ble_eq_true rfl) (Nat.le_of_ble_eq_true rfl) (Nat.le_of_ble_eq_true rfl) dX2_edges_6 0 0 (Nat.le_of_ble_eq_true rfl) (Nat.le_of_ble_eq_true rfl) (fun v' hx q => ?_) (fun _ _ _ q => q.elim)
  obtain ⟨it, hit0, kit, rfl, rfl⟩ := q
  refine r_astore_n E [some (.ref d), some (.int (sSum (fun k => N (344 + k)) 0)), some (.ref it), none] dX2_edges_11 rfl rfl ?_
  have lp : ∀ (n i : Nat) (lr : Int32), i + n = pk → fmW G Γ (fmUp h it (true, .inr (.inl (13, [.int (nI i), .int lr, .int mcP, .ref pl])))) 0 0 12 [some (.ref d), some (.int (sSum (fun k => N (344 + k)) i)), some (.ref it), none] [] := by
    intro n
    induction n with
    | zero =>
      intro i lr hi
      refine r_aload_n E dX2_edges_12 rfl ?_
      refine r_callF1 (v1 := .int (bI (decide (i < pk)))) E (ct_J13_hasNext G hl (fmUp h it (true, .inr (.inl (13, [.int (nI i), .int lr, .int mcP, .ref pl])))) pl pe pk mcP (fmUp_of hpl hit0) it i lr fmUp_s (by omega) (by omega)) mJ13_hasNext (ci := 13) rfl fmUp_s 6 rfl q398 q404 q402 fx_6 rfl rfl (Nat.le_of_ble_eq_true rfl) (Nat.le_of_ble_eq_true rfl) (Nat.le_of_ble_eq_true rfl) dX2_edges_13 0 0 (Nat.le_of_ble_eq_true rfl) (Nat.le_of_ble_eq_true rfl) ?_
      refine r_ifB_eq (b := decide (i < pk)) (tgt := 41) E dX2_edges_18 (by decide) (fun c1 => ?_) (fun c1 => ?_)
      · refine r_iload_n E dX2_edges_41 rfl ?_
        have hin : i = pk := by omega
        exact r_ireturn E P rfl dX2_edges_42 ⟨by rw [hin], Kp.up hit0⟩
      · have hlt := of_decide_eq_true c1; exfalso; omega
    | succ n ih =>
      intro i lr hi
      refine r_aload_n E dX2_edges_12 rfl ?_
      refine r_callF1 (v1 := .int (bI (decide (i < pk)))) E (ct_J13_hasNext G hl (fmUp h it (true, .inr (.inl (13, [.int (nI i), .int lr, .int mcP, .ref pl])))) pl pe pk mcP (fmUp_of hpl hit0) it i lr fmUp_s (by omega) (by omega)) mJ13_hasNext (ci := 13) rfl fmUp_s 6 rfl q398 q404 q402 fx_6 rfl rfl (Nat.le_of_ble_eq_true rfl) (Nat.le_of_ble_eq_true rfl) (Nat.le_of_ble_eq_true rfl) dX2_edges_13 0 0 (Nat.le_of_ble_eq_true rfl) (Nat.le_of_ble_eq_true rfl) ?_
      refine r_ifB_eq (b := decide (i < pk)) (tgt := 41) E dX2_edges_18 (by decide) (fun c1 => ?_) (fun c1 => ?_)
      · have hlt := of_decide_eq_false c1; exfalso; omega
      · refine r_aload_n E dX2_edges_21 rfl ?_
        refine r_callF1 (v1 := .ref (pf i)) E (ct_J13_next G hl (fmUp h it (true, .inr (.inl (13, [.int (nI i), .int lr, .int mcP, .ref pl])))) pl pe pk mcP (fmUp_of hpl hit0) it i lr fmUp_s (by omega) (by omega) capP feP gP (fmUp_of heP hit0) (by omega) ncP capP2 (pf i) (elP i (by omega))) mJ13_next (ci := 13) rfl fmUp_s 7 rfl q408 q413 q411 fx_7 rfl rfl (Nat.le_of_ble_eq_true rfl) (Nat.le_of_ble_eq_true rfl) (Nat.le_of_ble_eq_true rfl) dX2_edges_22 0 0 (Nat.le_of_ble_eq_true rfl) (Nat.le_of_ble_eq_true rfl) ?_
        refine r_hp (h' := fmUp h it (true, .inr (.inl (13, [.int (nI (i + 1)), .int (nI i), .int mcP, .ref pl])))) (fmUp_uu _ _ _ _) ?_
        refine r_castS E cl_J20 q574 (fmUp_of (hPk i (by omega)) hit0) dX2_edges_27 ?_
        refine r_astore_n E [some (.ref d), some (.int (sSum (fun k => N (344 + k)) i)), some (.ref it), some (.ref (pf i))] dX2_edges_30 rfl rfl ?_
        refine r_iload_n E dX2_edges_31 rfl ?_
        refine r_aload_n E dX2_edges_32 rfl ?_
        refine r_callV1 (v1 := .int (N (344 + i))) E (ct_J20_intValue G hl (fmUp h it (true, .inr (.inl (13, [.int (nI (i + 1)), .int (nI i), .int mcP, .ref pl])))) (pf i) false (N (344 + i)) (fmUp_of (hPk i (by omega)) hit0)) mJ20_intValue q847 q848 q849 (fun H a1 => fm_rc (ci := 17) (C := RJ20) (T := TJ20) (N := 1) a1 rfl E.v (fmUp_of (hPk i (by omega)) hit0)) rfl rfl (Nat.le_of_ble_eq_true rfl) (Nat.le_of_ble_eq_true rfl) (Nat.le_of_ble_eq_true rfl) dX2_edges_33 0 0 (Nat.le_of_ble_eq_true rfl) (Nat.le_of_ble_eq_true rfl) ?_
        refine r_iadd E dX2_edges_36 ?_
        refine r_top (v' := .int (sSum (fun k => N (344 + k)) (i + 1))) rfl ?_
        refine r_istore_n E [some (.ref d), some (.int (sSum (fun k => N (344 + k)) (i + 1))), some (.ref it), some (.ref (pf i))] dX2_edges_37 rfl rfl ?_
        refine r_goto (tgt := 12) E dX2_edges_38 (by decide) ?_
        refine fmW.few (L' := [some (.ref d), some (.int (sSum (fun k => N (344 + k)) (i + 1))), some (.ref it), none]) (fmFew_n (L := [some (.ref d), some (.int (sSum (fun k => N (344 + k)) (i + 1))), some (.ref it), some (.ref (pf i))]) 3) ?_
        exact ih (i + 1) _ (by omega)
  exact lp pk 0 _ (by omega)

set_option maxHeartbeats 4000000 in
theorem ct_X2_shaftsClosed (G : fmG) (hl : (fmLn G).stackTraces = false) (h : fmHp) {d g sl se pl pe : Nat} {gf sf pf : Nat → Nat} {N : Nat → Int32} {K pk : Nat} (hC : CC G h) (hM : MineAt G h d g sl se pl pe gf sf pf N K pk)  : Ct G yX2_shaftsClosed (ws_ yX2_shaftsClosed cX2_shaftsClosed 4 (some .int)) { frames := 3, cells := 1, slots := 4, locals := 71 } [.ref d] h (fun v h' => v = some (.int (sSum (fun k => N (328 + k)) K)) ∧ Kp h h') fmNo := by
  refine Ct.of hl (by decide +kernel) (Nat.le_of_ble_eq_true rfl) (fun Γ E P => ?_)
  obtain ⟨hd, ⟨gq, hg, hgq⟩, hgd, hS, hSh, hP, hPk, hK8, hP6, hsp, hse⟩ := id hM
  obtain ⟨mcS, hsl⟩ := hS.o
  obtain ⟨mcP, hpl⟩ := hP.o
  obtain ⟨mcS, capS, feS, gS, hsl, heS, ncS, capS2, -, -, elS, -⟩ := hS
  refine r_iconst E (nI 0) dX2_shaftsClosed_0 (by decide) ?_
  refine r_top (v' := .int (sSum (fun k => N (328 + k)) 0)) rfl ?_
  refine r_istore_n E [some (.ref d), some (.int (sSum (fun k => N (328 + k)) 0)), none, none] dX2_shaftsClosed_1 rfl rfl ?_
  refine r_aload_n E dX2_shaftsClosed_2 rfl ?_
  refine r_getf E cl_X2 1 (by decide) q187 hd rfl dX2_shaftsClosed_3 ?_
  refine r_callF E (ct_J2_iterator G hl h sl se K mcS hsl) mJ2_iterator (ci := 12) rfl hsl 0 rfl q369 q375 q373 fx_0 rfl rfl (Nat.le_of_ble_eq_true rfl) (Nat.le_of_ble_eq_true rfl) (Nat.le_of_ble_eq_true rfl) dX2_shaftsClosed_6 0 0 (Nat.le_of_ble_eq_true rfl) (Nat.le_of_ble_eq_true rfl) (fun v' hx q => ?_) (fun _ _ _ q => q.elim)
  obtain ⟨it, hit0, kit, rfl, rfl⟩ := q
  refine r_astore_n E [some (.ref d), some (.int (sSum (fun k => N (328 + k)) 0)), some (.ref it), none] dX2_shaftsClosed_11 rfl rfl ?_
  have lp : ∀ (n i : Nat) (lr : Int32), i + n = K → fmW G Γ (fmUp h it (true, .inr (.inl (13, [.int (nI i), .int lr, .int mcS, .ref sl])))) 0 0 12 [some (.ref d), some (.int (sSum (fun k => N (328 + k)) i)), some (.ref it), none] [] := by
    intro n
    induction n with
    | zero =>
      intro i lr hi
      refine r_aload_n E dX2_shaftsClosed_12 rfl ?_
      refine r_callF1 (v1 := .int (bI (decide (i < K)))) E (ct_J13_hasNext G hl (fmUp h it (true, .inr (.inl (13, [.int (nI i), .int lr, .int mcS, .ref sl])))) sl se K mcS (fmUp_of hsl hit0) it i lr fmUp_s (by omega) (by omega)) mJ13_hasNext (ci := 13) rfl fmUp_s 6 rfl q398 q404 q402 fx_6 rfl rfl (Nat.le_of_ble_eq_true rfl) (Nat.le_of_ble_eq_true rfl) (Nat.le_of_ble_eq_true rfl) dX2_shaftsClosed_13 0 0 (Nat.le_of_ble_eq_true rfl) (Nat.le_of_ble_eq_true rfl) ?_
      refine r_ifB_eq (b := decide (i < K)) (tgt := 49) E dX2_shaftsClosed_18 (by decide) (fun c1 => ?_) (fun c1 => ?_)
      · refine r_iload_n E dX2_shaftsClosed_49 rfl ?_
        have hin : i = K := by omega
        exact r_ireturn E P rfl dX2_shaftsClosed_50 ⟨by rw [hin], Kp.up hit0⟩
      · have hlt := of_decide_eq_true c1; exfalso; omega
    | succ n ih =>
      intro i lr hi
      refine r_aload_n E dX2_shaftsClosed_12 rfl ?_
      refine r_callF1 (v1 := .int (bI (decide (i < K)))) E (ct_J13_hasNext G hl (fmUp h it (true, .inr (.inl (13, [.int (nI i), .int lr, .int mcS, .ref sl])))) sl se K mcS (fmUp_of hsl hit0) it i lr fmUp_s (by omega) (by omega)) mJ13_hasNext (ci := 13) rfl fmUp_s 6 rfl q398 q404 q402 fx_6 rfl rfl (Nat.le_of_ble_eq_true rfl) (Nat.le_of_ble_eq_true rfl) (Nat.le_of_ble_eq_true rfl) dX2_shaftsClosed_13 0 0 (Nat.le_of_ble_eq_true rfl) (Nat.le_of_ble_eq_true rfl) ?_
      refine r_ifB_eq (b := decide (i < K)) (tgt := 49) E dX2_shaftsClosed_18 (by decide) (fun c1 => ?_) (fun c1 => ?_)
      · have hlt := of_decide_eq_false c1; exfalso; omega
      · obtain ⟨cl9, hcl9, hso⟩ := hSh i (by omega)
        refine r_aload_n E dX2_shaftsClosed_21 rfl ?_
        refine r_callF1 (v1 := .ref (sf i)) E (ct_J13_next G hl (fmUp h it (true, .inr (.inl (13, [.int (nI i), .int lr, .int mcS, .ref sl])))) sl se K mcS (fmUp_of hsl hit0) it i lr fmUp_s (by omega) (by omega) capS feS gS (fmUp_of heS hit0) (by omega) ncS capS2 (sf i) (elS i (by omega))) mJ13_next (ci := 13) rfl fmUp_s 7 rfl q408 q413 q411 fx_7 rfl rfl (Nat.le_of_ble_eq_true rfl) (Nat.le_of_ble_eq_true rfl) (Nat.le_of_ble_eq_true rfl) dX2_shaftsClosed_22 0 0 (Nat.le_of_ble_eq_true rfl) (Nat.le_of_ble_eq_true rfl) ?_
        refine r_hp (h' := fmUp h it (true, .inr (.inl (13, [.int (nI (i + 1)), .int (nI i), .int mcS, .ref sl])))) (fmUp_uu _ _ _ _) ?_
        refine r_castS E cl_X7 q491 (fmUp_of hso hit0) dX2_shaftsClosed_27 ?_
        refine r_astore_n E [some (.ref d), some (.int (sSum (fun k => N (328 + k)) i)), some (.ref it), some (.ref (sf i))] dX2_shaftsClosed_30 rfl rfl ?_
        refine r_iload_n E dX2_shaftsClosed_31 rfl ?_
        refine r_aload_n E dX2_shaftsClosed_32 rfl ?_
        refine r_getfN E cl_X7 2 (by decide) q893 (fmUp_of hso hit0) rfl dX2_shaftsClosed_33 ?_
        refine r_ifB_eq (b := cl9) (tgt := 43) E dX2_shaftsClosed_36 (by decide) (fun hcb => ?_) (fun hcb => ?_)
        · refine r_iconst E (nI 0) dX2_shaftsClosed_43 (by decide) ?_
          refine r_iadd E dX2_shaftsClosed_44 ?_
          refine r_top (v' := .int (sSum (fun k => N (328 + k)) (i + 1))) (by show Value.int (_ + _) = Value.int (_ + N (328 + i)); rw [hcl9, hcb]; rfl) ?_
          refine r_istore_n E [some (.ref d), some (.int (sSum (fun k => N (328 + k)) (i + 1))), some (.ref it), some (.ref (sf i))] dX2_shaftsClosed_45 rfl rfl ?_
          refine r_goto (tgt := 12) E dX2_shaftsClosed_46 (by decide) ?_
          refine fmW.few (L' := [some (.ref d), some (.int (sSum (fun k => N (328 + k)) (i + 1))), some (.ref it), none]) (fmFew_n (L := [some (.ref d), some (.int (sSum (fun k => N (328 + k)) (i + 1))), some (.ref it), some (.ref (sf i))]) 3) ?_
          exact ih (i + 1) _ (by omega)
        · refine r_iconst E (nI 1) dX2_shaftsClosed_39 (by decide) ?_
          refine r_goto (tgt := 44) E dX2_shaftsClosed_40 (by decide) ?_
          refine r_iadd E dX2_shaftsClosed_44 ?_
          refine r_top (v' := .int (sSum (fun k => N (328 + k)) (i + 1))) (by show Value.int (_ + _) = Value.int (_ + N (328 + i)); rw [hcl9, hcb]; rfl) ?_
          refine r_istore_n E [some (.ref d), some (.int (sSum (fun k => N (328 + k)) (i + 1))), some (.ref it), some (.ref (sf i))] dX2_shaftsClosed_45 rfl rfl ?_
          refine r_goto (tgt := 12) E dX2_shaftsClosed_46 (by decide) ?_
          refine fmW.few (L' := [some (.ref d), some (.int (sSum (fun k => N (328 + k)) (i + 1))), some (.ref it), none]) (fmFew_n (L := [some (.ref d), some (.int (sSum (fun k => N (328 + k)) (i + 1))), some (.ref it), some (.ref (sf i))]) 3) ?_
          exact ih (i + 1) _ (by omega)
  exact lp K 0 _ (by omega)

