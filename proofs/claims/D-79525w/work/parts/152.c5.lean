set_option maxHeartbeats 4000000 in
theorem ct_X2_pickFor (G : fmG) (hl : (fmLn G).stackTraces = false) (h : fmHp) {d g sl se pl pe : Nat} {gf sf pf : Nat → Nat} {N : Nat → Int32} {K pk : Nat} (hC : CC G h) (hM : MineAt G h d g sl se pl pe gf sf pf N K pk) (need : Int32) : Ct G yX2_pickFor (ws_ yX2_pickFor cX2_pickFor 5 (some .int)) { frames := 3, cells := 0, slots := 0, locals := 64 } [.ref d, .int need] h (fmRet (some (.int (cI (sPickK N need pk)))) h) fmNo := by
  refine Ct.of hl (by decide +kernel) (Nat.le_of_ble_eq_true rfl) (fun Γ E P => ?_)
  obtain ⟨hd, ⟨gq, hg, hgq⟩, hgd, hS, hSh, hP, hPk, hK8, hP6, hsp, hse⟩ := id hM
  obtain ⟨mcS, hsl⟩ := hS.o
  obtain ⟨mcP, hpl⟩ := hP.o
  refine r_iconst E (-1) dX2_pickFor_0 (by decide) ?_
  refine r_istore_n E [some (.ref d), some (.int need), some (.int (-1)), none, none] dX2_pickFor_1 rfl rfl ?_
  refine r_iconst E (nI 0) dX2_pickFor_2 (by decide) ?_
  refine r_istore_n E [some (.ref d), some (.int need), some (.int (-1)), some (.int (nI 0)), none] dX2_pickFor_3 rfl rfl ?_
  have lp1 : ∀ (n1 i1 : Nat), i1 + n1 = pk → fmW G Γ (h) 0 0 4 [some (.ref d), some (.int need), some (.int (cI (sPickK N need i1))), some (.int (nI i1)), none] [] := by
    intro n1
    induction n1 with
    | zero =>
      intro i1 hi1
      refine r_iload_n E dX2_pickFor_4 rfl ?_
      refine r_aload_n E dX2_pickFor_5 rfl ?_
      refine r_getf E cl_X2 2 (by decide) q189 hd rfl dX2_pickFor_6 ?_
      refine r_callF1 (v1 := .int (nI pk)) E (ctA_J2_size G hl (h) pl pe pk pf hP (by omega)) mJ2_size (ci := 12) rfl hpl 3 rfl q758 q581 q579 fx_3 rfl rfl (Nat.le_of_ble_eq_true rfl) (Nat.le_of_ble_eq_true rfl) (Nat.le_of_ble_eq_true rfl) dX2_pickFor_9 0 0 (Nat.le_of_ble_eq_true rfl) (Nat.le_of_ble_eq_true rfl) ?_
      refine r_icmpN_ge (tgt := 101) E dX2_pickFor_14 (by decide) (by omega) (by omega) (fun c2 => ?_) (fun c2 => ?_)
      · obtain rfl : i1 = pk := by omega
        refine r_iload_n E dX2_pickFor_101 rfl ?_
        exact r_ireturn E P rfl dX2_pickFor_102 ⟨rfl, rfl⟩
      · exfalso; omega
    | succ n1 ih =>
      intro i1 hi1
      refine r_iload_n E dX2_pickFor_4 rfl ?_
      refine r_aload_n E dX2_pickFor_5 rfl ?_
      refine r_getf E cl_X2 2 (by decide) q189 hd rfl dX2_pickFor_6 ?_
      refine r_callF1 (v1 := .int (nI pk)) E (ctA_J2_size G hl (h) pl pe pk pf hP (by omega)) mJ2_size (ci := 12) rfl hpl 3 rfl q758 q581 q579 fx_3 rfl rfl (Nat.le_of_ble_eq_true rfl) (Nat.le_of_ble_eq_true rfl) (Nat.le_of_ble_eq_true rfl) dX2_pickFor_9 0 0 (Nat.le_of_ble_eq_true rfl) (Nat.le_of_ble_eq_true rfl) ?_
      refine r_icmpN_ge (tgt := 101) E dX2_pickFor_14 (by decide) (by omega) (by omega) (fun c3 => ?_) (fun c3 => ?_)
      · exfalso; omega
      · refine r_aload_n E dX2_pickFor_17 rfl ?_
        refine r_getf E cl_X2 2 (by decide) q189 hd rfl dX2_pickFor_18 ?_
        refine r_iload_n E dX2_pickFor_21 rfl ?_
        refine r_callF1 (v1 := .ref (pf i1)) E (ctA_J2_get G hl (h) pl pe pk pf hP (by omega) i1 (by omega)) mJ2_get (ci := 12) rfl hpl 2 rfl q829 q834 q832 fx_2 rfl rfl (Nat.le_of_ble_eq_true rfl) (Nat.le_of_ble_eq_true rfl) (Nat.le_of_ble_eq_true rfl) dX2_pickFor_22 0 0 (Nat.le_of_ble_eq_true rfl) (Nat.le_of_ble_eq_true rfl) ?_
        refine r_castS E cl_J20 q574 (hPk i1 (by omega)) dX2_pickFor_27 ?_
        refine r_callV1 (v1 := .int (N (344 + i1))) E (ct_J20_intValue G hl (h) (pf i1) false (N (344 + i1)) (hPk i1 (by omega))) mJ20_intValue q847 q848 q849 (fun H a1 => fm_rc (ci := 17) (C := RJ20) (T := TJ20) (N := 1) a1 rfl E.v (hPk i1 (by omega))) rfl rfl (Nat.le_of_ble_eq_true rfl) (Nat.le_of_ble_eq_true rfl) (Nat.le_of_ble_eq_true rfl) dX2_pickFor_30 0 0 (Nat.le_of_ble_eq_true rfl) (Nat.le_of_ble_eq_true rfl) ?_
        refine r_iload_n E dX2_pickFor_33 rfl ?_
        refine r_icmp_lt (x := N (344 + i1)) (y := need) (tgt := 81) E dX2_pickFor_34 (by decide) (fun c4 => ?_) (fun c4 => ?_)
        · have hs := sPickK_no (N := N) (k := i1) (decide_eq_false (Int32.not_le.mpr c4))
          refine r_iconst E (nI 0) dX2_pickFor_81 (by decide) ?_
          refine r_istore E [some (.ref d), some (.int need), some (.int (cI (sPickK N need i1))), some (.int (nI i1)), some (.int (nI 0))] dX2_pickFor_82 rfl rfl ?_
          refine r_iload E dX2_pickFor_84 rfl ?_
          refine r_top (v' := .int (bI false)) rfl ?_
          refine r_ifB_eq (b := false) (tgt := 93) E dX2_pickFor_86 (by decide) (fun _ => ?_) (fun c => absurd c (by decide))
          refine r_iload_n E dX2_pickFor_93 rfl ?_
          refine r_istore_n E [some (.ref d), some (.int need), some (.int (cI (sPickK N need i1))), some (.int (nI i1)), some (.int (nI 0))] dX2_pickFor_94 rfl rfl ?_
          refine r_iinc E (nI (i1 + 1)) [some (.ref d), some (.int need), some (.int (cI (sPickK N need i1))), some (.int (nI (i1 + 1))), some (.int (nI 0))] dX2_pickFor_95 rfl (nI_1 i1) rfl rfl ?_
          refine r_goto (tgt := 4) E dX2_pickFor_98 (by decide) ?_
          refine fmW.few (L' := [some (.ref d), some (.int need), some (.int (cI (sPickK N need i1))), some (.int (nI (i1 + 1))), none]) (fmFew_n (L := [some (.ref d), some (.int need), some (.int (cI (sPickK N need i1))), some (.int (nI (i1 + 1))), some (.int (nI 0))]) 4) ?_
          rw [← hs]
          exact ih (i1 + 1) (by omega)
        · have hge := decide_eq_true (Int32.not_lt.mp c4)
          refine r_iload_n E dX2_pickFor_37 rfl ?_
          refine r_iconst E (-1) dX2_pickFor_38 (by decide) ?_
          refine r_icmpC_eq (tgt := 77) E dX2_pickFor_39 (by decide) (sPickK_31 (by omega)) (fun c6 => ?_) (fun c6 => ?_)
          · have hs := sPickK_first hge c6
            refine r_iconst E (nI 1) dX2_pickFor_77 (by decide) ?_
            refine r_goto (tgt := 82) E dX2_pickFor_78 (by decide) ?_
            refine r_istore E [some (.ref d), some (.int need), some (.int (cI (sPickK N need i1))), some (.int (nI i1)), some (.int (nI 1))] dX2_pickFor_82 rfl rfl ?_
            refine r_iload E dX2_pickFor_84 rfl ?_
            refine r_top (v' := .int (bI true)) rfl ?_
            refine r_ifB_eq (b := true) (tgt := 93) E dX2_pickFor_86 (by decide) (fun c => absurd c (by decide)) (fun _ => ?_)
            refine r_iload_n E dX2_pickFor_89 rfl ?_
            refine r_goto (tgt := 94) E dX2_pickFor_90 (by decide) ?_
            refine r_top (v' := .int (cI (sPickK N need (i1 + 1)))) (by rw [hs]; rfl) ?_
            refine r_istore_n E [some (.ref d), some (.int need), some (.int (cI (sPickK N need (i1 + 1)))), some (.int (nI i1)), some (.int (nI 1))] dX2_pickFor_94 rfl rfl ?_
            refine r_iinc E (nI (i1 + 1)) [some (.ref d), some (.int need), some (.int (cI (sPickK N need (i1 + 1)))), some (.int (nI (i1 + 1))), some (.int (nI 1))] dX2_pickFor_95 rfl (nI_1 i1) rfl rfl ?_
            refine r_goto (tgt := 4) E dX2_pickFor_98 (by decide) ?_
            refine fmW.few (L' := [some (.ref d), some (.int need), some (.int (cI (sPickK N need (i1 + 1)))), some (.int (nI (i1 + 1))), none]) (fmFew_n (L := [some (.ref d), some (.int need), some (.int (cI (sPickK N need (i1 + 1)))), some (.int (nI (i1 + 1))), some (.int (nI 1))]) 4) ?_
            exact ih (i1 + 1) (by omega)
          · obtain ⟨k, hk⟩ := Option.ne_none_iff_exists'.mp c6
            have hk2 := sPickK_lt hk
            refine r_aload_n E dX2_pickFor_42 rfl ?_
            refine r_getf E cl_X2 2 (by decide) q189 hd rfl dX2_pickFor_43 ?_
            refine r_iload_n E dX2_pickFor_46 rfl ?_
            refine r_callF1 (v1 := .ref (pf i1)) E (ctA_J2_get G hl (h) pl pe pk pf hP (by omega) i1 (by omega)) mJ2_get (ci := 12) rfl hpl 2 rfl q829 q834 q832 fx_2 rfl rfl (Nat.le_of_ble_eq_true rfl) (Nat.le_of_ble_eq_true rfl) (Nat.le_of_ble_eq_true rfl) dX2_pickFor_47 0 0 (Nat.le_of_ble_eq_true rfl) (Nat.le_of_ble_eq_true rfl) ?_
            refine r_castS E cl_J20 q574 (hPk i1 (by omega)) dX2_pickFor_52 ?_
            refine r_callV1 (v1 := .int (N (344 + i1))) E (ct_J20_intValue G hl (h) (pf i1) false (N (344 + i1)) (hPk i1 (by omega))) mJ20_intValue q847 q848 q849 (fun H a1 => fm_rc (ci := 17) (C := RJ20) (T := TJ20) (N := 1) a1 rfl E.v (hPk i1 (by omega))) rfl rfl (Nat.le_of_ble_eq_true rfl) (Nat.le_of_ble_eq_true rfl) (Nat.le_of_ble_eq_true rfl) dX2_pickFor_55 0 0 (Nat.le_of_ble_eq_true rfl) (Nat.le_of_ble_eq_true rfl) ?_
            refine r_aload_n E dX2_pickFor_58 rfl ?_
            refine r_getf E cl_X2 2 (by decide) q189 hd rfl dX2_pickFor_59 ?_
            refine r_iload_n E dX2_pickFor_62 rfl ?_
            refine r_top (v' := .int (nI k)) (congrArg Value.int (by rw [hk]; rfl)) ?_
            refine r_callF1 (v1 := .ref (pf k)) E (ctA_J2_get G hl (h) pl pe pk pf hP (by omega) k (by omega)) mJ2_get (ci := 12) rfl hpl 2 rfl q829 q834 q832 fx_2 rfl rfl (Nat.le_of_ble_eq_true rfl) (Nat.le_of_ble_eq_true rfl) (Nat.le_of_ble_eq_true rfl) dX2_pickFor_63 0 0 (Nat.le_of_ble_eq_true rfl) (Nat.le_of_ble_eq_true rfl) ?_
            refine r_castS E cl_J20 q574 (hPk k (by omega)) dX2_pickFor_68 ?_
            refine r_callV1 (v1 := .int (N (344 + k))) E (ct_J20_intValue G hl (h) (pf k) false (N (344 + k)) (hPk k (by omega))) mJ20_intValue q847 q848 q849 (fun H a1 => fm_rc (ci := 17) (C := RJ20) (T := TJ20) (N := 1) a1 rfl E.v (hPk k (by omega))) rfl rfl (Nat.le_of_ble_eq_true rfl) (Nat.le_of_ble_eq_true rfl) (Nat.le_of_ble_eq_true rfl) dX2_pickFor_71 0 0 (Nat.le_of_ble_eq_true rfl) (Nat.le_of_ble_eq_true rfl) ?_
            refine r_icmp_ge (x := N (344 + i1)) (y := N (344 + k)) (tgt := 81) E dX2_pickFor_74 (by decide) (fun c8 => ?_) (fun c8 => ?_)
            · have hs := sPickK_keep hk c8
              refine r_iconst E (nI 0) dX2_pickFor_81 (by decide) ?_
              refine r_istore E [some (.ref d), some (.int need), some (.int (cI (sPickK N need i1))), some (.int (nI i1)), some (.int (nI 0))] dX2_pickFor_82 rfl rfl ?_
              refine r_iload E dX2_pickFor_84 rfl ?_
              refine r_top (v' := .int (bI false)) rfl ?_
              refine r_ifB_eq (b := false) (tgt := 93) E dX2_pickFor_86 (by decide) (fun _ => ?_) (fun c => absurd c (by decide))
              refine r_iload_n E dX2_pickFor_93 rfl ?_
              refine r_istore_n E [some (.ref d), some (.int need), some (.int (cI (sPickK N need i1))), some (.int (nI i1)), some (.int (nI 0))] dX2_pickFor_94 rfl rfl ?_
              refine r_iinc E (nI (i1 + 1)) [some (.ref d), some (.int need), some (.int (cI (sPickK N need i1))), some (.int (nI (i1 + 1))), some (.int (nI 0))] dX2_pickFor_95 rfl (nI_1 i1) rfl rfl ?_
              refine r_goto (tgt := 4) E dX2_pickFor_98 (by decide) ?_
              refine fmW.few (L' := [some (.ref d), some (.int need), some (.int (cI (sPickK N need i1))), some (.int (nI (i1 + 1))), none]) (fmFew_n (L := [some (.ref d), some (.int need), some (.int (cI (sPickK N need i1))), some (.int (nI (i1 + 1))), some (.int (nI 0))]) 4) ?_
              rw [← hs]
              exact ih (i1 + 1) (by omega)
            · have hs := sPickK_take hge hk c8
              refine r_iconst E (nI 1) dX2_pickFor_77 (by decide) ?_
              refine r_goto (tgt := 82) E dX2_pickFor_78 (by decide) ?_
              refine r_istore E [some (.ref d), some (.int need), some (.int (cI (sPickK N need i1))), some (.int (nI i1)), some (.int (nI 1))] dX2_pickFor_82 rfl rfl ?_
              refine r_iload E dX2_pickFor_84 rfl ?_
              refine r_top (v' := .int (bI true)) rfl ?_
              refine r_ifB_eq (b := true) (tgt := 93) E dX2_pickFor_86 (by decide) (fun c => absurd c (by decide)) (fun _ => ?_)
              refine r_iload_n E dX2_pickFor_89 rfl ?_
              refine r_goto (tgt := 94) E dX2_pickFor_90 (by decide) ?_
              refine r_top (v' := .int (cI (sPickK N need (i1 + 1)))) (by rw [hs]; rfl) ?_
              refine r_istore_n E [some (.ref d), some (.int need), some (.int (cI (sPickK N need (i1 + 1)))), some (.int (nI i1)), some (.int (nI 1))] dX2_pickFor_94 rfl rfl ?_
              refine r_iinc E (nI (i1 + 1)) [some (.ref d), some (.int need), some (.int (cI (sPickK N need (i1 + 1)))), some (.int (nI (i1 + 1))), some (.int (nI 1))] dX2_pickFor_95 rfl (nI_1 i1) rfl rfl ?_
              refine r_goto (tgt := 4) E dX2_pickFor_98 (by decide) ?_
              refine fmW.few (L' := [some (.ref d), some (.int need), some (.int (cI (sPickK N need (i1 + 1)))), some (.int (nI (i1 + 1))), none]) (fmFew_n (L := [some (.ref d), some (.int need), some (.int (cI (sPickK N need (i1 + 1)))), some (.int (nI (i1 + 1))), some (.int (nI 1))]) 4) ?_
              exact ih (i1 + 1) (by omega)
  exact lp1 pk 0 (by omega)

set_option maxHeartbeats 4000000 in
theorem ct_X2_openCells (G : fmG) (hl : (fmLn G).stackTraces = false) (h : fmHp) {d g sl se pl pe : Nat} {gf sf pf : Nat → Nat} {N : Nat → Int32} {K pk : Nat} (hC : CC G h) (hM : MineAt G h d g sl se pl pe gf sf pf N K pk) (s : Int32) : Ct G yX2_openCells (ws_ yX2_openCells cX2_openCells 4 (some .int)) { frames := 1, cells := 0, slots := 0, locals := 24 } [.ref d, .int s] h (fmRet (some (.int (nI (sOpens N s)))) h) fmNo := by
  refine Ct.of hl (by decide +kernel) (Nat.le_of_ble_eq_true rfl) (fun Γ E P => ?_)
  obtain ⟨hd, ⟨gq, hg, hgq⟩, hgd, hS, hSh, hP, hPk, hK8, hP6, hsp, hse⟩ := id hM
  obtain ⟨mcS, hsl⟩ := hS.o
  obtain ⟨mcP, hpl⟩ := hP.o
  refine r_iconst E (nI 0) dX2_openCells_0 (by decide) ?_
  refine r_istore_n E [some (.ref d), some (.int s), some (.int (nI 0)), none] dX2_openCells_1 rfl rfl ?_
  refine r_iconst E (nI 0) dX2_openCells_2 (by decide) ?_
  refine r_istore_n E [some (.ref d), some (.int s), some (.int (nI 0)), some (.int (nI 0))] dX2_openCells_3 rfl rfl ?_
  have lp1 : ∀ (n1 i1 : Nat), i1 + n1 = 64 → fmW G Γ (h) 0 0 4 [some (.ref d), some (.int s), some (.int (nI (sCount (fun c => sOpenOf N (some c) s) i1))), some (.int (nI i1))] [] := by
    intro n1
    induction n1 with
    | zero =>
      intro i1 hi1
      refine r_iload_n E dX2_openCells_4 rfl ?_
      refine r_bipush E (nI 64) dX2_openCells_5 (by decide) ?_
      refine r_icmpN_ge (tgt := 33) E dX2_openCells_7 (by decide) (by omega) (by omega) (fun c2 => ?_) (fun c2 => ?_)
      · obtain rfl : i1 = 64 := by omega
        refine r_iload_n E dX2_openCells_33 rfl ?_
        exact r_ireturn E P rfl dX2_openCells_34 ⟨rfl, rfl⟩
      · exfalso; omega
    | succ n1 ih =>
      intro i1 hi1
      refine r_iload_n E dX2_openCells_4 rfl ?_
      refine r_bipush E (nI 64) dX2_openCells_5 (by decide) ?_
      refine r_icmpN_ge (tgt := 33) E dX2_openCells_7 (by decide) (by omega) (by omega) (fun c3 => ?_) (fun c3 => ?_)
      · exfalso; omega
      · refine r_iload_n E dX2_openCells_10 rfl ?_
        refine r_aload_n E dX2_openCells_11 rfl ?_
        refine r_iload_n E dX2_openCells_12 rfl ?_
        refine r_iload_n E dX2_openCells_13 rfl ?_
        refine r_callV1 (v1 := .int (bI (sOpenOf N (some i1) s))) E (ct_X2_isOpen G hl (h) hC hM (some i1) s (by intro x hx; first | exact sBsd_lt (by omega) hx | exact ho x hx | (cases hx; omega) | cases hx)) mX2_isOpen q799 q800 q801 (fun H a1 => fm_rc (ci := 2) (C := RX2) (T := TX2) (N := 7) a1 rfl E.v hd) rfl rfl (Nat.le_of_ble_eq_true rfl) (Nat.le_of_ble_eq_true rfl) (Nat.le_of_ble_eq_true rfl) dX2_openCells_14 0 0 (Nat.le_of_ble_eq_true rfl) (Nat.le_of_ble_eq_true rfl) ?_
        refine r_ifB_eq (b := sOpenOf N (some i1) s) (tgt := 24) E dX2_openCells_17 (by decide) (fun c4 => ?_) (fun c4 => ?_)
        · refine r_iconst E (nI 0) dX2_openCells_24 (by decide) ?_
          refine r_iaddN E dX2_openCells_25 ?_
          refine r_topi (congrArg nI (Nat.add_zero _)) ?_
          refine r_top (v' := .int (nI (sCount (fun c => sOpenOf N (some c) s) (i1 + 1)))) (congrArg (fun z => Value.int (nI z)) (by show _ = sCount _ i1 + (if sOpenOf N (some i1) s = true then 1 else 0); rw [c4]; rfl)) ?_
          refine r_istore_n E [some (.ref d), some (.int s), some (.int (nI (sCount (fun c => sOpenOf N (some c) s) (i1 + 1)))), some (.int (nI i1))] dX2_openCells_26 rfl rfl ?_
          refine r_iinc E (nI (i1 + 1)) [some (.ref d), some (.int s), some (.int (nI (sCount (fun c => sOpenOf N (some c) s) (i1 + 1)))), some (.int (nI (i1 + 1)))] dX2_openCells_27 rfl (nI_1 i1) rfl rfl ?_
          refine r_goto (tgt := 4) E dX2_openCells_30 (by decide) ?_
          exact ih (i1 + 1) (by omega)
        · refine r_iconst E (nI 1) dX2_openCells_20 (by decide) ?_
          refine r_goto (tgt := 25) E dX2_openCells_21 (by decide) ?_
          refine r_iaddN E dX2_openCells_25 ?_
          refine r_top (v' := .int (nI (sCount (fun c => sOpenOf N (some c) s) (i1 + 1)))) (congrArg (fun z => Value.int (nI z)) (by show _ = sCount _ i1 + (if sOpenOf N (some i1) s = true then 1 else 0); rw [c4]; rfl)) ?_
          refine r_istore_n E [some (.ref d), some (.int s), some (.int (nI (sCount (fun c => sOpenOf N (some c) s) (i1 + 1)))), some (.int (nI i1))] dX2_openCells_26 rfl rfl ?_
          refine r_iinc E (nI (i1 + 1)) [some (.ref d), some (.int s), some (.int (nI (sCount (fun c => sOpenOf N (some c) s) (i1 + 1)))), some (.int (nI (i1 + 1)))] dX2_openCells_27 rfl (nI_1 i1) rfl rfl ?_
          refine r_goto (tgt := 4) E dX2_openCells_30 (by decide) ?_
          exact ih (i1 + 1) (by omega)
  exact lp1 64 0 (by omega)

set_option maxHeartbeats 4000000 in
theorem ct_X2_propsOf (G : fmG) (hl : (fmLn G).stackTraces = false) (h : fmHp) {d g sl se pl pe : Nat} {gf sf pf : Nat → Nat} {N : Nat → Int32} {K pk : Nat} (hC : CC G h) (hM : MineAt G h d g sl se pl pe gf sf pf N K pk) (s : Int32) : Ct G yX2_propsOf (ws_ yX2_propsOf cX2_propsOf 4 (some .int)) { frames := 1, cells := 0, slots := 0, locals := 24 } [.ref d, .int s] h (fmRet (some (.int (nI (sCount (fun c => sOpenOf N (some c) s && !sBare N (some c)) 64)))) h) fmNo := by
  refine Ct.of hl (by decide +kernel) (Nat.le_of_ble_eq_true rfl) (fun Γ E P => ?_)
  obtain ⟨hd, ⟨gq, hg, hgq⟩, hgd, hS, hSh, hP, hPk, hK8, hP6, hsp, hse⟩ := id hM
  obtain ⟨mcS, hsl⟩ := hS.o
  obtain ⟨mcP, hpl⟩ := hP.o
  refine r_iconst E (nI 0) dX2_propsOf_0 (by decide) ?_
  refine r_istore_n E [some (.ref d), some (.int s), some (.int (nI 0)), none] dX2_propsOf_1 rfl rfl ?_
  refine r_iconst E (nI 0) dX2_propsOf_2 (by decide) ?_
  refine r_istore_n E [some (.ref d), some (.int s), some (.int (nI 0)), some (.int (nI 0))] dX2_propsOf_3 rfl rfl ?_
  have lp1 : ∀ (n1 i1 : Nat), i1 + n1 = 64 → fmW G Γ (h) 0 0 4 [some (.ref d), some (.int s), some (.int (nI (sCount (fun c => sOpenOf N (some c) s && !sBare N (some c)) i1))), some (.int (nI i1))] [] := by
    intro n1
    induction n1 with
    | zero =>
      intro i1 hi1
      refine r_iload_n E dX2_propsOf_4 rfl ?_
      refine r_bipush E (nI 64) dX2_propsOf_5 (by decide) ?_
      refine r_icmpN_ge (tgt := 47) E dX2_propsOf_7 (by decide) (by omega) (by omega) (fun c2 => ?_) (fun c2 => ?_)
      · obtain rfl : i1 = 64 := by omega
        refine r_iload_n E dX2_propsOf_47 rfl ?_
        exact r_ireturn E P rfl dX2_propsOf_48 ⟨rfl, rfl⟩
      · exfalso; omega
    | succ n1 ih =>
      intro i1 hi1
      refine r_iload_n E dX2_propsOf_4 rfl ?_
      refine r_bipush E (nI 64) dX2_propsOf_5 (by decide) ?_
      refine r_icmpN_ge (tgt := 47) E dX2_propsOf_7 (by decide) (by omega) (by omega) (fun c3 => ?_) (fun c3 => ?_)
      · exfalso; omega
      · refine r_iload_n E dX2_propsOf_10 rfl ?_
        refine r_aload_n E dX2_propsOf_11 rfl ?_
        refine r_iload_n E dX2_propsOf_12 rfl ?_
        refine r_iload_n E dX2_propsOf_13 rfl ?_
        refine r_callV1 (v1 := .int (bI (sOpenOf N (some i1) s))) E (ct_X2_isOpen G hl (h) hC hM (some i1) s (by intro x hx; first | exact sBsd_lt (by omega) hx | exact ho x hx | (cases hx; omega) | cases hx)) mX2_isOpen q799 q800 q801 (fun H a1 => fm_rc (ci := 2) (C := RX2) (T := TX2) (N := 7) a1 rfl E.v hd) rfl rfl (Nat.le_of_ble_eq_true rfl) (Nat.le_of_ble_eq_true rfl) (Nat.le_of_ble_eq_true rfl) dX2_propsOf_14 0 0 (Nat.le_of_ble_eq_true rfl) (Nat.le_of_ble_eq_true rfl) ?_
        refine r_ifB_eq (b := sOpenOf N (some i1) s) (tgt := 38) E dX2_propsOf_17 (by decide) (fun c4 => ?_) (fun c4 => ?_)
        · refine r_iconst E (nI 0) dX2_propsOf_38 (by decide) ?_
          refine r_iaddN E dX2_propsOf_39 ?_
          refine r_topi (congrArg nI (Nat.add_zero _)) ?_
          refine r_top (v' := .int (nI (sCount (fun c => sOpenOf N (some c) s && !sBare N (some c)) (i1 + 1)))) (congrArg (fun z => Value.int (nI z)) (by show _ = sCount _ i1 + (if (sOpenOf N (some i1) s && !sBare N (some i1)) = true then 1 else 0); rw [c4]; rfl)) ?_
          refine r_istore_n E [some (.ref d), some (.int s), some (.int (nI (sCount (fun c => sOpenOf N (some c) s && !sBare N (some c)) (i1 + 1)))), some (.int (nI i1))] dX2_propsOf_40 rfl rfl ?_
          refine r_iinc E (nI (i1 + 1)) [some (.ref d), some (.int s), some (.int (nI (sCount (fun c => sOpenOf N (some c) s && !sBare N (some c)) (i1 + 1)))), some (.int (nI (i1 + 1)))] dX2_propsOf_41 rfl (nI_1 i1) rfl rfl ?_
          refine r_goto (tgt := 4) E dX2_propsOf_44 (by decide) ?_
          exact ih (i1 + 1) (by omega)
        · rcases hgd i1 (by omega) with ⟨gd5a, gd5b, gd5c, gd5o⟩ | ⟨gd5p, gd5a, gd5c, gd5o⟩ | ⟨gd5a, gd5c, gd5o⟩
          · refine r_aload_n E dX2_propsOf_20 rfl ?_
            refine r_getf E cl_X2 0 (by decide) q185 hd rfl dX2_propsOf_21 ?_
            refine r_iload_n E dX2_propsOf_24 rfl ?_
            refine r_aald E hg rfl rfl (by omega) (by decide) dX2_propsOf_25 ?_
            refine r_top (v' := .ref (gf i1)) (congrArg va_rf (hgq _ (by omega))) ?_
            refine r_callD (v1 := .int (bI false)) E (ct_X13_isBare G hl (h) (gf i1)) mX13_isBare (ci := 3) rfl gd5o (by decide +kernel) q312 q317 fx_d rfl rfl (Nat.le_of_ble_eq_true rfl) (Nat.le_of_ble_eq_true rfl) (Nat.le_of_ble_eq_true rfl) dX2_propsOf_26 0 0 (Nat.le_of_ble_eq_true rfl) (Nat.le_of_ble_eq_true rfl) ?_
            rw [so0 gd5a] at c4; cases c4
          · refine r_aload_n E dX2_propsOf_20 rfl ?_
            refine r_getf E cl_X2 0 (by decide) q185 hd rfl dX2_propsOf_21 ?_
            refine r_iload_n E dX2_propsOf_24 rfl ?_
            refine r_aald E hg rfl rfl (by omega) (by decide) dX2_propsOf_25 ?_
            refine r_top (v' := .ref (gf i1)) (congrArg va_rf (hgq _ (by omega))) ?_
            refine r_callF1 (v1 := .int (bI (!gd5p))) E (ct_X6_isBare G hl (h) (gf i1) true (N (192 + i1)) gd5p gd5o) mX6_isBare (ci := 4) rfl gd5o 8 rfl q312 q325 q323 fx_8 rfl rfl (Nat.le_of_ble_eq_true rfl) (Nat.le_of_ble_eq_true rfl) (Nat.le_of_ble_eq_true rfl) dX2_propsOf_26 0 0 (Nat.le_of_ble_eq_true rfl) (Nat.le_of_ble_eq_true rfl) ?_
            refine r_ifB_ne (b := !gd5p) (tgt := 38) E dX2_propsOf_31 (by decide) (fun c6 => ?_) (fun c6 => ?_)
            · refine r_iconst E (nI 0) dX2_propsOf_38 (by decide) ?_
              refine r_iaddN E dX2_propsOf_39 ?_
              refine r_topi (congrArg nI (Nat.add_zero _)) ?_
              refine r_top (v' := .int (nI (sCount (fun c => sOpenOf N (some c) s && !sBare N (some c)) (i1 + 1)))) (congrArg (fun z => Value.int (nI z)) (by show _ = sCount _ i1 + (if (sOpenOf N (some i1) s && !sBare N (some i1)) = true then 1 else 0); rw [c4, sb1 gd5a gd5c, c6]; rfl)) ?_
              refine r_istore_n E [some (.ref d), some (.int s), some (.int (nI (sCount (fun c => sOpenOf N (some c) s && !sBare N (some c)) (i1 + 1)))), some (.int (nI i1))] dX2_propsOf_40 rfl rfl ?_
              refine r_iinc E (nI (i1 + 1)) [some (.ref d), some (.int s), some (.int (nI (sCount (fun c => sOpenOf N (some c) s && !sBare N (some c)) (i1 + 1)))), some (.int (nI (i1 + 1)))] dX2_propsOf_41 rfl (nI_1 i1) rfl rfl ?_
              refine r_goto (tgt := 4) E dX2_propsOf_44 (by decide) ?_
              exact ih (i1 + 1) (by omega)
            · refine r_iconst E (nI 1) dX2_propsOf_34 (by decide) ?_
              refine r_goto (tgt := 39) E dX2_propsOf_35 (by decide) ?_
              refine r_iaddN E dX2_propsOf_39 ?_
              refine r_top (v' := .int (nI (sCount (fun c => sOpenOf N (some c) s && !sBare N (some c)) (i1 + 1)))) (congrArg (fun z => Value.int (nI z)) (by show _ = sCount _ i1 + (if (sOpenOf N (some i1) s && !sBare N (some i1)) = true then 1 else 0); rw [c4, sb1 gd5a gd5c, c6]; rfl)) ?_
              refine r_istore_n E [some (.ref d), some (.int s), some (.int (nI (sCount (fun c => sOpenOf N (some c) s && !sBare N (some c)) (i1 + 1)))), some (.int (nI i1))] dX2_propsOf_40 rfl rfl ?_
              refine r_iinc E (nI (i1 + 1)) [some (.ref d), some (.int s), some (.int (nI (sCount (fun c => sOpenOf N (some c) s && !sBare N (some c)) (i1 + 1)))), some (.int (nI (i1 + 1)))] dX2_propsOf_41 rfl (nI_1 i1) rfl rfl ?_
              refine r_goto (tgt := 4) E dX2_propsOf_44 (by decide) ?_
              exact ih (i1 + 1) (by omega)
          · refine r_aload_n E dX2_propsOf_20 rfl ?_
            refine r_getf E cl_X2 0 (by decide) q185 hd rfl dX2_propsOf_21 ?_
            refine r_iload_n E dX2_propsOf_24 rfl ?_
            refine r_aald E hg rfl rfl (by omega) (by decide) dX2_propsOf_25 ?_
            refine r_top (v' := .ref (gf i1)) (congrArg va_rf (hgq _ (by omega))) ?_
            refine r_callD (v1 := .int (bI false)) E (ct_X13_isBare G hl (h) (gf i1)) mX13_isBare (ci := 5) rfl gd5o (by decide +kernel) q312 q317 fx_d rfl rfl (Nat.le_of_ble_eq_true rfl) (Nat.le_of_ble_eq_true rfl) (Nat.le_of_ble_eq_true rfl) dX2_propsOf_26 0 0 (Nat.le_of_ble_eq_true rfl) (Nat.le_of_ble_eq_true rfl) ?_
            rw [so2 gd5a] at c4; cases c4
  exact lp1 64 0 (by omega)

set_option maxHeartbeats 4000000 in
theorem ct_X2_nodules (G : fmG) (hl : (fmLn G).stackTraces = false) (h : fmHp) {d g sl se pl pe : Nat} {gf sf pf : Nat → Nat} {N : Nat → Int32} {K pk : Nat} (hC : CC G h) (hM : MineAt G h d g sl se pl pe gf sf pf N K pk) (o : Option Nat) (ho : ∀ x, o = some x → x < 64) : Ct G yX2_nodules (ws_ yX2_nodules cX2_nodules 4 (some .int)) { frames := 0, cells := 0, slots := 0, locals := 0 } [.ref d, .int (cI o)] h (fmRet (some (.int (sNodO N o))) h) fmNo := by
  refine Ct.of hl (by decide +kernel) (Nat.le_of_ble_eq_true rfl) (fun Γ E P => ?_)
  obtain ⟨hd, ⟨gq, hg, hgq⟩, hgd, hS, hSh, hP, hPk, hK8, hP6, hsp, hse⟩ := id hM
  obtain ⟨mcS, hsl⟩ := hS.o
  obtain ⟨mcP, hpl⟩ := hP.o
  refine r_iload_n E dX2_nodules_0 rfl ?_
  refine r_iconst E (-1) dX2_nodules_1 (by decide) ?_
  refine r_icmpC_eq (tgt := 31) E dX2_nodules_2 (by decide) (by intro x hx; first | exact Nat.lt_of_lt_of_le (sBsd_lt (by omega) hx) (by decide) | exact Nat.lt_of_lt_of_le (ho x hx) (by decide)) (fun c1 => ?_) (fun c1 => ?_)
  · subst c1
    refine r_iconst E (nI 0) dX2_nodules_31 (by decide) ?_
    refine r_top (v' := .int (sNodO N none)) (congrArg Value.int (rfl)) ?_
    exact r_ireturn E P rfl dX2_nodules_32 ⟨rfl, rfl⟩
  · obtain ⟨c, rfl⟩ := Option.ne_none_iff_exists'.mp c1
    have hc := ho c rfl
    rcases hgd c hc with ⟨gd2a, gd2b, gd2c, gd2o⟩ | ⟨gd2p, gd2a, gd2c, gd2o⟩ | ⟨gd2a, gd2c, gd2o⟩
    · refine r_aload_n E dX2_nodules_5 rfl ?_
      refine r_getf E cl_X2 0 (by decide) q185 hd rfl dX2_nodules_6 ?_
      refine r_iload_n E dX2_nodules_9 rfl ?_
      refine r_aald E hg rfl rfl (by omega) (by decide) dX2_nodules_10 ?_
      refine r_top (v' := .ref (gf c)) (congrArg va_rf (hgq _ (by omega))) ?_
      refine r_astore_n E [some (.ref d), some (.int (nI c)), none, some (.ref (gf c))] dX2_nodules_11 rfl rfl ?_
      refine r_aload_n E dX2_nodules_12 rfl ?_
      refine r_instS E cl_X3 q167 gd2o dX2_nodules_13 ?_
      refine r_top (v' := .int (bI true)) rfl ?_
      refine r_ifB_eq (b := true) (tgt := 31) E dX2_nodules_16 (by decide) (fun c => absurd c (by decide)) (fun _ => ?_)
      refine r_aload_n E dX2_nodules_19 rfl ?_
      refine r_castS E cl_X3 q167 gd2o dX2_nodules_20 ?_
      refine r_astore_n E [some (.ref d), some (.int (nI c)), some (.ref (gf c)), some (.ref (gf c))] dX2_nodules_23 rfl rfl ?_
      refine r_aload_n E dX2_nodules_24 rfl ?_
      refine r_getfN E cl_X3 1 (by decide) q179 gd2o rfl dX2_nodules_25 ?_
      refine r_goto (tgt := 32) E dX2_nodules_28 (by decide) ?_
      refine r_top (v' := .int (sNodO N (some c))) (congrArg Value.int ((if_pos (sc0 gd2a)).symm)) ?_
      exact r_ireturn E P rfl dX2_nodules_32 ⟨rfl, rfl⟩
    · refine r_aload_n E dX2_nodules_5 rfl ?_
      refine r_getf E cl_X2 0 (by decide) q185 hd rfl dX2_nodules_6 ?_
      refine r_iload_n E dX2_nodules_9 rfl ?_
      refine r_aald E hg rfl rfl (by omega) (by decide) dX2_nodules_10 ?_
      refine r_top (v' := .ref (gf c)) (congrArg va_rf (hgq _ (by omega))) ?_
      refine r_astore_n E [some (.ref d), some (.int (nI c)), none, some (.ref (gf c))] dX2_nodules_11 rfl rfl ?_
      refine r_aload_n E dX2_nodules_12 rfl ?_
      refine r_instNo E cl_X6 q167 (by decide +kernel) gd2o dX2_nodules_13 ?_
      refine r_top (v' := .int (bI false)) rfl ?_
      refine r_ifB_eq (b := false) (tgt := 31) E dX2_nodules_16 (by decide) (fun _ => ?_) (fun c => absurd c (by decide))
      refine r_iconst E (nI 0) dX2_nodules_31 (by decide) ?_
      refine r_top (v' := .int (sNodO N (some c))) (congrArg Value.int ((if_neg (by rw [sc1 gd2a]; decide)).symm)) ?_
      exact r_ireturn E P rfl dX2_nodules_32 ⟨rfl, rfl⟩
    · refine r_aload_n E dX2_nodules_5 rfl ?_
      refine r_getf E cl_X2 0 (by decide) q185 hd rfl dX2_nodules_6 ?_
      refine r_iload_n E dX2_nodules_9 rfl ?_
      refine r_aald E hg rfl rfl (by omega) (by decide) dX2_nodules_10 ?_
      refine r_top (v' := .ref (gf c)) (congrArg va_rf (hgq _ (by omega))) ?_
      refine r_astore_n E [some (.ref d), some (.int (nI c)), none, some (.ref (gf c))] dX2_nodules_11 rfl rfl ?_
      refine r_aload_n E dX2_nodules_12 rfl ?_
      refine r_instNo E cl_X8 q167 (by decide +kernel) gd2o dX2_nodules_13 ?_
      refine r_top (v' := .int (bI false)) rfl ?_
      refine r_ifB_eq (b := false) (tgt := 31) E dX2_nodules_16 (by decide) (fun _ => ?_) (fun c => absurd c (by decide))
      refine r_iconst E (nI 0) dX2_nodules_31 (by decide) ?_
      refine r_top (v' := .int (sNodO N (some c))) (congrArg Value.int ((if_neg (by rw [sc2 gd2a]; decide)).symm)) ?_
      exact r_ireturn E P rfl dX2_nodules_32 ⟨rfl, rfl⟩

set_option maxHeartbeats 4000000 in
theorem ct_X2_strokes (G : fmG) (hl : (fmLn G).stackTraces = false) (h : fmHp) {d g sl se pl pe : Nat} {gf sf pf : Nat → Nat} {N : Nat → Int32} {K pk : Nat} (hC : CC G h) (hM : MineAt G h d g sl se pl pe gf sf pf N K pk) (c : Nat) (hc : c < 64) : Ct G yX2_strokes (ws_ yX2_strokes cX2_strokes 4 (some .int)) { frames := 1, cells := 0, slots := 0, locals := 20 } [.ref d, .int (nI c)] h (fmRet (some (.int (sStrO N c))) h) fmNo := by
  refine Ct.of hl (by decide +kernel) (Nat.le_of_ble_eq_true rfl) (fun Γ E P => ?_)
  obtain ⟨hd, ⟨gq, hg, hgq⟩, hgd, hS, hSh, hP, hPk, hK8, hP6, hsp, hse⟩ := id hM
  obtain ⟨mcS, hsl⟩ := hS.o
  obtain ⟨mcP, hpl⟩ := hP.o
  rcases hgd c hc with ⟨gd1a, gd1b, gd1c, gd1o⟩ | ⟨gd1p, gd1a, gd1c, gd1o⟩ | ⟨gd1a, gd1c, gd1o⟩
  · refine r_aload_n E dX2_strokes_0 rfl ?_
    refine r_getf E cl_X2 0 (by decide) q185 hd rfl dX2_strokes_1 ?_
    refine r_iload_n E dX2_strokes_4 rfl ?_
    refine r_aald E hg rfl rfl (by omega) (by decide) dX2_strokes_5 ?_
    refine r_top (v' := .ref (gf c)) (congrArg va_rf (hgq _ (by omega))) ?_
    refine r_astore_n E [some (.ref d), some (.int (nI c)), none, some (.ref (gf c))] dX2_strokes_6 rfl rfl ?_
    refine r_aload_n E dX2_strokes_7 rfl ?_
    refine r_instS E cl_X3 q167 gd1o dX2_strokes_8 ?_
    refine r_top (v' := .int (bI true)) rfl ?_
    refine r_ifB_eq (b := true) (tgt := 26) E dX2_strokes_11 (by decide) (fun c => absurd c (by decide)) (fun _ => ?_)
    refine r_aload_n E dX2_strokes_14 rfl ?_
    refine r_castS E cl_X3 q167 gd1o dX2_strokes_15 ?_
    refine r_astore_n E [some (.ref d), some (.int (nI c)), some (.ref (gf c)), some (.ref (gf c))] dX2_strokes_18 rfl rfl ?_
    refine r_aload_n E dX2_strokes_19 rfl ?_
    refine r_callV1 (v1 := .int (nI 2 * (N (64 + c)) + (N (128 + c)))) E (ct_X3_strokes G hl (h) (gf c) true (N (64 + c)) (N (128 + c)) gd1o) mX3_strokes q720 q721 q722 (fun H a1 => fm_rc (ci := 3) (C := RX3) (T := TX3) (N := 2) a1 rfl E.v gd1o) rfl rfl (Nat.le_of_ble_eq_true rfl) (Nat.le_of_ble_eq_true rfl) (Nat.le_of_ble_eq_true rfl) dX2_strokes_20 0 0 (Nat.le_of_ble_eq_true rfl) (Nat.le_of_ble_eq_true rfl) ?_
    refine r_goto (tgt := 27) E dX2_strokes_23 (by decide) ?_
    refine r_top (v' := .int (sStrO N c)) (congrArg Value.int ((if_pos (sc0 gd1a)).symm)) ?_
    exact r_ireturn E P rfl dX2_strokes_27 ⟨rfl, rfl⟩
  · refine r_aload_n E dX2_strokes_0 rfl ?_
    refine r_getf E cl_X2 0 (by decide) q185 hd rfl dX2_strokes_1 ?_
    refine r_iload_n E dX2_strokes_4 rfl ?_
    refine r_aald E hg rfl rfl (by omega) (by decide) dX2_strokes_5 ?_
    refine r_top (v' := .ref (gf c)) (congrArg va_rf (hgq _ (by omega))) ?_
    refine r_astore_n E [some (.ref d), some (.int (nI c)), none, some (.ref (gf c))] dX2_strokes_6 rfl rfl ?_
    refine r_aload_n E dX2_strokes_7 rfl ?_
    refine r_instNo E cl_X6 q167 (by decide +kernel) gd1o dX2_strokes_8 ?_
    refine r_top (v' := .int (bI false)) rfl ?_
    refine r_ifB_eq (b := false) (tgt := 26) E dX2_strokes_11 (by decide) (fun _ => ?_) (fun c => absurd c (by decide))
    refine r_iconst E (nI 0) dX2_strokes_26 (by decide) ?_
    refine r_top (v' := .int (sStrO N c)) (congrArg Value.int ((if_neg (by rw [sc1 gd1a]; decide)).symm)) ?_
    exact r_ireturn E P rfl dX2_strokes_27 ⟨rfl, rfl⟩
  · refine r_aload_n E dX2_strokes_0 rfl ?_
    refine r_getf E cl_X2 0 (by decide) q185 hd rfl dX2_strokes_1 ?_
    refine r_iload_n E dX2_strokes_4 rfl ?_
    refine r_aald E hg rfl rfl (by omega) (by decide) dX2_strokes_5 ?_
    refine r_top (v' := .ref (gf c)) (congrArg va_rf (hgq _ (by omega))) ?_
    refine r_astore_n E [some (.ref d), some (.int (nI c)), none, some (.ref (gf c))] dX2_strokes_6 rfl rfl ?_
    refine r_aload_n E dX2_strokes_7 rfl ?_
    refine r_instNo E cl_X8 q167 (by decide +kernel) gd1o dX2_strokes_8 ?_
    refine r_top (v' := .int (bI false)) rfl ?_
    refine r_ifB_eq (b := false) (tgt := 26) E dX2_strokes_11 (by decide) (fun _ => ?_) (fun c => absurd c (by decide))
    refine r_iconst E (nI 0) dX2_strokes_26 (by decide) ?_
    refine r_top (v' := .int (sStrO N c)) (congrArg Value.int ((if_neg (by rw [sc2 gd1a]; decide)).symm)) ?_
    exact r_ireturn E P rfl dX2_strokes_27 ⟨rfl, rfl⟩

set_option maxHeartbeats 4000000 in
theorem ct_X2_isPassable (G : fmG) (hl : (fmLn G).stackTraces = false) (h : fmHp) {d g sl se pl pe : Nat} {gf sf pf : Nat → Nat} {N : Nat → Int32} {K pk : Nat} (hC : CC G h) (hM : MineAt G h d g sl se pl pe gf sf pf N K pk) (c : Nat) (s : Int32) (hc : c < 64) : Ct G yX2_isPassable (ws_ yX2_isPassable cX2_isPassable 3 (some .boolean)) { frames := 3, cells := 0, slots := 0, locals := 71 } [.ref d, .int (nI c), .int s] h (fmRet (some (.int (bI (sFree N c s K)))) h) fmNo := by
  refine Ct.of hl (by decide +kernel) (Nat.le_of_ble_eq_true rfl) (fun Γ E P => ?_)
  obtain ⟨hd, ⟨gq, hg, hgq⟩, hgd, hS, hSh, hP, hPk, hK8, hP6, hsp, hse⟩ := id hM
  obtain ⟨mcS, hsl⟩ := hS.o
  obtain ⟨mcP, hpl⟩ := hP.o
  rcases hgd c hc with ⟨gd1a, gd1b, gd1c, gd1o⟩ | ⟨gd1p, gd1a, gd1c, gd1o⟩ | ⟨gd1a, gd1c, gd1o⟩
  · refine r_aload_n E dX2_isPassable_0 rfl ?_
    refine r_getf E cl_X2 0 (by decide) q185 hd rfl dX2_isPassable_1 ?_
    refine r_iload_n E dX2_isPassable_4 rfl ?_
    refine r_aald E hg rfl rfl (by omega) (by decide) dX2_isPassable_5 ?_
    refine r_top (v' := .ref (gf c)) (congrArg va_rf (hgq _ (by omega))) ?_
    refine r_instS E cl_X3 q167 gd1o dX2_isPassable_6 ?_
    refine r_top (v' := .int (bI true)) rfl ?_
    refine r_ifB_eq (b := true) (tgt := 26) E dX2_isPassable_9 (by decide) (fun c => absurd c (by decide)) (fun _ => ?_)
    refine r_aload_n E dX2_isPassable_12 rfl ?_
    refine r_iload_n E dX2_isPassable_13 rfl ?_
    refine r_iload_n E dX2_isPassable_14 rfl ?_
    refine r_callV1 (v1 := .int (cI (sMeet N c s K))) E (ct_X2_met G hl (h) hC hM c s (by omega)) mX2_met q791 q792 q793 (fun H a1 => fm_rc (ci := 2) (C := RX2) (T := TX2) (N := 7) a1 rfl E.v hd) rfl rfl (Nat.le_of_ble_eq_true rfl) (Nat.le_of_ble_eq_true rfl) (Nat.le_of_ble_eq_true rfl) dX2_isPassable_15 0 0 (Nat.le_of_ble_eq_true rfl) (Nat.le_of_ble_eq_true rfl) ?_
    refine r_iconst E (-1) dX2_isPassable_18 (by decide) ?_
    refine r_icmpC_ne (tgt := 26) E dX2_isPassable_19 (by decide) (sMeet_31 hK8) (fun c3 => ?_) (fun c3 => ?_)
    · refine r_iconst E (nI 0) dX2_isPassable_26 (by decide) ?_
      refine r_top (v' := .int (bI (sFree N c s K))) (by rw [show sFree N c s K = false by unfold sFree; rw [sc0 gd1a, Option.isNone_eq_false_iff.mpr (Option.isSome_iff_ne_none.mpr c3)]; rfl]; rfl) ?_
      exact r_zreturn E P rfl dX2_isPassable_27 ⟨rfl, rfl⟩
    · refine r_iconst E (nI 1) dX2_isPassable_22 (by decide) ?_
      refine r_goto (tgt := 27) E dX2_isPassable_23 (by decide) ?_
      refine r_top (v' := .int (bI (sFree N c s K))) (by rw [show sFree N c s K = true by unfold sFree; rw [sc0 gd1a, c3]; rfl]; rfl) ?_
      exact r_zreturn E P rfl dX2_isPassable_27 ⟨rfl, rfl⟩
  · refine r_aload_n E dX2_isPassable_0 rfl ?_
    refine r_getf E cl_X2 0 (by decide) q185 hd rfl dX2_isPassable_1 ?_
    refine r_iload_n E dX2_isPassable_4 rfl ?_
    refine r_aald E hg rfl rfl (by omega) (by decide) dX2_isPassable_5 ?_
    refine r_top (v' := .ref (gf c)) (congrArg va_rf (hgq _ (by omega))) ?_
    refine r_instNo E cl_X6 q167 (by decide +kernel) gd1o dX2_isPassable_6 ?_
    refine r_top (v' := .int (bI false)) rfl ?_
    refine r_ifB_eq (b := false) (tgt := 26) E dX2_isPassable_9 (by decide) (fun _ => ?_) (fun c => absurd c (by decide))
    refine r_iconst E (nI 0) dX2_isPassable_26 (by decide) ?_
    refine r_top (v' := .int (bI (sFree N c s K))) (by rw [show sFree N c s K = false by unfold sFree; rw [sc1 gd1a]; rfl]; rfl) ?_
    exact r_zreturn E P rfl dX2_isPassable_27 ⟨rfl, rfl⟩
  · refine r_aload_n E dX2_isPassable_0 rfl ?_
    refine r_getf E cl_X2 0 (by decide) q185 hd rfl dX2_isPassable_1 ?_
    refine r_iload_n E dX2_isPassable_4 rfl ?_
    refine r_aald E hg rfl rfl (by omega) (by decide) dX2_isPassable_5 ?_
    refine r_top (v' := .ref (gf c)) (congrArg va_rf (hgq _ (by omega))) ?_
    refine r_instNo E cl_X8 q167 (by decide +kernel) gd1o dX2_isPassable_6 ?_
    refine r_top (v' := .int (bI false)) rfl ?_
    refine r_ifB_eq (b := false) (tgt := 26) E dX2_isPassable_9 (by decide) (fun _ => ?_) (fun c => absurd c (by decide))
    refine r_iconst E (nI 0) dX2_isPassable_26 (by decide) ?_
    refine r_top (v' := .int (bI (sFree N c s K))) (by rw [show sFree N c s K = false by unfold sFree; rw [sc2 gd1a]; rfl]; rfl) ?_
    exact r_zreturn E P rfl dX2_isPassable_27 ⟨rfl, rfl⟩

set_option maxHeartbeats 4000000 in
theorem ct_X2_canDig (G : fmG) (hl : (fmLn G).stackTraces = false) (h : fmHp) {d g sl se pl pe : Nat} {gf sf pf : Nat → Nat} {N : Nat → Int32} {K pk : Nat} (hC : CC G h) (hM : MineAt G h d g sl se pl pe gf sf pf N K pk) (s : Int32) (c : Nat) (hc : c < 64) : Ct G yX2_canDig (ws_ yX2_canDig cX2_canDig 4 (some .boolean)) { frames := 4, cells := 0, slots := 0, locals := 88 } [.ref d, .int s, .int (nI c)] h (fmRet (some (.int (bI (sDigs N s c K pk)))) h) fmNo := by
  refine Ct.of hl (by decide +kernel) (Nat.le_of_ble_eq_true rfl) (fun Γ E P => ?_)
  obtain ⟨hd, ⟨gq, hg, hgq⟩, hgd, hS, hSh, hP, hPk, hK8, hP6, hsp, hse⟩ := id hM
  obtain ⟨mcS, hsl⟩ := hS.o
  obtain ⟨mcP, hpl⟩ := hP.o
  rcases hgd c hc with ⟨gd1a, gd1b, gd1c, gd1o⟩ | ⟨gd1p, gd1a, gd1c, gd1o⟩ | ⟨gd1a, gd1c, gd1o⟩
  · refine r_aload_n E dX2_canDig_0 rfl ?_
    refine r_getf E cl_X2 0 (by decide) q185 hd rfl dX2_canDig_1 ?_
    refine r_iload_n E dX2_canDig_4 rfl ?_
    refine r_aald E hg rfl rfl (by omega) (by decide) dX2_canDig_5 ?_
    refine r_top (v' := .ref (gf c)) (congrArg va_rf (hgq _ (by omega))) ?_
    refine r_instS E cl_X3 q167 gd1o dX2_canDig_6 ?_
    refine r_top (v' := .int (bI true)) rfl ?_
    have hw := sWide_le N c
    refine r_ifB_eq (b := true) (tgt := 35) E dX2_canDig_9 (by decide) (fun c => absurd c (by decide)) (fun _ => ?_)
    refine r_aload_n E dX2_canDig_12 rfl ?_
    refine r_iload_n E dX2_canDig_13 rfl ?_
    refine r_iload_n E dX2_canDig_14 rfl ?_
    refine r_callV1 (v1 := .int (bI (sNext N c s))) E (ct_X2_isNextTo G hl (h) hC hM c s (by omega)) mX2_isNextTo q795 q796 q797 (fun H a1 => fm_rc (ci := 2) (C := RX2) (T := TX2) (N := 7) a1 rfl E.v hd) rfl rfl (Nat.le_of_ble_eq_true rfl) (Nat.le_of_ble_eq_true rfl) (Nat.le_of_ble_eq_true rfl) dX2_canDig_15 0 0 (Nat.le_of_ble_eq_true rfl) (Nat.le_of_ble_eq_true rfl) ?_
    refine r_ifB_eq (b := sNext N c s) (tgt := 35) E dX2_canDig_18 (by decide) (fun c3 => ?_) (fun c3 => ?_)
    · refine r_iconst E (nI 0) dX2_canDig_35 (by decide) ?_
      refine r_istore_n E [some (.ref d), some (.int s), some (.int (nI c)), some (.int (nI 0))] dX2_canDig_36 rfl rfl ?_
      refine r_iload_n E dX2_canDig_37 rfl ?_
      refine r_top (v' := .int (bI false)) rfl ?_
      refine r_ifB_eq (b := false) (tgt := 70) E dX2_canDig_38 (by decide) (fun _ => ?_) (fun c => absurd c (by decide))
      refine r_iconst E (nI 0) dX2_canDig_70 (by decide) ?_
      refine r_top (v' := .int (bI (sDigs N s c K pk))) (by rw [show sDigs N s c K pk = false by unfold sDigs; simp [sc0 gd1a, sStrO, c3]]; rfl) ?_
      exact r_zreturn E P rfl dX2_canDig_71 ⟨rfl, rfl⟩
    · refine r_aload_n E dX2_canDig_21 rfl ?_
      refine r_iload_n E dX2_canDig_22 rfl ?_
      refine r_iload_n E dX2_canDig_23 rfl ?_
      refine r_callV1 (v1 := .int (cI (sMeet N c s K))) E (ct_X2_met G hl (h) hC hM c s (by omega)) mX2_met q791 q792 q793 (fun H a1 => fm_rc (ci := 2) (C := RX2) (T := TX2) (N := 7) a1 rfl E.v hd) rfl rfl (Nat.le_of_ble_eq_true rfl) (Nat.le_of_ble_eq_true rfl) (Nat.le_of_ble_eq_true rfl) dX2_canDig_24 0 0 (Nat.le_of_ble_eq_true rfl) (Nat.le_of_ble_eq_true rfl) ?_
      refine r_iconst E (-1) dX2_canDig_27 (by decide) ?_
      refine r_icmpC_ne (tgt := 35) E dX2_canDig_28 (by decide) (sMeet_31 hK8) (fun c5 => ?_) (fun c5 => ?_)
      · refine r_iconst E (nI 0) dX2_canDig_35 (by decide) ?_
        refine r_istore_n E [some (.ref d), some (.int s), some (.int (nI c)), some (.int (nI 0))] dX2_canDig_36 rfl rfl ?_
        refine r_iload_n E dX2_canDig_37 rfl ?_
        refine r_top (v' := .int (bI false)) rfl ?_
        refine r_ifB_eq (b := false) (tgt := 70) E dX2_canDig_38 (by decide) (fun _ => ?_) (fun c => absurd c (by decide))
        refine r_iconst E (nI 0) dX2_canDig_70 (by decide) ?_
        refine r_top (v' := .int (bI (sDigs N s c K pk))) (by rw [show sDigs N s c K pk = false by unfold sDigs; simp [sc0 gd1a, sStrO, c3, c5]]; rfl) ?_
        exact r_zreturn E P rfl dX2_canDig_71 ⟨rfl, rfl⟩
      · refine r_iconst E (nI 1) dX2_canDig_31 (by decide) ?_
        refine r_goto (tgt := 36) E dX2_canDig_32 (by decide) ?_
        refine r_istore_n E [some (.ref d), some (.int s), some (.int (nI c)), some (.int (nI 1))] dX2_canDig_36 rfl rfl ?_
        refine r_iload_n E dX2_canDig_37 rfl ?_
        refine r_top (v' := .int (bI true)) rfl ?_
        refine r_ifB_eq (b := true) (tgt := 70) E dX2_canDig_38 (by decide) (fun c => absurd c (by decide)) (fun _ => ?_)
        refine r_aload_n E dX2_canDig_41 rfl ?_
        refine r_iload_n E dX2_canDig_42 rfl ?_
        refine r_callV1 (v1 := .int (nI (sWide N c))) E (ct_X2_widest G hl (h) hC hM c (by omega)) mX2_widest q915 q916 q917 (fun H a1 => fm_rc (ci := 2) (C := RX2) (T := TX2) (N := 7) a1 rfl E.v hd) rfl rfl (Nat.le_of_ble_eq_true rfl) (Nat.le_of_ble_eq_true rfl) (Nat.le_of_ble_eq_true rfl) dX2_canDig_43 0 0 (Nat.le_of_ble_eq_true rfl) (Nat.le_of_ble_eq_true rfl) ?_
        refine r_aload_n E dX2_canDig_46 rfl ?_
        refine r_getf E cl_X2 3 (by decide) q191 hd rfl dX2_canDig_47 ?_
        refine r_icmp_gt (x := nI (sWide N c)) (y := N 355) (tgt := 70) E dX2_canDig_50 (by decide) (fun c8 => ?_) (fun c8 => ?_)
        · refine r_iconst E (nI 0) dX2_canDig_70 (by decide) ?_
          refine r_top (v' := .int (bI (sDigs N s c K pk))) (by rw [show sDigs N s c K pk = false by unfold sDigs; simp [sc0 gd1a, sStrO, c3, c5, c8]]; rfl) ?_
          exact r_zreturn E P rfl dX2_canDig_71 ⟨rfl, rfl⟩
        · refine r_aload_n E dX2_canDig_53 rfl ?_
          refine r_aload_n E dX2_canDig_54 rfl ?_
          refine r_iload_n E dX2_canDig_55 rfl ?_
          refine r_callV1 (v1 := .int (sStrO N c)) E (ct_X2_strokes G hl (h) hC hM c (by omega)) mX2_strokes q1268 q1108 q1109 (fun H a1 => fm_rc (ci := 2) (C := RX2) (T := TX2) (N := 7) a1 rfl E.v hd) rfl rfl (Nat.le_of_ble_eq_true rfl) (Nat.le_of_ble_eq_true rfl) (Nat.le_of_ble_eq_true rfl) dX2_canDig_56 0 0 (Nat.le_of_ble_eq_true rfl) (Nat.le_of_ble_eq_true rfl) ?_
          refine r_callV1 (v1 := .int (cI (sPickK N (sStrO N c) pk))) E (ct_X2_pickFor G hl (h) hC hM (sStrO N c)) mX2_pickFor q824 q825 q826 (fun H a1 => fm_rc (ci := 2) (C := RX2) (T := TX2) (N := 7) a1 rfl E.v hd) rfl rfl (Nat.le_of_ble_eq_true rfl) (Nat.le_of_ble_eq_true rfl) (Nat.le_of_ble_eq_true rfl) dX2_canDig_59 0 0 (Nat.le_of_ble_eq_true rfl) (Nat.le_of_ble_eq_true rfl) ?_
          refine r_iconst E (-1) dX2_canDig_62 (by decide) ?_
          refine r_icmpC_eq (tgt := 70) E dX2_canDig_63 (by decide) (sPickK_31 (by omega)) (fun c9 => ?_) (fun c9 => ?_)
          · rw [show sStrO N c = sStrokes N c from if_pos (sc0 gd1a)] at c9
            refine r_iconst E (nI 0) dX2_canDig_70 (by decide) ?_
            refine r_top (v' := .int (bI (sDigs N s c K pk))) (by rw [show sDigs N s c K pk = false by unfold sDigs; simp [sc0 gd1a, sStrO, c3, c5, c8, c9, Option.isSome_iff_ne_none]]; rfl) ?_
            exact r_zreturn E P rfl dX2_canDig_71 ⟨rfl, rfl⟩
          · rw [show sStrO N c = sStrokes N c from if_pos (sc0 gd1a)] at c9
            refine r_iconst E (nI 1) dX2_canDig_66 (by decide) ?_
            refine r_goto (tgt := 71) E dX2_canDig_67 (by decide) ?_
            refine r_top (v' := .int (bI (sDigs N s c K pk))) (by rw [show sDigs N s c K pk = true by unfold sDigs; simp [sc0 gd1a, sStrO, c3, c5, c8, c9, Option.isSome_iff_ne_none]]; rfl) ?_
            exact r_zreturn E P rfl dX2_canDig_71 ⟨rfl, rfl⟩
  · refine r_aload_n E dX2_canDig_0 rfl ?_
    refine r_getf E cl_X2 0 (by decide) q185 hd rfl dX2_canDig_1 ?_
    refine r_iload_n E dX2_canDig_4 rfl ?_
    refine r_aald E hg rfl rfl (by omega) (by decide) dX2_canDig_5 ?_
    refine r_top (v' := .ref (gf c)) (congrArg va_rf (hgq _ (by omega))) ?_
    refine r_instNo E cl_X6 q167 (by decide +kernel) gd1o dX2_canDig_6 ?_
    refine r_top (v' := .int (bI false)) rfl ?_
    have hw := sWide_le N c
    refine r_ifB_eq (b := false) (tgt := 35) E dX2_canDig_9 (by decide) (fun _ => ?_) (fun c => absurd c (by decide))
    refine r_iconst E (nI 0) dX2_canDig_35 (by decide) ?_
    refine r_istore_n E [some (.ref d), some (.int s), some (.int (nI c)), some (.int (nI 0))] dX2_canDig_36 rfl rfl ?_
    refine r_iload_n E dX2_canDig_37 rfl ?_
    refine r_top (v' := .int (bI false)) rfl ?_
    refine r_ifB_eq (b := false) (tgt := 70) E dX2_canDig_38 (by decide) (fun _ => ?_) (fun c => absurd c (by decide))
    refine r_iconst E (nI 0) dX2_canDig_70 (by decide) ?_
    refine r_top (v' := .int (bI (sDigs N s c K pk))) (by rw [show sDigs N s c K pk = false by unfold sDigs; simp [sc1 gd1a, sStrO]]; rfl) ?_
    exact r_zreturn E P rfl dX2_canDig_71 ⟨rfl, rfl⟩
  · refine r_aload_n E dX2_canDig_0 rfl ?_
    refine r_getf E cl_X2 0 (by decide) q185 hd rfl dX2_canDig_1 ?_
    refine r_iload_n E dX2_canDig_4 rfl ?_
    refine r_aald E hg rfl rfl (by omega) (by decide) dX2_canDig_5 ?_
    refine r_top (v' := .ref (gf c)) (congrArg va_rf (hgq _ (by omega))) ?_
    refine r_instNo E cl_X8 q167 (by decide +kernel) gd1o dX2_canDig_6 ?_
    refine r_top (v' := .int (bI false)) rfl ?_
    have hw := sWide_le N c
    refine r_ifB_eq (b := false) (tgt := 35) E dX2_canDig_9 (by decide) (fun _ => ?_) (fun c => absurd c (by decide))
    refine r_iconst E (nI 0) dX2_canDig_35 (by decide) ?_
    refine r_istore_n E [some (.ref d), some (.int s), some (.int (nI c)), some (.int (nI 0))] dX2_canDig_36 rfl rfl ?_
    refine r_iload_n E dX2_canDig_37 rfl ?_
    refine r_top (v' := .int (bI false)) rfl ?_
    refine r_ifB_eq (b := false) (tgt := 70) E dX2_canDig_38 (by decide) (fun _ => ?_) (fun c => absurd c (by decide))
    refine r_iconst E (nI 0) dX2_canDig_70 (by decide) ?_
    refine r_top (v' := .int (bI (sDigs N s c K pk))) (by rw [show sDigs N s c K pk = false by unfold sDigs; simp [sc2 gd1a, sStrO]]; rfl) ?_
    exact r_zreturn E P rfl dX2_canDig_71 ⟨rfl, rfl⟩

