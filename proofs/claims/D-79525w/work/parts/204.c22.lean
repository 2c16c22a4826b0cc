set_option maxHeartbeats 4000000 in
theorem ct_X1_best (G : fmG) (hl : (fmLn G).stackTraces = false) (h : fmHp) {x far qu pa sb : Nat} {fl re de : Int32} {sv : Value} {d g sl se pl pe : Nat} {gf sf pf : Nat → Nat} {N : Nat → Int32} {K pk : Nat} (hC : CC G h) (hx : DkO h x far qu d pa sb fl re de sv) (hM : MineAt G h d g sl se pl pe gf sf pf N K pk) (s : Int32) (hR : RV N K pk) : Ct G yX1_best (ws_ yX1_best cX1_best 5 (some .int)) { frames := 8, cells := 1, slots := 6, locals := 141 } [.ref x, .int s] h (qPost h (aBest N s K pk)) (qXp h (exQ "java/lang/IndexOutOfBoundsException" "java/util/NoSuchElementException") (aBest N s K pk)) := by
  refine Ct.of hl (by decide +kernel) (Nat.le_of_ble_eq_true rfl) (fun Γ E P => ?_)
  obtain ⟨hd, ⟨gq, hg, hgq⟩, hgd, hS, hSh, hP, hPk, hK8, hP6, hsp, hse⟩ := id hM
  obtain ⟨mcS, hsl⟩ := hS.o
  obtain ⟨mcP, hpl⟩ := hP.o
  refine r_aload_n E dX1_best_0 rfl ?_
  refine r_getf E cl_X1 2 (by decide) q272 hx rfl dX1_best_1 ?_
  refine r_iload_n E dX1_best_4 rfl ?_
  cases hs : sBetween s (nI 0) (nI K - nI 1) with
  | false =>
    refine r_callV E (ctF_X2_shaft G hl h hC hM s hs) mX2_shaft q1208 q909 q910 (fun H a1 => fm_rc (ci := 2) (C := RX2) (T := TX2) (N := 7) a1 rfl E.v hd) rfl rfl (Nat.le_of_ble_eq_true rfl) (Nat.le_of_ble_eq_true rfl) (Nat.le_of_ble_eq_true rfl) dX1_best_5 0 0 (Nat.le_of_ble_eq_true rfl) (Nat.le_of_ble_eq_true rfl) (fun _ _ q => q.elim) (fun q Ex h' hx => ?_)
    exact r_xout E P (fun x hx => by cases hx) (qX_thr (k := 1) Kp.refl (by unfold aBest; rw [hs]; rfl) (by decide) rfl hx)
  | true =>
    obtain ⟨j, hj, rfl⟩ := sShaft_of (by omega) hs
    have hjn : cN (nI j) = j := cN_n (by omega)
    obtain ⟨cl, hcl, hso⟩ := hSh j hj
    refine r_callV1 (v1 := .ref (sf j)) E (ctT_X2_shaft G hl h hC hM j hj) mX2_shaft q1208 q909 q910 (fun H a1 => fm_rc (ci := 2) (C := RX2) (T := TX2) (N := 7) a1 rfl E.v hd) rfl rfl (Nat.le_of_ble_eq_true rfl) (Nat.le_of_ble_eq_true rfl) (Nat.le_of_ble_eq_true rfl) dX1_best_5 1 6 (Nat.le_of_ble_eq_true rfl) (Nat.le_of_ble_eq_true rfl) ?_
    refine r_astore_n E [some (.ref x), some (.int (nI j)), some (.ref (sf j)), none, none] dX1_best_8 rfl rfl ?_
    refine r_iconst E (-1) dX1_best_9 (by decide) ?_
    refine r_istore_n E [some (.ref x), some (.int (nI j)), some (.ref (sf j)), some (.int (-1)), none] dX1_best_10 rfl rfl ?_
    refine r_iconst E (nI 0) dX1_best_11 (by decide) ?_
    refine r_istore E [some (.ref x), some (.int (nI j)), some (.ref (sf j)), some (.int (-1)), some (.int (nI 0))] dX1_best_12 rfl rfl ?_
    show fmW G Γ _ _ _ _ [some (.ref x), some (.int (nI j)), some (.ref (sf j)), some (.int (cI (sBestK N j K pk 0))), some (.int (nI 0))] []
    have lp1 : ∀ (n1 i1 : Nat), i1 + n1 = 64 → fmW G Γ (h) 1 6 14 [some (.ref x), some (.int (nI j)), some (.ref (sf j)), some (.int (cI (sBestK N j K pk i1))), some (.int (nI i1))] [] := by
      intro n1
      induction n1 with
      | zero =>
        intro i1 hi1
        refine r_iload E dX1_best_14 rfl ?_
        refine r_bipush E (nI 64) dX1_best_16 (by decide) ?_
        refine r_icmpN_ge (tgt := 62) E dX1_best_18 (by decide) (by omega) (by omega) (fun c2 => ?_) (fun c2 => ?_)
        · have h64 : i1 = 64 := by omega
          rw [h64]
          refine r_iload_n E dX1_best_62 rfl ?_
          refine r_iconst E (-1) dX1_best_63 (by decide) ?_
          refine r_icmpC_eq (tgt := 71) E dX1_best_64 (by decide) (fun x hx => Nat.lt_trans (sBestK_lt hx) (by omega)) (fun c3 => ?_) (fun c3 => ?_)
          · refine r_iconst E (nI 0) dX1_best_71 (by decide) ?_
            refine r_top (v' := .int (bI false)) rfl ?_
            refine r_callS E (ctF_X1_requireElement G hl h) mX1_requireElement q78 q1273 q1274 rfl rfl (Nat.le_of_ble_eq_true rfl) (Nat.le_of_ble_eq_true rfl) (Nat.le_of_ble_eq_true rfl) dX1_best_72 0 0 (Nat.le_of_ble_eq_true rfl) (Nat.le_of_ble_eq_true rfl) (fun _ _ q => q.elim) (fun q Ex h' hx => ?_)
            exact r_xout E P (fun x hx => by cases hx) (qX_thr (k := 2) Kp.refl (by unfold aBest; rw [hs, hjn, sBest_eq hR hj, c3]; rfl) (by decide) rfl hx)
          · refine r_iconst E (nI 1) dX1_best_67 (by decide) ?_
            refine r_goto (tgt := 72) E dX1_best_68 (by decide) ?_
            refine r_top (v' := .int (bI true)) rfl ?_
            refine r_callS0 E (ctT_X1_requireElement G hl h) mX1_requireElement q78 q1273 q1274 rfl rfl (Nat.le_of_ble_eq_true rfl) (Nat.le_of_ble_eq_true rfl) (Nat.le_of_ble_eq_true rfl) dX1_best_72 1 6 (Nat.le_of_ble_eq_true rfl) (Nat.le_of_ble_eq_true rfl) ?_
            refine r_iload_n E dX1_best_75 rfl ?_
            obtain ⟨b, hb⟩ := Option.ne_none_iff_exists'.mp c3
            exact r_ireturn E P rfl dX1_best_76 (qP_don (by unfold aBest; rw [hs, hjn, sBest_eq hR hj, hb]; rfl) Kp.refl)
        · exfalso; omega
      | succ n1 ih =>
        intro i1 hi1
        refine r_iload E dX1_best_14 rfl ?_
        refine r_bipush E (nI 64) dX1_best_16 (by decide) ?_
        refine r_icmpN_ge (tgt := 62) E dX1_best_18 (by decide) (by omega) (by omega) (fun c4 => ?_) (fun c4 => ?_)
        · exfalso; omega
        · refine r_aload_n E dX1_best_21 rfl ?_
          refine r_getf E cl_X1 2 (by decide) q272 hx rfl dX1_best_22 ?_
          refine r_iload_n E dX1_best_25 rfl ?_
          refine r_iload E dX1_best_26 rfl ?_
          refine r_callV1 (v1 := .int (bI (sDigs N (nI j) i1 K pk))) E (ct_X2_canDig G hl (h) hC hM (nI j) i1 (by omega)) mX2_canDig q1264 q1265 q1266 (fun H a1 => fm_rc (ci := 2) (C := RX2) (T := TX2) (N := 7) a1 rfl E.v hd) rfl rfl (Nat.le_of_ble_eq_true rfl) (Nat.le_of_ble_eq_true rfl) (Nat.le_of_ble_eq_true rfl) dX1_best_28 1 6 (Nat.le_of_ble_eq_true rfl) (Nat.le_of_ble_eq_true rfl) ?_
          refine r_ifB_eq (b := sDigs N (nI j) i1 K pk) (tgt := 54) E dX1_best_31 (by decide) (fun c5 => ?_) (fun c5 => ?_)
          · refine r_iload_n E dX1_best_54 rfl ?_
            refine r_top (v' := .int (cI (sBestK N j K pk (i1 + 1)))) (congrArg (fun z => Value.int (cI z)) (sBestK_no c5).symm) ?_
            refine r_istore_n E [some (.ref x), some (.int (nI j)), some (.ref (sf j)), some (.int (cI (sBestK N j K pk (i1 + 1)))), some (.int (nI i1))] dX1_best_55 rfl rfl ?_
            refine r_iinc E (nI (i1 + 1)) [some (.ref x), some (.int (nI j)), some (.ref (sf j)), some (.int (cI (sBestK N j K pk (i1 + 1)))), some (.int (nI (i1 + 1)))] dX1_best_56 rfl (nI_1 i1) rfl rfl ?_
            refine r_goto (tgt := 14) E dX1_best_59 (by decide) ?_
            exact ih (i1 + 1) (by omega)
          · have hdg := c5
            refine r_iload_n E dX1_best_34 rfl ?_
            refine r_iconst E (-1) dX1_best_35 (by decide) ?_
            refine r_icmpC_eq (tgt := 49) E dX1_best_36 (by decide) (fun x hx => Nat.lt_trans (sBestK_lt hx) (by omega)) (fun c6 => ?_) (fun c6 => ?_)
            · refine r_iload E dX1_best_49 rfl ?_
              refine r_goto (tgt := 55) E dX1_best_51 (by decide) ?_
              refine r_top (v' := .int (cI (sBestK N j K pk (i1 + 1)))) (by rw [sBestK_first hdg c6]; rfl) ?_
              refine r_istore_n E [some (.ref x), some (.int (nI j)), some (.ref (sf j)), some (.int (cI (sBestK N j K pk (i1 + 1)))), some (.int (nI i1))] dX1_best_55 rfl rfl ?_
              refine r_iinc E (nI (i1 + 1)) [some (.ref x), some (.int (nI j)), some (.ref (sf j)), some (.int (cI (sBestK N j K pk (i1 + 1)))), some (.int (nI (i1 + 1)))] dX1_best_56 rfl (nI_1 i1) rfl rfl ?_
              refine r_goto (tgt := 14) E dX1_best_59 (by decide) ?_
              exact ih (i1 + 1) (by omega)
            · obtain ⟨b, hb⟩ := Option.ne_none_iff_exists'.mp c6
              have hb64 : b < 64 := Nat.lt_trans (sBestK_lt hb) (by omega)
              refine r_aload_n E dX1_best_39 rfl ?_
              refine r_iload E dX1_best_40 rfl ?_
              refine r_iload_n E dX1_best_42 rfl ?_
              refine r_top (v' := .int (nI b)) (congrArg Value.int (by rw [hb]; rfl)) ?_
              refine r_callV1 (v1 := .int (bI (sBetter N i1 b))) E (ct_X1_isBetter G hl (h) hC hx hM i1 b (by omega) hb64 (sDigs_ch hdg) (sBestK_ch hb)) mX1_isBetter q1269 q1271 qs21 (fun H a1 => fm_rc (ci := 1) (C := RX1) (T := TX1) (N := 9) a1 rfl E.v hx) rfl rfl (Nat.le_of_ble_eq_true rfl) (Nat.le_of_ble_eq_true rfl) (Nat.le_of_ble_eq_true rfl) dX1_best_43 1 6 (Nat.le_of_ble_eq_true rfl) (Nat.le_of_ble_eq_true rfl) ?_
              refine r_ifB_eq (b := sBetter N i1 b) (tgt := 54) E dX1_best_46 (by decide) (fun hbt => ?_) (fun hbt => ?_)
              · refine r_iload_n E dX1_best_54 rfl ?_
                refine r_top (v' := .int (nI b)) (congrArg Value.int (by rw [hb]; rfl)) ?_
                refine r_top (v' := .int (cI (sBestK N j K pk (i1 + 1)))) (by rw [sBestK_keep hb hbt, hb]; rfl) ?_
                refine r_istore_n E [some (.ref x), some (.int (nI j)), some (.ref (sf j)), some (.int (cI (sBestK N j K pk (i1 + 1)))), some (.int (nI i1))] dX1_best_55 rfl rfl ?_
                refine r_iinc E (nI (i1 + 1)) [some (.ref x), some (.int (nI j)), some (.ref (sf j)), some (.int (cI (sBestK N j K pk (i1 + 1)))), some (.int (nI (i1 + 1)))] dX1_best_56 rfl (nI_1 i1) rfl rfl ?_
                refine r_goto (tgt := 14) E dX1_best_59 (by decide) ?_
                exact ih (i1 + 1) (by omega)
              · refine r_iload E dX1_best_49 rfl ?_
                refine r_goto (tgt := 55) E dX1_best_51 (by decide) ?_
                refine r_top (v' := .int (cI (sBestK N j K pk (i1 + 1)))) (by rw [sBestK_take hdg hb hbt]; rfl) ?_
                refine r_istore_n E [some (.ref x), some (.int (nI j)), some (.ref (sf j)), some (.int (cI (sBestK N j K pk (i1 + 1)))), some (.int (nI i1))] dX1_best_55 rfl rfl ?_
                refine r_iinc E (nI (i1 + 1)) [some (.ref x), some (.int (nI j)), some (.ref (sf j)), some (.int (cI (sBestK N j K pk (i1 + 1)))), some (.int (nI (i1 + 1)))] dX1_best_56 rfl (nI_1 i1) rfl rfl ?_
                refine r_goto (tgt := 14) E dX1_best_59 (by decide) ?_
                exact ih (i1 + 1) (by omega)
    exact lp1 64 0 (by omega)

set_option maxHeartbeats 4000000 in
theorem ct_X1_chalk (G : fmG) (hl : (fmLn G).stackTraces = false) (h : fmHp) {x far qu pa sb : Nat} {fl re de : Int32} {sv : Value} {d g sl se pl pe : Nat} {gf sf pf : Nat → Nat} {N : Nat → Int32} {K pk : Nat} (hC : CC G h) (hx : DkO h x far qu d pa sb fl re de sv) (hM : MineAt G h d g sl se pl pe gf sf pf N K pk)  : Ct G yX1_chalk (ws_ yX1_chalk cX1_chalk 1 (some .float)) { frames := 2, cells := 0, slots := 0, locals := 43 } [.ref x] h (fmRet (some (.float (FP.fdiv (FP.i2f (nI (sSt N (nI 0)))) 1115684864))) h) fmNo := by
  refine Ct.of hl (by decide +kernel) (Nat.le_of_ble_eq_true rfl) (fun Γ E P => ?_)
  obtain ⟨hd, ⟨gq, hg, hgq⟩, hgd, hS, hSh, hP, hPk, hK8, hP6, hsp, hse⟩ := id hM
  obtain ⟨mcS, hsl⟩ := hS.o
  obtain ⟨mcP, hpl⟩ := hP.o
  refine r_aload_n E dX1_chalk_0 rfl ?_
  refine r_iconst E (nI 0) dX1_chalk_1 (by decide) ?_
  refine r_callV1 (v1 := .int (nI (sSt N (nI 0)))) E (ct_X1_cells G hl (h) hC hx hM (nI 0)) mX1_cells q348 q350 qs1 (fun H a1 => fm_rc (ci := 1) (C := RX1) (T := TX1) (N := 9) a1 rfl E.v hx) rfl rfl (Nat.le_of_ble_eq_true rfl) (Nat.le_of_ble_eq_true rfl) (Nat.le_of_ble_eq_true rfl) dX1_chalk_2 0 0 (Nat.le_of_ble_eq_true rfl) (Nat.le_of_ble_eq_true rfl) ?_
  refine r_i2f E dX1_chalk_5 ?_
  refine r_ldcwf E q357 dX1_chalk_6 ?_
  have hle : sSt N (nI 0) < 65 := Nat.lt_succ_of_le (sCount_le _ 64)
  refine r_fdiv E (vf_chalk ⟨_, hle⟩).1 dX1_chalk_9 ?_
  exact r_freturn E P rfl dX1_chalk_10 ⟨rfl, rfl⟩

