set_option maxHeartbeats 4000000 in
theorem ct_X4_firstOfWay (G : fmG) (hl : (fmLn G).stackTraces = false) (m : Nat) (S : MSt) (h0 : fmHp) (j : Nat) (F : Nat → Nat) (hF : S.2 12 = fun z => nI (F z)) (hF64 : ∀ c, F c ≤ 64) : Ct G yX4_firstOfWay (ws_ yX4_firstOfWay cX4_firstOfWay 5 (some .int)) { frames := 3, cells := 0, slots := 0, locals := 69 } [.ref m, .int (nI j)] (mdl m S h0) (fmRet (some (.int (cI (sFirK (S.2 1) F (nI j) 64)))) (mdl m S h0)) fmNo := by
  refine Ct.of hl (by decide +kernel) (Nat.le_of_ble_eq_true rfl) (fun Γ E P => ?_)
  refine r_iconst E (-1) dX4_firstOfWay_0 (by decide) ?_
  refine r_istore_n E [some (.ref m), some (.int (nI j)), some (.int (-1)), none, none] dX4_firstOfWay_1 rfl rfl ?_
  refine r_iconst E (nI 0) dX4_firstOfWay_2 (by decide) ?_
  refine r_istore_n E [some (.ref m), some (.int (nI j)), some (.int (-1)), some (.int (nI 0)), none] dX4_firstOfWay_3 rfl rfl ?_
  have lp1 : ∀ (n1 i1 : Nat), i1 + n1 = 64 → fmW G Γ (mdl m S h0) 0 0 4 [some (.ref m), some (.int (nI j)), some (.int (cI (sFirK (S.2 1) F (nI j) i1))), some (.int (nI i1)), none] [] := by
    intro n1
    induction n1 with
    | zero =>
      intro i1 hi1
      refine r_iload_n E dX4_firstOfWay_4 rfl ?_
      refine r_bipush E (nI 64) dX4_firstOfWay_5 (by decide) ?_
      refine r_icmpN_ge (tgt := 71) E dX4_firstOfWay_7 (by decide) (by omega) (by omega) (fun c2 => ?_) (fun c2 => ?_)
      · have h64 : i1 = 64 := by omega
        refine r_iload_n E dX4_firstOfWay_71 rfl ?_
        exact r_ireturn E P rfl dX4_firstOfWay_72 ⟨by rw [h64], rfl⟩
      · exfalso; omega
    | succ n1 ih =>
      intro i1 hi1
      refine r_iload_n E dX4_firstOfWay_4 rfl ?_
      refine r_bipush E (nI 64) dX4_firstOfWay_5 (by decide) ?_
      refine r_icmpN_ge (tgt := 71) E dX4_firstOfWay_7 (by decide) (by omega) (by omega) (fun c3 => ?_) (fun c3 => ?_)
      · exfalso; omega
      · have hfi := hF64 i1
        suffices j4 : fmW G Γ (mdl m S h0) 0 0 33 [some (.ref m), some (.int (nI j)), some (.int (cI (sFirK (S.2 1) F (nI j) i1))), some (.int (nI i1)), none] [.int (bI (decide (0 < F i1 ∧ sNext (S.2 1) i1 (nI j) = true)))] by
          refine r_aload_n E dX4_firstOfWay_10 rfl ?_
          refine r_getf E cl_X4 9 (by decide) q1895 mdl_o rfl dX4_firstOfWay_11 ?_
          refine r_iload_n E dX4_firstOfWay_14 rfl ?_
          refine r_iald E mdl_12 (by omega) (by omega) dX4_firstOfWay_15 ?_
          refine r_top (v' := .int (nI (F i1))) (congrArg Value.int (congrFun hF _)) ?_
          refine r_ifN_le (tgt := 32) E dX4_firstOfWay_16 (by decide) (by omega) (fun c5 => ?_) (fun c5 => ?_)
          · refine r_iconst E (nI 0) dX4_firstOfWay_32 (by decide) ?_
            refine r_top (v' := .int (bI (decide (0 < F i1 ∧ sNext (S.2 1) i1 (nI j) = true)))) (by rw [show (decide (0 < F i1 ∧ sNext (S.2 1) i1 (nI j) = true)) = false by simp [c5]]; rfl) ?_
            exact j4
          · refine r_aload_n E dX4_firstOfWay_19 rfl ?_
            refine r_iload_n E dX4_firstOfWay_20 rfl ?_
            refine r_iload_n E dX4_firstOfWay_21 rfl ?_
            refine r_callV1 (v1 := .int (bI (sNext (S.2 1) i1 (nI j)))) E (ct_X4_isNextTo G hl m S h0 i1 (nI j) (by omega)) mX4_isNextTo q2063 q2065 qs48 (fun H a1 => fm_rc (ci := 0) (C := RX4) (T := TX4) (N := 21) a1 rfl E.v mdl_o) rfl rfl (Nat.le_of_ble_eq_true rfl) (Nat.le_of_ble_eq_true rfl) (Nat.le_of_ble_eq_true rfl) dX4_firstOfWay_22 0 0 (Nat.le_of_ble_eq_true rfl) (Nat.le_of_ble_eq_true rfl) ?_
            refine r_ifB_eq (b := sNext (S.2 1) i1 (nI j)) (tgt := 32) E dX4_firstOfWay_25 (by decide) (fun c6 => ?_) (fun c6 => ?_)
            · refine r_iconst E (nI 0) dX4_firstOfWay_32 (by decide) ?_
              refine r_top (v' := .int (bI (decide (0 < F i1 ∧ sNext (S.2 1) i1 (nI j) = true)))) (by rw [show (decide (0 < F i1 ∧ sNext (S.2 1) i1 (nI j) = true)) = false by simp [c5, c6]]; rfl) ?_
              exact j4
            · refine r_iconst E (nI 1) dX4_firstOfWay_28 (by decide) ?_
              refine r_goto (tgt := 33) E dX4_firstOfWay_29 (by decide) ?_
              refine r_top (v' := .int (bI (decide (0 < F i1 ∧ sNext (S.2 1) i1 (nI j) = true)))) (by rw [show (decide (0 < F i1 ∧ sNext (S.2 1) i1 (nI j) = true)) = true by simp [c5, c6]]; rfl) ?_
              exact j4
        refine r_istore E [some (.ref m), some (.int (nI j)), some (.int (cI (sFirK (S.2 1) F (nI j) i1))), some (.int (nI i1)), some (.int (bI (decide (0 < F i1 ∧ sNext (S.2 1) i1 (nI j) = true))))] dX4_firstOfWay_33 rfl rfl ?_
        refine r_iload E dX4_firstOfWay_35 rfl ?_
        refine r_ifB_eq (b := decide (0 < F i1 ∧ sNext (S.2 1) i1 (nI j) = true)) (tgt := 63) E dX4_firstOfWay_37 (by decide) (fun c7 => ?_) (fun c7 => ?_)
        · have hs1 := sFirK_no c7
          refine r_iload_n E dX4_firstOfWay_63 rfl ?_
          refine r_top (v' := .int (cI (sFirK (S.2 1) F (nI j) (i1 + 1)))) (by rw [hs1]) ?_
          refine r_istore_n E [some (.ref m), some (.int (nI j)), some (.int (cI (sFirK (S.2 1) F (nI j) (i1 + 1)))), some (.int (nI i1)), some (.int (bI (decide (0 < F i1 ∧ sNext (S.2 1) i1 (nI j) = true))))] dX4_firstOfWay_64 rfl rfl ?_
          refine r_iinc E (nI (i1 + 1)) [some (.ref m), some (.int (nI j)), some (.int (cI (sFirK (S.2 1) F (nI j) (i1 + 1)))), some (.int (nI (i1 + 1))), some (.int (bI (decide (0 < F i1 ∧ sNext (S.2 1) i1 (nI j) = true))))] dX4_firstOfWay_65 rfl (nI_1 i1) rfl rfl ?_
          refine r_goto (tgt := 4) E dX4_firstOfWay_68 (by decide) ?_
          refine fmW.few (L' := [some (.ref m), some (.int (nI j)), some (.int (cI (sFirK (S.2 1) F (nI j) (i1 + 1)))), some (.int (nI (i1 + 1))), none]) (fmFew_n (L := [some (.ref m), some (.int (nI j)), some (.int (cI (sFirK (S.2 1) F (nI j) (i1 + 1)))), some (.int (nI (i1 + 1))), some (.int (bI (decide (0 < F i1 ∧ sNext (S.2 1) i1 (nI j) = true))))]) 4) ?_
          exact ih (i1 + 1) (by omega)
        · refine r_iload_n E dX4_firstOfWay_40 rfl ?_
          refine r_ifC_lt (o := sFirK (S.2 1) F (nI j) i1) (tgt := 59) E dX4_firstOfWay_41 (by decide) (fun x hx => Nat.lt_trans (sFirK_lt hx) (by omega)) (fun c8 => ?_) (fun c8 => ?_)
          · have hs1 := sFirK_first c7 c8
            refine r_iload_n E dX4_firstOfWay_59 rfl ?_
            refine r_goto (tgt := 64) E dX4_firstOfWay_60 (by decide) ?_
            refine r_top (v' := .int (cI (sFirK (S.2 1) F (nI j) (i1 + 1)))) (by rw [hs1]; rfl) ?_
            refine r_istore_n E [some (.ref m), some (.int (nI j)), some (.int (cI (sFirK (S.2 1) F (nI j) (i1 + 1)))), some (.int (nI i1)), some (.int (bI (decide (0 < F i1 ∧ sNext (S.2 1) i1 (nI j) = true))))] dX4_firstOfWay_64 rfl rfl ?_
            refine r_iinc E (nI (i1 + 1)) [some (.ref m), some (.int (nI j)), some (.int (cI (sFirK (S.2 1) F (nI j) (i1 + 1)))), some (.int (nI (i1 + 1))), some (.int (bI (decide (0 < F i1 ∧ sNext (S.2 1) i1 (nI j) = true))))] dX4_firstOfWay_65 rfl (nI_1 i1) rfl rfl ?_
            refine r_goto (tgt := 4) E dX4_firstOfWay_68 (by decide) ?_
            refine fmW.few (L' := [some (.ref m), some (.int (nI j)), some (.int (cI (sFirK (S.2 1) F (nI j) (i1 + 1)))), some (.int (nI (i1 + 1))), none]) (fmFew_n (L := [some (.ref m), some (.int (nI j)), some (.int (cI (sFirK (S.2 1) F (nI j) (i1 + 1)))), some (.int (nI (i1 + 1))), some (.int (bI (decide (0 < F i1 ∧ sNext (S.2 1) i1 (nI j) = true))))]) 4) ?_
            exact ih (i1 + 1) (by omega)
          · obtain ⟨x, hx⟩ := Option.ne_none_iff_exists'.mp c8
            have hx2 := sFirK_lt hx
            have hfx := hF64 x
            refine r_aload_n E dX4_firstOfWay_44 rfl ?_
            refine r_getf E cl_X4 9 (by decide) q1895 mdl_o rfl dX4_firstOfWay_45 ?_
            refine r_iload_n E dX4_firstOfWay_48 rfl ?_
            refine r_iald E mdl_12 (by omega) (by omega) dX4_firstOfWay_49 ?_
            refine r_top (v' := .int (nI (F i1))) (congrArg Value.int (congrFun hF _)) ?_
            refine r_aload_n E dX4_firstOfWay_50 rfl ?_
            refine r_getf E cl_X4 9 (by decide) q1895 mdl_o rfl dX4_firstOfWay_51 ?_
            refine r_iload_n E dX4_firstOfWay_54 rfl ?_
            refine r_top (v' := .int (nI x)) (congrArg Value.int (by rw [hx]; rfl)) ?_
            refine r_iald E mdl_12 (by omega) (by omega) dX4_firstOfWay_55 ?_
            refine r_top (v' := .int (nI (F x))) (congrArg Value.int (congrFun hF _)) ?_
            refine r_icmpN_ge (tgt := 63) E dX4_firstOfWay_56 (by decide) (by omega) (by omega) (fun c9 => ?_) (fun c9 => ?_)
            · have hs1 := sFirK_keep hx (by omega)
              refine r_iload_n E dX4_firstOfWay_63 rfl ?_
              refine r_top (v' := .int (cI (sFirK (S.2 1) F (nI j) (i1 + 1)))) (by rw [hs1]) ?_
              refine r_istore_n E [some (.ref m), some (.int (nI j)), some (.int (cI (sFirK (S.2 1) F (nI j) (i1 + 1)))), some (.int (nI i1)), some (.int (bI (decide (0 < F i1 ∧ sNext (S.2 1) i1 (nI j) = true))))] dX4_firstOfWay_64 rfl rfl ?_
              refine r_iinc E (nI (i1 + 1)) [some (.ref m), some (.int (nI j)), some (.int (cI (sFirK (S.2 1) F (nI j) (i1 + 1)))), some (.int (nI (i1 + 1))), some (.int (bI (decide (0 < F i1 ∧ sNext (S.2 1) i1 (nI j) = true))))] dX4_firstOfWay_65 rfl (nI_1 i1) rfl rfl ?_
              refine r_goto (tgt := 4) E dX4_firstOfWay_68 (by decide) ?_
              refine fmW.few (L' := [some (.ref m), some (.int (nI j)), some (.int (cI (sFirK (S.2 1) F (nI j) (i1 + 1)))), some (.int (nI (i1 + 1))), none]) (fmFew_n (L := [some (.ref m), some (.int (nI j)), some (.int (cI (sFirK (S.2 1) F (nI j) (i1 + 1)))), some (.int (nI (i1 + 1))), some (.int (bI (decide (0 < F i1 ∧ sNext (S.2 1) i1 (nI j) = true))))]) 4) ?_
              exact ih (i1 + 1) (by omega)
            · have hs1 := sFirK_take c7 hx (by omega)
              refine r_iload_n E dX4_firstOfWay_59 rfl ?_
              refine r_goto (tgt := 64) E dX4_firstOfWay_60 (by decide) ?_
              refine r_top (v' := .int (cI (sFirK (S.2 1) F (nI j) (i1 + 1)))) (by rw [hs1]; rfl) ?_
              refine r_istore_n E [some (.ref m), some (.int (nI j)), some (.int (cI (sFirK (S.2 1) F (nI j) (i1 + 1)))), some (.int (nI i1)), some (.int (bI (decide (0 < F i1 ∧ sNext (S.2 1) i1 (nI j) = true))))] dX4_firstOfWay_64 rfl rfl ?_
              refine r_iinc E (nI (i1 + 1)) [some (.ref m), some (.int (nI j)), some (.int (cI (sFirK (S.2 1) F (nI j) (i1 + 1)))), some (.int (nI (i1 + 1))), some (.int (bI (decide (0 < F i1 ∧ sNext (S.2 1) i1 (nI j) = true))))] dX4_firstOfWay_65 rfl (nI_1 i1) rfl rfl ?_
              refine r_goto (tgt := 4) E dX4_firstOfWay_68 (by decide) ?_
              refine fmW.few (L' := [some (.ref m), some (.int (nI j)), some (.int (cI (sFirK (S.2 1) F (nI j) (i1 + 1)))), some (.int (nI (i1 + 1))), none]) (fmFew_n (L := [some (.ref m), some (.int (nI j)), some (.int (cI (sFirK (S.2 1) F (nI j) (i1 + 1)))), some (.int (nI (i1 + 1))), some (.int (bI (decide (0 < F i1 ∧ sNext (S.2 1) i1 (nI j) = true))))]) 4) ?_
              exact ih (i1 + 1) (by omega)
  exact lp1 64 0 (by omega)

set_option maxHeartbeats 4000000 in
theorem ct_X4_nextOfWay (G : fmG) (hl : (fmLn G).stackTraces = false) (m : Nat) (S : MSt) (h0 : fmHp) (c : Nat) (F : Nat → Nat) (hF : S.2 12 = fun z => nI (F z)) (hF64 : ∀ c, F c ≤ 64) (hc : c < 64) (hc1 : 1 ≤ F c) : Ct G yX4_nextOfWay (ws_ yX4_nextOfWay cX4_nextOfWay 5 (some .int)) { frames := 2, cells := 0, slots := 0, locals := 45 } [.ref m, .int (nI c)] (mdl m S h0) (fmRet (some (.int (cI (sNxt F c 4)))) (mdl m S h0)) fmNo := by
  refine Ct.of hl (by decide +kernel) (Nat.le_of_ble_eq_true rfl) (fun Γ E P => ?_)
  have hfc := hF64 c
  have g4 : fmW G Γ (mdl m S h0) 0 0 4 [some (.ref m), some (.int (nI c)), some (.int (cI (sNxt F c 4))), some (.int (-1)), none] [] := by
    refine r_iload_n E dX4_nextOfWay_4 rfl ?_
    refine r_if_lt (tgt := 61) E dX4_nextOfWay_5 (by decide) (fun _ => ?_) (fun c => absurd c (by decide))
    refine r_iload_n E dX4_nextOfWay_61 rfl ?_
    exact r_ireturn E P rfl dX4_nextOfWay_62 ⟨rfl, rfl⟩
  have g3 : fmW G Γ (mdl m S h0) 0 0 4 [some (.ref m), some (.int (nI c)), some (.int (cI (sNxt F c 3))), some (.int (nI 0)), none] [] := by
    refine r_iload_n E dX4_nextOfWay_4 rfl ?_
    refine r_if_lt (tgt := 61) E dX4_nextOfWay_5 (by decide) (fun c => absurd c (by decide)) (fun _ => ?_)
    refine r_iload_n E dX4_nextOfWay_8 rfl ?_
    refine r_iload_n E dX4_nextOfWay_9 rfl ?_
    refine r_callS1 (v1 := .int (cI (sBsd c 0))) E (ct_X4_beside G hl (mdl m S h0) (c) (0) (by omega) (by omega)) mX4_beside q89 q2016 q2017 rfl rfl (Nat.le_of_ble_eq_true rfl) (Nat.le_of_ble_eq_true rfl) (Nat.le_of_ble_eq_true rfl) dX4_nextOfWay_10 0 0 (Nat.le_of_ble_eq_true rfl) (Nat.le_of_ble_eq_true rfl) ?_
    refine r_istore E [some (.ref m), some (.int (nI c)), some (.int (cI (sNxt F c 3))), some (.int (nI 0)), some (.int (cI (sBsd c 0)))] dX4_nextOfWay_13 rfl rfl ?_
    refine r_iload E dX4_nextOfWay_15 rfl ?_
    refine r_ifC_lt (o := sBsd c 0) (tgt := 53) E dX4_nextOfWay_17 (by decide) (by intro x hx; first | exact Nat.lt_of_lt_of_le (sBsd_lt (by omega) hx) (by decide) | exact Nat.lt_of_lt_of_le (ho x hx) (by decide)) (fun c1 => ?_) (fun c1 => ?_)
    · have hs1 : sNxt F c 4 = _ := sNxt_n (i := 3) c1
      refine r_iload_n E dX4_nextOfWay_53 rfl ?_
      refine r_top (v' := .int (cI (sNxt F c 4))) (by rw [hs1]) ?_
      refine r_istore_n E [some (.ref m), some (.int (nI c)), some (.int (cI (sNxt F c 4))), some (.int (nI 0)), some (.int (cI (sBsd c 0)))] dX4_nextOfWay_54 rfl rfl ?_
      refine r_iinc E (-1) [some (.ref m), some (.int (nI c)), some (.int (cI (sNxt F c 4))), some (.int (-1)), some (.int (cI (sBsd c 0)))] dX4_nextOfWay_55 rfl (by decide) rfl rfl ?_
      refine r_goto (tgt := 4) E dX4_nextOfWay_58 (by decide) ?_
      refine fmW.few (L' := [some (.ref m), some (.int (nI c)), some (.int (cI (sNxt F c 4))), some (.int (-1)), none]) (fmFew_n (L := [some (.ref m), some (.int (nI c)), some (.int (cI (sNxt F c 4))), some (.int (-1)), some (.int (cI (sBsd c 0)))]) 4) ?_
      exact g4
    · obtain ⟨x, hx⟩ := Option.ne_none_iff_exists'.mp c1
      have hx6 := sBsd_lt hc hx
      have hfx := hF64 x
      refine r_aload_n E dX4_nextOfWay_20 rfl ?_
      refine r_getf E cl_X4 9 (by decide) q1895 mdl_o rfl dX4_nextOfWay_21 ?_
      refine r_iload E dX4_nextOfWay_24 rfl ?_
      refine r_top (v' := .int (nI x)) (congrArg Value.int (by rw [hx]; rfl)) ?_
      refine r_iald E mdl_12 (by omega) (by omega) dX4_nextOfWay_26 ?_
      refine r_top (v' := .int (nI (F x))) (congrArg Value.int (congrFun hF _)) ?_
      refine r_ifN_le (tgt := 53) E dX4_nextOfWay_27 (by decide) (by omega) (fun c2 => ?_) (fun c2 => ?_)
      · have hs1 : sNxt F c 4 = _ := sNxt_0 (i := 3) hx (by omega)
        refine r_iload_n E dX4_nextOfWay_53 rfl ?_
        refine r_top (v' := .int (cI (sNxt F c 4))) (by rw [hs1]) ?_
        refine r_istore_n E [some (.ref m), some (.int (nI c)), some (.int (cI (sNxt F c 4))), some (.int (nI 0)), some (.int (cI (sBsd c 0)))] dX4_nextOfWay_54 rfl rfl ?_
        refine r_iinc E (-1) [some (.ref m), some (.int (nI c)), some (.int (cI (sNxt F c 4))), some (.int (-1)), some (.int (cI (sBsd c 0)))] dX4_nextOfWay_55 rfl (by decide) rfl rfl ?_
        refine r_goto (tgt := 4) E dX4_nextOfWay_58 (by decide) ?_
        refine fmW.few (L' := [some (.ref m), some (.int (nI c)), some (.int (cI (sNxt F c 4))), some (.int (-1)), none]) (fmFew_n (L := [some (.ref m), some (.int (nI c)), some (.int (cI (sNxt F c 4))), some (.int (-1)), some (.int (cI (sBsd c 0)))]) 4) ?_
        exact g4
      · refine r_aload_n E dX4_nextOfWay_30 rfl ?_
        refine r_getf E cl_X4 9 (by decide) q1895 mdl_o rfl dX4_nextOfWay_31 ?_
        refine r_iload E dX4_nextOfWay_34 rfl ?_
        refine r_top (v' := .int (nI x)) (congrArg Value.int (by rw [hx]; rfl)) ?_
        refine r_iald E mdl_12 (by omega) (by omega) dX4_nextOfWay_36 ?_
        refine r_top (v' := .int (nI (F x))) (congrArg Value.int (congrFun hF _)) ?_
        refine r_aload_n E dX4_nextOfWay_37 rfl ?_
        refine r_getf E cl_X4 9 (by decide) q1895 mdl_o rfl dX4_nextOfWay_38 ?_
        refine r_iload_n E dX4_nextOfWay_41 rfl ?_
        refine r_iald E mdl_12 (by omega) (by omega) dX4_nextOfWay_42 ?_
        refine r_top (v' := .int (nI (F c))) (congrArg Value.int (congrFun hF _)) ?_
        refine r_iconst E (nI 1) dX4_nextOfWay_43 (by decide) ?_
        refine r_isubN E dX4_nextOfWay_44 (by omega) ?_
        refine r_icmpN_ne (tgt := 53) E dX4_nextOfWay_45 (by decide) (by omega) (by omega) (fun c3 => ?_) (fun c3 => ?_)
        · have hs1 : sNxt F c 4 = _ := sNxt_0 (i := 3) hx (by omega)
          refine r_iload_n E dX4_nextOfWay_53 rfl ?_
          refine r_top (v' := .int (cI (sNxt F c 4))) (by rw [hs1]) ?_
          refine r_istore_n E [some (.ref m), some (.int (nI c)), some (.int (cI (sNxt F c 4))), some (.int (nI 0)), some (.int (cI (sBsd c 0)))] dX4_nextOfWay_54 rfl rfl ?_
          refine r_iinc E (-1) [some (.ref m), some (.int (nI c)), some (.int (cI (sNxt F c 4))), some (.int (-1)), some (.int (cI (sBsd c 0)))] dX4_nextOfWay_55 rfl (by decide) rfl rfl ?_
          refine r_goto (tgt := 4) E dX4_nextOfWay_58 (by decide) ?_
          refine fmW.few (L' := [some (.ref m), some (.int (nI c)), some (.int (cI (sNxt F c 4))), some (.int (-1)), none]) (fmFew_n (L := [some (.ref m), some (.int (nI c)), some (.int (cI (sNxt F c 4))), some (.int (-1)), some (.int (cI (sBsd c 0)))]) 4) ?_
          exact g4
        · have hs1 : sNxt F c 4 = _ := sNxt_1 (i := 3) hx (by omega)
          refine r_iload E dX4_nextOfWay_48 rfl ?_
          refine r_top (v' := .int (nI x)) (congrArg Value.int (by rw [hx]; rfl)) ?_
          refine r_goto (tgt := 54) E dX4_nextOfWay_50 (by decide) ?_
          refine r_top (v' := .int (cI (sNxt F c 4))) (by rw [hs1]; rfl) ?_
          refine r_istore_n E [some (.ref m), some (.int (nI c)), some (.int (cI (sNxt F c 4))), some (.int (nI 0)), some (.int (cI (sBsd c 0)))] dX4_nextOfWay_54 rfl rfl ?_
          refine r_iinc E (-1) [some (.ref m), some (.int (nI c)), some (.int (cI (sNxt F c 4))), some (.int (-1)), some (.int (cI (sBsd c 0)))] dX4_nextOfWay_55 rfl (by decide) rfl rfl ?_
          refine r_goto (tgt := 4) E dX4_nextOfWay_58 (by decide) ?_
          refine fmW.few (L' := [some (.ref m), some (.int (nI c)), some (.int (cI (sNxt F c 4))), some (.int (-1)), none]) (fmFew_n (L := [some (.ref m), some (.int (nI c)), some (.int (cI (sNxt F c 4))), some (.int (-1)), some (.int (cI (sBsd c 0)))]) 4) ?_
          exact g4
  have g2 : fmW G Γ (mdl m S h0) 0 0 4 [some (.ref m), some (.int (nI c)), some (.int (cI (sNxt F c 2))), some (.int (nI 1)), none] [] := by
    refine r_iload_n E dX4_nextOfWay_4 rfl ?_
    refine r_if_lt (tgt := 61) E dX4_nextOfWay_5 (by decide) (fun c => absurd c (by decide)) (fun _ => ?_)
    refine r_iload_n E dX4_nextOfWay_8 rfl ?_
    refine r_iload_n E dX4_nextOfWay_9 rfl ?_
    refine r_callS1 (v1 := .int (cI (sBsd c 1))) E (ct_X4_beside G hl (mdl m S h0) (c) (1) (by omega) (by omega)) mX4_beside q89 q2016 q2017 rfl rfl (Nat.le_of_ble_eq_true rfl) (Nat.le_of_ble_eq_true rfl) (Nat.le_of_ble_eq_true rfl) dX4_nextOfWay_10 0 0 (Nat.le_of_ble_eq_true rfl) (Nat.le_of_ble_eq_true rfl) ?_
    refine r_istore E [some (.ref m), some (.int (nI c)), some (.int (cI (sNxt F c 2))), some (.int (nI 1)), some (.int (cI (sBsd c 1)))] dX4_nextOfWay_13 rfl rfl ?_
    refine r_iload E dX4_nextOfWay_15 rfl ?_
    refine r_ifC_lt (o := sBsd c 1) (tgt := 53) E dX4_nextOfWay_17 (by decide) (by intro x hx; first | exact Nat.lt_of_lt_of_le (sBsd_lt (by omega) hx) (by decide) | exact Nat.lt_of_lt_of_le (ho x hx) (by decide)) (fun c1 => ?_) (fun c1 => ?_)
    · have hs1 : sNxt F c 3 = _ := sNxt_n (i := 2) c1
      refine r_iload_n E dX4_nextOfWay_53 rfl ?_
      refine r_top (v' := .int (cI (sNxt F c 3))) (by rw [hs1]) ?_
      refine r_istore_n E [some (.ref m), some (.int (nI c)), some (.int (cI (sNxt F c 3))), some (.int (nI 1)), some (.int (cI (sBsd c 1)))] dX4_nextOfWay_54 rfl rfl ?_
      refine r_iinc E (nI 0) [some (.ref m), some (.int (nI c)), some (.int (cI (sNxt F c 3))), some (.int (nI 0)), some (.int (cI (sBsd c 1)))] dX4_nextOfWay_55 rfl (by decide) rfl rfl ?_
      refine r_goto (tgt := 4) E dX4_nextOfWay_58 (by decide) ?_
      refine fmW.few (L' := [some (.ref m), some (.int (nI c)), some (.int (cI (sNxt F c 3))), some (.int (nI 0)), none]) (fmFew_n (L := [some (.ref m), some (.int (nI c)), some (.int (cI (sNxt F c 3))), some (.int (nI 0)), some (.int (cI (sBsd c 1)))]) 4) ?_
      exact g3
    · obtain ⟨x, hx⟩ := Option.ne_none_iff_exists'.mp c1
      have hx6 := sBsd_lt hc hx
      have hfx := hF64 x
      refine r_aload_n E dX4_nextOfWay_20 rfl ?_
      refine r_getf E cl_X4 9 (by decide) q1895 mdl_o rfl dX4_nextOfWay_21 ?_
      refine r_iload E dX4_nextOfWay_24 rfl ?_
      refine r_top (v' := .int (nI x)) (congrArg Value.int (by rw [hx]; rfl)) ?_
      refine r_iald E mdl_12 (by omega) (by omega) dX4_nextOfWay_26 ?_
      refine r_top (v' := .int (nI (F x))) (congrArg Value.int (congrFun hF _)) ?_
      refine r_ifN_le (tgt := 53) E dX4_nextOfWay_27 (by decide) (by omega) (fun c2 => ?_) (fun c2 => ?_)
      · have hs1 : sNxt F c 3 = _ := sNxt_0 (i := 2) hx (by omega)
        refine r_iload_n E dX4_nextOfWay_53 rfl ?_
        refine r_top (v' := .int (cI (sNxt F c 3))) (by rw [hs1]) ?_
        refine r_istore_n E [some (.ref m), some (.int (nI c)), some (.int (cI (sNxt F c 3))), some (.int (nI 1)), some (.int (cI (sBsd c 1)))] dX4_nextOfWay_54 rfl rfl ?_
        refine r_iinc E (nI 0) [some (.ref m), some (.int (nI c)), some (.int (cI (sNxt F c 3))), some (.int (nI 0)), some (.int (cI (sBsd c 1)))] dX4_nextOfWay_55 rfl (by decide) rfl rfl ?_
        refine r_goto (tgt := 4) E dX4_nextOfWay_58 (by decide) ?_
        refine fmW.few (L' := [some (.ref m), some (.int (nI c)), some (.int (cI (sNxt F c 3))), some (.int (nI 0)), none]) (fmFew_n (L := [some (.ref m), some (.int (nI c)), some (.int (cI (sNxt F c 3))), some (.int (nI 0)), some (.int (cI (sBsd c 1)))]) 4) ?_
        exact g3
      · refine r_aload_n E dX4_nextOfWay_30 rfl ?_
        refine r_getf E cl_X4 9 (by decide) q1895 mdl_o rfl dX4_nextOfWay_31 ?_
        refine r_iload E dX4_nextOfWay_34 rfl ?_
        refine r_top (v' := .int (nI x)) (congrArg Value.int (by rw [hx]; rfl)) ?_
        refine r_iald E mdl_12 (by omega) (by omega) dX4_nextOfWay_36 ?_
        refine r_top (v' := .int (nI (F x))) (congrArg Value.int (congrFun hF _)) ?_
        refine r_aload_n E dX4_nextOfWay_37 rfl ?_
        refine r_getf E cl_X4 9 (by decide) q1895 mdl_o rfl dX4_nextOfWay_38 ?_
        refine r_iload_n E dX4_nextOfWay_41 rfl ?_
        refine r_iald E mdl_12 (by omega) (by omega) dX4_nextOfWay_42 ?_
        refine r_top (v' := .int (nI (F c))) (congrArg Value.int (congrFun hF _)) ?_
        refine r_iconst E (nI 1) dX4_nextOfWay_43 (by decide) ?_
        refine r_isubN E dX4_nextOfWay_44 (by omega) ?_
        refine r_icmpN_ne (tgt := 53) E dX4_nextOfWay_45 (by decide) (by omega) (by omega) (fun c3 => ?_) (fun c3 => ?_)
        · have hs1 : sNxt F c 3 = _ := sNxt_0 (i := 2) hx (by omega)
          refine r_iload_n E dX4_nextOfWay_53 rfl ?_
          refine r_top (v' := .int (cI (sNxt F c 3))) (by rw [hs1]) ?_
          refine r_istore_n E [some (.ref m), some (.int (nI c)), some (.int (cI (sNxt F c 3))), some (.int (nI 1)), some (.int (cI (sBsd c 1)))] dX4_nextOfWay_54 rfl rfl ?_
          refine r_iinc E (nI 0) [some (.ref m), some (.int (nI c)), some (.int (cI (sNxt F c 3))), some (.int (nI 0)), some (.int (cI (sBsd c 1)))] dX4_nextOfWay_55 rfl (by decide) rfl rfl ?_
          refine r_goto (tgt := 4) E dX4_nextOfWay_58 (by decide) ?_
          refine fmW.few (L' := [some (.ref m), some (.int (nI c)), some (.int (cI (sNxt F c 3))), some (.int (nI 0)), none]) (fmFew_n (L := [some (.ref m), some (.int (nI c)), some (.int (cI (sNxt F c 3))), some (.int (nI 0)), some (.int (cI (sBsd c 1)))]) 4) ?_
          exact g3
        · have hs1 : sNxt F c 3 = _ := sNxt_1 (i := 2) hx (by omega)
          refine r_iload E dX4_nextOfWay_48 rfl ?_
          refine r_top (v' := .int (nI x)) (congrArg Value.int (by rw [hx]; rfl)) ?_
          refine r_goto (tgt := 54) E dX4_nextOfWay_50 (by decide) ?_
          refine r_top (v' := .int (cI (sNxt F c 3))) (by rw [hs1]; rfl) ?_
          refine r_istore_n E [some (.ref m), some (.int (nI c)), some (.int (cI (sNxt F c 3))), some (.int (nI 1)), some (.int (cI (sBsd c 1)))] dX4_nextOfWay_54 rfl rfl ?_
          refine r_iinc E (nI 0) [some (.ref m), some (.int (nI c)), some (.int (cI (sNxt F c 3))), some (.int (nI 0)), some (.int (cI (sBsd c 1)))] dX4_nextOfWay_55 rfl (by decide) rfl rfl ?_
          refine r_goto (tgt := 4) E dX4_nextOfWay_58 (by decide) ?_
          refine fmW.few (L' := [some (.ref m), some (.int (nI c)), some (.int (cI (sNxt F c 3))), some (.int (nI 0)), none]) (fmFew_n (L := [some (.ref m), some (.int (nI c)), some (.int (cI (sNxt F c 3))), some (.int (nI 0)), some (.int (cI (sBsd c 1)))]) 4) ?_
          exact g3
  have g1 : fmW G Γ (mdl m S h0) 0 0 4 [some (.ref m), some (.int (nI c)), some (.int (cI (sNxt F c 1))), some (.int (nI 2)), none] [] := by
    refine r_iload_n E dX4_nextOfWay_4 rfl ?_
    refine r_if_lt (tgt := 61) E dX4_nextOfWay_5 (by decide) (fun c => absurd c (by decide)) (fun _ => ?_)
    refine r_iload_n E dX4_nextOfWay_8 rfl ?_
    refine r_iload_n E dX4_nextOfWay_9 rfl ?_
    refine r_callS1 (v1 := .int (cI (sBsd c 2))) E (ct_X4_beside G hl (mdl m S h0) (c) (2) (by omega) (by omega)) mX4_beside q89 q2016 q2017 rfl rfl (Nat.le_of_ble_eq_true rfl) (Nat.le_of_ble_eq_true rfl) (Nat.le_of_ble_eq_true rfl) dX4_nextOfWay_10 0 0 (Nat.le_of_ble_eq_true rfl) (Nat.le_of_ble_eq_true rfl) ?_
    refine r_istore E [some (.ref m), some (.int (nI c)), some (.int (cI (sNxt F c 1))), some (.int (nI 2)), some (.int (cI (sBsd c 2)))] dX4_nextOfWay_13 rfl rfl ?_
    refine r_iload E dX4_nextOfWay_15 rfl ?_
    refine r_ifC_lt (o := sBsd c 2) (tgt := 53) E dX4_nextOfWay_17 (by decide) (by intro x hx; first | exact Nat.lt_of_lt_of_le (sBsd_lt (by omega) hx) (by decide) | exact Nat.lt_of_lt_of_le (ho x hx) (by decide)) (fun c1 => ?_) (fun c1 => ?_)
    · have hs1 : sNxt F c 2 = _ := sNxt_n (i := 1) c1
      refine r_iload_n E dX4_nextOfWay_53 rfl ?_
      refine r_top (v' := .int (cI (sNxt F c 2))) (by rw [hs1]) ?_
      refine r_istore_n E [some (.ref m), some (.int (nI c)), some (.int (cI (sNxt F c 2))), some (.int (nI 2)), some (.int (cI (sBsd c 2)))] dX4_nextOfWay_54 rfl rfl ?_
      refine r_iinc E (nI 1) [some (.ref m), some (.int (nI c)), some (.int (cI (sNxt F c 2))), some (.int (nI 1)), some (.int (cI (sBsd c 2)))] dX4_nextOfWay_55 rfl (by decide) rfl rfl ?_
      refine r_goto (tgt := 4) E dX4_nextOfWay_58 (by decide) ?_
      refine fmW.few (L' := [some (.ref m), some (.int (nI c)), some (.int (cI (sNxt F c 2))), some (.int (nI 1)), none]) (fmFew_n (L := [some (.ref m), some (.int (nI c)), some (.int (cI (sNxt F c 2))), some (.int (nI 1)), some (.int (cI (sBsd c 2)))]) 4) ?_
      exact g2
    · obtain ⟨x, hx⟩ := Option.ne_none_iff_exists'.mp c1
      have hx6 := sBsd_lt hc hx
      have hfx := hF64 x
      refine r_aload_n E dX4_nextOfWay_20 rfl ?_
      refine r_getf E cl_X4 9 (by decide) q1895 mdl_o rfl dX4_nextOfWay_21 ?_
      refine r_iload E dX4_nextOfWay_24 rfl ?_
      refine r_top (v' := .int (nI x)) (congrArg Value.int (by rw [hx]; rfl)) ?_
      refine r_iald E mdl_12 (by omega) (by omega) dX4_nextOfWay_26 ?_
      refine r_top (v' := .int (nI (F x))) (congrArg Value.int (congrFun hF _)) ?_
      refine r_ifN_le (tgt := 53) E dX4_nextOfWay_27 (by decide) (by omega) (fun c2 => ?_) (fun c2 => ?_)
      · have hs1 : sNxt F c 2 = _ := sNxt_0 (i := 1) hx (by omega)
        refine r_iload_n E dX4_nextOfWay_53 rfl ?_
        refine r_top (v' := .int (cI (sNxt F c 2))) (by rw [hs1]) ?_
        refine r_istore_n E [some (.ref m), some (.int (nI c)), some (.int (cI (sNxt F c 2))), some (.int (nI 2)), some (.int (cI (sBsd c 2)))] dX4_nextOfWay_54 rfl rfl ?_
        refine r_iinc E (nI 1) [some (.ref m), some (.int (nI c)), some (.int (cI (sNxt F c 2))), some (.int (nI 1)), some (.int (cI (sBsd c 2)))] dX4_nextOfWay_55 rfl (by decide) rfl rfl ?_
        refine r_goto (tgt := 4) E dX4_nextOfWay_58 (by decide) ?_
        refine fmW.few (L' := [some (.ref m), some (.int (nI c)), some (.int (cI (sNxt F c 2))), some (.int (nI 1)), none]) (fmFew_n (L := [some (.ref m), some (.int (nI c)), some (.int (cI (sNxt F c 2))), some (.int (nI 1)), some (.int (cI (sBsd c 2)))]) 4) ?_
        exact g2
      · refine r_aload_n E dX4_nextOfWay_30 rfl ?_
        refine r_getf E cl_X4 9 (by decide) q1895 mdl_o rfl dX4_nextOfWay_31 ?_
        refine r_iload E dX4_nextOfWay_34 rfl ?_
        refine r_top (v' := .int (nI x)) (congrArg Value.int (by rw [hx]; rfl)) ?_
        refine r_iald E mdl_12 (by omega) (by omega) dX4_nextOfWay_36 ?_
        refine r_top (v' := .int (nI (F x))) (congrArg Value.int (congrFun hF _)) ?_
        refine r_aload_n E dX4_nextOfWay_37 rfl ?_
        refine r_getf E cl_X4 9 (by decide) q1895 mdl_o rfl dX4_nextOfWay_38 ?_
        refine r_iload_n E dX4_nextOfWay_41 rfl ?_
        refine r_iald E mdl_12 (by omega) (by omega) dX4_nextOfWay_42 ?_
        refine r_top (v' := .int (nI (F c))) (congrArg Value.int (congrFun hF _)) ?_
        refine r_iconst E (nI 1) dX4_nextOfWay_43 (by decide) ?_
        refine r_isubN E dX4_nextOfWay_44 (by omega) ?_
        refine r_icmpN_ne (tgt := 53) E dX4_nextOfWay_45 (by decide) (by omega) (by omega) (fun c3 => ?_) (fun c3 => ?_)
        · have hs1 : sNxt F c 2 = _ := sNxt_0 (i := 1) hx (by omega)
          refine r_iload_n E dX4_nextOfWay_53 rfl ?_
          refine r_top (v' := .int (cI (sNxt F c 2))) (by rw [hs1]) ?_
          refine r_istore_n E [some (.ref m), some (.int (nI c)), some (.int (cI (sNxt F c 2))), some (.int (nI 2)), some (.int (cI (sBsd c 2)))] dX4_nextOfWay_54 rfl rfl ?_
          refine r_iinc E (nI 1) [some (.ref m), some (.int (nI c)), some (.int (cI (sNxt F c 2))), some (.int (nI 1)), some (.int (cI (sBsd c 2)))] dX4_nextOfWay_55 rfl (by decide) rfl rfl ?_
          refine r_goto (tgt := 4) E dX4_nextOfWay_58 (by decide) ?_
          refine fmW.few (L' := [some (.ref m), some (.int (nI c)), some (.int (cI (sNxt F c 2))), some (.int (nI 1)), none]) (fmFew_n (L := [some (.ref m), some (.int (nI c)), some (.int (cI (sNxt F c 2))), some (.int (nI 1)), some (.int (cI (sBsd c 2)))]) 4) ?_
          exact g2
        · have hs1 : sNxt F c 2 = _ := sNxt_1 (i := 1) hx (by omega)
          refine r_iload E dX4_nextOfWay_48 rfl ?_
          refine r_top (v' := .int (nI x)) (congrArg Value.int (by rw [hx]; rfl)) ?_
          refine r_goto (tgt := 54) E dX4_nextOfWay_50 (by decide) ?_
          refine r_top (v' := .int (cI (sNxt F c 2))) (by rw [hs1]; rfl) ?_
          refine r_istore_n E [some (.ref m), some (.int (nI c)), some (.int (cI (sNxt F c 2))), some (.int (nI 2)), some (.int (cI (sBsd c 2)))] dX4_nextOfWay_54 rfl rfl ?_
          refine r_iinc E (nI 1) [some (.ref m), some (.int (nI c)), some (.int (cI (sNxt F c 2))), some (.int (nI 1)), some (.int (cI (sBsd c 2)))] dX4_nextOfWay_55 rfl (by decide) rfl rfl ?_
          refine r_goto (tgt := 4) E dX4_nextOfWay_58 (by decide) ?_
          refine fmW.few (L' := [some (.ref m), some (.int (nI c)), some (.int (cI (sNxt F c 2))), some (.int (nI 1)), none]) (fmFew_n (L := [some (.ref m), some (.int (nI c)), some (.int (cI (sNxt F c 2))), some (.int (nI 1)), some (.int (cI (sBsd c 2)))]) 4) ?_
          exact g2
  have g0 : fmW G Γ (mdl m S h0) 0 0 4 [some (.ref m), some (.int (nI c)), some (.int (cI (sNxt F c 0))), some (.int (nI 3)), none] [] := by
    refine r_iload_n E dX4_nextOfWay_4 rfl ?_
    refine r_if_lt (tgt := 61) E dX4_nextOfWay_5 (by decide) (fun c => absurd c (by decide)) (fun _ => ?_)
    refine r_iload_n E dX4_nextOfWay_8 rfl ?_
    refine r_iload_n E dX4_nextOfWay_9 rfl ?_
    refine r_callS1 (v1 := .int (cI (sBsd c 3))) E (ct_X4_beside G hl (mdl m S h0) (c) (3) (by omega) (by omega)) mX4_beside q89 q2016 q2017 rfl rfl (Nat.le_of_ble_eq_true rfl) (Nat.le_of_ble_eq_true rfl) (Nat.le_of_ble_eq_true rfl) dX4_nextOfWay_10 0 0 (Nat.le_of_ble_eq_true rfl) (Nat.le_of_ble_eq_true rfl) ?_
    refine r_istore E [some (.ref m), some (.int (nI c)), some (.int (cI (sNxt F c 0))), some (.int (nI 3)), some (.int (cI (sBsd c 3)))] dX4_nextOfWay_13 rfl rfl ?_
    refine r_iload E dX4_nextOfWay_15 rfl ?_
    refine r_ifC_lt (o := sBsd c 3) (tgt := 53) E dX4_nextOfWay_17 (by decide) (by intro x hx; first | exact Nat.lt_of_lt_of_le (sBsd_lt (by omega) hx) (by decide) | exact Nat.lt_of_lt_of_le (ho x hx) (by decide)) (fun c1 => ?_) (fun c1 => ?_)
    · have hs1 : sNxt F c 1 = _ := sNxt_n (i := 0) c1
      refine r_iload_n E dX4_nextOfWay_53 rfl ?_
      refine r_top (v' := .int (cI (sNxt F c 1))) (by rw [hs1]) ?_
      refine r_istore_n E [some (.ref m), some (.int (nI c)), some (.int (cI (sNxt F c 1))), some (.int (nI 3)), some (.int (cI (sBsd c 3)))] dX4_nextOfWay_54 rfl rfl ?_
      refine r_iinc E (nI 2) [some (.ref m), some (.int (nI c)), some (.int (cI (sNxt F c 1))), some (.int (nI 2)), some (.int (cI (sBsd c 3)))] dX4_nextOfWay_55 rfl (by decide) rfl rfl ?_
      refine r_goto (tgt := 4) E dX4_nextOfWay_58 (by decide) ?_
      refine fmW.few (L' := [some (.ref m), some (.int (nI c)), some (.int (cI (sNxt F c 1))), some (.int (nI 2)), none]) (fmFew_n (L := [some (.ref m), some (.int (nI c)), some (.int (cI (sNxt F c 1))), some (.int (nI 2)), some (.int (cI (sBsd c 3)))]) 4) ?_
      exact g1
    · obtain ⟨x, hx⟩ := Option.ne_none_iff_exists'.mp c1
      have hx6 := sBsd_lt hc hx
      have hfx := hF64 x
      refine r_aload_n E dX4_nextOfWay_20 rfl ?_
      refine r_getf E cl_X4 9 (by decide) q1895 mdl_o rfl dX4_nextOfWay_21 ?_
      refine r_iload E dX4_nextOfWay_24 rfl ?_
      refine r_top (v' := .int (nI x)) (congrArg Value.int (by rw [hx]; rfl)) ?_
      refine r_iald E mdl_12 (by omega) (by omega) dX4_nextOfWay_26 ?_
      refine r_top (v' := .int (nI (F x))) (congrArg Value.int (congrFun hF _)) ?_
      refine r_ifN_le (tgt := 53) E dX4_nextOfWay_27 (by decide) (by omega) (fun c2 => ?_) (fun c2 => ?_)
      · have hs1 : sNxt F c 1 = _ := sNxt_0 (i := 0) hx (by omega)
        refine r_iload_n E dX4_nextOfWay_53 rfl ?_
        refine r_top (v' := .int (cI (sNxt F c 1))) (by rw [hs1]) ?_
        refine r_istore_n E [some (.ref m), some (.int (nI c)), some (.int (cI (sNxt F c 1))), some (.int (nI 3)), some (.int (cI (sBsd c 3)))] dX4_nextOfWay_54 rfl rfl ?_
        refine r_iinc E (nI 2) [some (.ref m), some (.int (nI c)), some (.int (cI (sNxt F c 1))), some (.int (nI 2)), some (.int (cI (sBsd c 3)))] dX4_nextOfWay_55 rfl (by decide) rfl rfl ?_
        refine r_goto (tgt := 4) E dX4_nextOfWay_58 (by decide) ?_
        refine fmW.few (L' := [some (.ref m), some (.int (nI c)), some (.int (cI (sNxt F c 1))), some (.int (nI 2)), none]) (fmFew_n (L := [some (.ref m), some (.int (nI c)), some (.int (cI (sNxt F c 1))), some (.int (nI 2)), some (.int (cI (sBsd c 3)))]) 4) ?_
        exact g1
      · refine r_aload_n E dX4_nextOfWay_30 rfl ?_
        refine r_getf E cl_X4 9 (by decide) q1895 mdl_o rfl dX4_nextOfWay_31 ?_
        refine r_iload E dX4_nextOfWay_34 rfl ?_
        refine r_top (v' := .int (nI x)) (congrArg Value.int (by rw [hx]; rfl)) ?_
        refine r_iald E mdl_12 (by omega) (by omega) dX4_nextOfWay_36 ?_
        refine r_top (v' := .int (nI (F x))) (congrArg Value.int (congrFun hF _)) ?_
        refine r_aload_n E dX4_nextOfWay_37 rfl ?_
        refine r_getf E cl_X4 9 (by decide) q1895 mdl_o rfl dX4_nextOfWay_38 ?_
        refine r_iload_n E dX4_nextOfWay_41 rfl ?_
        refine r_iald E mdl_12 (by omega) (by omega) dX4_nextOfWay_42 ?_
        refine r_top (v' := .int (nI (F c))) (congrArg Value.int (congrFun hF _)) ?_
        refine r_iconst E (nI 1) dX4_nextOfWay_43 (by decide) ?_
        refine r_isubN E dX4_nextOfWay_44 (by omega) ?_
        refine r_icmpN_ne (tgt := 53) E dX4_nextOfWay_45 (by decide) (by omega) (by omega) (fun c3 => ?_) (fun c3 => ?_)
        · have hs1 : sNxt F c 1 = _ := sNxt_0 (i := 0) hx (by omega)
          refine r_iload_n E dX4_nextOfWay_53 rfl ?_
          refine r_top (v' := .int (cI (sNxt F c 1))) (by rw [hs1]) ?_
          refine r_istore_n E [some (.ref m), some (.int (nI c)), some (.int (cI (sNxt F c 1))), some (.int (nI 3)), some (.int (cI (sBsd c 3)))] dX4_nextOfWay_54 rfl rfl ?_
          refine r_iinc E (nI 2) [some (.ref m), some (.int (nI c)), some (.int (cI (sNxt F c 1))), some (.int (nI 2)), some (.int (cI (sBsd c 3)))] dX4_nextOfWay_55 rfl (by decide) rfl rfl ?_
          refine r_goto (tgt := 4) E dX4_nextOfWay_58 (by decide) ?_
          refine fmW.few (L' := [some (.ref m), some (.int (nI c)), some (.int (cI (sNxt F c 1))), some (.int (nI 2)), none]) (fmFew_n (L := [some (.ref m), some (.int (nI c)), some (.int (cI (sNxt F c 1))), some (.int (nI 2)), some (.int (cI (sBsd c 3)))]) 4) ?_
          exact g1
        · have hs1 : sNxt F c 1 = _ := sNxt_1 (i := 0) hx (by omega)
          refine r_iload E dX4_nextOfWay_48 rfl ?_
          refine r_top (v' := .int (nI x)) (congrArg Value.int (by rw [hx]; rfl)) ?_
          refine r_goto (tgt := 54) E dX4_nextOfWay_50 (by decide) ?_
          refine r_top (v' := .int (cI (sNxt F c 1))) (by rw [hs1]; rfl) ?_
          refine r_istore_n E [some (.ref m), some (.int (nI c)), some (.int (cI (sNxt F c 1))), some (.int (nI 3)), some (.int (cI (sBsd c 3)))] dX4_nextOfWay_54 rfl rfl ?_
          refine r_iinc E (nI 2) [some (.ref m), some (.int (nI c)), some (.int (cI (sNxt F c 1))), some (.int (nI 2)), some (.int (cI (sBsd c 3)))] dX4_nextOfWay_55 rfl (by decide) rfl rfl ?_
          refine r_goto (tgt := 4) E dX4_nextOfWay_58 (by decide) ?_
          refine fmW.few (L' := [some (.ref m), some (.int (nI c)), some (.int (cI (sNxt F c 1))), some (.int (nI 2)), none]) (fmFew_n (L := [some (.ref m), some (.int (nI c)), some (.int (cI (sNxt F c 1))), some (.int (nI 2)), some (.int (cI (sBsd c 3)))]) 4) ?_
          exact g1
  refine r_iconst E (-1) dX4_nextOfWay_0 (by decide) ?_
  refine r_istore_n E [some (.ref m), some (.int (nI c)), some (.int (-1)), none, none] dX4_nextOfWay_1 rfl rfl ?_
  refine r_iconst E (nI 3) dX4_nextOfWay_2 (by decide) ?_
  refine r_istore_n E [some (.ref m), some (.int (nI c)), some (.int (-1)), some (.int (nI 3)), none] dX4_nextOfWay_3 rfl rfl ?_
  exact g0

