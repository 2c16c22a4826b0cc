set_option maxHeartbeats 4000000 in
theorem ct_X1_spread (G : fmG) (hl : (fmLn G).stackTraces = false) (h : fmHp) {x far qu pa sb : Nat} {fl re de : Int32} {sv : Value} {d g sl se pl pe : Nat} {gf sf pf : Nat → Nat} {N : Nat → Int32} {K pk : Nat} (hC : CC G h) (hx : DkO h x far qu d pa sb fl re de sv) (hM : MineAt G h d g sl se pl pe gf sf pf N K pk) (j : Nat) (w : Int64) (hj : j < 8) : Ct G yX1_spread (ws_ yX1_spread cX1_spread 10 (some .long)) { frames := 4, cells := 0, slots := 0, locals := 93 } [.ref x, .int (nI j), .long w] h (fun v h' => ∃ w', v = some (.long w') ∧ spr N j K w w' ∧ h' = h) fmNo := by
  refine Ct.of hl (by decide +kernel) (Nat.le_of_ble_eq_true rfl) (fun Γ E P => ?_)
  obtain ⟨hd, ⟨gq, hg, hgq⟩, hgd, hS, hSh, hP, hPk, hK8, hP6, hsp, hse⟩ := id hM
  obtain ⟨mcS, hsl⟩ := hS.o
  obtain ⟨mcP, hpl⟩ := hP.o
  refine r_lload_n E dX1_spread_0 rfl ?_
  refine r_lstore E [some (.ref x), some (.int (nI j)), some (.long w), none, some (.long w), none, none, none, none, none] dX1_spread_1 rfl rfl ?_
  refine r_iconst E (nI 0) dX1_spread_3 (by decide) ?_
  refine r_istore E [some (.ref x), some (.int (nI j)), some (.long w), none, some (.long w), none, some (.int (nI 0)), none, none, none] dX1_spread_4 rfl rfl ?_
  have lp : ∀ (n i : Nat) (m : Int64), i + n = 64 → (∀ c, c < 64 → lb m c = (lb w c || (decide (c < i) && (nearK w (sNext N c (nI j)) c 4 && sFree N c (nI j) K)))) → fmW G Γ h 0 0 6 [some (.ref x), some (.int (nI j)), some (.long w), none, some (.long m), none, some (.int (nI i)), none, none, none] [] := by
    intro n
    induction n with
    | zero =>
      intro i m hi hm
      refine r_iload E dX1_spread_6 rfl ?_
      refine r_bipush E (nI 64) dX1_spread_8 (by decide) ?_
      refine r_icmpN_ge (tgt := 113) E dX1_spread_10 (by decide) (by omega) (by omega) (fun c1 => ?_) (fun c1 => ?_)
      · refine r_lload E dX1_spread_113 rfl ?_
        exact r_lreturn E P rfl dX1_spread_115 ⟨m, rfl, fun c hc => by rw [hm c hc, decide_eq_true (by omega), Bool.true_and], rfl⟩
      · exfalso; omega
    | succ n ih =>
      intro i m hi hm
      refine r_iload E dX1_spread_6 rfl ?_
      refine r_bipush E (nI 64) dX1_spread_8 (by decide) ?_
      refine r_icmpN_ge (tgt := 113) E dX1_spread_10 (by decide) (by omega) (by omega) (fun c1 => ?_) (fun c1 => ?_)
      · exfalso; omega
      · refine r_aload_n E dX1_spread_13 rfl ?_
        refine r_getf E cl_X1 2 (by decide) q272 hx rfl dX1_spread_14 ?_
        refine r_iload E dX1_spread_17 rfl ?_
        refine r_iload_n E dX1_spread_19 rfl ?_
        refine r_callV1 (v1 := .int (bI (sNext N i (nI j)))) E (ct_X2_isNextTo G hl (h) hC hM i (nI j) (by omega)) mX2_isNextTo q1227 q796 q797 (fun H a1 => fm_rc (ci := 2) (C := RX2) (T := TX2) (N := 7) a1 rfl E.v hd) rfl rfl (Nat.le_of_ble_eq_true rfl) (Nat.le_of_ble_eq_true rfl) (Nat.le_of_ble_eq_true rfl) dX1_spread_20 0 0 (Nat.le_of_ble_eq_true rfl) (Nat.le_of_ble_eq_true rfl) ?_
        refine r_istore E [some (.ref x), some (.int (nI j)), some (.long w), none, some (.long m), none, some (.int (nI i)), some (.int (bI (sNext N i (nI j)))), none, none] dX1_spread_23 rfl rfl ?_
        refine r_iconst E (nI 0) dX1_spread_25 (by decide) ?_
        refine r_istore E [some (.ref x), some (.int (nI j)), some (.long w), none, some (.long m), none, some (.int (nI i)), some (.int (bI (sNext N i (nI j)))), some (.int (nI 0)), none] dX1_spread_26 rfl rfl ?_
        have hi6 : i < 64 := by omega
        show fmW G Γ _ _ _ _ [some (.ref x), some (.int (nI j)), some (.long w), none, some (.long m), none, some (.int (nI i)), some (.int (bI (nearK w (sNext N i (nI j)) i 0))), some (.int (nI 0)), none] []
        have lp2 : ∀ (n2 i2 : Nat), i2 + n2 = 4 → fmW G Γ (h) 0 0 28 [some (.ref x), some (.int (nI j)), some (.long w), none, some (.long m), none, some (.int (nI i)), some (.int (bI (nearK w (sNext N i (nI j)) i i2))), some (.int (nI i2)), none] [] := by
          intro n2
          induction n2 with
          | zero =>
            intro i2 hi2
            refine r_iload E dX1_spread_28 rfl ?_
            refine r_iconst E (nI 4) dX1_spread_30 (by decide) ?_
            refine r_icmpN_ge (tgt := 76) E dX1_spread_31 (by decide) (by omega) (by omega) (fun c3 => ?_) (fun c3 => ?_)
            · have h4 : i2 = 4 := by omega
              refine r_lload E dX1_spread_76 rfl ?_
              refine r_iload E dX1_spread_78 rfl ?_
              refine r_top (v' := .int (bI (nearK w (sNext N i (nI j)) i 4))) (by rw [h4]) ?_
              refine r_ifB_eq (b := nearK w (sNext N i (nI j)) i 4) (tgt := 103) E dX1_spread_80 (by decide) (fun c4 => ?_) (fun c4 => ?_)
              · have hno : (nearK w (sNext N i (nI j)) i 4 && sFree N i (nI j) K) = false := by rw [c4, Bool.false_and]
                refine r_lconst E 0 dX1_spread_103 rfl ?_
                refine r_lor E dX1_spread_104 ?_
                refine r_lstore E [some (.ref x), some (.int (nI j)), some (.long w), none, some (.long (m ||| 0)), none, some (.int (nI i)), some (.int (bI (nearK w (sNext N i (nI j)) i i2))), some (.int (nI i2)), none] dX1_spread_105 rfl rfl ?_
                refine r_iinc E (nI (i + 1)) [some (.ref x), some (.int (nI j)), some (.long w), none, some (.long (m ||| 0)), none, some (.int (nI (i + 1))), some (.int (bI (nearK w (sNext N i (nI j)) i i2))), some (.int (nI i2)), none] dX1_spread_107 rfl (nI_1 i) rfl rfl ?_
                refine r_goto (tgt := 6) E dX1_spread_110 (by decide) ?_
                refine fmW.few (L' := [some (.ref x), some (.int (nI j)), some (.long w), none, some (.long (m ||| 0)), none, some (.int (nI (i + 1))), none, some (.int (nI i2)), none]) (fmFew_n (L := [some (.ref x), some (.int (nI j)), some (.long w), none, some (.long (m ||| 0)), none, some (.int (nI (i + 1))), some (.int (bI (nearK w (sNext N i (nI j)) i i2))), some (.int (nI i2)), none]) 7) ?_
                refine fmW.few (L' := [some (.ref x), some (.int (nI j)), some (.long w), none, some (.long (m ||| 0)), none, some (.int (nI (i + 1))), none, none, none]) (fmFew_n (L := [some (.ref x), some (.int (nI j)), some (.long w), none, some (.long (m ||| 0)), none, some (.int (nI (i + 1))), none, some (.int (nI i2)), none]) 8) ?_
                exact ih (i + 1) _ (by omega) (fun c hc => by
                  rw [lb_or, lb_0, Bool.or_false, hm c hc]; by_cases q : c = i
                  · subst q; rw [hno, Bool.and_false, Bool.and_false]
                  · rw [show decide (c < i + 1) = decide (c < i) from decide_eq_decide.mpr (by omega)])
              · refine r_aload_n E dX1_spread_83 rfl ?_
                refine r_getf E cl_X1 2 (by decide) q272 hx rfl dX1_spread_84 ?_
                refine r_iload E dX1_spread_87 rfl ?_
                refine r_iload_n E dX1_spread_89 rfl ?_
                refine r_callV1 (v1 := .int (bI (sFree N i (nI j) K))) E (ct_X2_isPassable G hl (h) hC hM i (nI j) (by omega)) mX2_isPassable q1223 q1224 q1225 (fun H a1 => fm_rc (ci := 2) (C := RX2) (T := TX2) (N := 7) a1 rfl E.v hd) rfl rfl (Nat.le_of_ble_eq_true rfl) (Nat.le_of_ble_eq_true rfl) (Nat.le_of_ble_eq_true rfl) dX1_spread_90 0 0 (Nat.le_of_ble_eq_true rfl) (Nat.le_of_ble_eq_true rfl) ?_
                refine r_ifB_eq (b := sFree N i (nI j) K) (tgt := 103) E dX1_spread_93 (by decide) (fun c5 => ?_) (fun c5 => ?_)
                · have hno : (nearK w (sNext N i (nI j)) i 4 && sFree N i (nI j) K) = false := by rw [c5, Bool.and_false]
                  refine r_lconst E 0 dX1_spread_103 rfl ?_
                  refine r_lor E dX1_spread_104 ?_
                  refine r_lstore E [some (.ref x), some (.int (nI j)), some (.long w), none, some (.long (m ||| 0)), none, some (.int (nI i)), some (.int (bI (nearK w (sNext N i (nI j)) i i2))), some (.int (nI i2)), none] dX1_spread_105 rfl rfl ?_
                  refine r_iinc E (nI (i + 1)) [some (.ref x), some (.int (nI j)), some (.long w), none, some (.long (m ||| 0)), none, some (.int (nI (i + 1))), some (.int (bI (nearK w (sNext N i (nI j)) i i2))), some (.int (nI i2)), none] dX1_spread_107 rfl (nI_1 i) rfl rfl ?_
                  refine r_goto (tgt := 6) E dX1_spread_110 (by decide) ?_
                  refine fmW.few (L' := [some (.ref x), some (.int (nI j)), some (.long w), none, some (.long (m ||| 0)), none, some (.int (nI (i + 1))), none, some (.int (nI i2)), none]) (fmFew_n (L := [some (.ref x), some (.int (nI j)), some (.long w), none, some (.long (m ||| 0)), none, some (.int (nI (i + 1))), some (.int (bI (nearK w (sNext N i (nI j)) i i2))), some (.int (nI i2)), none]) 7) ?_
                  refine fmW.few (L' := [some (.ref x), some (.int (nI j)), some (.long w), none, some (.long (m ||| 0)), none, some (.int (nI (i + 1))), none, none, none]) (fmFew_n (L := [some (.ref x), some (.int (nI j)), some (.long w), none, some (.long (m ||| 0)), none, some (.int (nI (i + 1))), none, some (.int (nI i2)), none]) 8) ?_
                  exact ih (i + 1) _ (by omega) (fun c hc => by
                    rw [lb_or, lb_0, Bool.or_false, hm c hc]; by_cases q : c = i
                    · subst q; rw [hno, Bool.and_false, Bool.and_false]
                    · rw [show decide (c < i + 1) = decide (c < i) from decide_eq_decide.mpr (by omega)])
                · have hyes : (nearK w (sNext N i (nI j)) i 4 && sFree N i (nI j) K) = true := by rw [c4, c5]; rfl
                  refine r_lconst E 1 dX1_spread_96 rfl ?_
                  refine r_iload E dX1_spread_97 rfl ?_
                  refine r_lshl E dX1_spread_99 ?_
                  refine r_goto (tgt := 104) E dX1_spread_100 (by decide) ?_
                  refine r_lor E dX1_spread_104 ?_
                  refine r_lstore E [some (.ref x), some (.int (nI j)), some (.long w), none, some (.long (m ||| (1 <<< ((nI i).toInt64 &&& 63)))), none, some (.int (nI i)), some (.int (bI (nearK w (sNext N i (nI j)) i i2))), some (.int (nI i2)), none] dX1_spread_105 rfl rfl ?_
                  refine r_iinc E (nI (i + 1)) [some (.ref x), some (.int (nI j)), some (.long w), none, some (.long (m ||| (1 <<< ((nI i).toInt64 &&& 63)))), none, some (.int (nI (i + 1))), some (.int (bI (nearK w (sNext N i (nI j)) i i2))), some (.int (nI i2)), none] dX1_spread_107 rfl (nI_1 i) rfl rfl ?_
                  refine r_goto (tgt := 6) E dX1_spread_110 (by decide) ?_
                  refine fmW.few (L' := [some (.ref x), some (.int (nI j)), some (.long w), none, some (.long (m ||| (1 <<< ((nI i).toInt64 &&& 63)))), none, some (.int (nI (i + 1))), none, some (.int (nI i2)), none]) (fmFew_n (L := [some (.ref x), some (.int (nI j)), some (.long w), none, some (.long (m ||| (1 <<< ((nI i).toInt64 &&& 63)))), none, some (.int (nI (i + 1))), some (.int (bI (nearK w (sNext N i (nI j)) i i2))), some (.int (nI i2)), none]) 7) ?_
                  refine fmW.few (L' := [some (.ref x), some (.int (nI j)), some (.long w), none, some (.long (m ||| (1 <<< ((nI i).toInt64 &&& 63)))), none, some (.int (nI (i + 1))), none, none, none]) (fmFew_n (L := [some (.ref x), some (.int (nI j)), some (.long w), none, some (.long (m ||| (1 <<< ((nI i).toInt64 &&& 63)))), none, some (.int (nI (i + 1))), none, some (.int (nI i2)), none]) 8) ?_
                  exact ih (i + 1) _ (by omega) (fun c hc => by
                    rw [lb_or, lb_shl1 hi6 hc, hm c hc]; by_cases q : c = i
                    · subst q; rw [hyes, decide_eq_true rfl, decide_eq_true (Nat.lt_succ_self c), Bool.or_true, Bool.and_true, Bool.or_true]
                    · rw [decide_eq_false q, Bool.or_false, show decide (c < i + 1) = decide (c < i) from decide_eq_decide.mpr (by omega)])
            · exfalso; omega
          | succ n2 ih =>
            intro i2 hi2
            refine r_iload E dX1_spread_28 rfl ?_
            refine r_iconst E (nI 4) dX1_spread_30 (by decide) ?_
            refine r_icmpN_ge (tgt := 76) E dX1_spread_31 (by decide) (by omega) (by omega) (fun c6 => ?_) (fun c6 => ?_)
            · exfalso; omega
            · refine r_iload E dX1_spread_34 rfl ?_
              refine r_iload E dX1_spread_36 rfl ?_
              refine r_callS1 (v1 := .int (cI (sBsd i i2))) E (ct_X1_beside G hl (h) hC i i2 (by omega) (by omega)) mX1_beside q78 q1155 q337 rfl rfl (Nat.le_of_ble_eq_true rfl) (Nat.le_of_ble_eq_true rfl) (Nat.le_of_ble_eq_true rfl) dX1_spread_38 0 0 (Nat.le_of_ble_eq_true rfl) (Nat.le_of_ble_eq_true rfl) ?_
              refine r_istore E [some (.ref x), some (.int (nI j)), some (.long w), none, some (.long m), none, some (.int (nI i)), some (.int (bI (nearK w (sNext N i (nI j)) i i2))), some (.int (nI i2)), some (.int (cI (sBsd i i2)))] dX1_spread_41 rfl rfl ?_
              refine r_iload E dX1_spread_43 rfl ?_
              refine r_iload E dX1_spread_45 rfl ?_
              refine r_iconst E (-1) dX1_spread_47 (by decide) ?_
              refine r_icmpC_eq (tgt := 66) E dX1_spread_48 (by decide) (fun x hx => Nat.lt_trans (sBsd_lt hi6 hx) (by decide)) (fun c7 => ?_) (fun c7 => ?_)
              · refine r_iconst E (nI 0) dX1_spread_66 (by decide) ?_
                refine r_top (v' := .int (bI false)) rfl ?_
                refine r_iorB (a := nearK w (sNext N i (nI j)) i i2) (b := false) E dX1_spread_67 ?_
                refine r_top (v' := .int (bI (nearK w (sNext N i (nI j)) i (i2 + 1)))) (congrArg (fun z => Value.int (bI z)) ((nearK_n c7).symm)) ?_
                refine r_istore E [some (.ref x), some (.int (nI j)), some (.long w), none, some (.long m), none, some (.int (nI i)), some (.int (bI (nearK w (sNext N i (nI j)) i (i2 + 1)))), some (.int (nI i2)), some (.int (cI (sBsd i i2)))] dX1_spread_68 rfl rfl ?_
                refine r_iinc E (nI (i2 + 1)) [some (.ref x), some (.int (nI j)), some (.long w), none, some (.long m), none, some (.int (nI i)), some (.int (bI (nearK w (sNext N i (nI j)) i (i2 + 1)))), some (.int (nI (i2 + 1))), some (.int (cI (sBsd i i2)))] dX1_spread_70 rfl (nI_1 i2) rfl rfl ?_
                refine r_goto (tgt := 28) E dX1_spread_73 (by decide) ?_
                refine fmW.few (L' := [some (.ref x), some (.int (nI j)), some (.long w), none, some (.long m), none, some (.int (nI i)), some (.int (bI (nearK w (sNext N i (nI j)) i (i2 + 1)))), some (.int (nI (i2 + 1))), none]) (fmFew_n (L := [some (.ref x), some (.int (nI j)), some (.long w), none, some (.long m), none, some (.int (nI i)), some (.int (bI (nearK w (sNext N i (nI j)) i (i2 + 1)))), some (.int (nI (i2 + 1))), some (.int (cI (sBsd i i2)))]) 9) ?_
                exact ih (i2 + 1) (by omega)
              · obtain ⟨y9, hy9⟩ := Option.ne_none_iff_exists'.mp c7
                have hy6 := sBsd_lt hi6 hy9
                refine r_lload_n E dX1_spread_51 rfl ?_
                refine r_iload E dX1_spread_52 rfl ?_
                refine r_top (v' := .int (nI y9)) (congrArg Value.int (by rw [hy9]; rfl)) ?_
                refine r_lshr E dX1_spread_54 ?_
                refine r_lconst E 1 dX1_spread_55 rfl ?_
                refine r_land E dX1_spread_56 ?_
                refine r_lconst E 1 dX1_spread_57 rfl ?_
                refine r_lcmp E dX1_spread_58 ?_
                refine r_if_ne (tgt := 66) E dX1_spread_59 (by decide) (fun cz => ?_) (fun cz => ?_)
                · have cq := fun q => cz (lcmp_0.mpr q)
                  refine r_iconst E (nI 0) dX1_spread_66 (by decide) ?_
                  refine r_top (v' := .int (bI false)) rfl ?_
                  refine r_iorB (a := nearK w (sNext N i (nI j)) i i2) (b := false) E dX1_spread_67 ?_
                  refine r_top (v' := .int (bI (nearK w (sNext N i (nI j)) i (i2 + 1)))) (congrArg (fun z => Value.int (bI z)) (by rw [nearK_s hy9, Bool.eq_false_iff.mpr (fun q => cq ((lb_is1 hy6).mpr q))])) ?_
                  refine r_istore E [some (.ref x), some (.int (nI j)), some (.long w), none, some (.long m), none, some (.int (nI i)), some (.int (bI (nearK w (sNext N i (nI j)) i (i2 + 1)))), some (.int (nI i2)), some (.int (cI (sBsd i i2)))] dX1_spread_68 rfl rfl ?_
                  refine r_iinc E (nI (i2 + 1)) [some (.ref x), some (.int (nI j)), some (.long w), none, some (.long m), none, some (.int (nI i)), some (.int (bI (nearK w (sNext N i (nI j)) i (i2 + 1)))), some (.int (nI (i2 + 1))), some (.int (cI (sBsd i i2)))] dX1_spread_70 rfl (nI_1 i2) rfl rfl ?_
                  refine r_goto (tgt := 28) E dX1_spread_73 (by decide) ?_
                  refine fmW.few (L' := [some (.ref x), some (.int (nI j)), some (.long w), none, some (.long m), none, some (.int (nI i)), some (.int (bI (nearK w (sNext N i (nI j)) i (i2 + 1)))), some (.int (nI (i2 + 1))), none]) (fmFew_n (L := [some (.ref x), some (.int (nI j)), some (.long w), none, some (.long m), none, some (.int (nI i)), some (.int (bI (nearK w (sNext N i (nI j)) i (i2 + 1)))), some (.int (nI (i2 + 1))), some (.int (cI (sBsd i i2)))]) 9) ?_
                  exact ih (i2 + 1) (by omega)
                · have cq := lcmp_0.mp cz
                  refine r_iconst E (nI 1) dX1_spread_62 (by decide) ?_
                  refine r_goto (tgt := 67) E dX1_spread_63 (by decide) ?_
                  refine r_top (v' := .int (bI true)) rfl ?_
                  refine r_iorB (a := nearK w (sNext N i (nI j)) i i2) (b := true) E dX1_spread_67 ?_
                  refine r_top (v' := .int (bI (nearK w (sNext N i (nI j)) i (i2 + 1)))) (congrArg (fun z => Value.int (bI z)) (by rw [nearK_s hy9, (lb_is1 hy6).mp cq])) ?_
                  refine r_istore E [some (.ref x), some (.int (nI j)), some (.long w), none, some (.long m), none, some (.int (nI i)), some (.int (bI (nearK w (sNext N i (nI j)) i (i2 + 1)))), some (.int (nI i2)), some (.int (cI (sBsd i i2)))] dX1_spread_68 rfl rfl ?_
                  refine r_iinc E (nI (i2 + 1)) [some (.ref x), some (.int (nI j)), some (.long w), none, some (.long m), none, some (.int (nI i)), some (.int (bI (nearK w (sNext N i (nI j)) i (i2 + 1)))), some (.int (nI (i2 + 1))), some (.int (cI (sBsd i i2)))] dX1_spread_70 rfl (nI_1 i2) rfl rfl ?_
                  refine r_goto (tgt := 28) E dX1_spread_73 (by decide) ?_
                  refine fmW.few (L' := [some (.ref x), some (.int (nI j)), some (.long w), none, some (.long m), none, some (.int (nI i)), some (.int (bI (nearK w (sNext N i (nI j)) i (i2 + 1)))), some (.int (nI (i2 + 1))), none]) (fmFew_n (L := [some (.ref x), some (.int (nI j)), some (.long w), none, some (.long m), none, some (.int (nI i)), some (.int (bI (nearK w (sNext N i (nI j)) i (i2 + 1)))), some (.int (nI (i2 + 1))), some (.int (cI (sBsd i i2)))]) 9) ?_
                  exact ih (i2 + 1) (by omega)
        exact lp2 4 0 (by omega)
  exact lp 64 0 w rfl (fun c hc => by rw [decide_eq_false (Nat.not_lt_zero c), Bool.false_and, Bool.or_false])

set_option maxHeartbeats 4000000 in
theorem ct_X1_wayAgain (G : fmG) (hl : (fmLn G).stackTraces = false) (h : fmHp) {x far qu pa sb : Nat} {fl re de : Int32} {sv : Value} {d g sl se pl pe : Nat} {gf sf pf : Nat → Nat} {N : Nat → Int32} {K pk : Nat} (hC : CC G h) (hx : DkO h x far qu d pa sb fl re de sv) (hM : MineAt G h d g sl se pl pe gf sf pf N K pk) (hR : RV N K pk) (s v : Int32) : Ct G yX1_wayAgain (ws_ yX1_wayAgain cX1_wayAgain 10 (some .int)) { frames := 8, cells := 2, slots := 8, locals := 144 } [.ref x, .int s, .int v] h (qPost h (aWay N s v K)) (qXp h (exQ "java/lang/IndexOutOfBoundsException" "java/util/NoSuchElementException") (aWay N s v K)) := by
  refine Ct.of hl (by decide +kernel) (Nat.le_of_ble_eq_true rfl) (fun Γ E P => ?_)
  obtain ⟨hd, ⟨gq, hg, hgq⟩, hgd, hS, hSh, hP, hPk, hK8, hP6, hsp, hse⟩ := id hM
  obtain ⟨mcS, hsl⟩ := hS.o
  obtain ⟨mcP, hpl⟩ := hP.o
  refine r_aload_n E dX1_wayAgain_0 rfl ?_
  refine r_getf E cl_X1 2 (by decide) q272 hx rfl dX1_wayAgain_1 ?_
  refine r_iload_n E dX1_wayAgain_4 rfl ?_
  cases hs : sBetween s (nI 0) (nI K - nI 1) with
  | false =>
    refine r_callV E (ctF_X2_shaft G hl h hC hM s hs) mX2_shaft q1208 q909 q910 (fun H a1 => fm_rc (ci := 2) (C := RX2) (T := TX2) (N := 7) a1 rfl E.v hd) rfl rfl (Nat.le_of_ble_eq_true rfl) (Nat.le_of_ble_eq_true rfl) (Nat.le_of_ble_eq_true rfl) dX1_wayAgain_5 0 0 (Nat.le_of_ble_eq_true rfl) (Nat.le_of_ble_eq_true rfl) (fun _ _ q => q.elim) (fun q Ex h' hx => ?_)
    exact r_xout E P (fun x hx => by cases hx) (qX_thr (k := 1) Kp.refl (aG_t (by rw [hs]; rfl)) (by decide) rfl hx)
  | true =>
    obtain ⟨j, hj, rfl⟩ := sShaft_of (by omega) hs
    have hjn : cN (nI j) = j := cN_n (by omega)
    obtain ⟨cl, hcl, hso⟩ := hSh j hj
    refine r_callV1 (v1 := .ref (sf j)) E (ctT_X2_shaft G hl h hC hM j hj) mX2_shaft q1208 q909 q910 (fun H a1 => fm_rc (ci := 2) (C := RX2) (T := TX2) (N := 7) a1 rfl E.v hd) rfl rfl (Nat.le_of_ble_eq_true rfl) (Nat.le_of_ble_eq_true rfl) (Nat.le_of_ble_eq_true rfl) dX1_wayAgain_5 2 8 (Nat.le_of_ble_eq_true rfl) (Nat.le_of_ble_eq_true rfl) ?_
    refine r_astore_n E [some (.ref x), some (.int (nI j)), some (.int v), some (.ref (sf j)), none, none, none, none, none, none] dX1_wayAgain_8 rfl rfl ?_
    refine r_iconst E (nI 1) dX1_wayAgain_9 (by decide) ?_
    refine r_newa E 0 (.inl (fun _ => 0)) rfl (z_ai 1) q236 (fun e => e) (Nat.le_of_ble_eq_true rfl) (Nat.le_of_ble_eq_true rfl) 1 7 (Nat.le_of_ble_eq_true rfl) (Nat.le_of_ble_eq_true rfl) dX1_wayAgain_10 (fun b1 hb1 kb1 => ?_)
    refine r_dup E dX1_wayAgain_12 rfl ?_
    refine r_iconst E (nI 0) dX1_wayAgain_13 (by decide) ?_
    refine r_iload_n E dX1_wayAgain_14 rfl ?_
    refine r_iast E fmUp_s (by decide) (by decide) dX1_wayAgain_15 ?_
    refine r_hp (h' := fmUp h b1 (true, .inl (0, 1, .inl (upd (fun _ => 0) 0 v)))) (fmUp_uu _ _ _ _) ?_
    cases hv : sBetween v (nI 0) (nI 63) with
    | false =>
      refine r_callS E (ctF_X1_cellOf G hl _ b1 true _ fmUp_s (by rw [upd_eq' rfl]; exact hv)) mX1_cellOf q78 q625 q626 rfl rfl (Nat.le_of_ble_eq_true rfl) (Nat.le_of_ble_eq_true rfl) (Nat.le_of_ble_eq_true rfl) dX1_wayAgain_16 0 0 (Nat.le_of_ble_eq_true rfl) (Nat.le_of_ble_eq_true rfl) (fun _ _ q => q.elim) (fun q Ex h' hx => ?_)
      exact r_xout E P (fun x hx => by cases hx) (qX_thr (k := 1) (Kp.up hb1) (aG_t (by rw [hs, hv]; rfl)) (by decide) rfl hx)
    | true =>
      obtain ⟨c, hc0, rfl⟩ := sBtw_of (by decide) hv
      have hc : c < 64 := by omega
      have hcn : cN (nI c) = c := cN_n (by omega)
      refine r_callS1 (v1 := .int (nI c)) E (ctT_X1_cellOf G hl (fmUp h b1 (true, .inl (0, 1, .inl (upd (fun _ => 0) 0 (nI c))))) b1 true (upd (fun _ => 0) 0 (nI c)) fmUp_s c hc (upd_eq' rfl)) mX1_cellOf q78 q625 q626 rfl rfl (Nat.le_of_ble_eq_true rfl) (Nat.le_of_ble_eq_true rfl) (Nat.le_of_ble_eq_true rfl) dX1_wayAgain_16 1 7 (Nat.le_of_ble_eq_true rfl) (Nat.le_of_ble_eq_true rfl) ?_
      have hkp : Kp h (fmUp h b1 (true, .inl (0, 1, .inl (upd (fun _ => 0) 0 (nI c))))) := Kp.up hb1
      have hso2 := hkp _ _ hso
      have hM2 := hM.kp hkp
      have hC2 := hC.kp hkp
      obtain ⟨hd2, ⟨gq2, hg2, hgq2⟩, hgd2, hS2, hSh2, hP2, hPk2, hK82, hP62, hsp2, hse2⟩ := id hM2
      obtain ⟨mcS2, hsl2⟩ := hS2.o
      obtain ⟨mcP2, hpl2⟩ := hP2.o
      obtain ⟨feS2, capS2, geS2, hseA2⟩ := hS2.el
      obtain ⟨feP2, capP2, geP2, hpeA2⟩ := hP2.el
      refine r_istore E [some (.ref x), some (.int (nI j)), some (.int (nI c)), some (.ref (sf j)), some (.int (nI c)), none, none, none, none, none] dX1_wayAgain_19 rfl rfl ?_
      refine r_aload_n E dX1_wayAgain_21 rfl ?_
      refine r_getfN E cl_X7 2 (by decide) q892 hso2 rfl dX1_wayAgain_22 ?_
      refine r_ifB_ne (b := cl) (tgt := 32) E dX1_wayAgain_25 (by decide) (fun c2 => ?_) (fun c2 => ?_)
      · refine r_iconst E (nI 0) dX1_wayAgain_32 (by decide) ?_
        refine r_top (v' := .int (bI false)) rfl ?_
        refine r_callS E (ctF_X1_requireElement G hl _) mX1_requireElement q78 q1273 q1274 rfl rfl (Nat.le_of_ble_eq_true rfl) (Nat.le_of_ble_eq_true rfl) (Nat.le_of_ble_eq_true rfl) dX1_wayAgain_33 0 0 (Nat.le_of_ble_eq_true rfl) (Nat.le_of_ble_eq_true rfl) (fun _ _ q => q.elim) (fun q Ex h' hx => ?_)
        exact r_xout E P (fun x hx => by cases hx) (qX_thr (k := 2) hkp (aWayG_none hs hv hjn hcn ((reached_closed (by rw [hcl, c2]; decide)).2 c)) (by decide) rfl hx)
      · have ho : N (328 + j) = nI 0 := by rw [hcl, c2]; rfl
        refine r_iconst E (nI 1) dX1_wayAgain_28 (by decide) ?_
        refine r_goto (tgt := 33) E dX1_wayAgain_29 (by decide) ?_
        refine r_top (v' := .int (bI true)) rfl ?_
        refine r_callS0 E (ctT_X1_requireElement G hl _) mX1_requireElement q78 q1273 q1274 rfl rfl (Nat.le_of_ble_eq_true rfl) (Nat.le_of_ble_eq_true rfl) (Nat.le_of_ble_eq_true rfl) dX1_wayAgain_33 1 7 (Nat.le_of_ble_eq_true rfl) (Nat.le_of_ble_eq_true rfl) ?_
        refine r_lconst E 0 dX1_wayAgain_36 rfl ?_
        refine r_lstore E [some (.ref x), some (.int (nI j)), some (.int (nI c)), some (.ref (sf j)), some (.int (nI c)), some (.long 0), none, none, none, none] dX1_wayAgain_37 rfl rfl ?_
        refine r_iconst E (nI 0) dX1_wayAgain_39 (by decide) ?_
        refine r_istore E [some (.ref x), some (.int (nI j)), some (.int (nI c)), some (.ref (sf j)), some (.int (nI c)), some (.long 0), none, some (.int (nI 0)), none, none] dX1_wayAgain_40 rfl rfl ?_
        have lp : ∀ (n k : Nat) (w : Int64), 64 ≤ sCount (fun c => lb w c) 64 + n → lyB N j K k w → (∀ i, i < k → ¬ lay (lyP N j K) (lyS N j) i c) → fmW G Γ (fmUp h b1 (true, .inl (0, 1, .inl (upd (fun _ => 0) 0 (nI c))))) 1 7 42 [some (.ref x), some (.int (nI j)), some (.int (nI c)), some (.ref (sf j)), some (.int (nI c)), some (.long w), none, some (.int (nI k)), none, none] [] := by
          intro n
          induction n with
          | zero =>
            intro k w hn hly hbf
            refine r_lload E dX1_wayAgain_42 rfl ?_
            refine r_iload E dX1_wayAgain_44 rfl ?_
            refine r_lshr E dX1_wayAgain_46 ?_
            refine r_lconst E 1 dX1_wayAgain_47 rfl ?_
            refine r_land E dX1_wayAgain_48 ?_
            refine r_lconst E 0 dX1_wayAgain_49 rfl ?_
            refine r_lcmp E dX1_wayAgain_50 ?_
            refine r_if_ne (tgt := 89) E dX1_wayAgain_51 (by decide) (fun cz => ?_) (fun cz => ?_)
            · have cq := fun q => cz (lcmp_0.mpr q)
              have hbc : lb w c = true := Classical.byContradiction fun z => cq ((lb_is0 hc).mpr (Bool.eq_false_iff.mpr z))
              obtain ⟨x9, hx9, hF9⟩ := ly_some hc ho hly hbc hbf
              refine r_iload E dX1_wayAgain_89 rfl ?_
              exact r_ireturn E P rfl dX1_wayAgain_91 (qP_don ((aWayG_some hs hv hjn hcn hx9).trans (by rw [hjn, hcn, hF9])) hkp)
            · have cq := lcmp_0.mp cz
              have z := (lb_is0 hc).mp cq; rw [lb_full hc (by omega)] at z; cases z
          | succ n ih =>
            intro k w hn hly hbf
            refine r_lload E dX1_wayAgain_42 rfl ?_
            refine r_iload E dX1_wayAgain_44 rfl ?_
            refine r_lshr E dX1_wayAgain_46 ?_
            refine r_lconst E 1 dX1_wayAgain_47 rfl ?_
            refine r_land E dX1_wayAgain_48 ?_
            refine r_lconst E 0 dX1_wayAgain_49 rfl ?_
            refine r_lcmp E dX1_wayAgain_50 ?_
            refine r_if_ne (tgt := 89) E dX1_wayAgain_51 (by decide) (fun cz => ?_) (fun cz => ?_)
            · have cq := fun q => cz (lcmp_0.mpr q)
              have hbc : lb w c = true := Classical.byContradiction fun z => cq ((lb_is0 hc).mpr (Bool.eq_false_iff.mpr z))
              obtain ⟨x9, hx9, hF9⟩ := ly_some hc ho hly hbc hbf
              refine r_iload E dX1_wayAgain_89 rfl ?_
              exact r_ireturn E P rfl dX1_wayAgain_91 (qP_don ((aWayG_some hs hv hjn hcn hx9).trans (by rw [hjn, hcn, hF9])) hkp)
            · have cq := lcmp_0.mp cz
              have hbc : lb w c = false := (lb_is0 hc).mp cq
              refine r_aload_n E dX1_wayAgain_54 rfl ?_
              refine r_iload_n E dX1_wayAgain_55 rfl ?_
              refine r_lload E dX1_wayAgain_56 rfl ?_
              refine r_callV E (ct_X1_spread G hl _ hC2 (hkp _ _ hx) hM2 j w (by omega)) mX1_spread q1296 q1298 qs23 (fun H a1 => fm_rc (ci := 1) (C := RX1) (T := TX1) (N := 9) a1 rfl E.v (hkp _ _ hx)) rfl rfl (Nat.le_of_ble_eq_true rfl) (Nat.le_of_ble_eq_true rfl) (Nat.le_of_ble_eq_true rfl) dX1_wayAgain_58 1 7 (Nat.le_of_ble_eq_true rfl) (Nat.le_of_ble_eq_true rfl) (fun v' h1 q => ?_) (fun _ _ _ q => q.elim)
              obtain ⟨w', rfl, hsp, rfl⟩ := q
              refine r_lstore E [some (.ref x), some (.int (nI j)), some (.int (nI c)), some (.ref (sf j)), some (.int (nI c)), some (.long w), none, some (.int (nI k)), some (.long w'), none] dX1_wayAgain_61 rfl rfl ?_
              refine r_lload E dX1_wayAgain_63 rfl ?_
              refine r_lload E dX1_wayAgain_65 rfl ?_
              refine r_lcmp E dX1_wayAgain_67 ?_
              refine r_if_eq (tgt := 75) E dX1_wayAgain_68 (by decide) (fun cz => ?_) (fun cz => ?_)
              · have cq := lcmp_0.mp cz
                have cw : w' = w := cq
                rw [cw] at hsp
                refine r_iconst E (nI 0) dX1_wayAgain_75 (by decide) ?_
                refine r_top (v' := .int (bI false)) rfl ?_
                refine r_callS E (ctF_X1_requireElement G hl _) mX1_requireElement q78 q1273 q1274 rfl rfl (Nat.le_of_ble_eq_true rfl) (Nat.le_of_ble_eq_true rfl) (Nat.le_of_ble_eq_true rfl) dX1_wayAgain_76 0 0 (Nat.le_of_ble_eq_true rfl) (Nat.le_of_ble_eq_true rfl) (fun _ _ q => q.elim) (fun q Ex h' hx => ?_)
                exact r_xout E P (fun x hx => by cases hx) (qX_thr (k := 2) hkp (aWayG_none hs hv hjn hcn (ly_none hc ho hly hsp hbc)) (by decide) rfl hx)
              · have cq := fun q => cz (lcmp_0.mpr q)
                refine r_iconst E (nI 1) dX1_wayAgain_71 (by decide) ?_
                refine r_goto (tgt := 76) E dX1_wayAgain_72 (by decide) ?_
                refine r_top (v' := .int (bI true)) rfl ?_
                refine r_callS0 E (ctT_X1_requireElement G hl _) mX1_requireElement q78 q1273 q1274 rfl rfl (Nat.le_of_ble_eq_true rfl) (Nat.le_of_ble_eq_true rfl) (Nat.le_of_ble_eq_true rfl) dX1_wayAgain_76 1 7 (Nat.le_of_ble_eq_true rfl) (Nat.le_of_ble_eq_true rfl) ?_
                refine r_lload E dX1_wayAgain_79 rfl ?_
                refine r_lstore E [some (.ref x), some (.int (nI j)), some (.int (nI c)), some (.ref (sf j)), some (.int (nI c)), some (.long w'), none, some (.int (nI k)), some (.long w'), none] dX1_wayAgain_81 rfl rfl ?_
                refine r_iinc E (nI (k + 1)) [some (.ref x), some (.int (nI j)), some (.int (nI c)), some (.ref (sf j)), some (.int (nI c)), some (.long w'), none, some (.int (nI (k + 1))), some (.long w'), none] dX1_wayAgain_83 rfl (nI_1 k) rfl rfl ?_
                refine r_goto (tgt := 42) E dX1_wayAgain_86 (by decide) ?_
                refine fmW.few (L' := [some (.ref x), some (.int (nI j)), some (.int (nI c)), some (.ref (sf j)), some (.int (nI c)), some (.long w'), none, some (.int (nI (k + 1))), none, none]) (fmFew_n (L := [some (.ref x), some (.int (nI j)), some (.int (nI c)), some (.ref (sf j)), some (.int (nI c)), some (.long w'), none, some (.int (nI (k + 1))), some (.long w'), none]) 8) ?_
                have hg := spr_grow hsp cq
                exact ih (k + 1) w' (by omega) (lyB_s hly hsp) (fun i hi => by
                  by_cases q : i = k
                  · subst q; exact fun z => by have z2 := (hly c hc).mpr z; rw [hbc] at z2; cases z2
                  · exact hbf i (by omega))
        exact lp 64 0 0 (by omega) lyB_0 (fun i hi => absurd hi (Nat.not_lt_zero _))

