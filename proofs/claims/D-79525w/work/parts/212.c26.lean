set_option maxHeartbeats 4000000 in
theorem ct_X1_trail (G : fmG) (hl : (fmLn G).stackTraces = false) (h : fmHp) {x far qu pa sb : Nat} {fl re de : Int32} {sv : Value} {d g sl se pl pe : Nat} {gf sf pf : Nat → Nat} {N : Nat → Int32} {K pk : Nat} (hC : CC G h) (hx : DkO h x far qu d pa sb fl re de sv) (hM : MineAt G h d g sl se pl pe gf sf pf N K pk) {X0 W0 : Nat → Int32} (hfar : h far = some (fqA X0)) (hqu : h qu = some (fqA W0)) (hfq : far ≠ qu) (j c : Nat) (hj : j < 8) (hc : c < 64) : Ct G yX1_trail (ws_ yX1_trail cX1_trail 6 (some (.object "FlintMine$Trail"))) { frames := 70, cells := 64, slots := 192, locals := 2000 } [.ref x, .int (nI j), .int (nI c)] h (fun v h' => ∃ X W, Kp (fqH h far qu X W) h' ∧ ((sFirK N (cFar N j c K).1 (nI j) 64 = none ∧ v = some .null) ∨ ∃ b a, sFirK N (cFar N j c K).1 (nI j) 64 = some b ∧ v = some (.ref a) ∧ TrL h' (cFar N j c K).1 b ((cFar N j c K).1 b - 1) a)) fmNo := by
  refine Ct.of hl (by decide +kernel) (Nat.le_of_ble_eq_true rfl) (fun Γ E P => ?_)
  obtain ⟨hd, ⟨gq, hg, hgq⟩, hgd, hS, hSh, hP, hPk, hK8, hP6, hsp, hse⟩ := id hM
  obtain ⟨mcS, hsl⟩ := hS.o
  obtain ⟨mcP, hpl⟩ := hP.o
  have KX : ∀ X W, Kz h (fqH h far qu X W) := fun X W => fqH_kz hfar hqu
  refine r_aload_n E dX1_trail_0 rfl ?_
  refine r_iload_n E dX1_trail_1 rfl ?_
  refine r_iload_n E dX1_trail_2 rfl ?_
  refine r_callV E (ct_X1_measure G hl h hC hx hM hfar hqu hfq j c hj hc) mX1_measure q1219 q1221 qs19 (fun H a1 => fm_rc (ci := 1) (C := RX1) (T := TX1) (N := 9) a1 rfl E.v hx) rfl rfl (Nat.le_of_ble_eq_true rfl) (Nat.le_of_ble_eq_true rfl) (Nat.le_of_ble_eq_true rfl) dX1_trail_3 64 192 (Nat.le_of_ble_eq_true rfl) (Nat.le_of_ble_eq_true rfl) (fun v' h1 q => ?_) (fun _ _ _ q => q.elim)
  obtain ⟨rfl, X, W, rfl, hX⟩ := q
  have hF : ∀ y, (cFar N j c K).1 y ≤ 64 := (cFar_ok hc).f
  refine r_iconst E (-1) dX1_trail_6 (by decide) ?_
  refine r_istore_n E [some (.ref x), some (.int (nI j)), some (.int (nI c)), some (.int (-1)), none, none] dX1_trail_7 rfl rfl ?_
  refine r_iconst E (nI 0) dX1_trail_8 (by decide) ?_
  refine r_istore E [some (.ref x), some (.int (nI j)), some (.int (nI c)), some (.int (-1)), some (.int (nI 0)), none] dX1_trail_9 rfl rfl ?_
  show fmW G Γ _ _ _ _ [some (.ref x), some (.int (nI j)), some (.int (nI c)), some (.int (cI (sFirK N (cFar N j c K).1 (nI j) 0))), some (.int (nI 0)), none] []
  have lp1 : ∀ (n1 i1 : Nat), i1 + n1 = 64 → fmW G Γ (fqH h far qu X W) 64 192 11 [some (.ref x), some (.int (nI j)), some (.int (nI c)), some (.int (cI (sFirK N (cFar N j c K).1 (nI j) i1))), some (.int (nI i1)), none] [] := by
    intro n1
    induction n1 with
    | zero =>
      intro i1 hi1
      refine r_iload E dX1_trail_11 rfl ?_
      refine r_bipush E (nI 64) dX1_trail_13 (by decide) ?_
      refine r_icmpN_ge (tgt := 88) E dX1_trail_15 (by decide) (by omega) (by omega) (fun c2 => ?_) (fun c2 => ?_)
      · have h64 : i1 = 64 := by omega
        rw [h64]
        refine r_iload_n E dX1_trail_88 rfl ?_
        refine r_iconst E (-1) dX1_trail_89 (by decide) ?_
        refine r_icmpC_ne (tgt := 97) E dX1_trail_90 (by decide) (fun x hx => Nat.lt_trans (sFirK_lt hx) (by omega)) (fun c3 => ?_) (fun c3 => ?_)
        · obtain ⟨b, hb⟩ := Option.ne_none_iff_exists'.mp c3
          have hb6 : b < 64 := sFirK_lt hb
          have hbF := sFirK_F hb
          have hFb := hF b
          refine r_aload_n E dX1_trail_97 rfl ?_
          refine r_new E cl_X9 [(.int 0), .null, (.int 0)] q1228 q1229 q115 (by decide) 63 189 (Nat.le_of_ble_eq_true rfl) (Nat.le_of_ble_eq_true rfl) dX1_trail_98 (fun aa haa kaa => ?_)
          refine r_dup E dX1_trail_101 rfl ?_
          refine r_iload_n E dX1_trail_102 rfl ?_
          refine r_top (v' := .int (nI b)) (congrArg Value.int (by rw [hb]; rfl)) ?_
          refine r_callI0 E (ct_X9_init G hl _ aa b fmUp_s) mX9_init rfl q1230 q1231 rfl rfl (Nat.le_of_ble_eq_true rfl) (Nat.le_of_ble_eq_true rfl) (Nat.le_of_ble_eq_true rfl) dX1_trail_103 63 189 (Nat.le_of_ble_eq_true rfl) (Nat.le_of_ble_eq_true rfl) ?_
          refine r_hp (h' := fmUp (fqH h far qu X W) aa (trO b .null 1)) (fmUp_uu _ _ _ _) ?_
          have hk : Kp (fqH h far qu X W) (fmUp (fqH h far qu X W) aa (trO b .null 1)) := Kp.up haa
          have hx2 := hk _ _ (KX X W _ _ hx (fun _ _ z => by cases z))
          refine r_callV E (ct_X1_goOn G hl hX hF (cFar_pre hc) b hb6 ((cFar N j c K).1 b - 1) _ ((hC.kz (KX X W)).kp hk) hx2 (hk _ _ (fqH_f hfq)) 0 aa (by omega) (show (fmUp (fqH h far qu X W) aa (trO b .null 1)) aa = _ from fmUp_s)) mX1_goOn q1249 q1251 qs20 (fun H a1 => fm_rc (ci := 1) (C := RX1) (T := TX1) (N := 9) a1 rfl E.v hx2) rfl rfl (by show (cFar N j c K).1 b - 1 + 4 + 1 ≤ 70; omega) (by show 8 + (5 + 11) + (24 * ((cFar N j c K).1 b - 1) + 300) ≤ 2000; omega) (Nat.le_of_ble_eq_true rfl) dX1_trail_106 0 0 (by show 0 + ((cFar N j c K).1 b - 1) ≤ 63; omega) (by show 0 + 3 * ((cFar N j c K).1 b - 1) ≤ 189; omega) (fun v' h1 q => ?_) (fun _ _ _ q => q.elim)
          obtain ⟨hk1, a2, rfl, hT3⟩ := q
          exact r_areturn E P rfl (Or.inl ⟨_, rfl⟩) dX1_trail_109 ⟨X, W, hk.trans hk1, Or.inr ⟨b, a2, hb, rfl, hT3⟩⟩
        · refine r_null E dX1_trail_93 ?_
          refine r_goto (tgt := 109) E dX1_trail_94 (by decide) ?_
          exact r_areturnN E P rfl (Or.inl ⟨_, rfl⟩) dX1_trail_109 ⟨X, W, Kp.refl, Or.inl ⟨c3, rfl⟩⟩
      · exfalso; omega
    | succ n1 ih =>
      intro i1 hi1
      refine r_iload E dX1_trail_11 rfl ?_
      refine r_bipush E (nI 64) dX1_trail_13 (by decide) ?_
      refine r_icmpN_ge (tgt := 88) E dX1_trail_15 (by decide) (by omega) (by omega) (fun c4 => ?_) (fun c4 => ?_)
      · exfalso; omega
      · have hFi := hF i1
        refine r_aload_n E dX1_trail_18 rfl ?_
        refine r_getf E cl_X1 0 (by decide) q270 ((KX X W) _ _ hx (fun _ _ z => by cases z)) rfl dX1_trail_19 ?_
        refine r_iload E dX1_trail_22 rfl ?_
        refine r_iald E (fqH_f hfq) (by omega) (by omega) dX1_trail_24 ?_
        refine r_top (v' := .int (cI (oF ((cFar N j c K).1 i1)))) (congrArg Value.int (hX i1 (by omega))) ?_
        refine r_iconst E (-1) dX1_trail_25 (by decide) ?_
        refine r_icmpC_eq (tgt := 67) E dX1_trail_26 (by decide) (oF_lt (by have := hF i1; omega)) (fun c5 => ?_) (fun c5 => ?_)
        · refine r_iconst E (nI 0) dX1_trail_67 (by decide) ?_
          refine r_istore E [some (.ref x), some (.int (nI j)), some (.int (nI c)), some (.int (cI (sFirK N (cFar N j c K).1 (nI j) i1))), some (.int (nI i1)), some (.int (nI 0))] dX1_trail_68 rfl rfl ?_
          refine r_iload E dX1_trail_70 rfl ?_
          refine r_top (v' := .int (bI false)) rfl ?_
          refine r_ifB_eq (b := false) (tgt := 80) E dX1_trail_72 (by decide) (fun _ => ?_) (fun c => absurd c (by decide))
          refine r_iload_n E dX1_trail_80 rfl ?_
          refine r_top (v' := .int (cI (sFirK N (cFar N j c K).1 (nI j) (i1 + 1)))) (congrArg (fun z => Value.int (cI z)) (sFirK_no (decide_eq_false (fun z => Nat.lt_irrefl 0 (by have := oF_z.mp c5; omega)))).symm) ?_
          refine r_istore_n E [some (.ref x), some (.int (nI j)), some (.int (nI c)), some (.int (cI (sFirK N (cFar N j c K).1 (nI j) (i1 + 1)))), some (.int (nI i1)), some (.int (nI 0))] dX1_trail_81 rfl rfl ?_
          refine r_iinc E (nI (i1 + 1)) [some (.ref x), some (.int (nI j)), some (.int (nI c)), some (.int (cI (sFirK N (cFar N j c K).1 (nI j) (i1 + 1)))), some (.int (nI (i1 + 1))), some (.int (nI 0))] dX1_trail_82 rfl (nI_1 i1) rfl rfl ?_
          refine r_goto (tgt := 11) E dX1_trail_85 (by decide) ?_
          refine fmW.few (L' := [some (.ref x), some (.int (nI j)), some (.int (nI c)), some (.int (cI (sFirK N (cFar N j c K).1 (nI j) (i1 + 1)))), some (.int (nI (i1 + 1))), none]) (fmFew_n (L := [some (.ref x), some (.int (nI j)), some (.int (nI c)), some (.int (cI (sFirK N (cFar N j c K).1 (nI j) (i1 + 1)))), some (.int (nI (i1 + 1))), some (.int (nI 0))]) 5) ?_
          exact ih (i1 + 1) (by omega)
        · have hFz : (cFar N j c K).1 i1 ≠ 0 := fun z => c5 (oF_z.mpr z)
          refine r_aload_n E dX1_trail_29 rfl ?_
          refine r_getf E cl_X1 2 (by decide) q272 ((KX X W) _ _ hx (fun _ _ z => by cases z)) rfl dX1_trail_30 ?_
          refine r_iload E dX1_trail_33 rfl ?_
          refine r_iload_n E dX1_trail_35 rfl ?_
          refine r_callV1 (v1 := .int (bI (sNext N i1 (nI j)))) E (ct_X2_isNextTo G hl (fqH h far qu X W) (hC.kz (KX X W)) (hM.kz (KX X W)) i1 (nI j) (by omega)) mX2_isNextTo q1227 q796 q797 (fun H a1 => fm_rc (ci := 2) (C := RX2) (T := TX2) (N := 7) a1 rfl E.v ((KX X W) _ _ hd (fun _ _ z => by cases z))) rfl rfl (Nat.le_of_ble_eq_true rfl) (Nat.le_of_ble_eq_true rfl) (Nat.le_of_ble_eq_true rfl) dX1_trail_36 64 192 (Nat.le_of_ble_eq_true rfl) (Nat.le_of_ble_eq_true rfl) ?_
          refine r_ifB_eq (b := sNext N i1 (nI j)) (tgt := 67) E dX1_trail_39 (by decide) (fun c7 => ?_) (fun c7 => ?_)
          · refine r_iconst E (nI 0) dX1_trail_67 (by decide) ?_
            refine r_istore E [some (.ref x), some (.int (nI j)), some (.int (nI c)), some (.int (cI (sFirK N (cFar N j c K).1 (nI j) i1))), some (.int (nI i1)), some (.int (nI 0))] dX1_trail_68 rfl rfl ?_
            refine r_iload E dX1_trail_70 rfl ?_
            refine r_top (v' := .int (bI false)) rfl ?_
            refine r_ifB_eq (b := false) (tgt := 80) E dX1_trail_72 (by decide) (fun _ => ?_) (fun c => absurd c (by decide))
            refine r_iload_n E dX1_trail_80 rfl ?_
            refine r_top (v' := .int (cI (sFirK N (cFar N j c K).1 (nI j) (i1 + 1)))) (congrArg (fun z => Value.int (cI z)) (sFirK_no (decide_eq_false (fun z => by have := z.2; rw [c7] at this; cases this))).symm) ?_
            refine r_istore_n E [some (.ref x), some (.int (nI j)), some (.int (nI c)), some (.int (cI (sFirK N (cFar N j c K).1 (nI j) (i1 + 1)))), some (.int (nI i1)), some (.int (nI 0))] dX1_trail_81 rfl rfl ?_
            refine r_iinc E (nI (i1 + 1)) [some (.ref x), some (.int (nI j)), some (.int (nI c)), some (.int (cI (sFirK N (cFar N j c K).1 (nI j) (i1 + 1)))), some (.int (nI (i1 + 1))), some (.int (nI 0))] dX1_trail_82 rfl (nI_1 i1) rfl rfl ?_
            refine r_goto (tgt := 11) E dX1_trail_85 (by decide) ?_
            refine fmW.few (L' := [some (.ref x), some (.int (nI j)), some (.int (nI c)), some (.int (cI (sFirK N (cFar N j c K).1 (nI j) (i1 + 1)))), some (.int (nI (i1 + 1))), none]) (fmFew_n (L := [some (.ref x), some (.int (nI j)), some (.int (nI c)), some (.int (cI (sFirK N (cFar N j c K).1 (nI j) (i1 + 1)))), some (.int (nI (i1 + 1))), some (.int (nI 0))]) 5) ?_
            exact ih (i1 + 1) (by omega)
          · have hd : decide (0 < (cFar N j c K).1 i1 ∧ sNext N i1 (nI j) = true) = true := decide_eq_true ⟨by omega, c7⟩
            refine r_iload_n E dX1_trail_42 rfl ?_
            refine r_iconst E (-1) dX1_trail_43 (by decide) ?_
            refine r_icmpC_eq (tgt := 63) E dX1_trail_44 (by decide) (fun x hx => Nat.lt_trans (sFirK_lt hx) (by omega)) (fun c9 => ?_) (fun c9 => ?_)
            · refine r_iconst E (nI 1) dX1_trail_63 (by decide) ?_
              refine r_goto (tgt := 68) E dX1_trail_64 (by decide) ?_
              refine r_istore E [some (.ref x), some (.int (nI j)), some (.int (nI c)), some (.int (cI (sFirK N (cFar N j c K).1 (nI j) i1))), some (.int (nI i1)), some (.int (nI 1))] dX1_trail_68 rfl rfl ?_
              refine r_iload E dX1_trail_70 rfl ?_
              refine r_top (v' := .int (bI true)) rfl ?_
              refine r_ifB_eq (b := true) (tgt := 80) E dX1_trail_72 (by decide) (fun c => absurd c (by decide)) (fun _ => ?_)
              refine r_iload E dX1_trail_75 rfl ?_
              refine r_goto (tgt := 81) E dX1_trail_77 (by decide) ?_
              refine r_top (v' := .int (cI (sFirK N (cFar N j c K).1 (nI j) (i1 + 1)))) (by rw [sFirK_first hd c9]; rfl) ?_
              refine r_istore_n E [some (.ref x), some (.int (nI j)), some (.int (nI c)), some (.int (cI (sFirK N (cFar N j c K).1 (nI j) (i1 + 1)))), some (.int (nI i1)), some (.int (nI 1))] dX1_trail_81 rfl rfl ?_
              refine r_iinc E (nI (i1 + 1)) [some (.ref x), some (.int (nI j)), some (.int (nI c)), some (.int (cI (sFirK N (cFar N j c K).1 (nI j) (i1 + 1)))), some (.int (nI (i1 + 1))), some (.int (nI 1))] dX1_trail_82 rfl (nI_1 i1) rfl rfl ?_
              refine r_goto (tgt := 11) E dX1_trail_85 (by decide) ?_
              refine fmW.few (L' := [some (.ref x), some (.int (nI j)), some (.int (nI c)), some (.int (cI (sFirK N (cFar N j c K).1 (nI j) (i1 + 1)))), some (.int (nI (i1 + 1))), none]) (fmFew_n (L := [some (.ref x), some (.int (nI j)), some (.int (nI c)), some (.int (cI (sFirK N (cFar N j c K).1 (nI j) (i1 + 1)))), some (.int (nI (i1 + 1))), some (.int (nI 1))]) 5) ?_
              exact ih (i1 + 1) (by omega)
            · obtain ⟨b, hb⟩ := Option.ne_none_iff_exists'.mp c9
              have hb6 : b < 64 := Nat.lt_trans (sFirK_lt hb) (by omega)
              have hbF := sFirK_F hb
              have hFb := hF b
              refine r_aload_n E dX1_trail_47 rfl ?_
              refine r_getf E cl_X1 0 (by decide) q270 ((KX X W) _ _ hx (fun _ _ z => by cases z)) rfl dX1_trail_48 ?_
              refine r_iload E dX1_trail_51 rfl ?_
              refine r_iald E (fqH_f hfq) (by omega) (by omega) dX1_trail_53 ?_
              refine r_top (v' := .int (nI ((cFar N j c K).1 i1))) (congrArg Value.int ((hX i1 (by omega)).trans (oF_eq hFz))) ?_
              refine r_aload_n E dX1_trail_54 rfl ?_
              refine r_getf E cl_X1 0 (by decide) q270 ((KX X W) _ _ hx (fun _ _ z => by cases z)) rfl dX1_trail_55 ?_
              refine r_iload_n E dX1_trail_58 rfl ?_
              refine r_top (v' := .int (nI b)) (congrArg Value.int (by rw [hb]; rfl)) ?_
              refine r_iald E (fqH_f hfq) (by omega) (by omega) dX1_trail_59 ?_
              refine r_top (v' := .int (nI ((cFar N j c K).1 b))) (congrArg Value.int ((hX b hb6).trans (oF_eq (by omega)))) ?_
              refine r_icmpN_ge (tgt := 67) E dX1_trail_60 (by decide) (by omega) (by omega) (fun c11 => ?_) (fun c11 => ?_)
              · refine r_iconst E (nI 0) dX1_trail_67 (by decide) ?_
                refine r_istore E [some (.ref x), some (.int (nI j)), some (.int (nI c)), some (.int (cI (sFirK N (cFar N j c K).1 (nI j) i1))), some (.int (nI i1)), some (.int (nI 0))] dX1_trail_68 rfl rfl ?_
                refine r_iload E dX1_trail_70 rfl ?_
                refine r_top (v' := .int (bI false)) rfl ?_
                refine r_ifB_eq (b := false) (tgt := 80) E dX1_trail_72 (by decide) (fun _ => ?_) (fun c => absurd c (by decide))
                refine r_iload_n E dX1_trail_80 rfl ?_
                refine r_top (v' := .int (nI b)) (congrArg Value.int (by rw [hb]; rfl)) ?_
                refine r_top (v' := .int (cI (sFirK N (cFar N j c K).1 (nI j) (i1 + 1)))) (by rw [sFirK_keep hb (by omega), hb]; rfl) ?_
                refine r_istore_n E [some (.ref x), some (.int (nI j)), some (.int (nI c)), some (.int (cI (sFirK N (cFar N j c K).1 (nI j) (i1 + 1)))), some (.int (nI i1)), some (.int (nI 0))] dX1_trail_81 rfl rfl ?_
                refine r_iinc E (nI (i1 + 1)) [some (.ref x), some (.int (nI j)), some (.int (nI c)), some (.int (cI (sFirK N (cFar N j c K).1 (nI j) (i1 + 1)))), some (.int (nI (i1 + 1))), some (.int (nI 0))] dX1_trail_82 rfl (nI_1 i1) rfl rfl ?_
                refine r_goto (tgt := 11) E dX1_trail_85 (by decide) ?_
                refine fmW.few (L' := [some (.ref x), some (.int (nI j)), some (.int (nI c)), some (.int (cI (sFirK N (cFar N j c K).1 (nI j) (i1 + 1)))), some (.int (nI (i1 + 1))), none]) (fmFew_n (L := [some (.ref x), some (.int (nI j)), some (.int (nI c)), some (.int (cI (sFirK N (cFar N j c K).1 (nI j) (i1 + 1)))), some (.int (nI (i1 + 1))), some (.int (nI 0))]) 5) ?_
                exact ih (i1 + 1) (by omega)
              · refine r_iconst E (nI 1) dX1_trail_63 (by decide) ?_
                refine r_goto (tgt := 68) E dX1_trail_64 (by decide) ?_
                refine r_istore E [some (.ref x), some (.int (nI j)), some (.int (nI c)), some (.int (cI (sFirK N (cFar N j c K).1 (nI j) i1))), some (.int (nI i1)), some (.int (nI 1))] dX1_trail_68 rfl rfl ?_
                refine r_iload E dX1_trail_70 rfl ?_
                refine r_top (v' := .int (bI true)) rfl ?_
                refine r_ifB_eq (b := true) (tgt := 80) E dX1_trail_72 (by decide) (fun c => absurd c (by decide)) (fun _ => ?_)
                refine r_iload E dX1_trail_75 rfl ?_
                refine r_goto (tgt := 81) E dX1_trail_77 (by decide) ?_
                refine r_top (v' := .int (cI (sFirK N (cFar N j c K).1 (nI j) (i1 + 1)))) (by rw [sFirK_take hd hb (by omega)]; rfl) ?_
                refine r_istore_n E [some (.ref x), some (.int (nI j)), some (.int (nI c)), some (.int (cI (sFirK N (cFar N j c K).1 (nI j) (i1 + 1)))), some (.int (nI i1)), some (.int (nI 1))] dX1_trail_81 rfl rfl ?_
                refine r_iinc E (nI (i1 + 1)) [some (.ref x), some (.int (nI j)), some (.int (nI c)), some (.int (cI (sFirK N (cFar N j c K).1 (nI j) (i1 + 1)))), some (.int (nI (i1 + 1))), some (.int (nI 1))] dX1_trail_82 rfl (nI_1 i1) rfl rfl ?_
                refine r_goto (tgt := 11) E dX1_trail_85 (by decide) ?_
                refine fmW.few (L' := [some (.ref x), some (.int (nI j)), some (.int (nI c)), some (.int (cI (sFirK N (cFar N j c K).1 (nI j) (i1 + 1)))), some (.int (nI (i1 + 1))), none]) (fmFew_n (L := [some (.ref x), some (.int (nI j)), some (.int (nI c)), some (.int (cI (sFirK N (cFar N j c K).1 (nI j) (i1 + 1)))), some (.int (nI (i1 + 1))), some (.int (nI 1))]) 5) ?_
                exact ih (i1 + 1) (by omega)
  exact lp1 64 0 (by omega)

