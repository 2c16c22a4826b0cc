set_option maxHeartbeats 4000000 in
theorem ct_X1_measure (G : fmG) (hl : (fmLn G).stackTraces = false) (h : fmHp) {x far qu pa sb : Nat} {fl re de : Int32} {sv : Value} {d g sl se pl pe : Nat} {gf sf pf : Nat → Nat} {N : Nat → Int32} {K pk : Nat} (hC : CC G h) (hx : DkO h x far qu d pa sb fl re de sv) (hM : MineAt G h d g sl se pl pe gf sf pf N K pk) {X0 W0 : Nat → Int32} (hfar : h far = some (fqA X0)) (hqu : h qu = some (fqA W0)) (hfq : far ≠ qu) (j c : Nat) (hj : j < 8) (hc : c < 64) : Ct G yX1_measure (ws_ yX1_measure cX1_measure 7 none) { frames := 4, cells := 0, slots := 0, locals := 93 } [.ref x, .int (nI j), .int (nI c)] h (fun v h' => v = none ∧ ∃ X W, h' = fqH h far qu X W ∧ bX (cFar N j c K) X) fmNo := by
  refine Ct.of hl (by decide +kernel) (Nat.le_of_ble_eq_true rfl) (fun Γ E P => ?_)
  obtain ⟨hd, ⟨gq, hg, hgq⟩, hgd, hS, hSh, hP, hPk, hK8, hP6, hsp, hse⟩ := id hM
  obtain ⟨mcS, hsl⟩ := hS.o
  obtain ⟨mcP, hpl⟩ := hP.o
  have KX : ∀ X W, Kz h (fqH h far qu X W) := fun X W => fqH_kz hfar hqu
  refine r_iconst E (nI 0) dX1_measure_0 (by decide) ?_
  refine r_istore_n E [some (.ref x), some (.int (nI j)), some (.int (nI c)), some (.int (nI 0)), none, none, none] dX1_measure_1 rfl rfl ?_
  refine r_hp (h' := fqH h far qu X0 W0) (fqH_id hfar hqu) ?_
  have lp0 : ∀ (n i : Nat) (X : Nat → Int32), i + n = 64 → (∀ c, c < i → X c = -1) → fmW G Γ (fqH h far qu X W0) 0 0 2 [some (.ref x), some (.int (nI j)), some (.int (nI c)), some (.int (nI i)), none, none, none] [] := by
    intro n
    induction n with
    | zero =>
      intro i X hi hX
      refine r_iload_n E dX1_measure_2 rfl ?_
      refine r_bipush E (nI 64) dX1_measure_3 (by decide) ?_
      refine r_icmpN_ge (tgt := 21) E dX1_measure_5 (by decide) (by omega) (by omega) (fun c1 => ?_) (fun c1 => ?_)
      · have h64 : i = 64 := by omega
        rw [h64] at hX
        have lpk : ∀ (t k : Nat) (b : Bf) (X W : Nat → Int32), t + k = 65 → bOK b → k ≤ b.2.2 → bX b X → bQ b W → bRun (fun x => sFree N x (nI j) K) Nat.succ t k b = cFar N j c K → fmW G Γ (fqH h far qu X W) 0 0 54 [some (.ref x), some (.int (nI j)), some (.int (nI c)), some (.int (nI b.2.2)), some (.int (nI k)), none, none] [] := by
          clear hX
          clear X
          intro t
          induction t with
          | zero => intro k b X W ht hb hk; have := hb.n; omega
          | succ t ih =>
            intro k b X W ht hb hk hX hW hr
            have hbn := hb.n
            refine r_iload E dX1_measure_54 rfl ?_
            refine r_iload_n E dX1_measure_56 rfl ?_
            refine r_icmpN_ge (tgt := 157) E dX1_measure_57 (by decide) (by omega) (by omega) (fun c2 => ?_) (fun c2 => ?_)
            · rw [bRun_end c2] at hr
              exact r_return E P rfl dX1_measure_157 ⟨rfl, X, W, rfl, by rw [← hr]; exact hX⟩
            · have hX9 := hX
              have hW9 := hW
              have hk2 : k < b.2.2 := by omega
              rw [bRun_go hk2] at hr
              refine r_iconst E (nI 0) dX1_measure_60 (by decide) ?_
              refine r_istore E [some (.ref x), some (.int (nI j)), some (.int (nI c)), some (.int (nI b.2.2)), some (.int (nI k)), some (.int (nI 0)), none] dX1_measure_61 rfl rfl ?_
              clear hX hW
              have lpd : ∀ (u dd : Nat) (X W : Nat → Int32), u + dd = 4 → bX (bSide (fun x => sFree N x (nI j) K) Nat.succ k dd b) X → bQ (bSide (fun x => sFree N x (nI j) K) Nat.succ k dd b) W → fmW G Γ (fqH h far qu X W) 0 0 63 [some (.ref x), some (.int (nI j)), some (.int (nI c)), some (.int (nI ((bSide (fun x => sFree N x (nI j) K) Nat.succ k dd b).2.2))), some (.int (nI k)), some (.int (nI dd)), none] [] := by
                intro u
                induction u with
                | zero =>
                  intro dd X W hdd hX hW
                  obtain rfl : dd = 4 := by omega
                  obtain ⟨e1, e2, e3⟩ := bSide_ok (P := (fun x => sFree N x (nI j) K)) bG_s hb hk2 4
                  refine r_iload E dX1_measure_63 rfl ?_
                  refine r_iconst E (nI 4) dX1_measure_65 (by decide) ?_
                  refine r_icmpN_ge (tgt := 151) E dX1_measure_66 (by decide) (by omega) (by omega) (fun _ => ?_) (fun c => absurd (Nat.le_refl 4) c)
                  refine r_iinc E (nI (k + 1)) [some (.ref x), some (.int (nI j)), some (.int (nI c)), some (.int (nI ((bSide (fun x => sFree N x (nI j) K) Nat.succ k 4 b).2.2))), some (.int (nI (k + 1))), some (.int (nI 4)), none] dX1_measure_151 rfl (nI_1 k) rfl rfl ?_
                  refine r_goto (tgt := 54) E dX1_measure_154 (by decide) ?_
                  refine fmW.few (L' := [some (.ref x), some (.int (nI j)), some (.int (nI c)), some (.int (nI ((bSide (fun x => sFree N x (nI j) K) Nat.succ k 4 b).2.2))), some (.int (nI (k + 1))), none, none]) (fmFew_n (L := [some (.ref x), some (.int (nI j)), some (.int (nI c)), some (.int (nI ((bSide (fun x => sFree N x (nI j) K) Nat.succ k 4 b).2.2))), some (.int (nI (k + 1))), some (.int (nI 4)), none]) 5) ?_
                  exact ih (k + 1) _ _ _ (by omega) e1 (by omega) hX hW hr
                | succ u ihd =>
                  intro dd X W hdd hX hW
                  obtain ⟨e1, e2, e3⟩ := bSide_ok (P := (fun x => sFree N x (nI j) K)) bG_s hb hk2 dd
                  have hd4 : dd < 4 := by omega
                  have hn64 := e1.n
                  have hkn : k < (bSide (fun x => sFree N x (nI j) K) Nat.succ k dd b).2.2 := by omega
                  have hq := hW k hkn
                  have hqc := (e1.1 k hkn).1
                  have hqf := (e1.1 k hkn).2
                  refine r_iload E dX1_measure_63 rfl ?_
                  refine r_iconst E (nI 4) dX1_measure_65 (by decide) ?_
                  refine r_icmpN_ge (tgt := 151) E dX1_measure_66 (by decide) (by omega) (by omega) (fun c => absurd c (by omega)) (fun _ => ?_)
                  refine r_aload_n E dX1_measure_69 rfl ?_
                  refine r_getf E cl_X1 1 (by decide) q271 ((KX X W) _ _ hx (fun _ _ z => by cases z)) rfl dX1_measure_70 ?_
                  refine r_iload E dX1_measure_73 rfl ?_
                  refine r_iald E fqH_q (by omega) (by omega) dX1_measure_75 ?_
                  refine r_top (v' := .int (nI ((bSide (fun x => sFree N x (nI j) K) Nat.succ k dd b).2.1 k))) (congrArg Value.int hq) ?_
                  refine r_iload E dX1_measure_76 rfl ?_
                  refine r_callS1 (v1 := .int (cI (sBsd ((bSide (fun x => sFree N x (nI j) K) Nat.succ k dd b).2.1 k) dd))) E (ct_X1_beside G hl (fqH h far qu X W) (hC.kz (KX X W)) ((bSide (fun x => sFree N x (nI j) K) Nat.succ k dd b).2.1 k) dd (by omega) (by omega)) mX1_beside q78 q1155 q337 rfl rfl (Nat.le_of_ble_eq_true rfl) (Nat.le_of_ble_eq_true rfl) (Nat.le_of_ble_eq_true rfl) dX1_measure_78 0 0 (Nat.le_of_ble_eq_true rfl) (Nat.le_of_ble_eq_true rfl) ?_
                  refine r_istore E [some (.ref x), some (.int (nI j)), some (.int (nI c)), some (.int (nI ((bSide (fun x => sFree N x (nI j) K) Nat.succ k dd b).2.2))), some (.int (nI k)), some (.int (nI dd)), some (.int (cI (sBsd ((bSide (fun x => sFree N x (nI j) K) Nat.succ k dd b).2.1 k) dd)))] dX1_measure_81 rfl rfl ?_
                  refine r_iload E dX1_measure_83 rfl ?_
                  refine r_iconst E (-1) dX1_measure_85 (by decide) ?_
                  refine r_icmpC_eq (tgt := 145) E dX1_measure_86 (by decide) (fun x hx => Nat.lt_trans (sBsd_lt hqc hx) (by decide)) (fun c3 => ?_) (fun c3 => ?_)
                  · have hs1 : bSide (fun x => sFree N x (nI j) K) Nat.succ k (dd + 1) b = _ := bStep_none c3
                    refine r_iinc E (nI (dd + 1)) [some (.ref x), some (.int (nI j)), some (.int (nI c)), some (.int (nI ((bSide (fun x => sFree N x (nI j) K) Nat.succ k dd b).2.2))), some (.int (nI k)), some (.int (nI (dd + 1))), some (.int (cI (sBsd ((bSide (fun x => sFree N x (nI j) K) Nat.succ k dd b).2.1 k) dd)))] dX1_measure_145 rfl (nI_1 dd) rfl rfl ?_
                    refine r_goto (tgt := 63) E dX1_measure_148 (by decide) ?_
                    refine fmW.few (L' := [some (.ref x), some (.int (nI j)), some (.int (nI c)), some (.int (nI ((bSide (fun x => sFree N x (nI j) K) Nat.succ k dd b).2.2))), some (.int (nI k)), some (.int (nI (dd + 1))), none]) (fmFew_n (L := [some (.ref x), some (.int (nI j)), some (.int (nI c)), some (.int (nI ((bSide (fun x => sFree N x (nI j) K) Nat.succ k dd b).2.2))), some (.int (nI k)), some (.int (nI (dd + 1))), some (.int (cI (sBsd ((bSide (fun x => sFree N x (nI j) K) Nat.succ k dd b).2.1 k) dd)))]) 6) ?_
                    have := ihd (dd + 1) (X) (W) (by omega) (by rw [hs1]; exact hX) (by rw [hs1]; exact hW)
                    rw [hs1] at this
                    exact this
                  · obtain ⟨x9, hx9⟩ := Option.ne_none_iff_exists'.mp c3
                    have hx6 := sBsd_lt hqc hx9
                    have hfx := e1.f x9
                    have hfqb := e1.f ((bSide (fun x => sFree N x (nI j) K) Nat.succ k dd b).2.1 k)
                    refine r_aload_n E dX1_measure_89 rfl ?_
                    refine r_getf E cl_X1 0 (by decide) q270 ((KX X W) _ _ hx (fun _ _ z => by cases z)) rfl dX1_measure_90 ?_
                    refine r_iload E dX1_measure_93 rfl ?_
                    refine r_top (v' := .int (nI x9)) (congrArg Value.int (by rw [hx9]; rfl)) ?_
                    refine r_iald E (fqH_f hfq) (by omega) (by omega) dX1_measure_95 ?_
                    refine r_top (v' := .int (cI (oF ((bSide (fun x => sFree N x (nI j) K) Nat.succ k dd b).1 x9)))) (congrArg Value.int (hX x9 hx6)) ?_
                    refine r_iconst E (-1) dX1_measure_96 (by decide) ?_
                    refine r_icmpC_ne (tgt := 145) E dX1_measure_97 (by decide) (oF_lt (by omega)) (fun c4 => ?_) (fun c4 => ?_)
                    · have hs1 : bSide (fun x => sFree N x (nI j) K) Nat.succ k (dd + 1) b = _ := bStep_no hx9 (fun z => c4 (oF_z.mpr z.1))
                      refine r_iinc E (nI (dd + 1)) [some (.ref x), some (.int (nI j)), some (.int (nI c)), some (.int (nI ((bSide (fun x => sFree N x (nI j) K) Nat.succ k dd b).2.2))), some (.int (nI k)), some (.int (nI (dd + 1))), some (.int (cI (sBsd ((bSide (fun x => sFree N x (nI j) K) Nat.succ k dd b).2.1 k) dd)))] dX1_measure_145 rfl (nI_1 dd) rfl rfl ?_
                      refine r_goto (tgt := 63) E dX1_measure_148 (by decide) ?_
                      refine fmW.few (L' := [some (.ref x), some (.int (nI j)), some (.int (nI c)), some (.int (nI ((bSide (fun x => sFree N x (nI j) K) Nat.succ k dd b).2.2))), some (.int (nI k)), some (.int (nI (dd + 1))), none]) (fmFew_n (L := [some (.ref x), some (.int (nI j)), some (.int (nI c)), some (.int (nI ((bSide (fun x => sFree N x (nI j) K) Nat.succ k dd b).2.2))), some (.int (nI k)), some (.int (nI (dd + 1))), some (.int (cI (sBsd ((bSide (fun x => sFree N x (nI j) K) Nat.succ k dd b).2.1 k) dd)))]) 6) ?_
                      have := ihd (dd + 1) (X) (W) (by omega) (by rw [hs1]; exact hX) (by rw [hs1]; exact hW)
                      rw [hs1] at this
                      exact this
                    · have hz0 : (bSide (fun x => sFree N x (nI j) K) Nat.succ k dd b).1 x9 = 0 := oF_z.mp c4
                      have hlt := e1.lt hx6 hz0
                      refine r_aload_n E dX1_measure_100 rfl ?_
                      refine r_getf E cl_X1 2 (by decide) q272 ((KX X W) _ _ hx (fun _ _ z => by cases z)) rfl dX1_measure_101 ?_
                      refine r_iload E dX1_measure_104 rfl ?_
                      refine r_top (v' := .int (nI x9)) (congrArg Value.int (by rw [hx9]; rfl)) ?_
                      refine r_iload_n E dX1_measure_106 rfl ?_
                      refine r_callV1 (v1 := .int (bI (sFree N x9 (nI j) K))) E (ct_X2_isPassable G hl (fqH h far qu X W) (hC.kz (KX X W)) (hM.kz (KX X W)) x9 (nI j) (by omega)) mX2_isPassable q1223 q1224 q1225 (fun H a1 => fm_rc (ci := 2) (C := RX2) (T := TX2) (N := 7) a1 rfl E.v ((KX X W) _ _ hd (fun _ _ z => by cases z))) rfl rfl (Nat.le_of_ble_eq_true rfl) (Nat.le_of_ble_eq_true rfl) (Nat.le_of_ble_eq_true rfl) dX1_measure_107 0 0 (Nat.le_of_ble_eq_true rfl) (Nat.le_of_ble_eq_true rfl) ?_
                      refine r_ifB_eq (b := sFree N x9 (nI j) K) (tgt := 145) E dX1_measure_110 (by decide) (fun c5 => ?_) (fun c5 => ?_)
                      · have hs1 : bSide (fun x => sFree N x (nI j) K) Nat.succ k (dd + 1) b = _ := bStep_no hx9 (fun z => by have z2 := z.2; rw [c5] at z2; exact Bool.noConfusion z2)
                        refine r_iinc E (nI (dd + 1)) [some (.ref x), some (.int (nI j)), some (.int (nI c)), some (.int (nI ((bSide (fun x => sFree N x (nI j) K) Nat.succ k dd b).2.2))), some (.int (nI k)), some (.int (nI (dd + 1))), some (.int (cI (sBsd ((bSide (fun x => sFree N x (nI j) K) Nat.succ k dd b).2.1 k) dd)))] dX1_measure_145 rfl (nI_1 dd) rfl rfl ?_
                        refine r_goto (tgt := 63) E dX1_measure_148 (by decide) ?_
                        refine fmW.few (L' := [some (.ref x), some (.int (nI j)), some (.int (nI c)), some (.int (nI ((bSide (fun x => sFree N x (nI j) K) Nat.succ k dd b).2.2))), some (.int (nI k)), some (.int (nI (dd + 1))), none]) (fmFew_n (L := [some (.ref x), some (.int (nI j)), some (.int (nI c)), some (.int (nI ((bSide (fun x => sFree N x (nI j) K) Nat.succ k dd b).2.2))), some (.int (nI k)), some (.int (nI (dd + 1))), some (.int (cI (sBsd ((bSide (fun x => sFree N x (nI j) K) Nat.succ k dd b).2.1 k) dd)))]) 6) ?_
                        have := ihd (dd + 1) (X) (W) (by omega) (by rw [hs1]; exact hX) (by rw [hs1]; exact hW)
                        rw [hs1] at this
                        exact this
                      · refine r_aload_n E dX1_measure_113 rfl ?_
                        refine r_getf E cl_X1 0 (by decide) q270 ((KX X W) _ _ hx (fun _ _ z => by cases z)) rfl dX1_measure_114 ?_
                        refine r_iload E dX1_measure_117 rfl ?_
                        refine r_top (v' := .int (nI x9)) (congrArg Value.int (by rw [hx9]; rfl)) ?_
                        refine r_aload_n E dX1_measure_119 rfl ?_
                        refine r_getf E cl_X1 0 (by decide) q270 ((KX X W) _ _ hx (fun _ _ z => by cases z)) rfl dX1_measure_120 ?_
                        refine r_aload_n E dX1_measure_123 rfl ?_
                        refine r_getf E cl_X1 1 (by decide) q271 ((KX X W) _ _ hx (fun _ _ z => by cases z)) rfl dX1_measure_124 ?_
                        refine r_iload E dX1_measure_127 rfl ?_
                        refine r_iald E fqH_q (by omega) (by omega) dX1_measure_129 ?_
                        refine r_top (v' := .int (nI ((bSide (fun x => sFree N x (nI j) K) Nat.succ k dd b).2.1 k))) (congrArg Value.int hq) ?_
                        refine r_iald E (fqH_f hfq) (by omega) (by omega) dX1_measure_130 ?_
                        refine r_top (v' := .int (nI ((bSide (fun x => sFree N x (nI j) K) Nat.succ k dd b).1 ((bSide (fun x => sFree N x (nI j) K) Nat.succ k dd b).2.1 k)))) (congrArg Value.int ((hX _ hqc).trans (by rw [oF_n hqf]; rfl))) ?_
                        refine r_iconst E (nI 1) dX1_measure_131 (by decide) ?_
                        refine r_iaddN E dX1_measure_132 ?_
                        refine r_iast E (fqH_f hfq) (by omega) (by omega) dX1_measure_133 ?_
                        refine r_hp (h' := fqH h far qu (upd X x9 (nI (((bSide (fun x => sFree N x (nI j) K) Nat.succ k dd b).1 ((bSide (fun x => sFree N x (nI j) K) Nat.succ k dd b).2.1 k)) + 1))) W) (fqH_uf hfq) ?_
                        refine r_aload_n E dX1_measure_134 rfl ?_
                        refine r_getf E cl_X1 1 (by decide) q271 ((KX (upd X x9 (nI (((bSide (fun x => sFree N x (nI j) K) Nat.succ k dd b).1 ((bSide (fun x => sFree N x (nI j) K) Nat.succ k dd b).2.1 k)) + 1))) W) _ _ hx (fun _ _ z => by cases z)) rfl dX1_measure_135 ?_
                        refine r_iload_n E dX1_measure_138 rfl ?_
                        refine r_iload E dX1_measure_139 rfl ?_
                        refine r_top (v' := .int (nI x9)) (congrArg Value.int (by rw [hx9]; rfl)) ?_
                        refine r_iast E fqH_q (by omega) (by omega) dX1_measure_141 ?_
                        refine r_hp (h' := fqH h far qu (upd X x9 (nI (((bSide (fun x => sFree N x (nI j) K) Nat.succ k dd b).1 ((bSide (fun x => sFree N x (nI j) K) Nat.succ k dd b).2.1 k)) + 1))) (upd W ((bSide (fun x => sFree N x (nI j) K) Nat.succ k dd b).2.2) (nI x9))) fqH_uq ?_
                        have hs1 : bSide (fun x => sFree N x (nI j) K) Nat.succ k (dd + 1) b = _ := (bStep_yes hx9 ⟨hz0, c5⟩ : _ = (updN (bSide (fun x => sFree N x (nI j) K) Nat.succ k dd b).1 x9 (Nat.succ ((bSide (fun x => sFree N x (nI j) K) Nat.succ k dd b).1 ((bSide (fun x => sFree N x (nI j) K) Nat.succ k dd b).2.1 k))), updN (bSide (fun x => sFree N x (nI j) K) Nat.succ k dd b).2.1 (bSide (fun x => sFree N x (nI j) K) Nat.succ k dd b).2.2 x9, (bSide (fun x => sFree N x (nI j) K) Nat.succ k dd b).2.2 + 1))
                        refine r_iinc E (nI ((bSide (fun x => sFree N x (nI j) K) Nat.succ k dd b).2.2 + 1)) [some (.ref x), some (.int (nI j)), some (.int (nI c)), some (.int (nI ((bSide (fun x => sFree N x (nI j) K) Nat.succ k dd b).2.2 + 1))), some (.int (nI k)), some (.int (nI dd)), some (.int (cI (sBsd ((bSide (fun x => sFree N x (nI j) K) Nat.succ k dd b).2.1 k) dd)))] dX1_measure_142 rfl (nI_1 ((bSide (fun x => sFree N x (nI j) K) Nat.succ k dd b).2.2)) rfl rfl ?_
                        refine r_iinc E (nI (dd + 1)) [some (.ref x), some (.int (nI j)), some (.int (nI c)), some (.int (nI ((bSide (fun x => sFree N x (nI j) K) Nat.succ k dd b).2.2 + 1))), some (.int (nI k)), some (.int (nI (dd + 1))), some (.int (cI (sBsd ((bSide (fun x => sFree N x (nI j) K) Nat.succ k dd b).2.1 k) dd)))] dX1_measure_145 rfl (nI_1 dd) rfl rfl ?_
                        refine r_goto (tgt := 63) E dX1_measure_148 (by decide) ?_
                        refine fmW.few (L' := [some (.ref x), some (.int (nI j)), some (.int (nI c)), some (.int (nI ((bSide (fun x => sFree N x (nI j) K) Nat.succ k dd b).2.2 + 1))), some (.int (nI k)), some (.int (nI (dd + 1))), none]) (fmFew_n (L := [some (.ref x), some (.int (nI j)), some (.int (nI c)), some (.int (nI ((bSide (fun x => sFree N x (nI j) K) Nat.succ k dd b).2.2 + 1))), some (.int (nI k)), some (.int (nI (dd + 1))), some (.int (cI (sBsd ((bSide (fun x => sFree N x (nI j) K) Nat.succ k dd b).2.1 k) dd)))]) 6) ?_
                        have := ihd (dd + 1) (upd X x9 (nI (((bSide (fun x => sFree N x (nI j) K) Nat.succ k dd b).1 ((bSide (fun x => sFree N x (nI j) K) Nat.succ k dd b).2.1 k)) + 1))) (upd W ((bSide (fun x => sFree N x (nI j) K) Nat.succ k dd b).2.2) (nI x9)) (by omega) (by rw [hs1]; exact bX_add hX (Nat.succ_ne_zero _)) (by rw [hs1]; exact bQ_add hW)
                        rw [hs1] at this
                        exact this
              exact lpd 4 0 X W rfl hX9 hW9
        refine r_iconst E (nI 0) dX1_measure_21 (by decide) ?_
        refine r_istore_n E [some (.ref x), some (.int (nI j)), some (.int (nI c)), some (.int (nI 0)), none, none, none] dX1_measure_22 rfl rfl ?_
        refine r_aload_n E dX1_measure_23 rfl ?_
        refine r_getf E cl_X1 2 (by decide) q272 ((KX X W0) _ _ hx (fun _ _ z => by cases z)) rfl dX1_measure_24 ?_
        refine r_iload_n E dX1_measure_27 rfl ?_
        refine r_iload_n E dX1_measure_28 rfl ?_
        refine r_callV1 (v1 := .int (bI (sFree N c (nI j) K))) E (ct_X2_isPassable G hl (fqH h far qu X W0) (hC.kz (KX X W0)) (hM.kz (KX X W0)) c (nI j) (by omega)) mX2_isPassable q1223 q1224 q1225 (fun H a1 => fm_rc (ci := 2) (C := RX2) (T := TX2) (N := 7) a1 rfl E.v ((KX X W0) _ _ hd (fun _ _ z => by cases z))) rfl rfl (Nat.le_of_ble_eq_true rfl) (Nat.le_of_ble_eq_true rfl) (Nat.le_of_ble_eq_true rfl) dX1_measure_29 0 0 (Nat.le_of_ble_eq_true rfl) (Nat.le_of_ble_eq_true rfl) ?_
        refine r_ifB_eq (b := sFree N c (nI j) K) (tgt := 51) E dX1_measure_32 (by decide) (fun c6 => ?_) (fun c6 => ?_)
        · have ho : sFree N c (nI j) K = false := c6
          refine r_iconst E (nI 0) dX1_measure_51 (by decide) ?_
          refine r_istore E [some (.ref x), some (.int (nI j)), some (.int (nI c)), some (.int (nI 0)), some (.int (nI 0)), none, none] dX1_measure_52 rfl rfl ?_
          have := lpk 65 0 (bOne c (sFree N c (nI j) K)) X W0 rfl (bOK_one hc _) (Nat.zero_le _) (by rw [bOne_f ho]; exact bX_zero hX) (by rw [bOne_f ho]; exact bQ_zero _) rfl
          rw [bOne_f ho] at this
          exact this
        · have ho : sFree N c (nI j) K = true := c6
          refine r_aload_n E dX1_measure_35 rfl ?_
          refine r_getf E cl_X1 0 (by decide) q270 ((KX X W0) _ _ hx (fun _ _ z => by cases z)) rfl dX1_measure_36 ?_
          refine r_iload_n E dX1_measure_39 rfl ?_
          refine r_iconst E (nI 1) dX1_measure_40 (by decide) ?_
          refine r_iast E (fqH_f hfq) (by omega) (by omega) dX1_measure_41 ?_
          refine r_hp (h' := fqH h far qu (upd X c (nI 1)) W0) (fqH_uf hfq) ?_
          refine r_aload_n E dX1_measure_42 rfl ?_
          refine r_getf E cl_X1 1 (by decide) q271 ((KX (upd X c (nI 1)) W0) _ _ hx (fun _ _ z => by cases z)) rfl dX1_measure_43 ?_
          refine r_iconst E (nI 0) dX1_measure_46 (by decide) ?_
          refine r_iload_n E dX1_measure_47 rfl ?_
          refine r_iast E fqH_q (by omega) (by omega) dX1_measure_48 ?_
          refine r_hp (h' := fqH h far qu (upd X c (nI 1)) (upd W0 0 (nI c))) fqH_uq ?_
          refine r_iconst E (nI 1) dX1_measure_49 (by decide) ?_
          refine r_istore_n E [some (.ref x), some (.int (nI j)), some (.int (nI c)), some (.int (nI 1)), none, none, none] dX1_measure_50 rfl rfl ?_
          refine r_iconst E (nI 0) dX1_measure_51 (by decide) ?_
          refine r_istore E [some (.ref x), some (.int (nI j)), some (.int (nI c)), some (.int (nI 1)), some (.int (nI 0)), none, none] dX1_measure_52 rfl rfl ?_
          have := lpk 65 0 (bOne c (sFree N c (nI j) K)) (upd X c (nI 1)) (upd W0 0 (nI c)) rfl (bOK_one hc _) (Nat.zero_le _) (by rw [bOne_t ho]; exact bX_add (bX_zero hX) (by decide)) (by rw [bOne_t ho]; exact bQ_add (bQ_zero _)) rfl
          rw [bOne_t ho] at this
          exact this
      · exfalso; omega
    | succ n ih =>
      intro i X hi hX
      refine r_iload_n E dX1_measure_2 rfl ?_
      refine r_bipush E (nI 64) dX1_measure_3 (by decide) ?_
      refine r_icmpN_ge (tgt := 21) E dX1_measure_5 (by decide) (by omega) (by omega) (fun c1 => ?_) (fun c1 => ?_)
      · exfalso; omega
      · refine r_aload_n E dX1_measure_8 rfl ?_
        refine r_getf E cl_X1 0 (by decide) q270 ((KX X W0) _ _ hx (fun _ _ z => by cases z)) rfl dX1_measure_9 ?_
        refine r_iload_n E dX1_measure_12 rfl ?_
        refine r_iconst E (-1) dX1_measure_13 (by decide) ?_
        refine r_iast E (fqH_f hfq) (by omega) (by omega) dX1_measure_14 ?_
        refine r_hp (h' := fqH h far qu (upd X i (-1)) W0) (fqH_uf hfq) ?_
        refine r_iinc E (nI (i + 1)) [some (.ref x), some (.int (nI j)), some (.int (nI c)), some (.int (nI (i + 1))), none, none, none] dX1_measure_15 rfl (nI_1 i) rfl rfl ?_
        refine r_goto (tgt := 2) E dX1_measure_18 (by decide) ?_
        exact ih (i + 1) _ (by omega) (fun c hc1 => by
          by_cases e : c = i
          · rw [e]; exact upd_eq' rfl
          · rw [upd_ne' e]; exact hX c (by omega))
  exact lp0 64 0 X0 rfl (fun c hc1 => absurd hc1 (Nat.not_lt_zero _))

