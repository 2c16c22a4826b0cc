set_option maxHeartbeats 4000000 in
theorem ct_X4_findFar (G : fmG) (hl : (fmLn G).stackTraces = false) (m : Nat) (S : MSt) (h0 : fmHp) (j c : Nat) (K : Nat) (hK : S.2 1 350 = nI K) (hK8 : K ≤ 8) (hj : j < 8) (hc : c < 64) : Ct G yX4_findFar (ws_ yX4_findFar cX4_findFar 7 none) { frames := 5, cells := 0, slots := 0, locals := 114 } [.ref m, .int (nI j), .int (nI c)] (mdl m S h0) (fun v h' => v = none ∧ ∃ W, h' = mdl m (S.1, va_up (va_up S.2 12 (fun zz => nI ((bFar (S.2 1) j c K).1 zz))) 13 W) h0) fmNo := by
  refine Ct.of hl (by decide +kernel) (Nat.le_of_ble_eq_true rfl) (fun Γ E P => ?_)
  refine r_iconst E (nI 0) dX4_findFar_0 (by decide) ?_
  refine r_istore_n E [some (.ref m), some (.int (nI j)), some (.int (nI c)), some (.int (nI 0)), none, none, none] dX4_findFar_1 rfl rfl ?_
  refine r_hp (h' := mdl m (S.1, va_up S.2 12 (sClr (S.2 12) 0)) h0) (by rw [sClr_0, va_id rfl]) ?_
  have lp1 : ∀ (n1 i1 : Nat), i1 + n1 = 64 → fmW G Γ (mdl m (S.1, va_up S.2 12 (sClr (S.2 12) i1)) h0) 0 0 2 [some (.ref m), some (.int (nI j)), some (.int (nI c)), some (.int (nI i1)), none, none, none] [] := by
    intro n1
    induction n1 with
    | zero =>
      intro i1 hi1
      refine r_iload_n E dX4_findFar_2 rfl ?_
      refine r_bipush E (nI 64) dX4_findFar_3 (by decide) ?_
      refine r_icmpN_ge (tgt := 21) E dX4_findFar_5 (by decide) (by omega) (by omega) (fun c2 => ?_) (fun c2 => ?_)
      · have h64 : i1 = 64 := by omega
        refine r_arx (fun zz => nI (bZero.1 zz)) mdl_12 (fun k hk => if_pos (by omega)) ?_
        refine r_hp (h' := mdl m (S.1, va_up (va_up S.2 12 (fun zz => nI (bZero.1 zz))) 13 (S.2 13)) h0) ((mdl_b12 _).trans (by rw [va_id (f := va_up S.2 12 (fun zz => nI (bZero.1 zz))) (k := 13) (v := S.2 13) rfl])) ?_
        refine fmW.few (L' := [some (.ref m), some (.int (nI j)), some (.int (nI c)), none, none, none, none]) (fmFew_n (L := [some (.ref m), some (.int (nI j)), some (.int (nI c)), some (.int (nI i1)), none, none, none]) 3) ?_
        have lpk : ∀ (t k : Nat) (b : Bf) (W : Nat → Int32), t + k = 65 → bOK b → k ≤ b.2.2 → bQ b W → bRun (fun x => sFree (S.2 1) x (nI j) K) Nat.succ t k b = bFar (S.2 1) j c K → fmW G Γ (mdl m (S.1, va_up (va_up S.2 12 (fun zz => nI (b.1 zz))) 13 W) h0) 0 0 64 [some (.ref m), some (.int (nI j)), some (.int (nI c)), some (.int (nI b.2.2)), some (.int (nI k)), none, none] [] := by
          intro t
          induction t with
          | zero => intro k b W ht hb hk; have := hb.n; omega
          | succ t ih =>
            intro k b W ht hb hk hW hr
            have hbn := hb.n
            refine r_iload E dX4_findFar_64 rfl ?_
            refine r_iload_n E dX4_findFar_66 rfl ?_
            refine r_icmpN_ge (tgt := 162) E dX4_findFar_67 (by decide) (by omega) (by omega) (fun c3 => ?_) (fun c3 => ?_)
            · rw [bRun_end c3] at hr
              rw [hr]
              exact r_return E P rfl dX4_findFar_162 ⟨rfl, W, rfl⟩
            · have hk2 : k < b.2.2 := by omega
              rw [bRun_go hk2] at hr
              refine r_iconst E (nI 0) dX4_findFar_70 (by decide) ?_
              refine r_istore E [some (.ref m), some (.int (nI j)), some (.int (nI c)), some (.int (nI b.2.2)), some (.int (nI k)), some (.int (nI 0)), none] dX4_findFar_71 rfl rfl ?_
              have lpd : ∀ (u d : Nat) (W : Nat → Int32), u + d = 4 → bQ (bSide (fun x => sFree (S.2 1) x (nI j) K) Nat.succ k d b) W → fmW G Γ (mdl m (S.1, va_up (va_up S.2 12 (fun zz => nI ((bSide (fun x => sFree (S.2 1) x (nI j) K) Nat.succ k d b).1 zz))) 13 W) h0) 0 0 73 [some (.ref m), some (.int (nI j)), some (.int (nI c)), some (.int (nI ((bSide (fun x => sFree (S.2 1) x (nI j) K) Nat.succ k d b).2.2))), some (.int (nI k)), some (.int (nI d)), none] [] := by
                intro u
                induction u with
                | zero =>
                  intro d W hd hW
                  obtain rfl : d = 4 := by omega
                  obtain ⟨e1, e2, e3⟩ := bSide_ok (P := (fun x => sFree (S.2 1) x (nI j) K)) bG_s hb hk2 4
                  refine r_iload E dX4_findFar_73 rfl ?_
                  refine r_iconst E (nI 4) dX4_findFar_75 (by decide) ?_
                  refine r_icmpN_ge (tgt := 156) E dX4_findFar_76 (by decide) (by omega) (by omega) (fun _ => ?_) (fun c => absurd c (by omega))
                  refine r_iinc E (nI (k + 1)) [some (.ref m), some (.int (nI j)), some (.int (nI c)), some (.int (nI ((bSide (fun x => sFree (S.2 1) x (nI j) K) Nat.succ k 4 b).2.2))), some (.int (nI (k + 1))), some (.int (nI 4)), none] dX4_findFar_156 rfl (nI_1 k) rfl rfl ?_
                  refine r_goto (tgt := 64) E dX4_findFar_159 (by decide) ?_
                  refine fmW.few (L' := [some (.ref m), some (.int (nI j)), some (.int (nI c)), some (.int (nI ((bSide (fun x => sFree (S.2 1) x (nI j) K) Nat.succ k 4 b).2.2))), some (.int (nI (k + 1))), none, none]) (fmFew_n (L := [some (.ref m), some (.int (nI j)), some (.int (nI c)), some (.int (nI ((bSide (fun x => sFree (S.2 1) x (nI j) K) Nat.succ k 4 b).2.2))), some (.int (nI (k + 1))), some (.int (nI 4)), none]) 5) ?_
                  exact ih (k + 1) _ _ (by omega) e1 (by omega) hW hr
                | succ u ihd =>
                  intro d W hd hW
                  obtain ⟨e1, e2, e3⟩ := bSide_ok (P := (fun x => sFree (S.2 1) x (nI j) K)) bG_s hb hk2 d
                  have hd4 : d < 4 := by omega
                  have hn64 := e1.n
                  have hkn : k < (bSide (fun x => sFree (S.2 1) x (nI j) K) Nat.succ k d b).2.2 := by omega
                  have hq := hW k hkn
                  have hqc := (e1.1 k hkn).1
                  refine r_iload E dX4_findFar_73 rfl ?_
                  refine r_iconst E (nI 4) dX4_findFar_75 (by decide) ?_
                  refine r_icmpN_ge (tgt := 156) E dX4_findFar_76 (by decide) (by omega) (by omega) (fun c => absurd c (by omega)) (fun _ => ?_)
                  refine r_aload_n E dX4_findFar_79 rfl ?_
                  refine r_getf E cl_X4 10 (by decide) q1896 mdl_o rfl dX4_findFar_80 ?_
                  refine r_iload E dX4_findFar_83 rfl ?_
                  refine r_iald E mdl_13 (by omega) (by omega) dX4_findFar_85 ?_
                  refine r_top (v' := .int (nI ((bSide (fun x => sFree (S.2 1) x (nI j) K) Nat.succ k d b).2.1 k))) (congrArg Value.int hq) ?_
                  refine r_iload E dX4_findFar_86 rfl ?_
                  refine r_callS1 (v1 := .int (cI (sBsd ((bSide (fun x => sFree (S.2 1) x (nI j) K) Nat.succ k d b).2.1 k) d))) E (ct_X4_beside G hl (mdl m (S.1, va_up (va_up S.2 12 (fun zz => nI ((bSide (fun x => sFree (S.2 1) x (nI j) K) Nat.succ k d b).1 zz))) 13 W) h0) (((bSide (fun x => sFree (S.2 1) x (nI j) K) Nat.succ k d b).2.1 k)) (d) (by omega) (by omega)) mX4_beside q89 q2016 q2017 rfl rfl (Nat.le_of_ble_eq_true rfl) (Nat.le_of_ble_eq_true rfl) (Nat.le_of_ble_eq_true rfl) dX4_findFar_88 0 0 (Nat.le_of_ble_eq_true rfl) (Nat.le_of_ble_eq_true rfl) ?_
                  refine r_istore E [some (.ref m), some (.int (nI j)), some (.int (nI c)), some (.int (nI ((bSide (fun x => sFree (S.2 1) x (nI j) K) Nat.succ k d b).2.2))), some (.int (nI k)), some (.int (nI d)), some (.int (cI (sBsd ((bSide (fun x => sFree (S.2 1) x (nI j) K) Nat.succ k d b).2.1 k) d)))] dX4_findFar_91 rfl rfl ?_
                  refine r_iload E dX4_findFar_93 rfl ?_
                  refine r_ifC_lt (o := sBsd ((bSide (fun x => sFree (S.2 1) x (nI j) K) Nat.succ k d b).2.1 k) d) (tgt := 150) E dX4_findFar_95 (by decide) (by intro x hx; first | exact Nat.lt_of_lt_of_le (sBsd_lt (by omega) hx) (by decide) | exact Nat.lt_of_lt_of_le (ho x hx) (by decide)) (fun c4 => ?_) (fun c4 => ?_)
                  · have hs1 : bSide (fun x => sFree (S.2 1) x (nI j) K) Nat.succ k (d + 1) b = _ := bStep_none c4
                    refine r_iinc E (nI (d + 1)) [some (.ref m), some (.int (nI j)), some (.int (nI c)), some (.int (nI ((bSide (fun x => sFree (S.2 1) x (nI j) K) Nat.succ k d b).2.2))), some (.int (nI k)), some (.int (nI (d + 1))), some (.int (cI (sBsd ((bSide (fun x => sFree (S.2 1) x (nI j) K) Nat.succ k d b).2.1 k) d)))] dX4_findFar_150 rfl (nI_1 d) rfl rfl ?_
                    refine r_goto (tgt := 73) E dX4_findFar_153 (by decide) ?_
                    refine fmW.few (L' := [some (.ref m), some (.int (nI j)), some (.int (nI c)), some (.int (nI ((bSide (fun x => sFree (S.2 1) x (nI j) K) Nat.succ k d b).2.2))), some (.int (nI k)), some (.int (nI (d + 1))), none]) (fmFew_n (L := [some (.ref m), some (.int (nI j)), some (.int (nI c)), some (.int (nI ((bSide (fun x => sFree (S.2 1) x (nI j) K) Nat.succ k d b).2.2))), some (.int (nI k)), some (.int (nI (d + 1))), some (.int (cI (sBsd ((bSide (fun x => sFree (S.2 1) x (nI j) K) Nat.succ k d b).2.1 k) d)))]) 6) ?_
                    have := ihd (d + 1) W (by omega) (by rw [hs1]; exact hW)
                    rw [hs1] at this
                    exact this
                  · obtain ⟨x, hx⟩ := Option.ne_none_iff_exists'.mp c4
                    have hx6 := sBsd_lt hqc hx
                    have hfx := e1.f x
                    have hfq := e1.f ((bSide (fun x => sFree (S.2 1) x (nI j) K) Nat.succ k d b).2.1 k)
                    refine r_aload_n E dX4_findFar_98 rfl ?_
                    refine r_getf E cl_X4 9 (by decide) q1895 mdl_o rfl dX4_findFar_99 ?_
                    refine r_iload E dX4_findFar_102 rfl ?_
                    refine r_top (v' := .int (nI x)) (congrArg Value.int (by rw [hx]; rfl)) ?_
                    refine r_iald E mdl_12 (by omega) (by omega) dX4_findFar_104 ?_
                    refine r_top (v' := .int (nI ((bSide (fun x => sFree (S.2 1) x (nI j) K) Nat.succ k d b).1 x))) (congrArg Value.int rfl) ?_
                    refine r_if_ne (tgt := 150) E dX4_findFar_105 (by decide) (fun c5 => ?_) (fun c5 => ?_)
                    · have hs1 : bSide (fun x => sFree (S.2 1) x (nI j) K) Nat.succ k (d + 1) b = _ := bStep_no hx (fun z => c5 (by rw [z.1]; exact nI_0))
                      refine r_iinc E (nI (d + 1)) [some (.ref m), some (.int (nI j)), some (.int (nI c)), some (.int (nI ((bSide (fun x => sFree (S.2 1) x (nI j) K) Nat.succ k d b).2.2))), some (.int (nI k)), some (.int (nI (d + 1))), some (.int (cI (sBsd ((bSide (fun x => sFree (S.2 1) x (nI j) K) Nat.succ k d b).2.1 k) d)))] dX4_findFar_150 rfl (nI_1 d) rfl rfl ?_
                      refine r_goto (tgt := 73) E dX4_findFar_153 (by decide) ?_
                      refine fmW.few (L' := [some (.ref m), some (.int (nI j)), some (.int (nI c)), some (.int (nI ((bSide (fun x => sFree (S.2 1) x (nI j) K) Nat.succ k d b).2.2))), some (.int (nI k)), some (.int (nI (d + 1))), none]) (fmFew_n (L := [some (.ref m), some (.int (nI j)), some (.int (nI c)), some (.int (nI ((bSide (fun x => sFree (S.2 1) x (nI j) K) Nat.succ k d b).2.2))), some (.int (nI k)), some (.int (nI (d + 1))), some (.int (cI (sBsd ((bSide (fun x => sFree (S.2 1) x (nI j) K) Nat.succ k d b).2.1 k) d)))]) 6) ?_
                      have := ihd (d + 1) W (by omega) (by rw [hs1]; exact hW)
                      rw [hs1] at this
                      exact this
                    · have hz0 : (bSide (fun x => sFree (S.2 1) x (nI j) K) Nat.succ k d b).1 x = 0 := nI_z (by omega) c5
                      have hlt := e1.lt hx6 hz0
                      refine r_aload_n E dX4_findFar_108 rfl ?_
                      refine r_iload E dX4_findFar_109 rfl ?_
                      refine r_top (v' := .int (nI x)) (congrArg Value.int (by rw [hx]; rfl)) ?_
                      refine r_iload_n E dX4_findFar_111 rfl ?_
                      refine r_callV1 (v1 := .int (bI (sFree (S.2 1) x (nI j) K))) E (ct_X4_isFree G hl m (S.1, va_up (va_up S.2 12 (fun zz => nI ((bSide (fun x => sFree (S.2 1) x (nI j) K) Nat.succ k d b).1 zz))) 13 W) h0 x (nI j) K hK hK8 (by omega)) mX4_isFree q2139 q2141 qs61 (fun H a1 => fm_rc (ci := 0) (C := RX4) (T := TX4) (N := 21) a1 rfl E.v mdl_o) rfl rfl (Nat.le_of_ble_eq_true rfl) (Nat.le_of_ble_eq_true rfl) (Nat.le_of_ble_eq_true rfl) dX4_findFar_112 0 0 (Nat.le_of_ble_eq_true rfl) (Nat.le_of_ble_eq_true rfl) ?_
                      refine r_ifB_eq (b := sFree (S.2 1) x (nI j) K) (tgt := 150) E dX4_findFar_115 (by decide) (fun c6 => ?_) (fun c6 => ?_)
                      · have hs1 : bSide (fun x => sFree (S.2 1) x (nI j) K) Nat.succ k (d + 1) b = _ := bStep_no hx (fun z => by have z2 := z.2; rw [c6] at z2; exact Bool.noConfusion z2)
                        refine r_iinc E (nI (d + 1)) [some (.ref m), some (.int (nI j)), some (.int (nI c)), some (.int (nI ((bSide (fun x => sFree (S.2 1) x (nI j) K) Nat.succ k d b).2.2))), some (.int (nI k)), some (.int (nI (d + 1))), some (.int (cI (sBsd ((bSide (fun x => sFree (S.2 1) x (nI j) K) Nat.succ k d b).2.1 k) d)))] dX4_findFar_150 rfl (nI_1 d) rfl rfl ?_
                        refine r_goto (tgt := 73) E dX4_findFar_153 (by decide) ?_
                        refine fmW.few (L' := [some (.ref m), some (.int (nI j)), some (.int (nI c)), some (.int (nI ((bSide (fun x => sFree (S.2 1) x (nI j) K) Nat.succ k d b).2.2))), some (.int (nI k)), some (.int (nI (d + 1))), none]) (fmFew_n (L := [some (.ref m), some (.int (nI j)), some (.int (nI c)), some (.int (nI ((bSide (fun x => sFree (S.2 1) x (nI j) K) Nat.succ k d b).2.2))), some (.int (nI k)), some (.int (nI (d + 1))), some (.int (cI (sBsd ((bSide (fun x => sFree (S.2 1) x (nI j) K) Nat.succ k d b).2.1 k) d)))]) 6) ?_
                        have := ihd (d + 1) W (by omega) (by rw [hs1]; exact hW)
                        rw [hs1] at this
                        exact this
                      · refine r_aload_n E dX4_findFar_118 rfl ?_
                        refine r_getf E cl_X4 9 (by decide) q1895 mdl_o rfl dX4_findFar_119 ?_
                        refine r_iload E dX4_findFar_122 rfl ?_
                        refine r_top (v' := .int (nI x)) (congrArg Value.int (by rw [hx]; rfl)) ?_
                        refine r_aload_n E dX4_findFar_124 rfl ?_
                        refine r_getf E cl_X4 9 (by decide) q1895 mdl_o rfl dX4_findFar_125 ?_
                        refine r_aload_n E dX4_findFar_128 rfl ?_
                        refine r_getf E cl_X4 10 (by decide) q1896 mdl_o rfl dX4_findFar_129 ?_
                        refine r_iload E dX4_findFar_132 rfl ?_
                        refine r_iald E mdl_13 (by omega) (by omega) dX4_findFar_134 ?_
                        refine r_top (v' := .int (nI ((bSide (fun x => sFree (S.2 1) x (nI j) K) Nat.succ k d b).2.1 k))) (congrArg Value.int hq) ?_
                        refine r_iald E mdl_12 (by omega) (by omega) dX4_findFar_135 ?_
                        refine r_top (v' := .int (nI ((bSide (fun x => sFree (S.2 1) x (nI j) K) Nat.succ k d b).1 ((bSide (fun x => sFree (S.2 1) x (nI j) K) Nat.succ k d b).2.1 k)))) (congrArg Value.int rfl) ?_
                        refine r_iconst E (nI 1) dX4_findFar_136 (by decide) ?_
                        refine r_iaddN E dX4_findFar_137 ?_
                        refine r_iast E mdl_12 (by omega) (by omega) dX4_findFar_138 ?_
                        refine r_hp (h' := mdl m (S.1, va_up (va_up (va_up S.2 12 (fun zz => nI ((bSide (fun x => sFree (S.2 1) x (nI j) K) Nat.succ k d b).1 zz))) 13 W) 12 (upd (fun zz => nI ((bSide (fun x => sFree (S.2 1) x (nI j) K) Nat.succ k d b).1 zz)) x (nI (((bSide (fun x => sFree (S.2 1) x (nI j) K) Nat.succ k d b).1 ((bSide (fun x => sFree (S.2 1) x (nI j) K) Nat.succ k d b).2.1 k)) + 1)))) h0) (mdl_a12 _) ?_
                        refine r_aload_n E dX4_findFar_139 rfl ?_
                        refine r_getf E cl_X4 10 (by decide) q1896 mdl_o rfl dX4_findFar_140 ?_
                        refine r_iload_n E dX4_findFar_143 rfl ?_
                        refine r_iload E dX4_findFar_144 rfl ?_
                        refine r_top (v' := .int (nI x)) (congrArg Value.int (by rw [hx]; rfl)) ?_
                        refine r_iast E mdl_13 (by omega) (by omega) dX4_findFar_146 ?_
                        refine r_hp (h' := mdl m (S.1, va_up (va_up (va_up (va_up S.2 12 (fun zz => nI ((bSide (fun x => sFree (S.2 1) x (nI j) K) Nat.succ k d b).1 zz))) 13 W) 12 (upd (fun zz => nI ((bSide (fun x => sFree (S.2 1) x (nI j) K) Nat.succ k d b).1 zz)) x (nI (((bSide (fun x => sFree (S.2 1) x (nI j) K) Nat.succ k d b).1 ((bSide (fun x => sFree (S.2 1) x (nI j) K) Nat.succ k d b).2.1 k)) + 1)))) 13 (upd W ((bSide (fun x => sFree (S.2 1) x (nI j) K) Nat.succ k d b).2.2) (nI x))) h0) (mdl_a13 _) ?_
                        refine r_iinc E (nI ((bSide (fun x => sFree (S.2 1) x (nI j) K) Nat.succ k d b).2.2 + 1)) [some (.ref m), some (.int (nI j)), some (.int (nI c)), some (.int (nI ((bSide (fun x => sFree (S.2 1) x (nI j) K) Nat.succ k d b).2.2 + 1))), some (.int (nI k)), some (.int (nI d)), some (.int (cI (sBsd ((bSide (fun x => sFree (S.2 1) x (nI j) K) Nat.succ k d b).2.1 k) d)))] dX4_findFar_147 rfl (nI_1 ((bSide (fun x => sFree (S.2 1) x (nI j) K) Nat.succ k d b).2.2)) rfl rfl ?_
                        refine r_hp (h' := mdl m (S.1, va_up (va_up S.2 12 (fun zz => nI ((updN (bSide (fun x => sFree (S.2 1) x (nI j) K) Nat.succ k d b).1 x (Nat.succ ((bSide (fun x => sFree (S.2 1) x (nI j) K) Nat.succ k d b).1 ((bSide (fun x => sFree (S.2 1) x (nI j) K) Nat.succ k d b).2.1 k))), updN (bSide (fun x => sFree (S.2 1) x (nI j) K) Nat.succ k d b).2.1 (bSide (fun x => sFree (S.2 1) x (nI j) K) Nat.succ k d b).2.2 x, (bSide (fun x => sFree (S.2 1) x (nI j) K) Nat.succ k d b).2.2 + 1).1 zz))) 13 (upd W (bSide (fun x => sFree (S.2 1) x (nI j) K) Nat.succ k d b).2.2 (nI x))) h0) (by rw [va_4]; exact congrArg (fun f => mdl m (S.1, va_up (va_up S.2 12 f) 13 _) h0) upd_nI) ?_
                        have hs1 : bSide (fun x => sFree (S.2 1) x (nI j) K) Nat.succ k (d + 1) b = (updN (bSide (fun x => sFree (S.2 1) x (nI j) K) Nat.succ k d b).1 x (Nat.succ ((bSide (fun x => sFree (S.2 1) x (nI j) K) Nat.succ k d b).1 ((bSide (fun x => sFree (S.2 1) x (nI j) K) Nat.succ k d b).2.1 k))), updN (bSide (fun x => sFree (S.2 1) x (nI j) K) Nat.succ k d b).2.1 (bSide (fun x => sFree (S.2 1) x (nI j) K) Nat.succ k d b).2.2 x, (bSide (fun x => sFree (S.2 1) x (nI j) K) Nat.succ k d b).2.2 + 1) := bStep_yes hx ⟨hz0, c6⟩
                        refine r_iinc E (nI (d + 1)) [some (.ref m), some (.int (nI j)), some (.int (nI c)), some (.int (nI ((bSide (fun x => sFree (S.2 1) x (nI j) K) Nat.succ k d b).2.2 + 1))), some (.int (nI k)), some (.int (nI (d + 1))), some (.int (cI (sBsd ((bSide (fun x => sFree (S.2 1) x (nI j) K) Nat.succ k d b).2.1 k) d)))] dX4_findFar_150 rfl (nI_1 d) rfl rfl ?_
                        refine r_goto (tgt := 73) E dX4_findFar_153 (by decide) ?_
                        refine fmW.few (L' := [some (.ref m), some (.int (nI j)), some (.int (nI c)), some (.int (nI ((bSide (fun x => sFree (S.2 1) x (nI j) K) Nat.succ k d b).2.2 + 1))), some (.int (nI k)), some (.int (nI (d + 1))), none]) (fmFew_n (L := [some (.ref m), some (.int (nI j)), some (.int (nI c)), some (.int (nI ((bSide (fun x => sFree (S.2 1) x (nI j) K) Nat.succ k d b).2.2 + 1))), some (.int (nI k)), some (.int (nI (d + 1))), some (.int (cI (sBsd ((bSide (fun x => sFree (S.2 1) x (nI j) K) Nat.succ k d b).2.1 k) d)))]) 6) ?_
                        have := ihd (d + 1) (upd W (bSide (fun x => sFree (S.2 1) x (nI j) K) Nat.succ k d b).2.2 (nI x)) (by omega) (by rw [hs1]; exact bQ_add hW)
                        rw [hs1] at this
                        exact this
              exact lpd 4 0 W rfl hW
        refine r_iconst E (nI 0) dX4_findFar_21 (by decide) ?_
        refine r_istore_n E [some (.ref m), some (.int (nI j)), some (.int (nI c)), some (.int (nI 0)), none, none, none] dX4_findFar_22 rfl rfl ?_
        refine r_aload_n E dX4_findFar_23 rfl ?_
        refine r_iload_n E dX4_findFar_24 rfl ?_
        refine r_iload_n E dX4_findFar_25 rfl ?_
        refine r_callV1 (v1 := .int (bI (sFree (S.2 1) c (nI j) K))) E (ct_X4_isFree G hl m (S.1, va_up (va_up S.2 12 (fun zz => nI (bZero.1 zz))) 13 (S.2 13)) h0 c (nI j) K hK hK8 (by omega)) mX4_isFree q2139 q2141 qs61 (fun H a1 => fm_rc (ci := 0) (C := RX4) (T := TX4) (N := 21) a1 rfl E.v mdl_o) rfl rfl (Nat.le_of_ble_eq_true rfl) (Nat.le_of_ble_eq_true rfl) (Nat.le_of_ble_eq_true rfl) dX4_findFar_26 0 0 (Nat.le_of_ble_eq_true rfl) (Nat.le_of_ble_eq_true rfl) ?_
        refine r_ifB_eq (b := sFree (S.2 1) c (nI j) K) (tgt := 61) E dX4_findFar_29 (by decide) (fun c7 => ?_) (fun c7 => ?_)
        · have ho : (sFree (S.2 1) c (nI j) K && decide ((S.2 1) (328 + j) = nI 0)) = false := by rw [c7]; rfl
          refine r_iconst E (nI 0) dX4_findFar_61 (by decide) ?_
          refine r_istore E [some (.ref m), some (.int (nI j)), some (.int (nI c)), some (.int (nI 0)), some (.int (nI 0)), none, none] dX4_findFar_62 rfl rfl ?_
          have := lpk 65 0 (bOne c (sFree (S.2 1) c (nI j) K && decide ((S.2 1) (328 + j) = nI 0))) (S.2 13) rfl (bOK_one hc _) (Nat.zero_le _) (by rw [bOne_f ho]; exact bQ_zero _) rfl
          rw [bOne_f ho] at this
          exact this
        · refine r_aload_n E dX4_findFar_32 rfl ?_
          refine r_getf E cl_X4 1 (by decide) q1887 mdl_o rfl dX4_findFar_33 ?_
          refine r_sipush E (nI 328) dX4_findFar_36 (by decide) ?_
          refine r_iload_n E dX4_findFar_39 rfl ?_
          refine r_iaddN E dX4_findFar_40 ?_
          refine r_iald E mdl_1 (by omega) (by omega) dX4_findFar_41 ?_
          refine r_top (v' := .int ((S.2 1) (328 + j))) rfl ?_
          refine r_if_ne (tgt := 61) E dX4_findFar_42 (by decide) (fun c8 => ?_) (fun c8 => ?_)
          · have ho : (sFree (S.2 1) c (nI j) K && decide ((S.2 1) (328 + j) = nI 0)) = false := by rw [c7, decide_eq_false (by rw [nI_0]; exact c8)]; rfl
            refine r_iconst E (nI 0) dX4_findFar_61 (by decide) ?_
            refine r_istore E [some (.ref m), some (.int (nI j)), some (.int (nI c)), some (.int (nI 0)), some (.int (nI 0)), none, none] dX4_findFar_62 rfl rfl ?_
            have := lpk 65 0 (bOne c (sFree (S.2 1) c (nI j) K && decide ((S.2 1) (328 + j) = nI 0))) (S.2 13) rfl (bOK_one hc _) (Nat.zero_le _) (by rw [bOne_f ho]; exact bQ_zero _) rfl
            rw [bOne_f ho] at this
            exact this
          · refine r_aload_n E dX4_findFar_45 rfl ?_
            refine r_getf E cl_X4 9 (by decide) q1895 mdl_o rfl dX4_findFar_46 ?_
            refine r_iload_n E dX4_findFar_49 rfl ?_
            refine r_iconst E (nI 1) dX4_findFar_50 (by decide) ?_
            refine r_iast E mdl_12 (by omega) (by omega) dX4_findFar_51 ?_
            refine r_hp (h' := mdl m (S.1, va_up (va_up (va_up S.2 12 (fun zz => nI (bZero.1 zz))) 13 (S.2 13)) 12 (upd (fun zz => nI (bZero.1 zz)) c (nI 1))) h0) (mdl_a12 _) ?_
            refine r_aload_n E dX4_findFar_52 rfl ?_
            refine r_getf E cl_X4 10 (by decide) q1896 mdl_o rfl dX4_findFar_53 ?_
            refine r_iconst E (nI 0) dX4_findFar_56 (by decide) ?_
            refine r_iload_n E dX4_findFar_57 rfl ?_
            refine r_iast E mdl_13 (by omega) (by omega) dX4_findFar_58 ?_
            refine r_hp (h' := mdl m (S.1, va_up (va_up (va_up (va_up S.2 12 (fun zz => nI (bZero.1 zz))) 13 (S.2 13)) 12 (upd (fun zz => nI (bZero.1 zz)) c (nI 1))) 13 (upd (S.2 13) 0 (nI c))) h0) (mdl_a13 _) ?_
            refine r_iconst E (nI 1) dX4_findFar_59 (by decide) ?_
            refine r_istore_n E [some (.ref m), some (.int (nI j)), some (.int (nI c)), some (.int (nI 1)), none, none, none] dX4_findFar_60 rfl rfl ?_
            refine r_hp (h' := mdl m (S.1, va_up (va_up S.2 12 (fun zz => nI ((updN (fun _ => 0) c 1, updN (fun _ => 0) 0 c, 1).1 zz))) 13 (upd (S.2 13) 0 (nI c))) h0) (by rw [va_4]; exact congrArg (fun f => mdl m (S.1, va_up (va_up S.2 12 f) 13 _) h0) upd_nI) ?_
            have ho : (sFree (S.2 1) c (nI j) K && decide ((S.2 1) (328 + j) = nI 0)) = true := by rw [c7, decide_eq_true (by rw [nI_0]; exact c8)]; rfl
            refine r_iconst E (nI 0) dX4_findFar_61 (by decide) ?_
            refine r_istore E [some (.ref m), some (.int (nI j)), some (.int (nI c)), some (.int (nI 1)), some (.int (nI 0)), none, none] dX4_findFar_62 rfl rfl ?_
            have := lpk 65 0 (bOne c (sFree (S.2 1) c (nI j) K && decide ((S.2 1) (328 + j) = nI 0))) (upd (S.2 13) 0 (nI c)) rfl (bOK_one hc _) (Nat.zero_le _) (by rw [bOne_t ho]; exact bQ_add (bQ_zero _)) rfl
            rw [bOne_t ho] at this
            exact this
      · exfalso; omega
    | succ n1 ih =>
      intro i1 hi1
      refine r_iload_n E dX4_findFar_2 rfl ?_
      refine r_bipush E (nI 64) dX4_findFar_3 (by decide) ?_
      refine r_icmpN_ge (tgt := 21) E dX4_findFar_5 (by decide) (by omega) (by omega) (fun c9 => ?_) (fun c9 => ?_)
      · exfalso; omega
      · refine r_aload_n E dX4_findFar_8 rfl ?_
        refine r_getf E cl_X4 9 (by decide) q1895 mdl_o rfl dX4_findFar_9 ?_
        refine r_iload_n E dX4_findFar_12 rfl ?_
        refine r_iconst E (nI 0) dX4_findFar_13 (by decide) ?_
        refine r_iast E mdl_12 (by omega) (by omega) dX4_findFar_14 ?_
        refine r_hp (h' := mdl m (S.1, va_up S.2 12 (upd (sClr (S.2 12) i1) i1 (nI 0))) h0) (mdl_b12 _) ?_
        refine r_hp (h' := mdl m (S.1, va_up S.2 12 (sClr (S.2 12) (i1 + 1))) h0) (by rw [sClr_1]) ?_
        refine r_iinc E (nI (i1 + 1)) [some (.ref m), some (.int (nI j)), some (.int (nI c)), some (.int (nI (i1 + 1))), none, none, none] dX4_findFar_15 rfl (nI_1 i1) rfl rfl ?_
        refine r_goto (tgt := 2) E dX4_findFar_18 (by decide) ?_
        exact ih (i1 + 1) (by omega)
  exact lp1 64 0 (by omega)

