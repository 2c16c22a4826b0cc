set_option maxHeartbeats 4000000 in
theorem ct_X4_countReached (G : fmG) (hl : (fmLn G).stackTraces = false) (m : Nat) (S : MSt) (h0 : fmHp) (j : Nat) (K : Nat) (hK : S.2 1 350 = nI K) (hK8 : K ≤ 8) (hj : j < 8) : Ct G yX4_countReached (ws_ yX4_countReached cX4_countReached 6 (some .int)) { frames := 5, cells := 0, slots := 0, locals := 114 } [.ref m, .int (nI j)] (mdl m S h0) (fun v h' => v = some (.int (nI (bAll (S.2 1) j K).2.2)) ∧ ∃ X W : Nat → Int32, h' = mdl m (S.1, va_up (va_up S.2 12 X) 13 W) h0) fmNo := by
  refine Ct.of hl (by decide +kernel) (Nat.le_of_ble_eq_true rfl) (fun Γ E P => ?_)
  refine r_iconst E (nI 0) dX4_countReached_0 (by decide) ?_
  refine r_istore_n E [some (.ref m), some (.int (nI j)), some (.int (nI 0)), none, none, none] dX4_countReached_1 rfl rfl ?_
  refine r_iconst E (nI 0) dX4_countReached_2 (by decide) ?_
  refine r_istore_n E [some (.ref m), some (.int (nI j)), some (.int (nI 0)), some (.int (nI 0)), none, none] dX4_countReached_3 rfl rfl ?_
  have lp : ∀ (n i : Nat) (W : Nat → Int32), i + n = 64 → bQ (bMany (sBeg (S.2 1) j K) i) W → fmW G Γ (mdl m (S.1, va_up (va_up S.2 12 (sMix (sBeg (S.2 1) j K) (S.2 12) i)) 13 W) h0) 0 0 4 [some (.ref m), some (.int (nI j)), some (.int (nI ((bMany (sBeg (S.2 1) j K) i).2.2))), some (.int (nI i)), none, none] [] := by
    intro n
    induction n with
    | zero =>
      intro i W hi hW
      have h64 : i = 64 := by omega
      subst h64
      refine r_iload_n E dX4_countReached_4 rfl ?_
      refine r_bipush E (nI 64) dX4_countReached_5 (by decide) ?_
      refine r_icmpN_ge (tgt := 85) E dX4_countReached_7 (by decide) (by omega) (by omega) (fun _ => ?_) (fun c => absurd c (by omega))
      refine r_arx (fun zz => nI ((bMany (sBeg (S.2 1) j K) 64).1 zz)) mdl_12 (fun k hk => if_pos hk) ?_
      refine r_hp (h' := mdl m (S.1, va_up (va_up S.2 12 (fun zz => nI ((bMany (sBeg (S.2 1) j K) 64).1 zz))) 13 W) h0) ((mdl_a12 _).trans (congrArg (fun A => mdl m (S.1, A) h0) va_3)) ?_
      refine fmW.few (L' := [some (.ref m), some (.int (nI j)), some (.int (nI ((bMany (sBeg (S.2 1) j K) 64).2.2))), none, none, none]) (fmFew_n (L := [some (.ref m), some (.int (nI j)), some (.int (nI ((bMany (sBeg (S.2 1) j K) 64).2.2))), some (.int (nI 64)), none, none]) 3) ?_
      have lpk : ∀ (t k : Nat) (b : Bf) (W : Nat → Int32), t + k = 65 → bOK b → k ≤ b.2.2 → bQ b W → bRun (fun x => sFree (S.2 1) x (nI j) K) (fun _ => 1) t k b = bAll (S.2 1) j K → fmW G Γ (mdl m (S.1, va_up (va_up S.2 12 (fun zz => nI (b.1 zz))) 13 W) h0) 0 0 87 [some (.ref m), some (.int (nI j)), some (.int (nI b.2.2)), some (.int (nI k)), none, none] [] := by
        intro t
        induction t with
        | zero => intro k b W ht hb hk; have := hb.n; omega
        | succ t ih =>
          intro k b W ht hb hk hW hr
          have hbn := hb.n
          refine r_iload_n E dX4_countReached_87 rfl ?_
          refine r_iload_n E dX4_countReached_88 rfl ?_
          refine r_icmpN_ge (tgt := 170) E dX4_countReached_89 (by decide) (by omega) (by omega) (fun c1 => ?_) (fun c1 => ?_)
          · rw [bRun_end c1] at hr
            refine r_iload_n E dX4_countReached_170 rfl ?_
            exact r_ireturn E P rfl dX4_countReached_171 ⟨by rw [hr], _, W, rfl⟩
          · have hk2 : k < b.2.2 := by omega
            rw [bRun_go hk2] at hr
            refine r_iconst E (nI 0) dX4_countReached_92 (by decide) ?_
            refine r_istore E [some (.ref m), some (.int (nI j)), some (.int (nI b.2.2)), some (.int (nI k)), some (.int (nI 0)), none] dX4_countReached_93 rfl rfl ?_
            have lpd : ∀ (u d : Nat) (W : Nat → Int32), u + d = 4 → bQ (bSide (fun x => sFree (S.2 1) x (nI j) K) (fun _ => 1) k d b) W → fmW G Γ (mdl m (S.1, va_up (va_up S.2 12 (fun zz => nI ((bSide (fun x => sFree (S.2 1) x (nI j) K) (fun _ => 1) k d b).1 zz))) 13 W) h0) 0 0 95 [some (.ref m), some (.int (nI j)), some (.int (nI ((bSide (fun x => sFree (S.2 1) x (nI j) K) (fun _ => 1) k d b).2.2))), some (.int (nI k)), some (.int (nI d)), none] [] := by
              intro u
              induction u with
              | zero =>
                intro d W hd hW
                obtain rfl : d = 4 := by omega
                obtain ⟨e1, e2, e3⟩ := bSide_ok (P := (fun x => sFree (S.2 1) x (nI j) K)) bG_1 hb hk2 4
                refine r_iload E dX4_countReached_95 rfl ?_
                refine r_iconst E (nI 4) dX4_countReached_97 (by decide) ?_
                refine r_icmpN_ge (tgt := 164) E dX4_countReached_98 (by decide) (by omega) (by omega) (fun _ => ?_) (fun c => absurd c (by omega))
                refine r_iinc E (nI (k + 1)) [some (.ref m), some (.int (nI j)), some (.int (nI ((bSide (fun x => sFree (S.2 1) x (nI j) K) (fun _ => 1) k 4 b).2.2))), some (.int (nI (k + 1))), some (.int (nI 4)), none] dX4_countReached_164 rfl (nI_1 k) rfl rfl ?_
                refine r_goto (tgt := 87) E dX4_countReached_167 (by decide) ?_
                refine fmW.few (L' := [some (.ref m), some (.int (nI j)), some (.int (nI ((bSide (fun x => sFree (S.2 1) x (nI j) K) (fun _ => 1) k 4 b).2.2))), some (.int (nI (k + 1))), none, none]) (fmFew_n (L := [some (.ref m), some (.int (nI j)), some (.int (nI ((bSide (fun x => sFree (S.2 1) x (nI j) K) (fun _ => 1) k 4 b).2.2))), some (.int (nI (k + 1))), some (.int (nI 4)), none]) 4) ?_
                exact ih (k + 1) _ _ (by omega) e1 (by omega) hW hr
              | succ u ihd =>
                intro d W hd hW
                obtain ⟨e1, e2, e3⟩ := bSide_ok (P := (fun x => sFree (S.2 1) x (nI j) K)) bG_1 hb hk2 d
                have hd4 : d < 4 := by omega
                have hn64 := e1.n
                have hkn : k < (bSide (fun x => sFree (S.2 1) x (nI j) K) (fun _ => 1) k d b).2.2 := by omega
                have hq := hW k hkn
                have hqc := (e1.1 k hkn).1
                refine r_iload E dX4_countReached_95 rfl ?_
                refine r_iconst E (nI 4) dX4_countReached_97 (by decide) ?_
                refine r_icmpN_ge (tgt := 164) E dX4_countReached_98 (by decide) (by omega) (by omega) (fun c => absurd c (by omega)) (fun _ => ?_)
                refine r_aload_n E dX4_countReached_101 rfl ?_
                refine r_getf E cl_X4 10 (by decide) q1896 mdl_o rfl dX4_countReached_102 ?_
                refine r_iload_n E dX4_countReached_105 rfl ?_
                refine r_iald E mdl_13 (by omega) (by omega) dX4_countReached_106 ?_
                refine r_top (v' := .int (nI ((bSide (fun x => sFree (S.2 1) x (nI j) K) (fun _ => 1) k d b).2.1 k))) (congrArg Value.int hq) ?_
                refine r_iload E dX4_countReached_107 rfl ?_
                refine r_callS1 (v1 := .int (cI (sBsd ((bSide (fun x => sFree (S.2 1) x (nI j) K) (fun _ => 1) k d b).2.1 k) d))) E (ct_X4_beside G hl (mdl m (S.1, va_up (va_up S.2 12 (fun zz => nI ((bSide (fun x => sFree (S.2 1) x (nI j) K) (fun _ => 1) k d b).1 zz))) 13 W) h0) (((bSide (fun x => sFree (S.2 1) x (nI j) K) (fun _ => 1) k d b).2.1 k)) (d) (by omega) (by omega)) mX4_beside q89 q2016 q2017 rfl rfl (Nat.le_of_ble_eq_true rfl) (Nat.le_of_ble_eq_true rfl) (Nat.le_of_ble_eq_true rfl) dX4_countReached_109 0 0 (Nat.le_of_ble_eq_true rfl) (Nat.le_of_ble_eq_true rfl) ?_
                refine r_istore E [some (.ref m), some (.int (nI j)), some (.int (nI ((bSide (fun x => sFree (S.2 1) x (nI j) K) (fun _ => 1) k d b).2.2))), some (.int (nI k)), some (.int (nI d)), some (.int (cI (sBsd ((bSide (fun x => sFree (S.2 1) x (nI j) K) (fun _ => 1) k d b).2.1 k) d)))] dX4_countReached_112 rfl rfl ?_
                refine r_iload E dX4_countReached_114 rfl ?_
                refine r_ifC_lt (o := sBsd ((bSide (fun x => sFree (S.2 1) x (nI j) K) (fun _ => 1) k d b).2.1 k) d) (tgt := 158) E dX4_countReached_116 (by decide) (by intro x hx; first | exact Nat.lt_of_lt_of_le (sBsd_lt (by omega) hx) (by decide) | exact Nat.lt_of_lt_of_le (ho x hx) (by decide)) (fun c2 => ?_) (fun c2 => ?_)
                · have hs1 : bSide (fun x => sFree (S.2 1) x (nI j) K) (fun _ => 1) k (d + 1) b = _ := bStep_none c2
                  refine r_iinc E (nI (d + 1)) [some (.ref m), some (.int (nI j)), some (.int (nI ((bSide (fun x => sFree (S.2 1) x (nI j) K) (fun _ => 1) k d b).2.2))), some (.int (nI k)), some (.int (nI (d + 1))), some (.int (cI (sBsd ((bSide (fun x => sFree (S.2 1) x (nI j) K) (fun _ => 1) k d b).2.1 k) d)))] dX4_countReached_158 rfl (nI_1 d) rfl rfl ?_
                  refine r_goto (tgt := 95) E dX4_countReached_161 (by decide) ?_
                  refine fmW.few (L' := [some (.ref m), some (.int (nI j)), some (.int (nI ((bSide (fun x => sFree (S.2 1) x (nI j) K) (fun _ => 1) k d b).2.2))), some (.int (nI k)), some (.int (nI (d + 1))), none]) (fmFew_n (L := [some (.ref m), some (.int (nI j)), some (.int (nI ((bSide (fun x => sFree (S.2 1) x (nI j) K) (fun _ => 1) k d b).2.2))), some (.int (nI k)), some (.int (nI (d + 1))), some (.int (cI (sBsd ((bSide (fun x => sFree (S.2 1) x (nI j) K) (fun _ => 1) k d b).2.1 k) d)))]) 5) ?_
                  have := ihd (d + 1) W (by omega) (by rw [hs1]; exact hW)
                  rw [hs1] at this
                  exact this
                · obtain ⟨x, hx⟩ := Option.ne_none_iff_exists'.mp c2
                  have hx6 := sBsd_lt hqc hx
                  have hfx := e1.f x
                  have hfq := e1.f ((bSide (fun x => sFree (S.2 1) x (nI j) K) (fun _ => 1) k d b).2.1 k)
                  refine r_aload_n E dX4_countReached_119 rfl ?_
                  refine r_getf E cl_X4 9 (by decide) q1895 mdl_o rfl dX4_countReached_120 ?_
                  refine r_iload E dX4_countReached_123 rfl ?_
                  refine r_top (v' := .int (nI x)) (congrArg Value.int (by rw [hx]; rfl)) ?_
                  refine r_iald E mdl_12 (by omega) (by omega) dX4_countReached_125 ?_
                  refine r_top (v' := .int (nI ((bSide (fun x => sFree (S.2 1) x (nI j) K) (fun _ => 1) k d b).1 x))) (congrArg Value.int rfl) ?_
                  refine r_if_ne (tgt := 158) E dX4_countReached_126 (by decide) (fun c3 => ?_) (fun c3 => ?_)
                  · have hs1 : bSide (fun x => sFree (S.2 1) x (nI j) K) (fun _ => 1) k (d + 1) b = _ := bStep_no hx (fun z => c3 (by rw [z.1]; exact nI_0))
                    refine r_iinc E (nI (d + 1)) [some (.ref m), some (.int (nI j)), some (.int (nI ((bSide (fun x => sFree (S.2 1) x (nI j) K) (fun _ => 1) k d b).2.2))), some (.int (nI k)), some (.int (nI (d + 1))), some (.int (cI (sBsd ((bSide (fun x => sFree (S.2 1) x (nI j) K) (fun _ => 1) k d b).2.1 k) d)))] dX4_countReached_158 rfl (nI_1 d) rfl rfl ?_
                    refine r_goto (tgt := 95) E dX4_countReached_161 (by decide) ?_
                    refine fmW.few (L' := [some (.ref m), some (.int (nI j)), some (.int (nI ((bSide (fun x => sFree (S.2 1) x (nI j) K) (fun _ => 1) k d b).2.2))), some (.int (nI k)), some (.int (nI (d + 1))), none]) (fmFew_n (L := [some (.ref m), some (.int (nI j)), some (.int (nI ((bSide (fun x => sFree (S.2 1) x (nI j) K) (fun _ => 1) k d b).2.2))), some (.int (nI k)), some (.int (nI (d + 1))), some (.int (cI (sBsd ((bSide (fun x => sFree (S.2 1) x (nI j) K) (fun _ => 1) k d b).2.1 k) d)))]) 5) ?_
                    have := ihd (d + 1) W (by omega) (by rw [hs1]; exact hW)
                    rw [hs1] at this
                    exact this
                  · have hz0 : (bSide (fun x => sFree (S.2 1) x (nI j) K) (fun _ => 1) k d b).1 x = 0 := nI_z (by omega) c3
                    have hlt := e1.lt hx6 hz0
                    refine r_aload_n E dX4_countReached_129 rfl ?_
                    refine r_iload E dX4_countReached_130 rfl ?_
                    refine r_top (v' := .int (nI x)) (congrArg Value.int (by rw [hx]; rfl)) ?_
                    refine r_iload_n E dX4_countReached_132 rfl ?_
                    refine r_callV1 (v1 := .int (bI (sFree (S.2 1) x (nI j) K))) E (ct_X4_isFree G hl m (S.1, va_up (va_up S.2 12 (fun zz => nI ((bSide (fun x => sFree (S.2 1) x (nI j) K) (fun _ => 1) k d b).1 zz))) 13 W) h0 x (nI j) K hK hK8 (by omega)) mX4_isFree q2139 q2141 qs61 (fun H a1 => fm_rc (ci := 0) (C := RX4) (T := TX4) (N := 21) a1 rfl E.v mdl_o) rfl rfl (Nat.le_of_ble_eq_true rfl) (Nat.le_of_ble_eq_true rfl) (Nat.le_of_ble_eq_true rfl) dX4_countReached_133 0 0 (Nat.le_of_ble_eq_true rfl) (Nat.le_of_ble_eq_true rfl) ?_
                    refine r_ifB_eq (b := sFree (S.2 1) x (nI j) K) (tgt := 158) E dX4_countReached_136 (by decide) (fun c4 => ?_) (fun c4 => ?_)
                    · have hs1 : bSide (fun x => sFree (S.2 1) x (nI j) K) (fun _ => 1) k (d + 1) b = _ := bStep_no hx (fun z => by have z2 := z.2; rw [c4] at z2; exact Bool.noConfusion z2)
                      refine r_iinc E (nI (d + 1)) [some (.ref m), some (.int (nI j)), some (.int (nI ((bSide (fun x => sFree (S.2 1) x (nI j) K) (fun _ => 1) k d b).2.2))), some (.int (nI k)), some (.int (nI (d + 1))), some (.int (cI (sBsd ((bSide (fun x => sFree (S.2 1) x (nI j) K) (fun _ => 1) k d b).2.1 k) d)))] dX4_countReached_158 rfl (nI_1 d) rfl rfl ?_
                      refine r_goto (tgt := 95) E dX4_countReached_161 (by decide) ?_
                      refine fmW.few (L' := [some (.ref m), some (.int (nI j)), some (.int (nI ((bSide (fun x => sFree (S.2 1) x (nI j) K) (fun _ => 1) k d b).2.2))), some (.int (nI k)), some (.int (nI (d + 1))), none]) (fmFew_n (L := [some (.ref m), some (.int (nI j)), some (.int (nI ((bSide (fun x => sFree (S.2 1) x (nI j) K) (fun _ => 1) k d b).2.2))), some (.int (nI k)), some (.int (nI (d + 1))), some (.int (cI (sBsd ((bSide (fun x => sFree (S.2 1) x (nI j) K) (fun _ => 1) k d b).2.1 k) d)))]) 5) ?_
                      have := ihd (d + 1) W (by omega) (by rw [hs1]; exact hW)
                      rw [hs1] at this
                      exact this
                    · refine r_aload_n E dX4_countReached_139 rfl ?_
                      refine r_getf E cl_X4 9 (by decide) q1895 mdl_o rfl dX4_countReached_140 ?_
                      refine r_iload E dX4_countReached_143 rfl ?_
                      refine r_top (v' := .int (nI x)) (congrArg Value.int (by rw [hx]; rfl)) ?_
                      refine r_iconst E (nI 1) dX4_countReached_145 (by decide) ?_
                      refine r_iast E mdl_12 (by omega) (by omega) dX4_countReached_146 ?_
                      refine r_hp (h' := mdl m (S.1, va_up (va_up (va_up S.2 12 (fun zz => nI ((bSide (fun x => sFree (S.2 1) x (nI j) K) (fun _ => 1) k d b).1 zz))) 13 W) 12 (upd (fun zz => nI ((bSide (fun x => sFree (S.2 1) x (nI j) K) (fun _ => 1) k d b).1 zz)) x (nI 1))) h0) (mdl_a12 _) ?_
                      refine r_aload_n E dX4_countReached_147 rfl ?_
                      refine r_getf E cl_X4 10 (by decide) q1896 mdl_o rfl dX4_countReached_148 ?_
                      refine r_iload_n E dX4_countReached_151 rfl ?_
                      refine r_iload E dX4_countReached_152 rfl ?_
                      refine r_top (v' := .int (nI x)) (congrArg Value.int (by rw [hx]; rfl)) ?_
                      refine r_iast E mdl_13 (by omega) (by omega) dX4_countReached_154 ?_
                      refine r_hp (h' := mdl m (S.1, va_up (va_up (va_up (va_up S.2 12 (fun zz => nI ((bSide (fun x => sFree (S.2 1) x (nI j) K) (fun _ => 1) k d b).1 zz))) 13 W) 12 (upd (fun zz => nI ((bSide (fun x => sFree (S.2 1) x (nI j) K) (fun _ => 1) k d b).1 zz)) x (nI 1))) 13 (upd W ((bSide (fun x => sFree (S.2 1) x (nI j) K) (fun _ => 1) k d b).2.2) (nI x))) h0) (mdl_a13 _) ?_
                      refine r_iinc E (nI ((bSide (fun x => sFree (S.2 1) x (nI j) K) (fun _ => 1) k d b).2.2 + 1)) [some (.ref m), some (.int (nI j)), some (.int (nI ((bSide (fun x => sFree (S.2 1) x (nI j) K) (fun _ => 1) k d b).2.2 + 1))), some (.int (nI k)), some (.int (nI d)), some (.int (cI (sBsd ((bSide (fun x => sFree (S.2 1) x (nI j) K) (fun _ => 1) k d b).2.1 k) d)))] dX4_countReached_155 rfl (nI_1 ((bSide (fun x => sFree (S.2 1) x (nI j) K) (fun _ => 1) k d b).2.2)) rfl rfl ?_
                      refine r_hp (h' := mdl m (S.1, va_up (va_up S.2 12 (fun zz => nI ((updN (bSide (fun x => sFree (S.2 1) x (nI j) K) (fun _ => 1) k d b).1 x ((fun _ => 1) ((bSide (fun x => sFree (S.2 1) x (nI j) K) (fun _ => 1) k d b).1 ((bSide (fun x => sFree (S.2 1) x (nI j) K) (fun _ => 1) k d b).2.1 k))), updN (bSide (fun x => sFree (S.2 1) x (nI j) K) (fun _ => 1) k d b).2.1 (bSide (fun x => sFree (S.2 1) x (nI j) K) (fun _ => 1) k d b).2.2 x, (bSide (fun x => sFree (S.2 1) x (nI j) K) (fun _ => 1) k d b).2.2 + 1).1 zz))) 13 (upd W (bSide (fun x => sFree (S.2 1) x (nI j) K) (fun _ => 1) k d b).2.2 (nI x))) h0) (by rw [va_4]; exact congrArg (fun f => mdl m (S.1, va_up (va_up S.2 12 f) 13 _) h0) upd_nI) ?_
                      have hs1 : bSide (fun x => sFree (S.2 1) x (nI j) K) (fun _ => 1) k (d + 1) b = (updN (bSide (fun x => sFree (S.2 1) x (nI j) K) (fun _ => 1) k d b).1 x ((fun _ => 1) ((bSide (fun x => sFree (S.2 1) x (nI j) K) (fun _ => 1) k d b).1 ((bSide (fun x => sFree (S.2 1) x (nI j) K) (fun _ => 1) k d b).2.1 k))), updN (bSide (fun x => sFree (S.2 1) x (nI j) K) (fun _ => 1) k d b).2.1 (bSide (fun x => sFree (S.2 1) x (nI j) K) (fun _ => 1) k d b).2.2 x, (bSide (fun x => sFree (S.2 1) x (nI j) K) (fun _ => 1) k d b).2.2 + 1) := bStep_yes hx ⟨hz0, c4⟩
                      refine r_iinc E (nI (d + 1)) [some (.ref m), some (.int (nI j)), some (.int (nI ((bSide (fun x => sFree (S.2 1) x (nI j) K) (fun _ => 1) k d b).2.2 + 1))), some (.int (nI k)), some (.int (nI (d + 1))), some (.int (cI (sBsd ((bSide (fun x => sFree (S.2 1) x (nI j) K) (fun _ => 1) k d b).2.1 k) d)))] dX4_countReached_158 rfl (nI_1 d) rfl rfl ?_
                      refine r_goto (tgt := 95) E dX4_countReached_161 (by decide) ?_
                      refine fmW.few (L' := [some (.ref m), some (.int (nI j)), some (.int (nI ((bSide (fun x => sFree (S.2 1) x (nI j) K) (fun _ => 1) k d b).2.2 + 1))), some (.int (nI k)), some (.int (nI (d + 1))), none]) (fmFew_n (L := [some (.ref m), some (.int (nI j)), some (.int (nI ((bSide (fun x => sFree (S.2 1) x (nI j) K) (fun _ => 1) k d b).2.2 + 1))), some (.int (nI k)), some (.int (nI (d + 1))), some (.int (cI (sBsd ((bSide (fun x => sFree (S.2 1) x (nI j) K) (fun _ => 1) k d b).2.1 k) d)))]) 5) ?_
                      have := ihd (d + 1) (upd W (bSide (fun x => sFree (S.2 1) x (nI j) K) (fun _ => 1) k d b).2.2 (nI x)) (by omega) (by rw [hs1]; exact bQ_add hW)
                      rw [hs1] at this
                      exact this
            exact lpd 4 0 W rfl hW
      refine r_iconst E (nI 0) dX4_countReached_85 (by decide) ?_
      refine r_istore_n E [some (.ref m), some (.int (nI j)), some (.int (nI ((bMany (sBeg (S.2 1) j K) 64).2.2))), some (.int (nI 0)), none, none] dX4_countReached_86 rfl rfl ?_
      exact lpk 65 0 (bMany (sBeg (S.2 1) j K) 64) W rfl (bMany_ok 64 (Nat.le_refl _)) (Nat.zero_le _) hW rfl
    | succ n ih =>
      intro i W hi hW
      have hmn := (bMany_ok (p := (sBeg (S.2 1) j K)) i (by omega)).n
      have hml := (bMany_ok (p := (sBeg (S.2 1) j K)) i (by omega)).lt (x := i) (by omega) (bMany_hi (Nat.le_refl _))
      refine r_iload_n E dX4_countReached_4 rfl ?_
      refine r_bipush E (nI 64) dX4_countReached_5 (by decide) ?_
      refine r_icmpN_ge (tgt := 85) E dX4_countReached_7 (by decide) (by omega) (by omega) (fun c => absurd c (by omega)) (fun _ => ?_)
      suffices j1 : fmW G Γ (mdl m (S.1, va_up (va_up S.2 12 (sMix (sBeg (S.2 1) j K) (S.2 12) i)) 13 W) h0) 0 0 46 [some (.ref m), some (.int (nI j)), some (.int (nI ((bMany (sBeg (S.2 1) j K) i).2.2))), some (.int (nI i)), none, none] [.int (bI ((sBeg (S.2 1) j K) i))] by
        refine r_aload_n E dX4_countReached_10 rfl ?_
        refine r_getf E cl_X4 1 (by decide) q1887 mdl_o rfl dX4_countReached_11 ?_
        refine r_sipush E (nI 328) dX4_countReached_14 (by decide) ?_
        refine r_iload_n E dX4_countReached_17 rfl ?_
        refine r_iaddN E dX4_countReached_18 ?_
        refine r_iald E mdl_1 (by omega) (by omega) dX4_countReached_19 ?_
        refine r_top (v' := .int ((S.2 1) (328 + j))) rfl ?_
        refine r_if_ne (tgt := 45) E dX4_countReached_20 (by decide) (fun c2 => ?_) (fun c2 => ?_)
        · refine r_iconst E (nI 0) dX4_countReached_45 (by decide) ?_
          refine r_top (v' := .int (bI ((sBeg (S.2 1) j K) i))) (by rw [show ((sBeg (S.2 1) j K) i) = false by simp [c2, sBeg, nI_0]]; rfl) ?_
          exact j1
        · refine r_aload_n E dX4_countReached_23 rfl ?_
          refine r_iload_n E dX4_countReached_24 rfl ?_
          refine r_iload_n E dX4_countReached_25 rfl ?_
          refine r_callV1 (v1 := .int (bI (sNext (S.2 1) i (nI j)))) E (ct_X4_isNextTo G hl m (S.1, va_up (va_up S.2 12 (sMix (sBeg (S.2 1) j K) (S.2 12) i)) 13 W) h0 i (nI j) (by omega)) mX4_isNextTo q2063 q2065 qs48 (fun H a1 => fm_rc (ci := 0) (C := RX4) (T := TX4) (N := 21) a1 rfl E.v mdl_o) rfl rfl (Nat.le_of_ble_eq_true rfl) (Nat.le_of_ble_eq_true rfl) (Nat.le_of_ble_eq_true rfl) dX4_countReached_26 0 0 (Nat.le_of_ble_eq_true rfl) (Nat.le_of_ble_eq_true rfl) ?_
          refine r_ifB_eq (b := sNext (S.2 1) i (nI j)) (tgt := 45) E dX4_countReached_29 (by decide) (fun c3 => ?_) (fun c3 => ?_)
          · refine r_iconst E (nI 0) dX4_countReached_45 (by decide) ?_
            refine r_top (v' := .int (bI ((sBeg (S.2 1) j K) i))) (by rw [show ((sBeg (S.2 1) j K) i) = false by simp [c2, c3, sBeg, nI_0]]; rfl) ?_
            exact j1
          · refine r_aload_n E dX4_countReached_32 rfl ?_
            refine r_iload_n E dX4_countReached_33 rfl ?_
            refine r_iload_n E dX4_countReached_34 rfl ?_
            refine r_callV1 (v1 := .int (bI (sFree (S.2 1) i (nI j) K))) E (ct_X4_isFree G hl m (S.1, va_up (va_up S.2 12 (sMix (sBeg (S.2 1) j K) (S.2 12) i)) 13 W) h0 i (nI j) K hK hK8 (by omega)) mX4_isFree q2139 q2141 qs61 (fun H a1 => fm_rc (ci := 0) (C := RX4) (T := TX4) (N := 21) a1 rfl E.v mdl_o) rfl rfl (Nat.le_of_ble_eq_true rfl) (Nat.le_of_ble_eq_true rfl) (Nat.le_of_ble_eq_true rfl) dX4_countReached_35 0 0 (Nat.le_of_ble_eq_true rfl) (Nat.le_of_ble_eq_true rfl) ?_
            refine r_ifB_eq (b := sFree (S.2 1) i (nI j) K) (tgt := 45) E dX4_countReached_38 (by decide) (fun c4 => ?_) (fun c4 => ?_)
            · refine r_iconst E (nI 0) dX4_countReached_45 (by decide) ?_
              refine r_top (v' := .int (bI ((sBeg (S.2 1) j K) i))) (by rw [show ((sBeg (S.2 1) j K) i) = false by simp [c2, c3, c4, sBeg, nI_0]]; rfl) ?_
              exact j1
            · refine r_iconst E (nI 1) dX4_countReached_41 (by decide) ?_
              refine r_goto (tgt := 46) E dX4_countReached_42 (by decide) ?_
              refine r_top (v' := .int (bI ((sBeg (S.2 1) j K) i))) (by rw [show ((sBeg (S.2 1) j K) i) = true by simp [c2, c3, c4, sBeg, nI_0]]; rfl) ?_
              exact j1
      refine r_istore E [some (.ref m), some (.int (nI j)), some (.int (nI ((bMany (sBeg (S.2 1) j K) i).2.2))), some (.int (nI i)), some (.int (bI ((sBeg (S.2 1) j K) i))), none] dX4_countReached_46 rfl rfl ?_
      refine r_aload_n E dX4_countReached_48 rfl ?_
      refine r_getf E cl_X4 9 (by decide) q1895 mdl_o rfl dX4_countReached_49 ?_
      refine r_iload_n E dX4_countReached_52 rfl ?_
      suffices j5 : fmW G Γ (mdl m (S.1, va_up (va_up S.2 12 (sMix (sBeg (S.2 1) j K) (S.2 12) i)) 13 W) h0) 0 0 63 [some (.ref m), some (.int (nI j)), some (.int (nI ((bMany (sBeg (S.2 1) j K) i).2.2))), some (.int (nI i)), some (.int (bI ((sBeg (S.2 1) j K) i))), none] [.int (bI ((sBeg (S.2 1) j K) i)), .int (nI i), .ref (m + 12)] by
        refine r_iload E dX4_countReached_53 rfl ?_
        refine r_ifB_eq (b := (sBeg (S.2 1) j K) i) (tgt := 62) E dX4_countReached_55 (by decide) (fun c6 => ?_) (fun c6 => ?_)
        · refine r_iconst E (nI 0) dX4_countReached_62 (by decide) ?_
          refine r_top (v' := .int (bI ((sBeg (S.2 1) j K) i))) (by rw [show ((sBeg (S.2 1) j K) i) = false by simp [c6]]; rfl) ?_
          exact j5
        · refine r_iconst E (nI 1) dX4_countReached_58 (by decide) ?_
          refine r_goto (tgt := 63) E dX4_countReached_59 (by decide) ?_
          refine r_top (v' := .int (bI ((sBeg (S.2 1) j K) i))) (by rw [show ((sBeg (S.2 1) j K) i) = true by simp [c6]]; rfl) ?_
          exact j5
      refine r_iast E mdl_12 (by omega) (by omega) dX4_countReached_63 ?_
      refine r_hp (h' := mdl m (S.1, va_up (va_up (va_up S.2 12 (sMix (sBeg (S.2 1) j K) (S.2 12) i)) 13 W) 12 (upd (sMix (sBeg (S.2 1) j K) (S.2 12) i) i (bI ((sBeg (S.2 1) j K) i)))) h0) (mdl_a12 _) ?_
      refine r_hp (h' := mdl m (S.1, va_up (va_up S.2 12 (sMix (sBeg (S.2 1) j K) (S.2 12) (i + 1))) 13 W) h0) (by rw [sMix_1]; exact congrArg (fun A => mdl m (S.1, A) h0) va_6) ?_
      refine r_iload E dX4_countReached_64 rfl ?_
      refine r_ifB_eq (b := (sBeg (S.2 1) j K) i) (tgt := 79) E dX4_countReached_66 (by decide) (fun c7 => ?_) (fun c7 => ?_)
      · refine r_iinc E (nI (i + 1)) [some (.ref m), some (.int (nI j)), some (.int (nI ((bMany (sBeg (S.2 1) j K) i).2.2))), some (.int (nI (i + 1))), some (.int (bI ((sBeg (S.2 1) j K) i))), none] dX4_countReached_79 rfl (nI_1 i) rfl rfl ?_
        refine r_goto (tgt := 4) E dX4_countReached_82 (by decide) ?_
        refine fmW.few (L' := [some (.ref m), some (.int (nI j)), some (.int (nI ((bMany (sBeg (S.2 1) j K) i).2.2))), some (.int (nI (i + 1))), none, none]) (fmFew_n (L := [some (.ref m), some (.int (nI j)), some (.int (nI ((bMany (sBeg (S.2 1) j K) i).2.2))), some (.int (nI (i + 1))), some (.int (bI ((sBeg (S.2 1) j K) i))), none]) 4) ?_
        have := ih (i + 1) W (by omega) (by rw [bMany_n c7]; exact hW)
        rw [bMany_n c7] at this
        exact this
      · refine r_aload_n E dX4_countReached_69 rfl ?_
        refine r_getf E cl_X4 10 (by decide) q1896 mdl_o rfl dX4_countReached_70 ?_
        refine r_iload_n E dX4_countReached_73 rfl ?_
        refine r_iload_n E dX4_countReached_74 rfl ?_
        refine r_iast E mdl_13 (by omega) (by omega) dX4_countReached_75 ?_
        refine r_hp (h' := mdl m (S.1, va_up (va_up S.2 12 (sMix (sBeg (S.2 1) j K) (S.2 12) (i + 1))) 13 (upd W ((bMany (sBeg (S.2 1) j K) i).2.2) (nI i))) h0) (mdl_b13 _) ?_
        refine r_iinc E (nI ((bMany (sBeg (S.2 1) j K) i).2.2 + 1)) [some (.ref m), some (.int (nI j)), some (.int (nI ((bMany (sBeg (S.2 1) j K) i).2.2 + 1))), some (.int (nI i)), some (.int (bI ((sBeg (S.2 1) j K) i))), none] dX4_countReached_76 rfl (nI_1 ((bMany (sBeg (S.2 1) j K) i).2.2)) rfl rfl ?_
        refine r_iinc E (nI (i + 1)) [some (.ref m), some (.int (nI j)), some (.int (nI ((bMany (sBeg (S.2 1) j K) i).2.2 + 1))), some (.int (nI (i + 1))), some (.int (bI ((sBeg (S.2 1) j K) i))), none] dX4_countReached_79 rfl (nI_1 i) rfl rfl ?_
        refine r_goto (tgt := 4) E dX4_countReached_82 (by decide) ?_
        refine fmW.few (L' := [some (.ref m), some (.int (nI j)), some (.int (nI ((bMany (sBeg (S.2 1) j K) i).2.2 + 1))), some (.int (nI (i + 1))), none, none]) (fmFew_n (L := [some (.ref m), some (.int (nI j)), some (.int (nI ((bMany (sBeg (S.2 1) j K) i).2.2 + 1))), some (.int (nI (i + 1))), some (.int (bI ((sBeg (S.2 1) j K) i))), none]) 4) ?_
        have := ih (i + 1) (upd W (bMany (sBeg (S.2 1) j K) i).2.2 (nI i)) (by omega) (bMany_q hW c7)
        rw [bMany_n2 c7] at this
        exact this
  refine r_hp (h' := mdl m (S.1, va_up (va_up S.2 12 (sMix (sBeg (S.2 1) j K) (S.2 12) 0)) 13 (S.2 13)) h0) (by rw [sMix_0, va_1213]) ?_
  exact lp 64 0 (S.2 13) rfl (bQ_zero _)

set_option maxHeartbeats 4000000 in
theorem ct_X4_wayFor (G : fmG) (hl : (fmLn G).stackTraces = false) (m : Nat) (S : MSt) (h0 : fmHp) (s v : Int32) (K : Nat) (hK : S.2 1 350 = nI K) (hK8 : K ≤ 8) : Ct G yX4_wayFor (ws_ yX4_wayFor cX4_wayFor 4 (some .int)) { frames := 6, cells := 0, slots := 0, locals := 140 } [.ref m, .int s, .int v] (mdl m S h0) (fun v' h' => v' = some (.int (cI (wRes (S.2 1) s v K).2)) ∧ ∃ X W : Nat → Int32, h' = mdl m (upd S.1 0 (nI (wRes (S.2 1) s v K).1), va_up (va_up S.2 12 X) 13 W) h0 ∧ ((wRes (S.2 1) s v K).2 ≠ none → X = fun zz => nI ((bFar (S.2 1) (cN s) (cN v) K).1 zz))) fmNo := by
  refine Ct.of hl (by decide +kernel) (Nat.le_of_ble_eq_true rfl) (fun Γ E P => ?_)
  refine r_aload_n E dX4_wayFor_0 rfl ?_
  refine r_iconst E (nI 1) dX4_wayFor_1 (by decide) ?_
  suffices j1 : fmW G Γ (mdl m S h0) 0 0 22 [some (.ref m), some (.int s), some (.int v), none] [.int (bI (!(sBetween s (nI 0) (nI K - nI 1) && sBetween v (nI 0) (nI 63)))), .int (nI 1), .ref m] by
    refine r_aload_n E dX4_wayFor_2 rfl ?_
    refine r_iload_n E dX4_wayFor_3 rfl ?_
    refine r_callV1 (v1 := .int (bI (sBetween s (nI 0) (nI K - nI 1)))) E (ct_X4_isShaft G hl m S h0 s K hK) mX4_isShaft q2099 q2101 qs55 (fun H a1 => fm_rc (ci := 0) (C := RX4) (T := TX4) (N := 21) a1 rfl E.v mdl_o) rfl rfl (Nat.le_of_ble_eq_true rfl) (Nat.le_of_ble_eq_true rfl) (Nat.le_of_ble_eq_true rfl) dX4_wayFor_4 0 0 (Nat.le_of_ble_eq_true rfl) (Nat.le_of_ble_eq_true rfl) ?_
    refine r_ifB_eq (b := sBetween s (nI 0) (nI K - nI 1)) (tgt := 17) E dX4_wayFor_7 (by decide) (fun c2 => ?_) (fun c2 => ?_)
    · refine r_iconst E (nI 1) dX4_wayFor_17 (by decide) ?_
      refine r_goto (tgt := 22) E dX4_wayFor_18 (by decide) ?_
      refine r_top (v' := .int (bI (!(sBetween s (nI 0) (nI K - nI 1) && sBetween v (nI 0) (nI 63))))) (by rw [show (!(sBetween s (nI 0) (nI K - nI 1) && sBetween v (nI 0) (nI 63))) = true by simp [c2]]; rfl) ?_
      exact j1
    · refine r_iload_n E dX4_wayFor_10 rfl ?_
      refine r_callS1 (v1 := .int (bI (sBetween v (nI 0) (nI 63)))) E (ct_X4_isCell G hl (mdl m S h0) (v)) mX4_isCell q89 q1959 q1960 rfl rfl (Nat.le_of_ble_eq_true rfl) (Nat.le_of_ble_eq_true rfl) (Nat.le_of_ble_eq_true rfl) dX4_wayFor_11 0 0 (Nat.le_of_ble_eq_true rfl) (Nat.le_of_ble_eq_true rfl) ?_
      refine r_ifB_ne (b := sBetween v (nI 0) (nI 63)) (tgt := 21) E dX4_wayFor_14 (by decide) (fun c3 => ?_) (fun c3 => ?_)
      · refine r_iconst E (nI 0) dX4_wayFor_21 (by decide) ?_
        refine r_top (v' := .int (bI (!(sBetween s (nI 0) (nI K - nI 1) && sBetween v (nI 0) (nI 63))))) (by rw [show (!(sBetween s (nI 0) (nI K - nI 1) && sBetween v (nI 0) (nI 63))) = false by simp [c2, c3]]; rfl) ?_
        exact j1
      · refine r_iconst E (nI 1) dX4_wayFor_17 (by decide) ?_
        refine r_goto (tgt := 22) E dX4_wayFor_18 (by decide) ?_
        refine r_top (v' := .int (bI (!(sBetween s (nI 0) (nI K - nI 1) && sBetween v (nI 0) (nI 63))))) (by rw [show (!(sBetween s (nI 0) (nI K - nI 1) && sBetween v (nI 0) (nI 63))) = true by simp [c2, c3]]; rfl) ?_
        exact j1
  refine r_callV1 (v1 := .int (bI (!(sBetween s (nI 0) (nI K - nI 1) && sBetween v (nI 0) (nI 63))))) E (ct_X4_fails G hl m S h0 (nI 1) (!(sBetween s (nI 0) (nI K - nI 1) && sBetween v (nI 0) (nI 63)))) mX4_fails q1965 q1967 qs33 (fun H a1 => fm_rc (ci := 0) (C := RX4) (T := TX4) (N := 21) a1 rfl E.v mdl_o) rfl rfl (Nat.le_of_ble_eq_true rfl) (Nat.le_of_ble_eq_true rfl) (Nat.le_of_ble_eq_true rfl) dX4_wayFor_22 0 0 (Nat.le_of_ble_eq_true rfl) (Nat.le_of_ble_eq_true rfl) ?_
  refine r_ifB_eq (b := !(sBetween s (nI 0) (nI K - nI 1) && sBetween v (nI 0) (nI 63))) (tgt := 30) E dX4_wayFor_25 (by decide) (fun c4 => ?_) (fun c4 => ?_)
  · refine r_hp (h' := mdl m (upd S.1 0 (nI 0), S.2) h0) (by rw [nf1 c4]) ?_
    have hb : sBetween s (nI 0) (nI K - nI 1) = true ∧ sBetween v (nI 0) (nI 63) = true := by simpa using c4
    obtain ⟨j, hj, rfl⟩ := sShaft_of (by omega) hb.1
    obtain ⟨c, hc, rfl⟩ := sCell_of (by rw [hb.2]; rfl)
    have hcn : cN (nI c) = c := cN_n (by omega)
    have hjn : cN (nI j) = j := cN_n (by omega)
    refine r_aload_n E dX4_wayFor_30 rfl ?_
    refine r_iload_n E dX4_wayFor_31 rfl ?_
    refine r_iload_n E dX4_wayFor_32 rfl ?_
    refine r_callV E (ct_X4_findFar G hl m (upd S.1 0 (nI 0), S.2) h0 j c K hK hK8 (by omega) hc) mX4_findFar q2163 q2165 qs65 (fun H a1 => fm_rc (ci := 0) (C := RX4) (T := TX4) (N := 21) a1 rfl E.v mdl_o) rfl rfl (Nat.le_of_ble_eq_true rfl) (Nat.le_of_ble_eq_true rfl) (Nat.le_of_ble_eq_true rfl) dX4_wayFor_33 0 0 (Nat.le_of_ble_eq_true rfl) (Nat.le_of_ble_eq_true rfl) (fun v' h' q => ?_) (fun _ _ _ q => q.elim)
    obtain ⟨rfl, W, rfl⟩ := q
    show fmW G Γ (mdl m (upd S.1 0 (nI 0), va_up (va_up S.2 12 (fun zz => nI ((bFar (S.2 1) j c K).1 zz))) 13 W) h0) 0 0 36 [some (.ref m), some (.int (nI j)), some (.int (nI c)), none] []
    have hFok := bFar_ok (N := S.2 1) (j := j) (K := K) hc
    refine r_aload_n E dX4_wayFor_36 rfl ?_
    refine r_iload_n E dX4_wayFor_37 rfl ?_
    refine r_callV1 (v1 := .int (cI (sFirst (S.2 1) j c K))) E (ct_X4_firstOfWay G hl m (upd S.1 0 (nI 0), va_up (va_up S.2 12 (fun zz => nI ((bFar (S.2 1) j c K).1 zz))) 13 W) h0 j (bFar (S.2 1) j c K).1 rfl hFok.f) mX4_firstOfWay q2167 q2169 qs66 (fun H a1 => fm_rc (ci := 0) (C := RX4) (T := TX4) (N := 21) a1 rfl E.v mdl_o) rfl rfl (Nat.le_of_ble_eq_true rfl) (Nat.le_of_ble_eq_true rfl) (Nat.le_of_ble_eq_true rfl) dX4_wayFor_38 0 0 (Nat.le_of_ble_eq_true rfl) (Nat.le_of_ble_eq_true rfl) ?_
    refine r_istore_n E [some (.ref m), some (.int (nI j)), some (.int (nI c)), some (.int (cI (sFirst (S.2 1) j c K)))] dX4_wayFor_41 rfl rfl ?_
    refine r_aload_n E dX4_wayFor_42 rfl ?_
    refine r_iconst E (nI 2) dX4_wayFor_43 (by decide) ?_
    suffices j5 : fmW G Γ (mdl m (upd S.1 0 (nI 0), va_up (va_up S.2 12 (fun zz => nI ((bFar (S.2 1) j c K).1 zz))) 13 W) h0) 0 0 53 [some (.ref m), some (.int (nI j)), some (.int (nI c)), some (.int (cI (sFirst (S.2 1) j c K)))] [.int (bI ((sFirst (S.2 1) j c K).isNone)), .int (nI 2), .ref m] by
      refine r_iload_n E dX4_wayFor_44 rfl ?_
      refine r_ifC_ge (o := sFirst (S.2 1) j c K) (tgt := 52) E dX4_wayFor_45 (by decide) (fun x hx => Nat.lt_trans (sFirst_lt hx) (by decide)) (fun c6 => ?_) (fun c6 => ?_)
      · refine r_iconst E (nI 0) dX4_wayFor_52 (by decide) ?_
        refine r_top (v' := .int (bI ((sFirst (S.2 1) j c K).isNone))) (by rw [show ((sFirst (S.2 1) j c K).isNone) = false by simp [c6, Option.isSome_iff_ne_none]]; rfl) ?_
        exact j5
      · refine r_iconst E (nI 1) dX4_wayFor_48 (by decide) ?_
        refine r_goto (tgt := 53) E dX4_wayFor_49 (by decide) ?_
        refine r_top (v' := .int (bI ((sFirst (S.2 1) j c K).isNone))) (by rw [show ((sFirst (S.2 1) j c K).isNone) = true by simp [c6, Option.isSome_iff_ne_none]]; rfl) ?_
        exact j5
    refine r_callV1 (v1 := .int (bI ((sFirst (S.2 1) j c K).isNone))) E (ct_X4_fails G hl m (upd S.1 0 (nI 0), va_up (va_up S.2 12 (fun zz => nI ((bFar (S.2 1) j c K).1 zz))) 13 W) h0 (nI 2) ((sFirst (S.2 1) j c K).isNone)) mX4_fails q1965 q1967 qs33 (fun H a1 => fm_rc (ci := 0) (C := RX4) (T := TX4) (N := 21) a1 rfl E.v mdl_o) rfl rfl (Nat.le_of_ble_eq_true rfl) (Nat.le_of_ble_eq_true rfl) (Nat.le_of_ble_eq_true rfl) dX4_wayFor_53 0 0 (Nat.le_of_ble_eq_true rfl) (Nat.le_of_ble_eq_true rfl) ?_
    refine r_pop E dX4_wayFor_56 rfl ?_
    refine r_iload_n E dX4_wayFor_57 rfl ?_
    cases ho : sFirst (S.2 1) j c K with
    | none =>
      have hw : wRes (S.2 1) (nI j) (nI c) K = (2, none) := wRes_2 c4 (by rw [hcn, hjn]; exact ho)
      exact r_ireturn E P rfl dX4_wayFor_58 ⟨by rw [hw], _, W, by rw [hw]; show mdl m (upd (upd S.1 0 (nI 0)) 0 (nI 2), _) h0 = _; rw [upd_uu], fun _ => by rw [hcn, hjn]⟩
    | some x =>
      have hw : wRes (S.2 1) (nI j) (nI c) K = (0, (some x)) := wRes_0 c4 (by rw [hcn, hjn]; exact ho)
      exact r_ireturn E P rfl dX4_wayFor_58 ⟨by rw [hw], _, W, by rw [hw]; show mdl m (upd (upd S.1 0 (nI 0)) 0 (nI 0), _) h0 = _; rw [upd_uu], fun _ => by rw [hcn, hjn]⟩
  · refine r_hp (h' := mdl m (upd S.1 0 (nI 1), S.2) h0) (by rw [nt1 c4]) ?_
    refine r_iconst E (-1) dX4_wayFor_28 (by decide) ?_
    exact r_ireturn E P rfl dX4_wayFor_29 ⟨by rw [wRes_1 c4]; rfl, S.2 12, S.2 13, by rw [wRes_1 c4, va_1213], fun z => absurd (by rw [wRes_1 c4]) z⟩

