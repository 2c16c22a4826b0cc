set_option maxHeartbeats 4000000 in
theorem ct_X4_readCommand (G : fmG) (hl : (fmLn G).stackTraces = false) (m : Nat) (A : Nat → Nat → Int32) (h0 : fmHp) (s : Nat → Int32) (a : Nat) (w p : Bool) (t v u : Int32) (len : Nat) (hlen : s 12 = nI len) (hn60 : len ≤ 60) (ha : a < 2 ^ 20) (hch : ∀ i, i < len → isCh (A 14 i))  : Ct G yX4_readCommand (ws_ yX4_readCommand cX4_readCommand 1 none) { frames := 3, cells := 0, slots := 0, locals := 66 } [.ref m] (mdl m (pSt s a w p t v u, A) h0) (fmRet none (mdl m (pStC s (pCmd (A 14) len a w u), A) h0)) fmNo := by
  refine Ct.of hl (by decide +kernel) (Nat.le_of_ble_eq_true rfl) (fun Γ E P => ?_)
  refine r_aload_n E dX4_readCommand_0 rfl ?_
  suffices j1 : fmW G Γ (mdl m (pSt s a w p t v u, A) h0) 0 0 33 [some (.ref m)] [.int (pLet (A 14) len a w), .ref m] by
    refine r_aload_n E dX4_readCommand_1 rfl ?_
    refine r_getf E cl_X4 15 (by decide) q1901 mdl_o rfl dX4_readCommand_2 ?_
    refine r_top (v' := .int (bI w)) rfl ?_
    refine r_ifB_ne (b := w) (tgt := 31) E dX4_readCommand_5 (by decide) (fun c2 => ?_) (fun c2 => ?_)
    · refine r_bipush E (nI 32) dX4_readCommand_31 (by decide) ?_
      refine r_top (v' := .int (pLet (A 14) len a w)) (congrArg Value.int (by unfold pLet; rw [if_pos c2])) ?_
      exact j1
    · refine r_aload_n E dX4_readCommand_8 rfl ?_
      refine r_getf E cl_X4 13 (by decide) q1899 mdl_o rfl dX4_readCommand_9 ?_
      refine r_top (v' := .int (nI a)) rfl ?_
      refine r_aload_n E dX4_readCommand_12 rfl ?_
      refine r_getf E cl_X4 12 (by decide) q1898 mdl_o rfl dX4_readCommand_13 ?_
      refine r_top (v' := .int (nI len)) (congrArg Value.int hlen) ?_
      refine r_icmpN_ge (tgt := 31) E dX4_readCommand_16 (by decide) (by omega) (by omega) (fun c3 => ?_) (fun c3 => ?_)
      · refine r_bipush E (nI 32) dX4_readCommand_31 (by decide) ?_
        refine r_top (v' := .int (pLet (A 14) len a w)) (congrArg Value.int (by unfold pLet; rw [if_neg (by rw [c2]; exact Bool.false_ne_true), if_neg (by omega)])) ?_
        exact j1
      · refine r_aload_n E dX4_readCommand_19 rfl ?_
        refine r_getf E cl_X4 11 (by decide) q1897 mdl_o rfl dX4_readCommand_20 ?_
        refine r_aload_n E dX4_readCommand_23 rfl ?_
        refine r_getf E cl_X4 13 (by decide) q1899 mdl_o rfl dX4_readCommand_24 ?_
        refine r_top (v' := .int (nI a)) rfl ?_
        refine r_cald E mdl_14 (by omega) (by omega) dX4_readCommand_27 ?_
        refine r_goto (tgt := 33) E dX4_readCommand_28 (by decide) ?_
        refine r_top (v' := .int (pLet (A 14) len a w)) (congrArg Value.int (by unfold pLet; rw [if_neg (by rw [c2]; exact Bool.false_ne_true), if_pos (by omega)])) ?_
        exact j1
  refine r_putf E cl_X4 17 (by decide) rfl q1903 (fun _ z => z) mdl_o (Nat.le_of_ble_eq_true rfl) (pLet_ch hch).1 (pLet_ch hch).2 dX4_readCommand_33 ?_
  refine r_hp (h' := mdl m (pSt s a w p (pLet (A 14) len a w) v u, A) h0) ((mdl_s17 _).trans (congrArg (fun z => mdl m (z, A) h0) pSt_17)) ?_
  refine r_aload_n E dX4_readCommand_36 rfl ?_
  refine r_dup E dX4_readCommand_37 rfl ?_
  refine r_getf E cl_X4 15 (by decide) q1901 mdl_o rfl dX4_readCommand_38 ?_
  refine r_top (v' := .int (bI w)) rfl ?_
  suffices j4 : fmW G Γ (mdl m (pSt s a w p (pLet (A 14) len a w) v u, A) h0) 0 0 109 [some (.ref m)] [.int (bI (!sLet (pLet (A 14) len a w))), .int (bI w), .ref m] by
    refine r_aload_n E dX4_readCommand_41 rfl ?_
    refine r_getf E cl_X4 17 (by decide) q1903 mdl_o rfl dX4_readCommand_42 ?_
    refine r_top (v' := .int (pLet (A 14) len a w)) rfl ?_
    refine r_bipush E (nI 115) dX4_readCommand_45 (by decide) ?_
    refine r_icmp_eq (x := pLet (A 14) len a w) (y := nI 115) (tgt := 108) E dX4_readCommand_47 (by decide) (fun c5 => ?_) (fun c5 => ?_)
    · refine r_iconst E (nI 0) dX4_readCommand_108 (by decide) ?_
      refine r_top (v' := .int (bI (!sLet (pLet (A 14) len a w)))) (by rw [show (!sLet (pLet (A 14) len a w)) = false by simp [c5, sLet]]; rfl) ?_
      exact j4
    · refine r_aload_n E dX4_readCommand_50 rfl ?_
      refine r_getf E cl_X4 17 (by decide) q1903 mdl_o rfl dX4_readCommand_51 ?_
      refine r_top (v' := .int (pLet (A 14) len a w)) rfl ?_
      refine r_bipush E (nI 100) dX4_readCommand_54 (by decide) ?_
      refine r_icmp_eq (x := pLet (A 14) len a w) (y := nI 100) (tgt := 108) E dX4_readCommand_56 (by decide) (fun c6 => ?_) (fun c6 => ?_)
      · refine r_iconst E (nI 0) dX4_readCommand_108 (by decide) ?_
        refine r_top (v' := .int (bI (!sLet (pLet (A 14) len a w)))) (by rw [show (!sLet (pLet (A 14) len a w)) = false by simp [c5, c6, sLet]]; rfl) ?_
        exact j4
      · refine r_aload_n E dX4_readCommand_59 rfl ?_
        refine r_getf E cl_X4 17 (by decide) q1903 mdl_o rfl dX4_readCommand_60 ?_
        refine r_top (v' := .int (pLet (A 14) len a w)) rfl ?_
        refine r_bipush E (nI 112) dX4_readCommand_63 (by decide) ?_
        refine r_icmp_eq (x := pLet (A 14) len a w) (y := nI 112) (tgt := 108) E dX4_readCommand_65 (by decide) (fun c7 => ?_) (fun c7 => ?_)
        · refine r_iconst E (nI 0) dX4_readCommand_108 (by decide) ?_
          refine r_top (v' := .int (bI (!sLet (pLet (A 14) len a w)))) (by rw [show (!sLet (pLet (A 14) len a w)) = false by simp [c5, c6, c7, sLet]]; rfl) ?_
          exact j4
        · refine r_aload_n E dX4_readCommand_68 rfl ?_
          refine r_getf E cl_X4 17 (by decide) q1903 mdl_o rfl dX4_readCommand_69 ?_
          refine r_top (v' := .int (pLet (A 14) len a w)) rfl ?_
          refine r_bipush E (nI 117) dX4_readCommand_72 (by decide) ?_
          refine r_icmp_eq (x := pLet (A 14) len a w) (y := nI 117) (tgt := 108) E dX4_readCommand_74 (by decide) (fun c8 => ?_) (fun c8 => ?_)
          · refine r_iconst E (nI 0) dX4_readCommand_108 (by decide) ?_
            refine r_top (v' := .int (bI (!sLet (pLet (A 14) len a w)))) (by rw [show (!sLet (pLet (A 14) len a w)) = false by simp [c5, c6, c7, c8, sLet]]; rfl) ?_
            exact j4
          · refine r_aload_n E dX4_readCommand_77 rfl ?_
            refine r_getf E cl_X4 17 (by decide) q1903 mdl_o rfl dX4_readCommand_78 ?_
            refine r_top (v' := .int (pLet (A 14) len a w)) rfl ?_
            refine r_bipush E (nI 99) dX4_readCommand_81 (by decide) ?_
            refine r_icmp_eq (x := pLet (A 14) len a w) (y := nI 99) (tgt := 108) E dX4_readCommand_83 (by decide) (fun c9 => ?_) (fun c9 => ?_)
            · refine r_iconst E (nI 0) dX4_readCommand_108 (by decide) ?_
              refine r_top (v' := .int (bI (!sLet (pLet (A 14) len a w)))) (by rw [show (!sLet (pLet (A 14) len a w)) = false by simp [c5, c6, c7, c8, c9, sLet]]; rfl) ?_
              exact j4
            · refine r_aload_n E dX4_readCommand_86 rfl ?_
              refine r_getf E cl_X4 17 (by decide) q1903 mdl_o rfl dX4_readCommand_87 ?_
              refine r_top (v' := .int (pLet (A 14) len a w)) rfl ?_
              refine r_bipush E (nI 116) dX4_readCommand_90 (by decide) ?_
              refine r_icmp_eq (x := pLet (A 14) len a w) (y := nI 116) (tgt := 108) E dX4_readCommand_92 (by decide) (fun c10 => ?_) (fun c10 => ?_)
              · refine r_iconst E (nI 0) dX4_readCommand_108 (by decide) ?_
                refine r_top (v' := .int (bI (!sLet (pLet (A 14) len a w)))) (by rw [show (!sLet (pLet (A 14) len a w)) = false by simp [c5, c6, c7, c8, c9, c10, sLet]]; rfl) ?_
                exact j4
              · refine r_aload_n E dX4_readCommand_95 rfl ?_
                refine r_getf E cl_X4 17 (by decide) q1903 mdl_o rfl dX4_readCommand_96 ?_
                refine r_top (v' := .int (pLet (A 14) len a w)) rfl ?_
                refine r_bipush E (nI 110) dX4_readCommand_99 (by decide) ?_
                refine r_icmp_eq (x := pLet (A 14) len a w) (y := nI 110) (tgt := 108) E dX4_readCommand_101 (by decide) (fun c11 => ?_) (fun c11 => ?_)
                · refine r_iconst E (nI 0) dX4_readCommand_108 (by decide) ?_
                  refine r_top (v' := .int (bI (!sLet (pLet (A 14) len a w)))) (by rw [show (!sLet (pLet (A 14) len a w)) = false by simp [c5, c6, c7, c8, c9, c10, c11, sLet]]; rfl) ?_
                  exact j4
                · refine r_iconst E (nI 1) dX4_readCommand_104 (by decide) ?_
                  refine r_goto (tgt := 109) E dX4_readCommand_105 (by decide) ?_
                  refine r_top (v' := .int (bI (!sLet (pLet (A 14) len a w)))) (by rw [show (!sLet (pLet (A 14) len a w)) = true by simp [c5, c6, c7, c8, c9, c10, c11, sLet]]; rfl) ?_
                  exact j4
  refine r_iorB (a := w) (b := !sLet (pLet (A 14) len a w)) E dX4_readCommand_109 ?_
  refine r_putf E cl_X4 15 (by decide) rfl q1901 (fun _ z => z) mdl_o (Nat.le_of_ble_eq_true rfl) (bI_n _) (bI_f _) dX4_readCommand_110 ?_
  refine r_hp (h' := mdl m (pSt s a (w || (!sLet (pLet (A 14) len a w))) p (pLet (A 14) len a w) v u, A) h0) ((mdl_s15 _).trans (congrArg (fun z => mdl m (z, A) h0) pSt_15)) ?_
  refine r_aload_n E dX4_readCommand_113 rfl ?_
  refine r_dup E dX4_readCommand_114 rfl ?_
  refine r_getf E cl_X4 13 (by decide) q1899 mdl_o rfl dX4_readCommand_115 ?_
  refine r_top (v' := .int (nI a)) rfl ?_
  suffices j12 : fmW G Γ (mdl m (pSt s a (w || (!sLet (pLet (A 14) len a w))) p (pLet (A 14) len a w) v u, A) h0) 0 0 130 [some (.ref m)] [.int (nI (pOne (!(w || !sLet (pLet (A 14) len a w))))), .int (nI a), .ref m] by
    refine r_aload_n E dX4_readCommand_118 rfl ?_
    refine r_getf E cl_X4 15 (by decide) q1901 mdl_o rfl dX4_readCommand_119 ?_
    refine r_top (v' := .int (bI (w || (!sLet (pLet (A 14) len a w))))) rfl ?_
    refine r_ifB_eq (b := w || (!sLet (pLet (A 14) len a w))) (tgt := 129) E dX4_readCommand_122 (by decide) (fun c13 => ?_) (fun c13 => ?_)
    · refine r_iconst E (nI 1) dX4_readCommand_129 (by decide) ?_
      refine r_top (v' := .int (nI (pOne (!(w || !sLet (pLet (A 14) len a w)))))) (congrArg (fun z => Value.int (nI z)) (by unfold pOne; rw [c13]; rfl)) ?_
      exact j12
    · refine r_iconst E (nI 0) dX4_readCommand_125 (by decide) ?_
      refine r_goto (tgt := 130) E dX4_readCommand_126 (by decide) ?_
      refine r_top (v' := .int (nI (pOne (!(w || !sLet (pLet (A 14) len a w)))))) (congrArg (fun z => Value.int (nI z)) (by unfold pOne; rw [c13]; rfl)) ?_
      exact j12
  refine r_iaddN E dX4_readCommand_130 ?_
  refine r_putf E cl_X4 13 (by decide) rfl q1899 (fun _ z => z) mdl_o (Nat.le_of_ble_eq_true rfl) rfl rfl dX4_readCommand_131 ?_
  refine r_hp (h' := mdl m (pSt s (a + (pOne (!(w || !sLet (pLet (A 14) len a w))))) (w || (!sLet (pLet (A 14) len a w))) p (pLet (A 14) len a w) v u, A) h0) ((mdl_s13 _).trans (congrArg (fun z => mdl m (z, A) h0) pSt_13)) ?_
  have o1 := pOne_le (!(w || !sLet (pLet (A 14) len a w)))
  have o2 := pNum_le2 (T := A 14) (len := len) (a := a + pOne (!(w || !sLet (pLet (A 14) len a w)))) (w := w || !sLet (pLet (A 14) len a w))
  refine r_aload_n E dX4_readCommand_134 rfl ?_
  refine r_aload_n E dX4_readCommand_135 rfl ?_
  refine r_callV1 (v1 := .int ((pNum (A 14) len (a + (pOne (!(w || !sLet (pLet (A 14) len a w))))) (w || (!sLet (pLet (A 14) len a w)))).1)) E (ct_X4_readNumber G hl m A h0 s (a + (pOne (!(w || !sLet (pLet (A 14) len a w))))) (w || (!sLet (pLet (A 14) len a w))) p (pLet (A 14) len a w) v u len hlen hn60 (by omega)) mX4_readNumber q2229 q2231 qs73 (fun H a1 => fm_rc (ci := 0) (C := RX4) (T := TX4) (N := 21) a1 rfl E.v mdl_o) rfl rfl (Nat.le_of_ble_eq_true rfl) (Nat.le_of_ble_eq_true rfl) (Nat.le_of_ble_eq_true rfl) dX4_readCommand_136 0 0 (Nat.le_of_ble_eq_true rfl) (Nat.le_of_ble_eq_true rfl) ?_
  refine r_putf E cl_X4 18 (by decide) rfl q1904 (fun _ z => z) mdl_o (Nat.le_of_ble_eq_true rfl) rfl rfl dX4_readCommand_139 ?_
  refine r_hp (h' := mdl m (pSt s ((pNum (A 14) len (a + (pOne (!(w || !sLet (pLet (A 14) len a w))))) (w || (!sLet (pLet (A 14) len a w)))).2.1) ((pNum (A 14) len (a + (pOne (!(w || !sLet (pLet (A 14) len a w))))) (w || (!sLet (pLet (A 14) len a w)))).2.2) p (pLet (A 14) len a w) ((pNum (A 14) len (a + (pOne (!(w || !sLet (pLet (A 14) len a w))))) (w || (!sLet (pLet (A 14) len a w)))).1) u, A) h0) ((mdl_s18 _).trans (congrArg (fun z => mdl m (z, A) h0) pSt_18)) ?_
  refine r_aload_n E dX4_readCommand_142 rfl ?_
  refine r_iconst E (nI 0) dX4_readCommand_143 (by decide) ?_
  refine r_top (v' := .int (bI false)) rfl ?_
  refine r_putf E cl_X4 16 (by decide) rfl q1902 (fun _ z => z) mdl_o (Nat.le_of_ble_eq_true rfl) (bI_n _) (bI_f _) dX4_readCommand_144 ?_
  refine r_hp (h' := mdl m (pSt s ((pNum (A 14) len (a + (pOne (!(w || !sLet (pLet (A 14) len a w))))) (w || (!sLet (pLet (A 14) len a w)))).2.1) ((pNum (A 14) len (a + (pOne (!(w || !sLet (pLet (A 14) len a w))))) (w || (!sLet (pLet (A 14) len a w)))).2.2) false (pLet (A 14) len a w) ((pNum (A 14) len (a + (pOne (!(w || !sLet (pLet (A 14) len a w))))) (w || (!sLet (pLet (A 14) len a w)))).1) u, A) h0) ((mdl_s16 _).trans (congrArg (fun z => mdl m (z, A) h0) pSt_16)) ?_
  refine r_aload_n E dX4_readCommand_147 rfl ?_
  refine r_getf E cl_X4 17 (by decide) q1903 mdl_o rfl dX4_readCommand_148 ?_
  refine r_top (v' := .int (pLet (A 14) len a w)) rfl ?_
  refine r_bipush E (nI 100) dX4_readCommand_151 (by decide) ?_
  refine r_icmp_ne (x := pLet (A 14) len a w) (y := nI 100) (tgt := 197) E dX4_readCommand_153 (by decide) (fun c14 => ?_) (fun c14 => ?_)
  · have hp : pCmd (A 14) len a w u = (pLet (A 14) len a w, (pNum (A 14) len (a + pOne (!(w || !sLet (pLet (A 14) len a w)))) (w || !sLet (pLet (A 14) len a w))).1, u, false, (pNum (A 14) len (a + pOne (!(w || !sLet (pLet (A 14) len a w)))) (w || !sLet (pLet (A 14) len a w))).2.1, (pNum (A 14) len (a + pOne (!(w || !sLet (pLet (A 14) len a w)))) (w || !sLet (pLet (A 14) len a w))).2.2) := if_neg c14
    exact r_return E P rfl dX4_readCommand_197 ⟨rfl, by rw [hp]; rfl⟩
  · refine r_aload_n E dX4_readCommand_156 rfl ?_
    refine r_dup E dX4_readCommand_157 rfl ?_
    refine r_getf E cl_X4 15 (by decide) q1901 mdl_o rfl dX4_readCommand_158 ?_
    refine r_top (v' := .int (bI ((pNum (A 14) len (a + (pOne (!(w || !sLet (pLet (A 14) len a w))))) (w || (!sLet (pLet (A 14) len a w)))).2.2))) rfl ?_
    refine r_aload_n E dX4_readCommand_161 rfl ?_
    refine r_bipush E (nI 44) dX4_readCommand_162 (by decide) ?_
    refine r_callV1 (v1 := .int (bI (pSee (A 14) len ((pNum (A 14) len (a + (pOne (!(w || !sLet (pLet (A 14) len a w))))) (w || (!sLet (pLet (A 14) len a w)))).2.1) ((pNum (A 14) len (a + (pOne (!(w || !sLet (pLet (A 14) len a w))))) (w || (!sLet (pLet (A 14) len a w)))).2.2) (nI 44) (nI 44)))) E (ct_X4_takes G hl m A h0 s ((pNum (A 14) len (a + (pOne (!(w || !sLet (pLet (A 14) len a w))))) (w || (!sLet (pLet (A 14) len a w)))).2.1) ((pNum (A 14) len (a + (pOne (!(w || !sLet (pLet (A 14) len a w))))) (w || (!sLet (pLet (A 14) len a w)))).2.2) false (pLet (A 14) len a w) ((pNum (A 14) len (a + (pOne (!(w || !sLet (pLet (A 14) len a w))))) (w || (!sLet (pLet (A 14) len a w)))).1) u len hlen hn60 (by omega) (nI 44)) mX4_takes q2237 q2239 qs75 (fun H a1 => fm_rc (ci := 0) (C := RX4) (T := TX4) (N := 21) a1 rfl E.v mdl_o) rfl rfl (Nat.le_of_ble_eq_true rfl) (Nat.le_of_ble_eq_true rfl) (Nat.le_of_ble_eq_true rfl) dX4_readCommand_164 0 0 (Nat.le_of_ble_eq_true rfl) (Nat.le_of_ble_eq_true rfl) ?_
    suffices j15 : fmW G Γ (mdl m (pSt s (((pNum (A 14) len (a + (pOne (!(w || !sLet (pLet (A 14) len a w))))) (w || (!sLet (pLet (A 14) len a w)))).2.1) + pOne (pSee (A 14) len ((pNum (A 14) len (a + (pOne (!(w || !sLet (pLet (A 14) len a w))))) (w || (!sLet (pLet (A 14) len a w)))).2.1) ((pNum (A 14) len (a + (pOne (!(w || !sLet (pLet (A 14) len a w))))) (w || (!sLet (pLet (A 14) len a w)))).2.2) (nI 44) (nI 44))) ((pNum (A 14) len (a + (pOne (!(w || !sLet (pLet (A 14) len a w))))) (w || (!sLet (pLet (A 14) len a w)))).2.2) false (pLet (A 14) len a w) ((pNum (A 14) len (a + (pOne (!(w || !sLet (pLet (A 14) len a w))))) (w || (!sLet (pLet (A 14) len a w)))).1) u, A) h0) 0 0 175 [some (.ref m)] [.int (bI (!(pSee (A 14) len (pNum (A 14) len (a + pOne (!(w || !sLet (pLet (A 14) len a w)))) (w || !sLet (pLet (A 14) len a w))).2.1 (pNum (A 14) len (a + pOne (!(w || !sLet (pLet (A 14) len a w)))) (w || !sLet (pLet (A 14) len a w))).2.2 (nI 44) (nI 44)))), .int (bI ((pNum (A 14) len (a + (pOne (!(w || !sLet (pLet (A 14) len a w))))) (w || (!sLet (pLet (A 14) len a w)))).2.2)), .ref m] by
      refine r_ifB_ne (b := pSee (A 14) len ((pNum (A 14) len (a + (pOne (!(w || !sLet (pLet (A 14) len a w))))) (w || (!sLet (pLet (A 14) len a w)))).2.1) ((pNum (A 14) len (a + (pOne (!(w || !sLet (pLet (A 14) len a w))))) (w || (!sLet (pLet (A 14) len a w)))).2.2) (nI 44) (nI 44)) (tgt := 174) E dX4_readCommand_167 (by decide) (fun c16 => ?_) (fun c16 => ?_)
      · refine r_iconst E (nI 0) dX4_readCommand_174 (by decide) ?_
        refine r_top (v' := .int (bI (!(pSee (A 14) len (pNum (A 14) len (a + pOne (!(w || !sLet (pLet (A 14) len a w)))) (w || !sLet (pLet (A 14) len a w))).2.1 (pNum (A 14) len (a + pOne (!(w || !sLet (pLet (A 14) len a w)))) (w || !sLet (pLet (A 14) len a w))).2.2 (nI 44) (nI 44))))) (by rw [c16]; rfl) ?_
        exact j15
      · refine r_iconst E (nI 1) dX4_readCommand_170 (by decide) ?_
        refine r_goto (tgt := 175) E dX4_readCommand_171 (by decide) ?_
        refine r_top (v' := .int (bI (!(pSee (A 14) len (pNum (A 14) len (a + pOne (!(w || !sLet (pLet (A 14) len a w)))) (w || !sLet (pLet (A 14) len a w))).2.1 (pNum (A 14) len (a + pOne (!(w || !sLet (pLet (A 14) len a w)))) (w || !sLet (pLet (A 14) len a w))).2.2 (nI 44) (nI 44))))) (by rw [c16]; rfl) ?_
        exact j15
    have o3 := pOne_le (pSee (A 14) len (pNum (A 14) len (a + pOne (!(w || !sLet (pLet (A 14) len a w)))) (w || !sLet (pLet (A 14) len a w))).2.1 (pNum (A 14) len (a + pOne (!(w || !sLet (pLet (A 14) len a w)))) (w || !sLet (pLet (A 14) len a w))).2.2 (nI 44) (nI 44))
    have o4 := pNum_le2 (T := A 14) (len := len) (a := (pNum (A 14) len (a + pOne (!(w || !sLet (pLet (A 14) len a w)))) (w || !sLet (pLet (A 14) len a w))).2.1 + pOne (pSee (A 14) len (pNum (A 14) len (a + pOne (!(w || !sLet (pLet (A 14) len a w)))) (w || !sLet (pLet (A 14) len a w))).2.1 (pNum (A 14) len (a + pOne (!(w || !sLet (pLet (A 14) len a w)))) (w || !sLet (pLet (A 14) len a w))).2.2 (nI 44) (nI 44))) (w := (pNum (A 14) len (a + pOne (!(w || !sLet (pLet (A 14) len a w)))) (w || !sLet (pLet (A 14) len a w))).2.2 || !(pSee (A 14) len (pNum (A 14) len (a + pOne (!(w || !sLet (pLet (A 14) len a w)))) (w || !sLet (pLet (A 14) len a w))).2.1 (pNum (A 14) len (a + pOne (!(w || !sLet (pLet (A 14) len a w)))) (w || !sLet (pLet (A 14) len a w))).2.2 (nI 44) (nI 44)))
    refine r_iorB (a := (pNum (A 14) len (a + (pOne (!(w || !sLet (pLet (A 14) len a w))))) (w || (!sLet (pLet (A 14) len a w)))).2.2) (b := !(pSee (A 14) len (pNum (A 14) len (a + pOne (!(w || !sLet (pLet (A 14) len a w)))) (w || !sLet (pLet (A 14) len a w))).2.1 (pNum (A 14) len (a + pOne (!(w || !sLet (pLet (A 14) len a w)))) (w || !sLet (pLet (A 14) len a w))).2.2 (nI 44) (nI 44))) E dX4_readCommand_175 ?_
    refine r_putf E cl_X4 15 (by decide) rfl q1901 (fun _ z => z) mdl_o (Nat.le_of_ble_eq_true rfl) (bI_n _) (bI_f _) dX4_readCommand_176 ?_
    refine r_hp (h' := mdl m (pSt s (((pNum (A 14) len (a + (pOne (!(w || !sLet (pLet (A 14) len a w))))) (w || (!sLet (pLet (A 14) len a w)))).2.1) + pOne (pSee (A 14) len ((pNum (A 14) len (a + (pOne (!(w || !sLet (pLet (A 14) len a w))))) (w || (!sLet (pLet (A 14) len a w)))).2.1) ((pNum (A 14) len (a + (pOne (!(w || !sLet (pLet (A 14) len a w))))) (w || (!sLet (pLet (A 14) len a w)))).2.2) (nI 44) (nI 44))) (((pNum (A 14) len (a + (pOne (!(w || !sLet (pLet (A 14) len a w))))) (w || (!sLet (pLet (A 14) len a w)))).2.2) || (!(pSee (A 14) len (pNum (A 14) len (a + pOne (!(w || !sLet (pLet (A 14) len a w)))) (w || !sLet (pLet (A 14) len a w))).2.1 (pNum (A 14) len (a + pOne (!(w || !sLet (pLet (A 14) len a w)))) (w || !sLet (pLet (A 14) len a w))).2.2 (nI 44) (nI 44)))) false (pLet (A 14) len a w) ((pNum (A 14) len (a + (pOne (!(w || !sLet (pLet (A 14) len a w))))) (w || (!sLet (pLet (A 14) len a w)))).1) u, A) h0) ((mdl_s15 _).trans (congrArg (fun z => mdl m (z, A) h0) pSt_15)) ?_
    refine r_aload_n E dX4_readCommand_179 rfl ?_
    refine r_aload_n E dX4_readCommand_180 rfl ?_
    refine r_callV1 (v1 := .int ((pNum (A 14) len (((pNum (A 14) len (a + (pOne (!(w || !sLet (pLet (A 14) len a w))))) (w || (!sLet (pLet (A 14) len a w)))).2.1) + pOne (pSee (A 14) len ((pNum (A 14) len (a + (pOne (!(w || !sLet (pLet (A 14) len a w))))) (w || (!sLet (pLet (A 14) len a w)))).2.1) ((pNum (A 14) len (a + (pOne (!(w || !sLet (pLet (A 14) len a w))))) (w || (!sLet (pLet (A 14) len a w)))).2.2) (nI 44) (nI 44))) (((pNum (A 14) len (a + (pOne (!(w || !sLet (pLet (A 14) len a w))))) (w || (!sLet (pLet (A 14) len a w)))).2.2) || (!(pSee (A 14) len (pNum (A 14) len (a + pOne (!(w || !sLet (pLet (A 14) len a w)))) (w || !sLet (pLet (A 14) len a w))).2.1 (pNum (A 14) len (a + pOne (!(w || !sLet (pLet (A 14) len a w)))) (w || !sLet (pLet (A 14) len a w))).2.2 (nI 44) (nI 44))))).1)) E (ct_X4_readNumber G hl m A h0 s (((pNum (A 14) len (a + (pOne (!(w || !sLet (pLet (A 14) len a w))))) (w || (!sLet (pLet (A 14) len a w)))).2.1) + pOne (pSee (A 14) len ((pNum (A 14) len (a + (pOne (!(w || !sLet (pLet (A 14) len a w))))) (w || (!sLet (pLet (A 14) len a w)))).2.1) ((pNum (A 14) len (a + (pOne (!(w || !sLet (pLet (A 14) len a w))))) (w || (!sLet (pLet (A 14) len a w)))).2.2) (nI 44) (nI 44))) (((pNum (A 14) len (a + (pOne (!(w || !sLet (pLet (A 14) len a w))))) (w || (!sLet (pLet (A 14) len a w)))).2.2) || (!(pSee (A 14) len (pNum (A 14) len (a + pOne (!(w || !sLet (pLet (A 14) len a w)))) (w || !sLet (pLet (A 14) len a w))).2.1 (pNum (A 14) len (a + pOne (!(w || !sLet (pLet (A 14) len a w)))) (w || !sLet (pLet (A 14) len a w))).2.2 (nI 44) (nI 44)))) false (pLet (A 14) len a w) ((pNum (A 14) len (a + (pOne (!(w || !sLet (pLet (A 14) len a w))))) (w || (!sLet (pLet (A 14) len a w)))).1) u len hlen hn60 (by omega)) mX4_readNumber q2229 q2231 qs73 (fun H a1 => fm_rc (ci := 0) (C := RX4) (T := TX4) (N := 21) a1 rfl E.v mdl_o) rfl rfl (Nat.le_of_ble_eq_true rfl) (Nat.le_of_ble_eq_true rfl) (Nat.le_of_ble_eq_true rfl) dX4_readCommand_181 0 0 (Nat.le_of_ble_eq_true rfl) (Nat.le_of_ble_eq_true rfl) ?_
    refine r_putf E cl_X4 19 (by decide) rfl q1905 (fun _ z => z) mdl_o (Nat.le_of_ble_eq_true rfl) rfl rfl dX4_readCommand_184 ?_
    refine r_hp (h' := mdl m (pSt s ((pNum (A 14) len (((pNum (A 14) len (a + (pOne (!(w || !sLet (pLet (A 14) len a w))))) (w || (!sLet (pLet (A 14) len a w)))).2.1) + pOne (pSee (A 14) len ((pNum (A 14) len (a + (pOne (!(w || !sLet (pLet (A 14) len a w))))) (w || (!sLet (pLet (A 14) len a w)))).2.1) ((pNum (A 14) len (a + (pOne (!(w || !sLet (pLet (A 14) len a w))))) (w || (!sLet (pLet (A 14) len a w)))).2.2) (nI 44) (nI 44))) (((pNum (A 14) len (a + (pOne (!(w || !sLet (pLet (A 14) len a w))))) (w || (!sLet (pLet (A 14) len a w)))).2.2) || (!(pSee (A 14) len (pNum (A 14) len (a + pOne (!(w || !sLet (pLet (A 14) len a w)))) (w || !sLet (pLet (A 14) len a w))).2.1 (pNum (A 14) len (a + pOne (!(w || !sLet (pLet (A 14) len a w)))) (w || !sLet (pLet (A 14) len a w))).2.2 (nI 44) (nI 44))))).2.1) ((pNum (A 14) len (((pNum (A 14) len (a + (pOne (!(w || !sLet (pLet (A 14) len a w))))) (w || (!sLet (pLet (A 14) len a w)))).2.1) + pOne (pSee (A 14) len ((pNum (A 14) len (a + (pOne (!(w || !sLet (pLet (A 14) len a w))))) (w || (!sLet (pLet (A 14) len a w)))).2.1) ((pNum (A 14) len (a + (pOne (!(w || !sLet (pLet (A 14) len a w))))) (w || (!sLet (pLet (A 14) len a w)))).2.2) (nI 44) (nI 44))) (((pNum (A 14) len (a + (pOne (!(w || !sLet (pLet (A 14) len a w))))) (w || (!sLet (pLet (A 14) len a w)))).2.2) || (!(pSee (A 14) len (pNum (A 14) len (a + pOne (!(w || !sLet (pLet (A 14) len a w)))) (w || !sLet (pLet (A 14) len a w))).2.1 (pNum (A 14) len (a + pOne (!(w || !sLet (pLet (A 14) len a w)))) (w || !sLet (pLet (A 14) len a w))).2.2 (nI 44) (nI 44))))).2.2) false (pLet (A 14) len a w) ((pNum (A 14) len (a + (pOne (!(w || !sLet (pLet (A 14) len a w))))) (w || (!sLet (pLet (A 14) len a w)))).1) ((pNum (A 14) len (((pNum (A 14) len (a + (pOne (!(w || !sLet (pLet (A 14) len a w))))) (w || (!sLet (pLet (A 14) len a w)))).2.1) + pOne (pSee (A 14) len ((pNum (A 14) len (a + (pOne (!(w || !sLet (pLet (A 14) len a w))))) (w || (!sLet (pLet (A 14) len a w)))).2.1) ((pNum (A 14) len (a + (pOne (!(w || !sLet (pLet (A 14) len a w))))) (w || (!sLet (pLet (A 14) len a w)))).2.2) (nI 44) (nI 44))) (((pNum (A 14) len (a + (pOne (!(w || !sLet (pLet (A 14) len a w))))) (w || (!sLet (pLet (A 14) len a w)))).2.2) || (!(pSee (A 14) len (pNum (A 14) len (a + pOne (!(w || !sLet (pLet (A 14) len a w)))) (w || !sLet (pLet (A 14) len a w))).2.1 (pNum (A 14) len (a + pOne (!(w || !sLet (pLet (A 14) len a w)))) (w || !sLet (pLet (A 14) len a w))).2.2 (nI 44) (nI 44))))).1), A) h0) ((mdl_s19 _).trans (congrArg (fun z => mdl m (z, A) h0) pSt_19)) ?_
    refine r_aload_n E dX4_readCommand_187 rfl ?_
    refine r_aload_n E dX4_readCommand_188 rfl ?_
    refine r_bipush E (nI 112) dX4_readCommand_189 (by decide) ?_
    refine r_callV1 (v1 := .int (bI (pSee (A 14) len ((pNum (A 14) len (((pNum (A 14) len (a + (pOne (!(w || !sLet (pLet (A 14) len a w))))) (w || (!sLet (pLet (A 14) len a w)))).2.1) + pOne (pSee (A 14) len ((pNum (A 14) len (a + (pOne (!(w || !sLet (pLet (A 14) len a w))))) (w || (!sLet (pLet (A 14) len a w)))).2.1) ((pNum (A 14) len (a + (pOne (!(w || !sLet (pLet (A 14) len a w))))) (w || (!sLet (pLet (A 14) len a w)))).2.2) (nI 44) (nI 44))) (((pNum (A 14) len (a + (pOne (!(w || !sLet (pLet (A 14) len a w))))) (w || (!sLet (pLet (A 14) len a w)))).2.2) || (!(pSee (A 14) len (pNum (A 14) len (a + pOne (!(w || !sLet (pLet (A 14) len a w)))) (w || !sLet (pLet (A 14) len a w))).2.1 (pNum (A 14) len (a + pOne (!(w || !sLet (pLet (A 14) len a w)))) (w || !sLet (pLet (A 14) len a w))).2.2 (nI 44) (nI 44))))).2.1) ((pNum (A 14) len (((pNum (A 14) len (a + (pOne (!(w || !sLet (pLet (A 14) len a w))))) (w || (!sLet (pLet (A 14) len a w)))).2.1) + pOne (pSee (A 14) len ((pNum (A 14) len (a + (pOne (!(w || !sLet (pLet (A 14) len a w))))) (w || (!sLet (pLet (A 14) len a w)))).2.1) ((pNum (A 14) len (a + (pOne (!(w || !sLet (pLet (A 14) len a w))))) (w || (!sLet (pLet (A 14) len a w)))).2.2) (nI 44) (nI 44))) (((pNum (A 14) len (a + (pOne (!(w || !sLet (pLet (A 14) len a w))))) (w || (!sLet (pLet (A 14) len a w)))).2.2) || (!(pSee (A 14) len (pNum (A 14) len (a + pOne (!(w || !sLet (pLet (A 14) len a w)))) (w || !sLet (pLet (A 14) len a w))).2.1 (pNum (A 14) len (a + pOne (!(w || !sLet (pLet (A 14) len a w)))) (w || !sLet (pLet (A 14) len a w))).2.2 (nI 44) (nI 44))))).2.2) (nI 112) (nI 112)))) E (ct_X4_takes G hl m A h0 s ((pNum (A 14) len (((pNum (A 14) len (a + (pOne (!(w || !sLet (pLet (A 14) len a w))))) (w || (!sLet (pLet (A 14) len a w)))).2.1) + pOne (pSee (A 14) len ((pNum (A 14) len (a + (pOne (!(w || !sLet (pLet (A 14) len a w))))) (w || (!sLet (pLet (A 14) len a w)))).2.1) ((pNum (A 14) len (a + (pOne (!(w || !sLet (pLet (A 14) len a w))))) (w || (!sLet (pLet (A 14) len a w)))).2.2) (nI 44) (nI 44))) (((pNum (A 14) len (a + (pOne (!(w || !sLet (pLet (A 14) len a w))))) (w || (!sLet (pLet (A 14) len a w)))).2.2) || (!(pSee (A 14) len (pNum (A 14) len (a + pOne (!(w || !sLet (pLet (A 14) len a w)))) (w || !sLet (pLet (A 14) len a w))).2.1 (pNum (A 14) len (a + pOne (!(w || !sLet (pLet (A 14) len a w)))) (w || !sLet (pLet (A 14) len a w))).2.2 (nI 44) (nI 44))))).2.1) ((pNum (A 14) len (((pNum (A 14) len (a + (pOne (!(w || !sLet (pLet (A 14) len a w))))) (w || (!sLet (pLet (A 14) len a w)))).2.1) + pOne (pSee (A 14) len ((pNum (A 14) len (a + (pOne (!(w || !sLet (pLet (A 14) len a w))))) (w || (!sLet (pLet (A 14) len a w)))).2.1) ((pNum (A 14) len (a + (pOne (!(w || !sLet (pLet (A 14) len a w))))) (w || (!sLet (pLet (A 14) len a w)))).2.2) (nI 44) (nI 44))) (((pNum (A 14) len (a + (pOne (!(w || !sLet (pLet (A 14) len a w))))) (w || (!sLet (pLet (A 14) len a w)))).2.2) || (!(pSee (A 14) len (pNum (A 14) len (a + pOne (!(w || !sLet (pLet (A 14) len a w)))) (w || !sLet (pLet (A 14) len a w))).2.1 (pNum (A 14) len (a + pOne (!(w || !sLet (pLet (A 14) len a w)))) (w || !sLet (pLet (A 14) len a w))).2.2 (nI 44) (nI 44))))).2.2) false (pLet (A 14) len a w) ((pNum (A 14) len (a + (pOne (!(w || !sLet (pLet (A 14) len a w))))) (w || (!sLet (pLet (A 14) len a w)))).1) ((pNum (A 14) len (((pNum (A 14) len (a + (pOne (!(w || !sLet (pLet (A 14) len a w))))) (w || (!sLet (pLet (A 14) len a w)))).2.1) + pOne (pSee (A 14) len ((pNum (A 14) len (a + (pOne (!(w || !sLet (pLet (A 14) len a w))))) (w || (!sLet (pLet (A 14) len a w)))).2.1) ((pNum (A 14) len (a + (pOne (!(w || !sLet (pLet (A 14) len a w))))) (w || (!sLet (pLet (A 14) len a w)))).2.2) (nI 44) (nI 44))) (((pNum (A 14) len (a + (pOne (!(w || !sLet (pLet (A 14) len a w))))) (w || (!sLet (pLet (A 14) len a w)))).2.2) || (!(pSee (A 14) len (pNum (A 14) len (a + pOne (!(w || !sLet (pLet (A 14) len a w)))) (w || !sLet (pLet (A 14) len a w))).2.1 (pNum (A 14) len (a + pOne (!(w || !sLet (pLet (A 14) len a w)))) (w || !sLet (pLet (A 14) len a w))).2.2 (nI 44) (nI 44))))).1) len hlen hn60 (by omega) (nI 112)) mX4_takes q2237 q2239 qs75 (fun H a1 => fm_rc (ci := 0) (C := RX4) (T := TX4) (N := 21) a1 rfl E.v mdl_o) rfl rfl (Nat.le_of_ble_eq_true rfl) (Nat.le_of_ble_eq_true rfl) (Nat.le_of_ble_eq_true rfl) dX4_readCommand_191 0 0 (Nat.le_of_ble_eq_true rfl) (Nat.le_of_ble_eq_true rfl) ?_
    refine r_putf E cl_X4 16 (by decide) rfl q1902 (fun _ z => z) mdl_o (Nat.le_of_ble_eq_true rfl) (bI_n _) (bI_f _) dX4_readCommand_194 ?_
    refine r_hp (h' := mdl m (pSt s (((pNum (A 14) len (((pNum (A 14) len (a + (pOne (!(w || !sLet (pLet (A 14) len a w))))) (w || (!sLet (pLet (A 14) len a w)))).2.1) + pOne (pSee (A 14) len ((pNum (A 14) len (a + (pOne (!(w || !sLet (pLet (A 14) len a w))))) (w || (!sLet (pLet (A 14) len a w)))).2.1) ((pNum (A 14) len (a + (pOne (!(w || !sLet (pLet (A 14) len a w))))) (w || (!sLet (pLet (A 14) len a w)))).2.2) (nI 44) (nI 44))) (((pNum (A 14) len (a + (pOne (!(w || !sLet (pLet (A 14) len a w))))) (w || (!sLet (pLet (A 14) len a w)))).2.2) || (!(pSee (A 14) len (pNum (A 14) len (a + pOne (!(w || !sLet (pLet (A 14) len a w)))) (w || !sLet (pLet (A 14) len a w))).2.1 (pNum (A 14) len (a + pOne (!(w || !sLet (pLet (A 14) len a w)))) (w || !sLet (pLet (A 14) len a w))).2.2 (nI 44) (nI 44))))).2.1) + pOne (pSee (A 14) len ((pNum (A 14) len (((pNum (A 14) len (a + (pOne (!(w || !sLet (pLet (A 14) len a w))))) (w || (!sLet (pLet (A 14) len a w)))).2.1) + pOne (pSee (A 14) len ((pNum (A 14) len (a + (pOne (!(w || !sLet (pLet (A 14) len a w))))) (w || (!sLet (pLet (A 14) len a w)))).2.1) ((pNum (A 14) len (a + (pOne (!(w || !sLet (pLet (A 14) len a w))))) (w || (!sLet (pLet (A 14) len a w)))).2.2) (nI 44) (nI 44))) (((pNum (A 14) len (a + (pOne (!(w || !sLet (pLet (A 14) len a w))))) (w || (!sLet (pLet (A 14) len a w)))).2.2) || (!(pSee (A 14) len (pNum (A 14) len (a + pOne (!(w || !sLet (pLet (A 14) len a w)))) (w || !sLet (pLet (A 14) len a w))).2.1 (pNum (A 14) len (a + pOne (!(w || !sLet (pLet (A 14) len a w)))) (w || !sLet (pLet (A 14) len a w))).2.2 (nI 44) (nI 44))))).2.1) ((pNum (A 14) len (((pNum (A 14) len (a + (pOne (!(w || !sLet (pLet (A 14) len a w))))) (w || (!sLet (pLet (A 14) len a w)))).2.1) + pOne (pSee (A 14) len ((pNum (A 14) len (a + (pOne (!(w || !sLet (pLet (A 14) len a w))))) (w || (!sLet (pLet (A 14) len a w)))).2.1) ((pNum (A 14) len (a + (pOne (!(w || !sLet (pLet (A 14) len a w))))) (w || (!sLet (pLet (A 14) len a w)))).2.2) (nI 44) (nI 44))) (((pNum (A 14) len (a + (pOne (!(w || !sLet (pLet (A 14) len a w))))) (w || (!sLet (pLet (A 14) len a w)))).2.2) || (!(pSee (A 14) len (pNum (A 14) len (a + pOne (!(w || !sLet (pLet (A 14) len a w)))) (w || !sLet (pLet (A 14) len a w))).2.1 (pNum (A 14) len (a + pOne (!(w || !sLet (pLet (A 14) len a w)))) (w || !sLet (pLet (A 14) len a w))).2.2 (nI 44) (nI 44))))).2.2) (nI 112) (nI 112))) ((pNum (A 14) len (((pNum (A 14) len (a + (pOne (!(w || !sLet (pLet (A 14) len a w))))) (w || (!sLet (pLet (A 14) len a w)))).2.1) + pOne (pSee (A 14) len ((pNum (A 14) len (a + (pOne (!(w || !sLet (pLet (A 14) len a w))))) (w || (!sLet (pLet (A 14) len a w)))).2.1) ((pNum (A 14) len (a + (pOne (!(w || !sLet (pLet (A 14) len a w))))) (w || (!sLet (pLet (A 14) len a w)))).2.2) (nI 44) (nI 44))) (((pNum (A 14) len (a + (pOne (!(w || !sLet (pLet (A 14) len a w))))) (w || (!sLet (pLet (A 14) len a w)))).2.2) || (!(pSee (A 14) len (pNum (A 14) len (a + pOne (!(w || !sLet (pLet (A 14) len a w)))) (w || !sLet (pLet (A 14) len a w))).2.1 (pNum (A 14) len (a + pOne (!(w || !sLet (pLet (A 14) len a w)))) (w || !sLet (pLet (A 14) len a w))).2.2 (nI 44) (nI 44))))).2.2) (pSee (A 14) len ((pNum (A 14) len (((pNum (A 14) len (a + (pOne (!(w || !sLet (pLet (A 14) len a w))))) (w || (!sLet (pLet (A 14) len a w)))).2.1) + pOne (pSee (A 14) len ((pNum (A 14) len (a + (pOne (!(w || !sLet (pLet (A 14) len a w))))) (w || (!sLet (pLet (A 14) len a w)))).2.1) ((pNum (A 14) len (a + (pOne (!(w || !sLet (pLet (A 14) len a w))))) (w || (!sLet (pLet (A 14) len a w)))).2.2) (nI 44) (nI 44))) (((pNum (A 14) len (a + (pOne (!(w || !sLet (pLet (A 14) len a w))))) (w || (!sLet (pLet (A 14) len a w)))).2.2) || (!(pSee (A 14) len (pNum (A 14) len (a + pOne (!(w || !sLet (pLet (A 14) len a w)))) (w || !sLet (pLet (A 14) len a w))).2.1 (pNum (A 14) len (a + pOne (!(w || !sLet (pLet (A 14) len a w)))) (w || !sLet (pLet (A 14) len a w))).2.2 (nI 44) (nI 44))))).2.1) ((pNum (A 14) len (((pNum (A 14) len (a + (pOne (!(w || !sLet (pLet (A 14) len a w))))) (w || (!sLet (pLet (A 14) len a w)))).2.1) + pOne (pSee (A 14) len ((pNum (A 14) len (a + (pOne (!(w || !sLet (pLet (A 14) len a w))))) (w || (!sLet (pLet (A 14) len a w)))).2.1) ((pNum (A 14) len (a + (pOne (!(w || !sLet (pLet (A 14) len a w))))) (w || (!sLet (pLet (A 14) len a w)))).2.2) (nI 44) (nI 44))) (((pNum (A 14) len (a + (pOne (!(w || !sLet (pLet (A 14) len a w))))) (w || (!sLet (pLet (A 14) len a w)))).2.2) || (!(pSee (A 14) len (pNum (A 14) len (a + pOne (!(w || !sLet (pLet (A 14) len a w)))) (w || !sLet (pLet (A 14) len a w))).2.1 (pNum (A 14) len (a + pOne (!(w || !sLet (pLet (A 14) len a w)))) (w || !sLet (pLet (A 14) len a w))).2.2 (nI 44) (nI 44))))).2.2) (nI 112) (nI 112)) (pLet (A 14) len a w) ((pNum (A 14) len (a + (pOne (!(w || !sLet (pLet (A 14) len a w))))) (w || (!sLet (pLet (A 14) len a w)))).1) ((pNum (A 14) len (((pNum (A 14) len (a + (pOne (!(w || !sLet (pLet (A 14) len a w))))) (w || (!sLet (pLet (A 14) len a w)))).2.1) + pOne (pSee (A 14) len ((pNum (A 14) len (a + (pOne (!(w || !sLet (pLet (A 14) len a w))))) (w || (!sLet (pLet (A 14) len a w)))).2.1) ((pNum (A 14) len (a + (pOne (!(w || !sLet (pLet (A 14) len a w))))) (w || (!sLet (pLet (A 14) len a w)))).2.2) (nI 44) (nI 44))) (((pNum (A 14) len (a + (pOne (!(w || !sLet (pLet (A 14) len a w))))) (w || (!sLet (pLet (A 14) len a w)))).2.2) || (!(pSee (A 14) len (pNum (A 14) len (a + pOne (!(w || !sLet (pLet (A 14) len a w)))) (w || !sLet (pLet (A 14) len a w))).2.1 (pNum (A 14) len (a + pOne (!(w || !sLet (pLet (A 14) len a w)))) (w || !sLet (pLet (A 14) len a w))).2.2 (nI 44) (nI 44))))).1), A) h0) ((mdl_s16 _).trans (congrArg (fun z => mdl m (z, A) h0) pSt_16)) ?_
    have hp : pCmd (A 14) len a w u = (pLet (A 14) len a w, (pNum (A 14) len (a + pOne (!(w || !sLet (pLet (A 14) len a w)))) (w || !sLet (pLet (A 14) len a w))).1, (pNum (A 14) len ((pNum (A 14) len (a + pOne (!(w || !sLet (pLet (A 14) len a w)))) (w || !sLet (pLet (A 14) len a w))).2.1 + pOne (pSee (A 14) len (pNum (A 14) len (a + pOne (!(w || !sLet (pLet (A 14) len a w)))) (w || !sLet (pLet (A 14) len a w))).2.1 (pNum (A 14) len (a + pOne (!(w || !sLet (pLet (A 14) len a w)))) (w || !sLet (pLet (A 14) len a w))).2.2 (nI 44) (nI 44))) ((pNum (A 14) len (a + pOne (!(w || !sLet (pLet (A 14) len a w)))) (w || !sLet (pLet (A 14) len a w))).2.2 || !(pSee (A 14) len (pNum (A 14) len (a + pOne (!(w || !sLet (pLet (A 14) len a w)))) (w || !sLet (pLet (A 14) len a w))).2.1 (pNum (A 14) len (a + pOne (!(w || !sLet (pLet (A 14) len a w)))) (w || !sLet (pLet (A 14) len a w))).2.2 (nI 44) (nI 44)))).1, pSee (A 14) len (pNum (A 14) len ((pNum (A 14) len (a + pOne (!(w || !sLet (pLet (A 14) len a w)))) (w || !sLet (pLet (A 14) len a w))).2.1 + pOne (pSee (A 14) len (pNum (A 14) len (a + pOne (!(w || !sLet (pLet (A 14) len a w)))) (w || !sLet (pLet (A 14) len a w))).2.1 (pNum (A 14) len (a + pOne (!(w || !sLet (pLet (A 14) len a w)))) (w || !sLet (pLet (A 14) len a w))).2.2 (nI 44) (nI 44))) ((pNum (A 14) len (a + pOne (!(w || !sLet (pLet (A 14) len a w)))) (w || !sLet (pLet (A 14) len a w))).2.2 || !(pSee (A 14) len (pNum (A 14) len (a + pOne (!(w || !sLet (pLet (A 14) len a w)))) (w || !sLet (pLet (A 14) len a w))).2.1 (pNum (A 14) len (a + pOne (!(w || !sLet (pLet (A 14) len a w)))) (w || !sLet (pLet (A 14) len a w))).2.2 (nI 44) (nI 44)))).2.1 (pNum (A 14) len ((pNum (A 14) len (a + pOne (!(w || !sLet (pLet (A 14) len a w)))) (w || !sLet (pLet (A 14) len a w))).2.1 + pOne (pSee (A 14) len (pNum (A 14) len (a + pOne (!(w || !sLet (pLet (A 14) len a w)))) (w || !sLet (pLet (A 14) len a w))).2.1 (pNum (A 14) len (a + pOne (!(w || !sLet (pLet (A 14) len a w)))) (w || !sLet (pLet (A 14) len a w))).2.2 (nI 44) (nI 44))) ((pNum (A 14) len (a + pOne (!(w || !sLet (pLet (A 14) len a w)))) (w || !sLet (pLet (A 14) len a w))).2.2 || !(pSee (A 14) len (pNum (A 14) len (a + pOne (!(w || !sLet (pLet (A 14) len a w)))) (w || !sLet (pLet (A 14) len a w))).2.1 (pNum (A 14) len (a + pOne (!(w || !sLet (pLet (A 14) len a w)))) (w || !sLet (pLet (A 14) len a w))).2.2 (nI 44) (nI 44)))).2.2 (nI 112) (nI 112), (pNum (A 14) len ((pNum (A 14) len (a + pOne (!(w || !sLet (pLet (A 14) len a w)))) (w || !sLet (pLet (A 14) len a w))).2.1 + pOne (pSee (A 14) len (pNum (A 14) len (a + pOne (!(w || !sLet (pLet (A 14) len a w)))) (w || !sLet (pLet (A 14) len a w))).2.1 (pNum (A 14) len (a + pOne (!(w || !sLet (pLet (A 14) len a w)))) (w || !sLet (pLet (A 14) len a w))).2.2 (nI 44) (nI 44))) ((pNum (A 14) len (a + pOne (!(w || !sLet (pLet (A 14) len a w)))) (w || !sLet (pLet (A 14) len a w))).2.2 || !(pSee (A 14) len (pNum (A 14) len (a + pOne (!(w || !sLet (pLet (A 14) len a w)))) (w || !sLet (pLet (A 14) len a w))).2.1 (pNum (A 14) len (a + pOne (!(w || !sLet (pLet (A 14) len a w)))) (w || !sLet (pLet (A 14) len a w))).2.2 (nI 44) (nI 44)))).2.1 + pOne (pSee (A 14) len (pNum (A 14) len ((pNum (A 14) len (a + pOne (!(w || !sLet (pLet (A 14) len a w)))) (w || !sLet (pLet (A 14) len a w))).2.1 + pOne (pSee (A 14) len (pNum (A 14) len (a + pOne (!(w || !sLet (pLet (A 14) len a w)))) (w || !sLet (pLet (A 14) len a w))).2.1 (pNum (A 14) len (a + pOne (!(w || !sLet (pLet (A 14) len a w)))) (w || !sLet (pLet (A 14) len a w))).2.2 (nI 44) (nI 44))) ((pNum (A 14) len (a + pOne (!(w || !sLet (pLet (A 14) len a w)))) (w || !sLet (pLet (A 14) len a w))).2.2 || !(pSee (A 14) len (pNum (A 14) len (a + pOne (!(w || !sLet (pLet (A 14) len a w)))) (w || !sLet (pLet (A 14) len a w))).2.1 (pNum (A 14) len (a + pOne (!(w || !sLet (pLet (A 14) len a w)))) (w || !sLet (pLet (A 14) len a w))).2.2 (nI 44) (nI 44)))).2.1 (pNum (A 14) len ((pNum (A 14) len (a + pOne (!(w || !sLet (pLet (A 14) len a w)))) (w || !sLet (pLet (A 14) len a w))).2.1 + pOne (pSee (A 14) len (pNum (A 14) len (a + pOne (!(w || !sLet (pLet (A 14) len a w)))) (w || !sLet (pLet (A 14) len a w))).2.1 (pNum (A 14) len (a + pOne (!(w || !sLet (pLet (A 14) len a w)))) (w || !sLet (pLet (A 14) len a w))).2.2 (nI 44) (nI 44))) ((pNum (A 14) len (a + pOne (!(w || !sLet (pLet (A 14) len a w)))) (w || !sLet (pLet (A 14) len a w))).2.2 || !(pSee (A 14) len (pNum (A 14) len (a + pOne (!(w || !sLet (pLet (A 14) len a w)))) (w || !sLet (pLet (A 14) len a w))).2.1 (pNum (A 14) len (a + pOne (!(w || !sLet (pLet (A 14) len a w)))) (w || !sLet (pLet (A 14) len a w))).2.2 (nI 44) (nI 44)))).2.2 (nI 112) (nI 112)), (pNum (A 14) len ((pNum (A 14) len (a + pOne (!(w || !sLet (pLet (A 14) len a w)))) (w || !sLet (pLet (A 14) len a w))).2.1 + pOne (pSee (A 14) len (pNum (A 14) len (a + pOne (!(w || !sLet (pLet (A 14) len a w)))) (w || !sLet (pLet (A 14) len a w))).2.1 (pNum (A 14) len (a + pOne (!(w || !sLet (pLet (A 14) len a w)))) (w || !sLet (pLet (A 14) len a w))).2.2 (nI 44) (nI 44))) ((pNum (A 14) len (a + pOne (!(w || !sLet (pLet (A 14) len a w)))) (w || !sLet (pLet (A 14) len a w))).2.2 || !(pSee (A 14) len (pNum (A 14) len (a + pOne (!(w || !sLet (pLet (A 14) len a w)))) (w || !sLet (pLet (A 14) len a w))).2.1 (pNum (A 14) len (a + pOne (!(w || !sLet (pLet (A 14) len a w)))) (w || !sLet (pLet (A 14) len a w))).2.2 (nI 44) (nI 44)))).2.2) := if_pos c14
    exact r_return E P rfl dX4_readCommand_197 ⟨rfl, by rw [hp]; rfl⟩

set_option maxHeartbeats 4000000 in
theorem ct_X4_countCommands (G : fmG) (hl : (fmLn G).stackTraces = false) (m : Nat) (A : Nat → Nat → Int32) (h0 : fmHp) (s : Nat → Int32) (a : Nat) (w p : Bool) (t v u : Int32) (len : Nat) (hlen : s 12 = nI len) (hn60 : len ≤ 60) (hch : ∀ i, i < len → isCh (A 14 i))  : Ct G yX4_countCommands (ws_ yX4_countCommands cX4_countCommands 2 (some .int)) { frames := 4, cells := 0, slots := 0, locals := 86 } [.ref m] (mdl m (pSt s a w p t v u, A) h0) (fmRet (some (.int (nI (pAll (A 14) len u).2))) (mdl m (pStC s (pAll (A 14) len u).1, A) h0)) fmNo := by
  refine Ct.of hl (by decide +kernel) (Nat.le_of_ble_eq_true rfl) (fun Γ E P => ?_)
  refine r_aload_n E dX4_countCommands_0 rfl ?_
  refine r_iconst E (nI 0) dX4_countCommands_1 (by decide) ?_
  refine r_putf E cl_X4 13 (by decide) rfl q1899 (fun _ z => z) mdl_o (Nat.le_of_ble_eq_true rfl) rfl rfl dX4_countCommands_2 ?_
  refine r_hp (h' := mdl m (pSt s 0 w p t v u, A) h0) ((mdl_s13 _).trans (congrArg (fun z => mdl m (z, A) h0) pSt_13)) ?_
  refine r_aload_n E dX4_countCommands_5 rfl ?_
  refine r_iconst E (nI 0) dX4_countCommands_6 (by decide) ?_
  refine r_top (v' := .int (bI false)) rfl ?_
  refine r_putf E cl_X4 15 (by decide) rfl q1901 (fun _ z => z) mdl_o (Nat.le_of_ble_eq_true rfl) (bI_n _) (bI_f _) dX4_countCommands_7 ?_
  refine r_hp (h' := mdl m (pSt s 0 false p t v u, A) h0) ((mdl_s15 _).trans (congrArg (fun z => mdl m (z, A) h0) pSt_15)) ?_
  refine r_iconst E (nI 1) dX4_countCommands_10 (by decide) ?_
  refine r_istore_n E [some (.ref m), some (.int (nI 1))] dX4_countCommands_11 rfl rfl ?_
  refine r_aload_n E dX4_countCommands_12 rfl ?_
  refine r_callV0 E (ct_X4_readCommand G hl m A h0 s 0 false p t v u len hlen hn60 (by omega) hch) mX4_readCommand q2225 q2227 qs72 (fun H a1 => fm_rc (ci := 0) (C := RX4) (T := TX4) (N := 21) a1 rfl E.v mdl_o) rfl rfl (Nat.le_of_ble_eq_true rfl) (Nat.le_of_ble_eq_true rfl) (Nat.le_of_ble_eq_true rfl) dX4_countCommands_13 0 0 (Nat.le_of_ble_eq_true rfl) (Nat.le_of_ble_eq_true rfl) ?_
  have lp : ∀ (n : Nat) (c : PCmd) (many : Nat), (c.2.2.2.2.2 = false → len ≤ n + c.2.2.2.2.1 ∧ c.2.2.2.2.1 ≤ len) → c.2.2.2.2.1 ≤ 1000 → pLoop (A 14) len n c many = (pAll (A 14) len u) → fmW G Γ (mdl m (pSt s c.2.2.2.2.1 c.2.2.2.2.2 c.2.2.2.1 c.1 c.2.1 c.2.2.1, A) h0) 0 0 16 [some (.ref m), some (.int (nI many))] [] := by
    intro n
    induction n with
    | zero =>
      intro c many hb hc hr
      refine r_aload_n E dX4_countCommands_16 rfl ?_
      refine r_getf E cl_X4 15 (by decide) q1901 mdl_o rfl dX4_countCommands_17 ?_
      refine r_top (v' := .int (bI c.2.2.2.2.2)) rfl ?_
      refine r_ifB_ne (b := c.2.2.2.2.2) (tgt := 62) E dX4_countCommands_20 (by decide) (fun c1 => ?_) (fun c1 => ?_)
      · rw [pLoop_end (fun q => by rw [c1] at q; exact Bool.noConfusion q.1)] at hr
        refine r_iload_n E dX4_countCommands_62 rfl ?_
        exact r_ireturn E P rfl dX4_countCommands_63 ⟨by rw [← hr], by rw [← hr]; rfl⟩
      · refine r_aload_n E dX4_countCommands_23 rfl ?_
        refine r_getf E cl_X4 13 (by decide) q1899 mdl_o rfl dX4_countCommands_24 ?_
        refine r_top (v' := .int (nI c.2.2.2.2.1)) rfl ?_
        refine r_aload_n E dX4_countCommands_27 rfl ?_
        refine r_getf E cl_X4 12 (by decide) q1898 mdl_o rfl dX4_countCommands_28 ?_
        refine r_top (v' := .int (nI len)) (congrArg Value.int hlen) ?_
        refine r_icmpN_ge (tgt := 62) E dX4_countCommands_31 (by decide) (by omega) (by omega) (fun c2 => ?_) (fun c2 => ?_)
        · rw [pLoop_end (fun q => by omega)] at hr
          refine r_iload_n E dX4_countCommands_62 rfl ?_
          exact r_ireturn E P rfl dX4_countCommands_63 ⟨by rw [← hr], by rw [← hr]; rfl⟩
        · have := (hb c1).1; omega
    | succ n ih =>
      intro c many hb hc hr
      refine r_aload_n E dX4_countCommands_16 rfl ?_
      refine r_getf E cl_X4 15 (by decide) q1901 mdl_o rfl dX4_countCommands_17 ?_
      refine r_top (v' := .int (bI c.2.2.2.2.2)) rfl ?_
      refine r_ifB_ne (b := c.2.2.2.2.2) (tgt := 62) E dX4_countCommands_20 (by decide) (fun c1 => ?_) (fun c1 => ?_)
      · rw [pLoop_end (fun q => by rw [c1] at q; exact Bool.noConfusion q.1)] at hr
        refine r_iload_n E dX4_countCommands_62 rfl ?_
        exact r_ireturn E P rfl dX4_countCommands_63 ⟨by rw [← hr], by rw [← hr]; rfl⟩
      · refine r_aload_n E dX4_countCommands_23 rfl ?_
        refine r_getf E cl_X4 13 (by decide) q1899 mdl_o rfl dX4_countCommands_24 ?_
        refine r_top (v' := .int (nI c.2.2.2.2.1)) rfl ?_
        refine r_aload_n E dX4_countCommands_27 rfl ?_
        refine r_getf E cl_X4 12 (by decide) q1898 mdl_o rfl dX4_countCommands_28 ?_
        refine r_top (v' := .int (nI len)) (congrArg Value.int hlen) ?_
        refine r_icmpN_ge (tgt := 62) E dX4_countCommands_31 (by decide) (by omega) (by omega) (fun c2 => ?_) (fun c2 => ?_)
        · rw [pLoop_end (fun q => by omega)] at hr
          refine r_iload_n E dX4_countCommands_62 rfl ?_
          exact r_ireturn E P rfl dX4_countCommands_63 ⟨by rw [← hr], by rw [← hr]; rfl⟩
        · have hb2 := hb c1
          rw [pLoop_go ⟨c1, by omega⟩] at hr
          have o1 := pOne_le (pSee (A 14) len c.2.2.2.2.1 c.2.2.2.2.2 (nI 59) (nI 59))
          refine r_aload_n E dX4_countCommands_34 rfl ?_
          refine r_aload_n E dX4_countCommands_35 rfl ?_
          refine r_bipush E (nI 59) dX4_countCommands_36 (by decide) ?_
          refine r_callV1 (v1 := .int (bI (pSee (A 14) len c.2.2.2.2.1 c.2.2.2.2.2 (nI 59) (nI 59)))) E (ct_X4_takes G hl m A h0 s c.2.2.2.2.1 c.2.2.2.2.2 c.2.2.2.1 c.1 c.2.1 c.2.2.1 len hlen hn60 (by omega) (nI 59)) mX4_takes q2237 q2239 qs75 (fun H a1 => fm_rc (ci := 0) (C := RX4) (T := TX4) (N := 21) a1 rfl E.v mdl_o) rfl rfl (Nat.le_of_ble_eq_true rfl) (Nat.le_of_ble_eq_true rfl) (Nat.le_of_ble_eq_true rfl) dX4_countCommands_38 0 0 (Nat.le_of_ble_eq_true rfl) (Nat.le_of_ble_eq_true rfl) ?_
          suffices j3 : fmW G Γ (mdl m (pSt s (c.2.2.2.2.1 + pOne (pSee (A 14) len c.2.2.2.2.1 c.2.2.2.2.2 (nI 59) (nI 59))) c.2.2.2.2.2 c.2.2.2.1 c.1 c.2.1 c.2.2.1, A) h0) 0 0 49 [some (.ref m), some (.int (nI many))] [.int (bI (!(pSee (A 14) len c.2.2.2.2.1 c.2.2.2.2.2 (nI 59) (nI 59)))), .ref m] by
            refine r_ifB_ne (b := pSee (A 14) len c.2.2.2.2.1 c.2.2.2.2.2 (nI 59) (nI 59)) (tgt := 48) E dX4_countCommands_41 (by decide) (fun c4 => ?_) (fun c4 => ?_)
            · refine r_iconst E (nI 0) dX4_countCommands_48 (by decide) ?_
              refine r_top (v' := .int (bI (!(pSee (A 14) len c.2.2.2.2.1 c.2.2.2.2.2 (nI 59) (nI 59))))) (by rw [c4]; rfl) ?_
              exact j3
            · refine r_iconst E (nI 1) dX4_countCommands_44 (by decide) ?_
              refine r_goto (tgt := 49) E dX4_countCommands_45 (by decide) ?_
              refine r_top (v' := .int (bI (!(pSee (A 14) len c.2.2.2.2.1 c.2.2.2.2.2 (nI 59) (nI 59))))) (by rw [c4]; rfl) ?_
              exact j3
          have o2 := pCmd_at (T := A 14) (len := len) (a := c.2.2.2.2.1 + pOne (pSee (A 14) len c.2.2.2.2.1 c.2.2.2.2.2 (nI 59) (nI 59))) (w := !(pSee (A 14) len c.2.2.2.2.1 c.2.2.2.2.2 (nI 59) (nI 59))) (u := c.2.2.1)
          refine r_putf E cl_X4 15 (by decide) rfl q1901 (fun _ z => z) mdl_o (Nat.le_of_ble_eq_true rfl) (bI_n _) (bI_f _) dX4_countCommands_49 ?_
          refine r_hp (h' := mdl m (pSt s (c.2.2.2.2.1 + pOne (pSee (A 14) len c.2.2.2.2.1 c.2.2.2.2.2 (nI 59) (nI 59))) (!(pSee (A 14) len c.2.2.2.2.1 c.2.2.2.2.2 (nI 59) (nI 59))) c.2.2.2.1 c.1 c.2.1 c.2.2.1, A) h0) ((mdl_s15 _).trans (congrArg (fun z => mdl m (z, A) h0) pSt_15)) ?_
          refine r_aload_n E dX4_countCommands_52 rfl ?_
          refine r_callV0 E (ct_X4_readCommand G hl m A h0 s (c.2.2.2.2.1 + pOne (pSee (A 14) len c.2.2.2.2.1 c.2.2.2.2.2 (nI 59) (nI 59))) (!(pSee (A 14) len c.2.2.2.2.1 c.2.2.2.2.2 (nI 59) (nI 59))) c.2.2.2.1 c.1 c.2.1 c.2.2.1 len hlen hn60 (by omega) hch) mX4_readCommand q2225 q2227 qs72 (fun H a1 => fm_rc (ci := 0) (C := RX4) (T := TX4) (N := 21) a1 rfl E.v mdl_o) rfl rfl (Nat.le_of_ble_eq_true rfl) (Nat.le_of_ble_eq_true rfl) (Nat.le_of_ble_eq_true rfl) dX4_countCommands_53 0 0 (Nat.le_of_ble_eq_true rfl) (Nat.le_of_ble_eq_true rfl) ?_
          refine r_iinc E (nI (many + 1)) [some (.ref m), some (.int (nI (many + 1)))] dX4_countCommands_56 rfl (nI_1 many) rfl rfl ?_
          refine r_goto (tgt := 16) E dX4_countCommands_59 (by decide) ?_
          exact ih (pCmd (A 14) len (c.2.2.2.2.1 + pOne (pSee (A 14) len c.2.2.2.2.1 c.2.2.2.2.2 (nI 59) (nI 59))) (!(pSee (A 14) len c.2.2.2.2.1 c.2.2.2.2.2 (nI 59) (nI 59))) c.2.2.1) (many + 1) (fun q => by have := pCmd_end q; exact ⟨by omega, this.2⟩) (by omega) hr
  have o2 := pCmd_at (T := A 14) (len := len) (a := 0) (w := false) (u := u)
  exact lp (len + 1) (pCmd (A 14) len 0 false u) 1 (fun q => ⟨by omega, (pCmd_end q).2⟩) (by omega) rfl

