set_option maxHeartbeats 4000000 in
theorem ct_X13_isBare (G : fmG) (hl : (fmLn G).stackTraces = false) (h : fmHp) (o : Nat) : Ct G yX13_isBare (ws_ yX13_isBare cX13_isBare 1 (some .boolean)) { frames := 0, cells := 0, slots := 0, locals := 0 } [.ref o] h (fmRet (some (.int (bI false))) h) fmNo := by
  refine Ct.of hl (by decide +kernel) (Nat.le_of_ble_eq_true rfl) (fun Γ E P => ?_)
  refine r_iconst E (nI 0) dX13_isBare_0 (by decide) ?_
  refine r_top (v' := .int (bI false)) rfl ?_
  exact r_zreturn E P rfl dX13_isBare_1 ⟨rfl, rfl⟩

set_option maxHeartbeats 4000000 in
theorem ct_X1_beside (G : fmG) (hl : (fmLn G).stackTraces = false) (h : fmHp) (hC : CC G h) (c d : Nat) (hc : c < 64) (hd : d < 4) : Ct G yX1_beside (ws_ yX1_beside cX1_beside 2 (some .int)) { frames := 0, cells := 0, slots := 0, locals := 0 } [.int (nI c), .int (nI d)] h (fmRet (some (.int (cI (sBsd c d)))) h) fmNo := by
  refine Ct.of hl (by decide +kernel) (Nat.le_of_ble_eq_true rfl) (fun Γ E P => ?_)
  obtain ⟨⟨bf, hb1, hb2⟩, -⟩ := hC
  refine r_gets E 0 rfl q339 dX1_beside_0 ?_
  refine r_iconst E (nI 4) dX1_beside_3 (by decide) ?_
  refine r_iload_n E dX1_beside_4 rfl ?_
  refine r_imulN E dX1_beside_5 ?_
  refine r_iload_n E dX1_beside_6 rfl ?_
  refine r_iaddN E dX1_beside_7 ?_
  refine r_iald E hb1 (by omega) (by omega) dX1_beside_8 ?_
  refine r_top (v' := .int (cI (sBsd c d))) (congrArg Value.int (hb2 c d hc hd)) ?_
  exact r_ireturn E P rfl dX1_beside_9 ⟨rfl, rfl⟩

set_option maxHeartbeats 4000000 in
theorem ct_X2_isOpen (G : fmG) (hl : (fmLn G).stackTraces = false) (h : fmHp) {d g sl se pl pe : Nat} {gf sf pf : Nat → Nat} {N : Nat → Int32} {K pk : Nat} (hC : CC G h) (hM : MineAt G h d g sl se pl pe gf sf pf N K pk) (o : Option Nat) (s : Int32) (ho : ∀ x, o = some x → x < 64) : Ct G yX2_isOpen (ws_ yX2_isOpen cX2_isOpen 5 (some .boolean)) { frames := 0, cells := 0, slots := 0, locals := 0 } [.ref d, .int (cI o), .int s] h (fmRet (some (.int (bI (sOpenOf N o s)))) h) fmNo := by
  refine Ct.of hl (by decide +kernel) (Nat.le_of_ble_eq_true rfl) (fun Γ E P => ?_)
  obtain ⟨hd, ⟨gq, hg, hgq⟩, hgd, hS, hSh, hP, hPk, hK8, hP6, hsp, hse⟩ := id hM
  obtain ⟨mcS, hsl⟩ := hS.o
  obtain ⟨mcP, hpl⟩ := hP.o
  refine r_iload_n E dX2_isOpen_0 rfl ?_
  refine r_iconst E (-1) dX2_isOpen_1 (by decide) ?_
  refine r_icmpC_eq (tgt := 39) E dX2_isOpen_2 (by decide) (fun x hx => Nat.lt_trans (ho x hx) (by decide)) (fun c1 => ?_) (fun c1 => ?_)
  · subst c1
    refine r_iconst E (nI 0) dX2_isOpen_39 (by decide) ?_
    refine r_top (v' := .int (bI (sOpenOf N none s))) (by rw [show sOpenOf N none s = false from rfl]; rfl) ?_
    exact r_zreturn E P rfl dX2_isOpen_40 ⟨rfl, rfl⟩
  · obtain ⟨c, rfl⟩ := Option.ne_none_iff_exists'.mp c1
    have hc := ho c rfl
    rcases hgd c hc with ⟨gd1a, gd1b, gd1c, gd1o⟩ | ⟨gd1p, gd1a, gd1c, gd1o⟩ | ⟨gd1a, gd1c, gd1o⟩
    · refine r_aload_n E dX2_isOpen_5 rfl ?_
      refine r_getf E cl_X2 0 (by decide) q185 hd rfl dX2_isOpen_6 ?_
      refine r_iload_n E dX2_isOpen_9 rfl ?_
      refine r_aald E hg rfl rfl (by omega) (by decide) dX2_isOpen_10 ?_
      refine r_top (v' := .ref (gf c)) (congrArg va_rf (hgq _ (by omega))) ?_
      refine r_astore E [some (.ref d), some (.int (nI c)), some (.int s), none, some (.ref (gf c))] dX2_isOpen_11 rfl rfl ?_
      refine r_aload E dX2_isOpen_13 rfl ?_
      refine r_instNo E cl_X3 q803 (by decide +kernel) gd1o dX2_isOpen_15 ?_
      refine r_top (v' := .int (bI false)) rfl ?_
      refine r_ifB_eq (b := false) (tgt := 39) E dX2_isOpen_18 (by decide) (fun _ => ?_) (fun c => absurd c (by decide))
      refine r_iconst E (nI 0) dX2_isOpen_39 (by decide) ?_
      refine r_top (v' := .int (bI (sOpenOf N (some c) s))) (by rw [so0 gd1a]; rfl) ?_
      exact r_zreturn E P rfl dX2_isOpen_40 ⟨rfl, rfl⟩
    · refine r_aload_n E dX2_isOpen_5 rfl ?_
      refine r_getf E cl_X2 0 (by decide) q185 hd rfl dX2_isOpen_6 ?_
      refine r_iload_n E dX2_isOpen_9 rfl ?_
      refine r_aald E hg rfl rfl (by omega) (by decide) dX2_isOpen_10 ?_
      refine r_top (v' := .ref (gf c)) (congrArg va_rf (hgq _ (by omega))) ?_
      refine r_astore E [some (.ref d), some (.int (nI c)), some (.int s), none, some (.ref (gf c))] dX2_isOpen_11 rfl rfl ?_
      refine r_aload E dX2_isOpen_13 rfl ?_
      refine r_instS E cl_X6 q803 gd1o dX2_isOpen_15 ?_
      refine r_top (v' := .int (bI true)) rfl ?_
      refine r_ifB_eq (b := true) (tgt := 39) E dX2_isOpen_18 (by decide) (fun c => absurd c (by decide)) (fun _ => ?_)
      refine r_aload E dX2_isOpen_21 rfl ?_
      refine r_castS E cl_X6 q803 gd1o dX2_isOpen_23 ?_
      refine r_astore_n E [some (.ref d), some (.int (nI c)), some (.int s), some (.ref (gf c)), some (.ref (gf c))] dX2_isOpen_26 rfl rfl ?_
      refine r_aload_n E dX2_isOpen_27 rfl ?_
      refine r_getfN E cl_X6 0 (by decide) q811 gd1o rfl dX2_isOpen_28 ?_
      refine r_iload_n E dX2_isOpen_31 rfl ?_
      refine r_icmp_ne (x := N (192 + c)) (y := s) (tgt := 39) E dX2_isOpen_32 (by decide) (fun c4 => ?_) (fun c4 => ?_)
      · refine r_iconst E (nI 0) dX2_isOpen_39 (by decide) ?_
        refine r_top (v' := .int (bI (sOpenOf N (some c) s))) (by rw [so1 gd1a, decide_eq_false c4]; rfl) ?_
        exact r_zreturn E P rfl dX2_isOpen_40 ⟨rfl, rfl⟩
      · refine r_iconst E (nI 1) dX2_isOpen_35 (by decide) ?_
        refine r_goto (tgt := 40) E dX2_isOpen_36 (by decide) ?_
        refine r_top (v' := .int (bI (sOpenOf N (some c) s))) (by rw [so1 gd1a, decide_eq_true c4]; rfl) ?_
        exact r_zreturn E P rfl dX2_isOpen_40 ⟨rfl, rfl⟩
    · refine r_aload_n E dX2_isOpen_5 rfl ?_
      refine r_getf E cl_X2 0 (by decide) q185 hd rfl dX2_isOpen_6 ?_
      refine r_iload_n E dX2_isOpen_9 rfl ?_
      refine r_aald E hg rfl rfl (by omega) (by decide) dX2_isOpen_10 ?_
      refine r_top (v' := .ref (gf c)) (congrArg va_rf (hgq _ (by omega))) ?_
      refine r_astore E [some (.ref d), some (.int (nI c)), some (.int s), none, some (.ref (gf c))] dX2_isOpen_11 rfl rfl ?_
      refine r_aload E dX2_isOpen_13 rfl ?_
      refine r_instNo E cl_X8 q803 (by decide +kernel) gd1o dX2_isOpen_15 ?_
      refine r_top (v' := .int (bI false)) rfl ?_
      refine r_ifB_eq (b := false) (tgt := 39) E dX2_isOpen_18 (by decide) (fun _ => ?_) (fun c => absurd c (by decide))
      refine r_iconst E (nI 0) dX2_isOpen_39 (by decide) ?_
      refine r_top (v' := .int (bI (sOpenOf N (some c) s))) (by rw [so2 gd1a]; rfl) ?_
      exact r_zreturn E P rfl dX2_isOpen_40 ⟨rfl, rfl⟩

set_option maxHeartbeats 4000000 in
theorem ct_X2_isNextTo (G : fmG) (hl : (fmLn G).stackTraces = false) (h : fmHp) {d g sl se pl pe : Nat} {gf sf pf : Nat → Nat} {N : Nat → Int32} {K pk : Nat} (hC : CC G h) (hM : MineAt G h d g sl se pl pe gf sf pf N K pk) (c : Nat) (s : Int32) (hc : c < 64) : Ct G yX2_isNextTo (ws_ yX2_isNextTo cX2_isNextTo 5 (some .boolean)) { frames := 1, cells := 0, slots := 0, locals := 24 } [.ref d, .int (nI c), .int s] h (fmRet (some (.int (bI (sNext N c s)))) h) fmNo := by
  refine Ct.of hl (by decide +kernel) (Nat.le_of_ble_eq_true rfl) (fun Γ E P => ?_)
  obtain ⟨hd, ⟨gq, hg, hgq⟩, hgd, hS, hSh, hP, hPk, hK8, hP6, hsp, hse⟩ := id hM
  obtain ⟨mcS, hsl⟩ := hS.o
  obtain ⟨mcP, hpl⟩ := hP.o
  refine r_iconst E (nI 0) dX2_isNextTo_0 (by decide) ?_
  refine r_istore_n E [some (.ref d), some (.int (nI c)), some (.int s), some (.int (nI 0)), none] dX2_isNextTo_1 rfl rfl ?_
  refine r_iconst E (nI 0) dX2_isNextTo_2 (by decide) ?_
  refine r_istore E [some (.ref d), some (.int (nI c)), some (.int s), some (.int (nI 0)), some (.int (nI 0))] dX2_isNextTo_3 rfl rfl ?_
  have lp1 : ∀ (n1 i1 : Nat), i1 + n1 = 4 → fmW G Γ (h) 0 0 5 [some (.ref d), some (.int (nI c)), some (.int s), some (.int (bI (sNextK N c s i1))), some (.int (nI i1))] [] := by
    intro n1
    induction n1 with
    | zero =>
      intro i1 hi1
      refine r_iload E dX2_isNextTo_5 rfl ?_
      refine r_iconst E (nI 4) dX2_isNextTo_7 (by decide) ?_
      refine r_icmpN_ge (tgt := 31) E dX2_isNextTo_8 (by decide) (by omega) (by omega) (fun c2 => ?_) (fun c2 => ?_)
      · obtain rfl : i1 = 4 := by omega
        refine r_iload_n E dX2_isNextTo_31 rfl ?_
        exact r_zreturn E P rfl dX2_isNextTo_32 ⟨rfl, rfl⟩
      · exfalso; omega
    | succ n1 ih =>
      intro i1 hi1
      refine r_iload E dX2_isNextTo_5 rfl ?_
      refine r_iconst E (nI 4) dX2_isNextTo_7 (by decide) ?_
      refine r_icmpN_ge (tgt := 31) E dX2_isNextTo_8 (by decide) (by omega) (by omega) (fun c3 => ?_) (fun c3 => ?_)
      · exfalso; omega
      · refine r_iload_n E dX2_isNextTo_11 rfl ?_
        refine r_aload_n E dX2_isNextTo_12 rfl ?_
        refine r_iload_n E dX2_isNextTo_13 rfl ?_
        refine r_iload E dX2_isNextTo_14 rfl ?_
        refine r_callSN1 (v1 := .int (cI (sBsd c i1))) E (ct_X1_beside G hl (h) hC c i1 (by omega) (by omega)) mX1_beside q78 q336 q337 rfl rfl (Nat.le_of_ble_eq_true rfl) (Nat.le_of_ble_eq_true rfl) (Nat.le_of_ble_eq_true rfl) dX2_isNextTo_16 0 0 (Nat.le_of_ble_eq_true rfl) (Nat.le_of_ble_eq_true rfl) ?_
        refine r_iload_n E dX2_isNextTo_19 rfl ?_
        refine r_callV1 (v1 := .int (bI (sOpenOf N (sBsd c i1) s))) E (ct_X2_isOpen G hl (h) hC hM (sBsd c i1) s (by intro x hx; first | exact sBsd_lt (by omega) hx | exact ho x hx | (cases hx; omega) | cases hx)) mX2_isOpen q799 q800 q801 (fun H a1 => fm_rc (ci := 2) (C := RX2) (T := TX2) (N := 7) a1 rfl E.v hd) rfl rfl (Nat.le_of_ble_eq_true rfl) (Nat.le_of_ble_eq_true rfl) (Nat.le_of_ble_eq_true rfl) dX2_isNextTo_20 0 0 (Nat.le_of_ble_eq_true rfl) (Nat.le_of_ble_eq_true rfl) ?_
        refine r_iorB (a := sNextK N c s i1) (b := sOpenOf N (sBsd c i1) s) E dX2_isNextTo_23 ?_
        refine r_istore_n E [some (.ref d), some (.int (nI c)), some (.int s), some (.int (bI ((sNextK N c s i1) || (sOpenOf N (sBsd c i1) s)))), some (.int (nI i1))] dX2_isNextTo_24 rfl rfl ?_
        refine r_iinc E (nI (i1 + 1)) [some (.ref d), some (.int (nI c)), some (.int s), some (.int (bI ((sNextK N c s i1) || (sOpenOf N (sBsd c i1) s)))), some (.int (nI (i1 + 1)))] dX2_isNextTo_25 rfl (nI_1 i1) rfl rfl ?_
        refine r_goto (tgt := 5) E dX2_isNextTo_28 (by decide) ?_
        exact ih (i1 + 1) (by omega)
  exact lp1 4 0 (by omega)

set_option maxHeartbeats 4000000 in
theorem ct_X2_met (G : fmG) (hl : (fmLn G).stackTraces = false) (h : fmHp) {d g sl se pl pe : Nat} {gf sf pf : Nat → Nat} {N : Nat → Int32} {K pk : Nat} (hC : CC G h) (hM : MineAt G h d g sl se pl pe gf sf pf N K pk) (c : Nat) (own : Int32) (hc : c < 64) : Ct G yX2_met (ws_ yX2_met cX2_met 4 (some .int)) { frames := 2, cells := 0, slots := 0, locals := 48 } [.ref d, .int (nI c), .int own] h (fmRet (some (.int (cI (sMeet N c own K)))) h) fmNo := by
  refine Ct.of hl (by decide +kernel) (Nat.le_of_ble_eq_true rfl) (fun Γ E P => ?_)
  obtain ⟨hd, ⟨gq, hg, hgq⟩, hgd, hS, hSh, hP, hPk, hK8, hP6, hsp, hse⟩ := id hM
  obtain ⟨mcS, hsl⟩ := hS.o
  obtain ⟨mcP, hpl⟩ := hP.o
  refine r_iconst E (nI 0) dX2_met_0 (by decide) ?_
  refine r_istore_n E [some (.ref d), some (.int (nI c)), some (.int own), some (.int (nI 0))] dX2_met_1 rfl rfl ?_
  have lp1 : ∀ (n1 i1 : Nat), i1 + n1 = K → (sMeetF N c own K (n1 + 1) i1 = sMeet N c own K) → fmW G Γ (h) 0 0 2 [some (.ref d), some (.int (nI c)), some (.int own), some (.int (nI i1))] [] := by
    intro n1
    induction n1 with
    | zero =>
      intro i1 hi1 hv1
      refine r_iload_n E dX2_met_2 rfl ?_
      refine r_aload_n E dX2_met_3 rfl ?_
      refine r_getf E cl_X2 1 (by decide) q187 hd rfl dX2_met_4 ?_
      refine r_callF1 (v1 := .int (nI K)) E (ctA_J2_size G hl (h) sl se K sf hS (by omega)) mJ2_size (ci := 12) rfl hsl 3 rfl q758 q581 q579 fx_3 rfl rfl (Nat.le_of_ble_eq_true rfl) (Nat.le_of_ble_eq_true rfl) (Nat.le_of_ble_eq_true rfl) dX2_met_7 0 0 (Nat.le_of_ble_eq_true rfl) (Nat.le_of_ble_eq_true rfl) ?_
      refine r_icmpN_ge (tgt := 37) E dX2_met_12 (by decide) (by omega) (by omega) (fun c2 => ?_) (fun c2 => ?_)
      · obtain rfl : K = i1 := by omega
        refine r_iconst E (-1) dX2_met_37 (by decide) ?_
        refine r_top (v' := .int (cI (sMeet N c own K))) (by rw [← hv1]; unfold sMeetF; rw [if_neg (Nat.lt_irrefl _)]; rfl) ?_
        exact r_ireturn E P rfl dX2_met_38 ⟨rfl, rfl⟩
      · exfalso; omega
    | succ n1 ih =>
      intro i1 hi1 hv1
      refine r_iload_n E dX2_met_2 rfl ?_
      refine r_aload_n E dX2_met_3 rfl ?_
      refine r_getf E cl_X2 1 (by decide) q187 hd rfl dX2_met_4 ?_
      refine r_callF1 (v1 := .int (nI K)) E (ctA_J2_size G hl (h) sl se K sf hS (by omega)) mJ2_size (ci := 12) rfl hsl 3 rfl q758 q581 q579 fx_3 rfl rfl (Nat.le_of_ble_eq_true rfl) (Nat.le_of_ble_eq_true rfl) (Nat.le_of_ble_eq_true rfl) dX2_met_7 0 0 (Nat.le_of_ble_eq_true rfl) (Nat.le_of_ble_eq_true rfl) ?_
      refine r_icmpN_ge (tgt := 37) E dX2_met_12 (by decide) (by omega) (by omega) (fun c3 => ?_) (fun c3 => ?_)
      · exfalso; omega
      · have hm := hv1
        unfold sMeetF at hm
        rw [if_pos (show i1 < K by omega)] at hm
        refine r_iload_n E dX2_met_15 rfl ?_
        refine r_iload_n E dX2_met_16 rfl ?_
        refine r_icmp_eq (x := nI i1) (y := own) (tgt := 31) E dX2_met_17 (by decide) (fun c4 => ?_) (fun c4 => ?_)
        · rw [if_neg (fun q => q.1 c4)] at hm
          refine r_iinc E (nI (i1 + 1)) [some (.ref d), some (.int (nI c)), some (.int own), some (.int (nI (i1 + 1)))] dX2_met_31 rfl (nI_1 i1) rfl rfl ?_
          refine r_goto (tgt := 2) E dX2_met_34 (by decide) ?_
          exact ih (i1 + 1) (by omega) hm
        · refine r_aload_n E dX2_met_20 rfl ?_
          refine r_iload_n E dX2_met_21 rfl ?_
          refine r_iload_n E dX2_met_22 rfl ?_
          refine r_callV1 (v1 := .int (bI (sNext N c (nI i1)))) E (ct_X2_isNextTo G hl (h) hC hM c (nI i1) (by omega)) mX2_isNextTo q795 q796 q797 (fun H a1 => fm_rc (ci := 2) (C := RX2) (T := TX2) (N := 7) a1 rfl E.v hd) rfl rfl (Nat.le_of_ble_eq_true rfl) (Nat.le_of_ble_eq_true rfl) (Nat.le_of_ble_eq_true rfl) dX2_met_23 0 0 (Nat.le_of_ble_eq_true rfl) (Nat.le_of_ble_eq_true rfl) ?_
          refine r_ifB_eq (b := sNext N c (nI i1)) (tgt := 31) E dX2_met_26 (by decide) (fun c5 => ?_) (fun c5 => ?_)
          · rw [if_neg (fun q => by rw [c5] at q; exact Bool.noConfusion q.2)] at hm
            refine r_iinc E (nI (i1 + 1)) [some (.ref d), some (.int (nI c)), some (.int own), some (.int (nI (i1 + 1)))] dX2_met_31 rfl (nI_1 i1) rfl rfl ?_
            refine r_goto (tgt := 2) E dX2_met_34 (by decide) ?_
            exact ih (i1 + 1) (by omega) hm
          · rw [if_pos ⟨c4, c5⟩] at hm
            refine r_iload_n E dX2_met_29 rfl ?_
            refine r_top (v' := .int (cI (sMeet N c own K))) (by rw [← hm]; rfl) ?_
            exact r_ireturn E P rfl dX2_met_30 ⟨rfl, rfl⟩
  exact lp1 K 0 (by omega) rfl

