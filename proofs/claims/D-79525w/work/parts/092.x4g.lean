set_option maxHeartbeats 4000000 in
theorem ct_X4_dig (G : fmG) (hl : (fmLn G).stackTraces = false) (m : Nat) (S : MSt) (h0 : fmHp) (s v : Int32) (p : Bool) (tx : Bool) (h8 : S.1 8 = bI tx) (kp : Nat) (h4 : S.1 4 = nI kp) (hk8 : kp ≤ 8) (K : Nat) (hK : S.2 1 350 = nI K) (hK8 : K ≤ 8) (pk : Nat) (hP : S.2 1 351 = nI pk) (hP6 : pk ≤ 6) : Ct G yX4_dig (ws_ yX4_dig cX4_dig 4 (some .int)) { frames := 7, cells := 0, slots := 0, locals := 159 } [.ref m, .int s, .int v, .int (bI p)] (mdl m S h0) (fmRet (some (.int (aAns (aDig (S.2 1) s v p K pk)))) (mdl m (aSt S tx kp 1 9 2 (aDig (S.2 1) s v p K pk)) h0)) fmNo := by
  refine Ct.of hl (by decide +kernel) (Nat.le_of_ble_eq_true rfl) (fun Γ E P => ?_)
  refine r_aload_n E dX4_dig_0 rfl ?_
  refine r_iconst E (nI 1) dX4_dig_1 (by decide) ?_
  suffices j1 : fmW G Γ (mdl m S h0) 0 0 22 [some (.ref m), some (.int s), some (.int v), some (.int (bI p))] [.int (bI (!(sBetween s (nI 0) (nI K - nI 1) && sBetween v (nI 0) (nI 63)))), .int (nI 1), .ref m] by
    refine r_aload_n E dX4_dig_2 rfl ?_
    refine r_iload_n E dX4_dig_3 rfl ?_
    refine r_callV1 (v1 := .int (bI (sBetween s (nI 0) (nI K - nI 1)))) E (ct_X4_isShaft G hl m S h0 s K hK) mX4_isShaft q2099 q2101 qs55 (fun H a1 => fm_rc (ci := 0) (C := RX4) (T := TX4) (N := 21) a1 rfl E.v mdl_o) rfl rfl (Nat.le_of_ble_eq_true rfl) (Nat.le_of_ble_eq_true rfl) (Nat.le_of_ble_eq_true rfl) dX4_dig_4 0 0 (Nat.le_of_ble_eq_true rfl) (Nat.le_of_ble_eq_true rfl) ?_
    refine r_ifB_eq (b := sBetween s (nI 0) (nI K - nI 1)) (tgt := 17) E dX4_dig_7 (by decide) (fun c2 => ?_) (fun c2 => ?_)
    · refine r_iconst E (nI 1) dX4_dig_17 (by decide) ?_
      refine r_goto (tgt := 22) E dX4_dig_18 (by decide) ?_
      refine r_top (v' := .int (bI (!(sBetween s (nI 0) (nI K - nI 1) && sBetween v (nI 0) (nI 63))))) (by rw [show (!(sBetween s (nI 0) (nI K - nI 1) && sBetween v (nI 0) (nI 63))) = true by simp [c2]]; rfl) ?_
      exact j1
    · refine r_iload_n E dX4_dig_10 rfl ?_
      refine r_callS1 (v1 := .int (bI (sBetween v (nI 0) (nI 63)))) E (ct_X4_isCell G hl (mdl m S h0) (v)) mX4_isCell q89 q1959 q1960 rfl rfl (Nat.le_of_ble_eq_true rfl) (Nat.le_of_ble_eq_true rfl) (Nat.le_of_ble_eq_true rfl) dX4_dig_11 0 0 (Nat.le_of_ble_eq_true rfl) (Nat.le_of_ble_eq_true rfl) ?_
      refine r_ifB_ne (b := sBetween v (nI 0) (nI 63)) (tgt := 21) E dX4_dig_14 (by decide) (fun c3 => ?_) (fun c3 => ?_)
      · refine r_iconst E (nI 0) dX4_dig_21 (by decide) ?_
        refine r_top (v' := .int (bI (!(sBetween s (nI 0) (nI K - nI 1) && sBetween v (nI 0) (nI 63))))) (by rw [show (!(sBetween s (nI 0) (nI K - nI 1) && sBetween v (nI 0) (nI 63))) = false by simp [c2, c3]]; rfl) ?_
        exact j1
      · refine r_iconst E (nI 1) dX4_dig_17 (by decide) ?_
        refine r_goto (tgt := 22) E dX4_dig_18 (by decide) ?_
        refine r_top (v' := .int (bI (!(sBetween s (nI 0) (nI K - nI 1) && sBetween v (nI 0) (nI 63))))) (by rw [show (!(sBetween s (nI 0) (nI K - nI 1) && sBetween v (nI 0) (nI 63))) = true by simp [c2, c3]]; rfl) ?_
        exact j1
  refine r_callV1 (v1 := .int (bI (!(sBetween s (nI 0) (nI K - nI 1) && sBetween v (nI 0) (nI 63))))) E (ct_X4_fails G hl m S h0 (nI 1) (!(sBetween s (nI 0) (nI K - nI 1) && sBetween v (nI 0) (nI 63)))) mX4_fails q1965 q1967 qs33 (fun H a1 => fm_rc (ci := 0) (C := RX4) (T := TX4) (N := 21) a1 rfl E.v mdl_o) rfl rfl (Nat.le_of_ble_eq_true rfl) (Nat.le_of_ble_eq_true rfl) (Nat.le_of_ble_eq_true rfl) dX4_dig_22 0 0 (Nat.le_of_ble_eq_true rfl) (Nat.le_of_ble_eq_true rfl) ?_
  refine r_ifB_ne (b := !(sBetween s (nI 0) (nI K - nI 1) && sBetween v (nI 0) (nI 63))) (tgt := 43) E dX4_dig_25 (by decide) (fun c4 => ?_) (fun c4 => ?_)
  · refine r_hp (h' := mdl m (upd S.1 0 (nI 1), S.2) h0) (by rw [nt1 c4]) ?_
    refine r_iconst E (nI 0) dX4_dig_43 (by decide) ?_
    have hs : aDig (S.2 1) s v p K pk = aThr 1 := (aG_t c4).trans (rfl)
    exact r_ireturn E P rfl dX4_dig_44 ⟨by rw [hs]; rfl, by rw [hs]; rfl⟩
  · refine r_hp (h' := mdl m (upd S.1 0 (nI 0), S.2) h0) (by rw [nf1 c4]) ?_
    have hb : sBetween s (nI 0) (nI K - nI 1) = true ∧ sBetween v (nI 0) (nI 63) = true := by simpa using c4
    obtain ⟨j, hj, rfl⟩ := sShaft_of (by omega) hb.1
    obtain ⟨c, hc, rfl⟩ := sCell_of (by rw [hb.2]; rfl)
    have hcn : cN (nI c) = c := cN_n (by omega)
    have hjn : cN (nI j) = j := cN_n (by omega)
    refine r_aload_n E dX4_dig_28 rfl ?_
    refine r_iconst E (nI 2) dX4_dig_29 (by decide) ?_
    refine r_aload_n E dX4_dig_30 rfl ?_
    refine r_iload_n E dX4_dig_31 rfl ?_
    refine r_iload_n E dX4_dig_32 rfl ?_
    refine r_iload_n E dX4_dig_33 rfl ?_
    refine r_callV1 (v1 := .int (bI ((sDigRef (S.2 1) j c p K pk).isSome))) E (ct_X4_isDigRefused G hl m (upd S.1 0 (nI 0), S.2) h0 j c p K hK hK8 pk hP hP6 (by omega) (by omega)) mX4_isDigRefused q2103 q2105 qs56 (fun H a1 => fm_rc (ci := 0) (C := RX4) (T := TX4) (N := 21) a1 rfl E.v mdl_o) rfl rfl (Nat.le_of_ble_eq_true rfl) (Nat.le_of_ble_eq_true rfl) (Nat.le_of_ble_eq_true rfl) dX4_dig_34 0 0 (Nat.le_of_ble_eq_true rfl) (Nat.le_of_ble_eq_true rfl) ?_
    refine r_callV1 (v1 := .int (bI ((sDigRef (S.2 1) j c p K pk).isSome))) E (ct_X4_fails G hl m (refO (upd S.1 0 (nI 0)) (sDigRef (S.2 1) j c p K pk), S.2) h0 (nI 2) ((sDigRef (S.2 1) j c p K pk).isSome)) mX4_fails q1965 q1967 qs33 (fun H a1 => fm_rc (ci := 0) (C := RX4) (T := TX4) (N := 21) a1 rfl E.v mdl_o) rfl rfl (Nat.le_of_ble_eq_true rfl) (Nat.le_of_ble_eq_true rfl) (Nat.le_of_ble_eq_true rfl) dX4_dig_37 0 0 (Nat.le_of_ble_eq_true rfl) (Nat.le_of_ble_eq_true rfl) ?_
    refine r_ifB_eq (b := (sDigRef (S.2 1) j c p K pk).isSome) (tgt := 45) E dX4_dig_40 (by decide) (fun c5 => ?_) (fun c5 => ?_)
    · have ho : (sDigRef (S.2 1) j c p K pk) = none := Option.not_isSome_iff_eq_none.mp (by rw [c5]; exact Bool.false_ne_true)
      refine r_hp (h' := mdl m (upd S.1 0 (nI 0), S.2) h0) (by rw [nf1 c5, ho]; exact congrArg (fun s => mdl m (s, S.2) h0) (upd_uu _ _ _ _)) ?_
      obtain ⟨x, hx⟩ := sDigRef_pick ho
      refine r_aload_n E dX4_dig_45 rfl ?_
      refine r_callV0 E (ct_X4_change G hl m (upd S.1 0 (nI 0), S.2) h0 tx h8 kp h4 hk8) mX4_change q2023 q2025 qs44 (fun H a1 => fm_rc (ci := 0) (C := RX4) (T := TX4) (N := 21) a1 rfl E.v mdl_o) rfl rfl (Nat.le_of_ble_eq_true rfl) (Nat.le_of_ble_eq_true rfl) (Nat.le_of_ble_eq_true rfl) dX4_dig_46 0 0 (Nat.le_of_ble_eq_true rfl) (Nat.le_of_ble_eq_true rfl) ?_
      refine r_aload_n E dX4_dig_49 rfl ?_
      refine r_iload_n E dX4_dig_50 rfl ?_
      refine r_iload_n E dX4_dig_51 rfl ?_
      refine r_callV0 E (ct_X4_open G hl m ((sChg (upd S.1 0 (nI 0), S.2) tx kp).1, va_up ((sChg (upd S.1 0 (nI 0), S.2) tx kp).2) 1 (S.2 1)) h0 c j x pk hP hP6 hx (by omega) (by omega)) mX4_open q2087 q2089 qs53 (fun H a1 => fm_rc (ci := 0) (C := RX4) (T := TX4) (N := 21) a1 rfl E.v mdl_o) rfl rfl (Nat.le_of_ble_eq_true rfl) (Nat.le_of_ble_eq_true rfl) (Nat.le_of_ble_eq_true rfl) dX4_dig_52 0 0 (Nat.le_of_ble_eq_true rfl) (Nat.le_of_ble_eq_true rfl) ?_
      refine r_hp (h' := mdl m ((sChg (upd S.1 0 (nI 0), S.2) tx kp).1, va_up ((sChg (upd S.1 0 (nI 0), S.2) tx kp).2) 1 (sOpenUp (S.2 1) c j pk)) h0) (mdl_vv 1 _ _) ?_
      refine r_aload_n E dX4_dig_55 rfl ?_
      refine r_getf E cl_X4 1 (by decide) q1887 mdl_o rfl dX4_dig_56 ?_
      refine r_sipush E (nI 256) dX4_dig_59 (by decide) ?_
      refine r_iload_n E dX4_dig_62 rfl ?_
      refine r_iaddN E dX4_dig_63 ?_
      suffices j6 : fmW G Γ (mdl m ((sChg (upd S.1 0 (nI 0), S.2) tx kp).1, va_up ((sChg (upd S.1 0 (nI 0), S.2) tx kp).2) 1 (sOpenUp (S.2 1) c j pk)) h0) 0 0 73 [some (.ref m), some (.int (nI j)), some (.int (nI c)), some (.int (bI p))] [.int (bI p), .int (nI (256 + c)), .ref (m + 1)] by
        refine r_iload_n E dX4_dig_64 rfl ?_
        refine r_ifB_eq (b := p) (tgt := 72) E dX4_dig_65 (by decide) (fun c7 => ?_) (fun c7 => ?_)
        · refine r_iconst E (nI 0) dX4_dig_72 (by decide) ?_
          refine r_top (v' := .int (bI p)) (by rw [show (p) = false by simp [c7]]; rfl) ?_
          exact j6
        · refine r_iconst E (nI 1) dX4_dig_68 (by decide) ?_
          refine r_goto (tgt := 73) E dX4_dig_69 (by decide) ?_
          refine r_top (v' := .int (bI p)) (by rw [show (p) = true by simp [c7]]; rfl) ?_
          exact j6
      refine r_iast E mdl_1 (by omega) (by omega) dX4_dig_73 ?_
      refine r_hp (h' := mdl m ((sChg (upd S.1 0 (nI 0), S.2) tx kp).1, va_up ((sChg (upd S.1 0 (nI 0), S.2) tx kp).2) 1 (upd (sOpenUp (S.2 1) c j pk) (256 + c) (bI p))) h0) (mdl_b1 _) ?_
      refine r_aload_n E dX4_dig_74 rfl ?_
      refine r_getf E cl_X4 1 (by decide) q1887 mdl_o rfl dX4_dig_75 ?_
      refine r_sipush E (nI 352) dX4_dig_78 (by decide) ?_
      refine r_dup2 E dX4_dig_81 rfl rfl ?_
      refine r_iald E mdl_1 (by omega) (by omega) dX4_dig_82 ?_
      refine r_top (v' := .int ((upd (sOpenUp (S.2 1) c j pk) (256 + c) (bI p)) 352)) rfl ?_
      suffices j8 : fmW G Γ (mdl m ((sChg (upd S.1 0 (nI 0), S.2) tx kp).1, va_up ((sChg (upd S.1 0 (nI 0), S.2) tx kp).2) 1 (upd (sOpenUp (S.2 1) c j pk) (256 + c) (bI p))) h0) 0 0 92 [some (.ref m), some (.int (nI j)), some (.int (nI c)), some (.int (bI p))] [.int (bI p), .int ((upd (sOpenUp (S.2 1) c j pk) (256 + c) (bI p)) 352), .int (nI 352), .ref (m + 1)] by
        refine r_iload_n E dX4_dig_83 rfl ?_
        refine r_ifB_eq (b := p) (tgt := 91) E dX4_dig_84 (by decide) (fun c9 => ?_) (fun c9 => ?_)
        · refine r_iconst E (nI 0) dX4_dig_91 (by decide) ?_
          refine r_top (v' := .int (bI p)) (by rw [show (p) = false by simp [c9]]; rfl) ?_
          exact j8
        · refine r_iconst E (nI 1) dX4_dig_87 (by decide) ?_
          refine r_goto (tgt := 92) E dX4_dig_88 (by decide) ?_
          refine r_top (v' := .int (bI p)) (by rw [show (p) = true by simp [c9]]; rfl) ?_
          exact j8
      refine r_isub E dX4_dig_92 ?_
      refine r_iast E mdl_1 (by omega) (by omega) dX4_dig_93 ?_
      refine r_hp (h' := mdl m ((sChg (upd S.1 0 (nI 0), S.2) tx kp).1, va_up ((sChg (upd S.1 0 (nI 0), S.2) tx kp).2) 1 (upd (upd (sOpenUp (S.2 1) c j pk) (256 + c) (bI p)) 352 (((upd (sOpenUp (S.2 1) c j pk) (256 + c) (bI p)) 352) - (bI p)))) h0) (mdl_b1 _) ?_
      refine r_aload_n E dX4_dig_94 rfl ?_
      refine r_getf E cl_X4 1 (by decide) q1887 mdl_o rfl dX4_dig_95 ?_
      refine r_sipush E (nI 128) dX4_dig_98 (by decide) ?_
      refine r_iload_n E dX4_dig_101 rfl ?_
      refine r_iaddN E dX4_dig_102 ?_
      refine r_iald E mdl_1 (by omega) (by omega) dX4_dig_103 ?_
      refine r_top (v' := .int ((upd (upd (sOpenUp (S.2 1) c j pk) (256 + c) (bI p)) 352 (((upd (sOpenUp (S.2 1) c j pk) (256 + c) (bI p)) 352) - (bI p))) (128 + c))) rfl ?_
      have hs : aDig (S.2 1) (nI j) (nI c) p K pk = aDon (sDigRow (S.2 1) j c pk p (128 + c)) (sDigRow (S.2 1) j c pk p) := by
        unfold aDig; rw [hcn, hjn]
        exact (aG_f c4).trans (aGO_n ho)
      exact r_ireturn E P rfl dX4_dig_104 ⟨by rw [hs]; rfl, by rw [hs]; rfl⟩
    · obtain ⟨⟨w, mm⟩, ho⟩ := Option.isSome_iff_exists.mp c5
      refine r_hp (h' := mdl m (upd (refO (upd S.1 0 (nI 0)) (some (w, mm))) 0 (nI 2), S.2) h0) (by rw [nt1 c5, ho]) ?_
      refine r_iconst E (nI 0) dX4_dig_43 (by decide) ?_
      have hs : aDig (S.2 1) (nI j) (nI c) p K pk = aRef w mm := by
        unfold aDig; rw [hcn, hjn]
        exact (aG_f c4).trans (aGO_s ho)
      exact r_ireturn E P rfl dX4_dig_44 ⟨by rw [hs]; rfl, by rw [hs]; rfl⟩

set_option maxHeartbeats 4000000 in
theorem ct_X4_close (G : fmG) (hl : (fmLn G).stackTraces = false) (m : Nat) (S : MSt) (h0 : fmHp) (s : Int32) (tx : Bool) (h8 : S.1 8 = bI tx) (kp : Nat) (h4 : S.1 4 = nI kp) (hk8 : kp ≤ 8) (K : Nat) (hK : S.2 1 350 = nI K) (hK8 : K ≤ 8) : Ct G yX4_close (ws_ yX4_close cX4_close 4 (some .int)) { frames := 3, cells := 0, slots := 0, locals := 72 } [.ref m, .int s] (mdl m S h0) (fmRet (some (.int (aAns (aClose (S.2 1) s K)))) (mdl m (aSt S tx kp 1 9 2 (aClose (S.2 1) s K)) h0)) fmNo := by
  refine Ct.of hl (by decide +kernel) (Nat.le_of_ble_eq_true rfl) (fun Γ E P => ?_)
  refine r_aload_n E dX4_close_0 rfl ?_
  refine r_iconst E (nI 1) dX4_close_1 (by decide) ?_
  suffices j1 : fmW G Γ (mdl m S h0) 0 0 15 [some (.ref m), some (.int s), none, none] [.int (bI (!sBetween s (nI 0) (nI K - nI 1))), .int (nI 1), .ref m] by
    refine r_aload_n E dX4_close_2 rfl ?_
    refine r_iload_n E dX4_close_3 rfl ?_
    refine r_callV1 (v1 := .int (bI (sBetween s (nI 0) (nI K - nI 1)))) E (ct_X4_isShaft G hl m S h0 s K hK) mX4_isShaft q2099 q2101 qs55 (fun H a1 => fm_rc (ci := 0) (C := RX4) (T := TX4) (N := 21) a1 rfl E.v mdl_o) rfl rfl (Nat.le_of_ble_eq_true rfl) (Nat.le_of_ble_eq_true rfl) (Nat.le_of_ble_eq_true rfl) dX4_close_4 0 0 (Nat.le_of_ble_eq_true rfl) (Nat.le_of_ble_eq_true rfl) ?_
    refine r_ifB_ne (b := sBetween s (nI 0) (nI K - nI 1)) (tgt := 14) E dX4_close_7 (by decide) (fun c2 => ?_) (fun c2 => ?_)
    · refine r_iconst E (nI 0) dX4_close_14 (by decide) ?_
      refine r_top (v' := .int (bI (!sBetween s (nI 0) (nI K - nI 1)))) (by rw [show (!sBetween s (nI 0) (nI K - nI 1)) = false by simp [c2]]; rfl) ?_
      exact j1
    · refine r_iconst E (nI 1) dX4_close_10 (by decide) ?_
      refine r_goto (tgt := 15) E dX4_close_11 (by decide) ?_
      refine r_top (v' := .int (bI (!sBetween s (nI 0) (nI K - nI 1)))) (by rw [show (!sBetween s (nI 0) (nI K - nI 1)) = true by simp [c2]]; rfl) ?_
      exact j1
  refine r_callV1 (v1 := .int (bI (!sBetween s (nI 0) (nI K - nI 1)))) E (ct_X4_fails G hl m S h0 (nI 1) (!sBetween s (nI 0) (nI K - nI 1))) mX4_fails q1965 q1967 qs33 (fun H a1 => fm_rc (ci := 0) (C := RX4) (T := TX4) (N := 21) a1 rfl E.v mdl_o) rfl rfl (Nat.le_of_ble_eq_true rfl) (Nat.le_of_ble_eq_true rfl) (Nat.le_of_ble_eq_true rfl) dX4_close_15 0 0 (Nat.le_of_ble_eq_true rfl) (Nat.le_of_ble_eq_true rfl) ?_
  refine r_ifB_eq (b := !sBetween s (nI 0) (nI K - nI 1)) (tgt := 23) E dX4_close_18 (by decide) (fun c3 => ?_) (fun c3 => ?_)
  · refine r_hp (h' := mdl m (upd S.1 0 (nI 0), S.2) h0) (by rw [nf1 c3]) ?_
    obtain ⟨j, hj, rfl⟩ := sShaft_f hK8 c3
    have hcn : cN (nI j) = j := cN_n (by omega)
    have hle := sOpens_le (S.2 1) (nI j)
    refine r_aload_n E dX4_close_23 rfl ?_
    refine r_iload_n E dX4_close_24 rfl ?_
    refine r_callV1 (v1 := .int (nI (sCount (fun c => sOpenOf (S.2 1) (some c) (nI j)) 64))) E (ct_X4_openCells G hl m (upd S.1 0 (nI 0), S.2) h0 (nI j)) mX4_openCells q2123 q2125 qs58 (fun H a1 => fm_rc (ci := 0) (C := RX4) (T := TX4) (N := 21) a1 rfl E.v mdl_o) rfl rfl (Nat.le_of_ble_eq_true rfl) (Nat.le_of_ble_eq_true rfl) (Nat.le_of_ble_eq_true rfl) dX4_close_25 0 0 (Nat.le_of_ble_eq_true rfl) (Nat.le_of_ble_eq_true rfl) ?_
    refine r_top (v' := .int (nI (sOpens (S.2 1) (nI j)))) rfl ?_
    refine r_istore_n E [some (.ref m), some (.int (nI j)), some (.int (nI (sOpens (S.2 1) (nI j)))), none] dX4_close_28 rfl rfl ?_
    refine r_aload_n E dX4_close_29 rfl ?_
    refine r_iconst E (nI 2) dX4_close_30 (by decide) ?_
    refine r_aload_n E dX4_close_31 rfl ?_
    suffices j4 : fmW G Γ (mdl m (upd S.1 0 (nI 0), S.2) h0) 0 0 51 [some (.ref m), some (.int (nI j)), some (.int (nI (sOpens (S.2 1) (nI j)))), none] [.int (bI (decide ((S.2 1) (328 + j) = nI 1))), .ref m, .int (nI 2), .ref m] by
      refine r_aload_n E dX4_close_32 rfl ?_
      refine r_getf E cl_X4 1 (by decide) q1887 mdl_o rfl dX4_close_33 ?_
      refine r_sipush E (nI 328) dX4_close_36 (by decide) ?_
      refine r_iload_n E dX4_close_39 rfl ?_
      refine r_iaddN E dX4_close_40 ?_
      refine r_iald E mdl_1 (by omega) (by omega) dX4_close_41 ?_
      refine r_top (v' := .int ((S.2 1) (328 + j))) rfl ?_
      refine r_iconst E (nI 1) dX4_close_42 (by decide) ?_
      refine r_icmp_ne (x := (S.2 1) (328 + j)) (y := nI 1) (tgt := 50) E dX4_close_43 (by decide) (fun c5 => ?_) (fun c5 => ?_)
      · refine r_iconst E (nI 0) dX4_close_50 (by decide) ?_
        refine r_top (v' := .int (bI (decide ((S.2 1) (328 + j) = nI 1)))) (by rw [show (decide ((S.2 1) (328 + j) = nI 1)) = false by simp [c5, nI_1]]; rfl) ?_
        exact j4
      · refine r_iconst E (nI 1) dX4_close_46 (by decide) ?_
        refine r_goto (tgt := 51) E dX4_close_47 (by decide) ?_
        refine r_top (v' := .int (bI (decide ((S.2 1) (328 + j) = nI 1)))) (by rw [show (decide ((S.2 1) (328 + j) = nI 1)) = true by simp [c5, nI_1]]; rfl) ?_
        exact j4
    refine r_bipush E (nI 6) dX4_close_51 (by decide) ?_
    refine r_iload_n E dX4_close_53 rfl ?_
    refine r_callV1 (v1 := .int (bI (decide ((S.2 1) (328 + j) = nI 1)))) E (ct_X4_refuse G hl m (upd S.1 0 (nI 0), S.2) h0 (decide ((S.2 1) (328 + j) = nI 1)) (nI 6) (nI j)) mX4_refuse q1973 q1975 qs35 (fun H a1 => fm_rc (ci := 0) (C := RX4) (T := TX4) (N := 21) a1 rfl E.v mdl_o) rfl rfl (Nat.le_of_ble_eq_true rfl) (Nat.le_of_ble_eq_true rfl) (Nat.le_of_ble_eq_true rfl) dX4_close_54 0 0 (Nat.le_of_ble_eq_true rfl) (Nat.le_of_ble_eq_true rfl) ?_
    refine r_ifB_ne (b := decide ((S.2 1) (328 + j) = nI 1)) (tgt := 87) E dX4_close_57 (by decide) (fun c6 => ?_) (fun c6 => ?_)
    · refine r_hp (h' := mdl m (refO (upd S.1 0 (nI 0)) (some (nI 6, nI j)), S.2) h0) (by rw [refF_p c6]) ?_
      refine r_iconst E (nI 1) dX4_close_87 (by decide) ?_
      refine r_goto (tgt := 92) E dX4_close_88 (by decide) ?_
      refine r_callV1 (v1 := .int (bI true)) E (ct_X4_fails G hl m (refO (upd S.1 0 (nI 0)) (some (nI 6, nI j)), S.2) h0 (nI 2) (true)) mX4_fails q1965 q1967 qs33 (fun H a1 => fm_rc (ci := 0) (C := RX4) (T := TX4) (N := 21) a1 rfl E.v mdl_o) rfl rfl (Nat.le_of_ble_eq_true rfl) (Nat.le_of_ble_eq_true rfl) (Nat.le_of_ble_eq_true rfl) dX4_close_92 0 0 (Nat.le_of_ble_eq_true rfl) (Nat.le_of_ble_eq_true rfl) ?_
      refine r_ifB_eq (b := true) (tgt := 100) E dX4_close_95 (by decide) (fun c => absurd c (by decide)) (fun _ => ?_)
      refine r_hp (h' := mdl m (upd (refO (upd S.1 0 (nI 0)) (some (nI 6, nI j))) 0 (nI 2), S.2) h0) (by rw [nt1 rfl]) ?_
      refine r_iconst E (nI 0) dX4_close_98 (by decide) ?_
      have hs : aClose (S.2 1) (nI j) K = aRef (nI 6) (nI j) := by
        unfold aClose; rw [hcn]
        exact (aG_f c3).trans ((aG_t c6).trans (rfl))
      exact r_ireturn E P rfl dX4_close_99 ⟨by rw [hs]; rfl, by rw [hs]; rfl⟩
    · refine r_hp (h' := mdl m (upd S.1 0 (nI 0), S.2) h0) (by rw [refF_n c6]) ?_
      refine r_aload_n E dX4_close_60 rfl ?_
      suffices j8 : fmW G Γ (mdl m (upd S.1 0 (nI 0), S.2) h0) 0 0 78 [some (.ref m), some (.int (nI j)), some (.int (nI (sOpens (S.2 1) (nI j)))), none] [.int (bI (decide ((S.2 1) 353 < nI (sOpens (S.2 1) (nI j))))), .ref m, .int (nI 2), .ref m] by
        refine r_iload_n E dX4_close_61 rfl ?_
        refine r_aload_n E dX4_close_62 rfl ?_
        refine r_getf E cl_X4 1 (by decide) q1887 mdl_o rfl dX4_close_63 ?_
        refine r_sipush E (nI 353) dX4_close_66 (by decide) ?_
        refine r_iald E mdl_1 (by omega) (by omega) dX4_close_69 ?_
        refine r_top (v' := .int ((S.2 1) 353)) rfl ?_
        refine r_icmp_le (x := nI (sOpens (S.2 1) (nI j))) (y := (S.2 1) 353) (tgt := 77) E dX4_close_70 (by decide) (fun c9 => ?_) (fun c9 => ?_)
        · refine r_iconst E (nI 0) dX4_close_77 (by decide) ?_
          refine r_top (v' := .int (bI (decide ((S.2 1) 353 < nI (sOpens (S.2 1) (nI j)))))) (by rw [show (decide ((S.2 1) 353 < nI (sOpens (S.2 1) (nI j)))) = false by first | (simp [c9, Int32.not_lt, Int32.not_le]; done) | (simp [Int32.not_le.mp c9, Int32.not_lt, Int32.not_le]; done) | (simp [Int32.not_lt.mp c9, Int32.not_lt, Int32.not_le]; done)]; rfl) ?_
          exact j8
        · refine r_iconst E (nI 1) dX4_close_73 (by decide) ?_
          refine r_goto (tgt := 78) E dX4_close_74 (by decide) ?_
          refine r_top (v' := .int (bI (decide ((S.2 1) 353 < nI (sOpens (S.2 1) (nI j)))))) (by rw [show (decide ((S.2 1) 353 < nI (sOpens (S.2 1) (nI j)))) = true by first | (simp [c9, Int32.not_lt, Int32.not_le]; done) | (simp [Int32.not_le.mp c9, Int32.not_lt, Int32.not_le]; done) | (simp [Int32.not_lt.mp c9, Int32.not_lt, Int32.not_le]; done)]; rfl) ?_
          exact j8
      refine r_bipush E (nI 10) dX4_close_78 (by decide) ?_
      refine r_iload_n E dX4_close_80 rfl ?_
      refine r_callV1 (v1 := .int (bI (decide ((S.2 1) 353 < nI (sOpens (S.2 1) (nI j)))))) E (ct_X4_refuse G hl m (upd S.1 0 (nI 0), S.2) h0 (decide ((S.2 1) 353 < nI (sOpens (S.2 1) (nI j)))) (nI 10) (nI (sOpens (S.2 1) (nI j)))) mX4_refuse q1973 q1975 qs35 (fun H a1 => fm_rc (ci := 0) (C := RX4) (T := TX4) (N := 21) a1 rfl E.v mdl_o) rfl rfl (Nat.le_of_ble_eq_true rfl) (Nat.le_of_ble_eq_true rfl) (Nat.le_of_ble_eq_true rfl) dX4_close_81 0 0 (Nat.le_of_ble_eq_true rfl) (Nat.le_of_ble_eq_true rfl) ?_
      refine r_ifB_eq (b := decide ((S.2 1) 353 < nI (sOpens (S.2 1) (nI j)))) (tgt := 91) E dX4_close_84 (by decide) (fun c10 => ?_) (fun c10 => ?_)
      · refine r_hp (h' := mdl m (upd S.1 0 (nI 0), S.2) h0) (by rw [refF_n c10]) ?_
        refine r_iconst E (nI 0) dX4_close_91 (by decide) ?_
        refine r_callV1 (v1 := .int (bI false)) E (ct_X4_fails G hl m (upd S.1 0 (nI 0), S.2) h0 (nI 2) (false)) mX4_fails q1965 q1967 qs33 (fun H a1 => fm_rc (ci := 0) (C := RX4) (T := TX4) (N := 21) a1 rfl E.v mdl_o) rfl rfl (Nat.le_of_ble_eq_true rfl) (Nat.le_of_ble_eq_true rfl) (Nat.le_of_ble_eq_true rfl) dX4_close_92 0 0 (Nat.le_of_ble_eq_true rfl) (Nat.le_of_ble_eq_true rfl) ?_
        refine r_ifB_eq (b := false) (tgt := 100) E dX4_close_95 (by decide) (fun _ => ?_) (fun c => absurd c (by decide))
        refine r_hp (h' := mdl m (upd S.1 0 (nI 0), S.2) h0) (by rw [nf1 rfl, upd_uu]) ?_
        refine r_aload_n E dX4_close_100 rfl ?_
        refine r_callV0 E (ct_X4_change G hl m (upd S.1 0 (nI 0), S.2) h0 tx h8 kp h4 hk8) mX4_change q2023 q2025 qs44 (fun H a1 => fm_rc (ci := 0) (C := RX4) (T := TX4) (N := 21) a1 rfl E.v mdl_o) rfl rfl (Nat.le_of_ble_eq_true rfl) (Nat.le_of_ble_eq_true rfl) (Nat.le_of_ble_eq_true rfl) dX4_close_101 0 0 (Nat.le_of_ble_eq_true rfl) (Nat.le_of_ble_eq_true rfl) ?_
        refine r_aload_n E dX4_close_104 rfl ?_
        refine r_getf E cl_X4 1 (by decide) q1887 mdl_o rfl dX4_close_105 ?_
        refine r_sipush E (nI 328) dX4_close_108 (by decide) ?_
        refine r_iload_n E dX4_close_111 rfl ?_
        refine r_iaddN E dX4_close_112 ?_
        refine r_iconst E (nI 1) dX4_close_113 (by decide) ?_
        refine r_iast E mdl_1 (by omega) (by omega) dX4_close_114 ?_
        refine r_hp (h' := mdl m ((sChg (upd S.1 0 (nI 0), S.2) tx kp).1, va_up ((sChg (upd S.1 0 (nI 0), S.2) tx kp).2) 1 (upd (S.2 1) (328 + j) (nI 1))) h0) (mdl_b1 _) ?_
        refine r_aload_n E dX4_close_115 rfl ?_
        refine r_getf E cl_X4 1 (by decide) q1887 mdl_o rfl dX4_close_116 ?_
        refine r_sipush E (nI 353) dX4_close_119 (by decide) ?_
        refine r_dup2 E dX4_close_122 rfl rfl ?_
        refine r_iald E mdl_1 (by omega) (by omega) dX4_close_123 ?_
        refine r_top (v' := .int ((upd (S.2 1) (328 + j) (nI 1)) 353)) rfl ?_
        refine r_iload_n E dX4_close_124 rfl ?_
        refine r_isub E dX4_close_125 ?_
        refine r_iast E mdl_1 (by omega) (by omega) dX4_close_126 ?_
        refine r_hp (h' := mdl m ((sChg (upd S.1 0 (nI 0), S.2) tx kp).1, va_up ((sChg (upd S.1 0 (nI 0), S.2) tx kp).2) 1 (upd (upd (S.2 1) (328 + j) (nI 1)) 353 (((upd (S.2 1) (328 + j) (nI 1)) 353) - (nI (sOpens (S.2 1) (nI j)))))) h0) (mdl_b1 _) ?_
        refine r_iconst E (nI 0) dX4_close_127 (by decide) ?_
        refine r_istore_n E [some (.ref m), some (.int (nI j)), some (.int (nI (sOpens (S.2 1) (nI j)))), some (.int (nI 0))] dX4_close_128 rfl rfl ?_
        refine r_hp (h' := mdl m ((sChg (upd S.1 0 (nI 0), S.2) tx kp).1, va_up ((sChg (upd S.1 0 (nI 0), S.2) tx kp).2) 1 (sFillK (upd (upd (S.2 1) (328 + j) (nI 1)) 353 ((upd (S.2 1) (328 + j) (nI 1)) 353 - nI (sOpens (S.2 1) (nI j)))) (nI j) 0)) h0) rfl ?_
        have lp12 : ∀ (n12 i12 : Nat), i12 + n12 = 64 → fmW G Γ (mdl m ((sChg (upd S.1 0 (nI 0), S.2) tx kp).1, va_up ((sChg (upd S.1 0 (nI 0), S.2) tx kp).2) 1 (sFillK (upd (upd (S.2 1) (328 + j) (nI 1)) 353 ((upd (S.2 1) (328 + j) (nI 1)) 353 - nI (sOpens (S.2 1) (nI j)))) (nI j) i12)) h0) 0 0 129 [some (.ref m), some (.int (nI j)), some (.int (nI (sOpens (S.2 1) (nI j)))), some (.int (nI i12))] [] := by
          intro n12
          induction n12 with
          | zero =>
            intro i12 hi12
            refine r_iload_n E dX4_close_129 rfl ?_
            refine r_bipush E (nI 64) dX4_close_130 (by decide) ?_
            refine r_icmpN_ge (tgt := 184) E dX4_close_132 (by decide) (by omega) (by omega) (fun c13 => ?_) (fun c13 => ?_)
            · have h64 : i12 = 64 := by omega
              refine r_aload_n E dX4_close_184 rfl ?_
              refine r_getf E cl_X4 1 (by decide) q1887 mdl_o rfl dX4_close_185 ?_
              refine r_sipush E (nI 353) dX4_close_188 (by decide) ?_
              refine r_iald E mdl_1 (by omega) (by omega) dX4_close_191 ?_
              refine r_top (v' := .int ((sFillK (upd (upd (S.2 1) (328 + j) (nI 1)) 353 ((upd (S.2 1) (328 + j) (nI 1)) 353 - nI (sOpens (S.2 1) (nI j)))) (nI j) i12) 353)) rfl ?_
              have hs : aClose (S.2 1) (nI j) K = aDon ((sFillK (upd (upd (S.2 1) (328 + j) (nI 1)) 353 ((upd (S.2 1) (328 + j) (nI 1)) 353 - nI (sOpens (S.2 1) (nI j)))) (nI j) i12) 353) (sFillK (upd (upd (S.2 1) (328 + j) (nI 1)) 353 ((upd (S.2 1) (328 + j) (nI 1)) 353 - nI (sOpens (S.2 1) (nI j)))) (nI j) i12) := by
                unfold aClose; rw [hcn, h64]
                exact (aG_f c3).trans ((aG_f c6).trans ((aG_f c10).trans (rfl)))
              exact r_ireturn E P rfl dX4_close_192 ⟨by rw [hs]; rfl, by rw [hs]; rfl⟩
            · exfalso; omega
          | succ n12 ih =>
            intro i12 hi12
            refine r_iload_n E dX4_close_129 rfl ?_
            refine r_bipush E (nI 64) dX4_close_130 (by decide) ?_
            refine r_icmpN_ge (tgt := 184) E dX4_close_132 (by decide) (by omega) (by omega) (fun c14 => ?_) (fun c14 => ?_)
            · exfalso; omega
            · refine r_aload_n E dX4_close_135 rfl ?_
              refine r_iload_n E dX4_close_136 rfl ?_
              refine r_iload_n E dX4_close_137 rfl ?_
              refine r_callV1 (v1 := .int (bI (sOpenOf (sFillK (upd (upd (S.2 1) (328 + j) (nI 1)) 353 ((upd (S.2 1) (328 + j) (nI 1)) 353 - nI (sOpens (S.2 1) (nI j)))) (nI j) i12) (some i12) (nI j)))) E (ct_X4_isOpenOf G hl m ((sChg (upd S.1 0 (nI 0), S.2) tx kp).1, va_up ((sChg (upd S.1 0 (nI 0), S.2) tx kp).2) 1 (sFillK (upd (upd (S.2 1) (328 + j) (nI 1)) 353 ((upd (S.2 1) (328 + j) (nI 1)) 353 - nI (sOpens (S.2 1) (nI j)))) (nI j) i12)) h0 (some i12) (nI j) (by intro x hx; first | exact sBsd_lt (by omega) hx | exact (ho x hx).1 | exact ho x hx | (cases hx; omega) | cases hx)) mX4_isOpenOf q2067 q2069 qs49 (fun H a1 => fm_rc (ci := 0) (C := RX4) (T := TX4) (N := 21) a1 rfl E.v mdl_o) rfl rfl (Nat.le_of_ble_eq_true rfl) (Nat.le_of_ble_eq_true rfl) (Nat.le_of_ble_eq_true rfl) dX4_close_138 0 0 (Nat.le_of_ble_eq_true rfl) (Nat.le_of_ble_eq_true rfl) ?_
              refine r_ifB_eq (b := sOpenOf (sFillK (upd (upd (S.2 1) (328 + j) (nI 1)) 353 ((upd (S.2 1) (328 + j) (nI 1)) 353 - nI (sOpens (S.2 1) (nI j)))) (nI j) i12) (some i12) (nI j)) (tgt := 178) E dX4_close_141 (by decide) (fun c15 => ?_) (fun c15 => ?_)
              · refine r_hp (h' := mdl m ((sChg (upd S.1 0 (nI 0), S.2) tx kp).1, va_up ((sChg (upd S.1 0 (nI 0), S.2) tx kp).2) 1 (sFillK (upd (upd (S.2 1) (328 + j) (nI 1)) 353 ((upd (S.2 1) (328 + j) (nI 1)) 353 - nI (sOpens (S.2 1) (nI j)))) (nI j) (i12 + 1))) h0) (by rw [sFillK_f c15]) ?_
                refine r_iinc E (nI (i12 + 1)) [some (.ref m), some (.int (nI j)), some (.int (nI (sOpens (S.2 1) (nI j)))), some (.int (nI (i12 + 1)))] dX4_close_178 rfl (nI_1 i12) rfl rfl ?_
                refine r_goto (tgt := 129) E dX4_close_181 (by decide) ?_
                exact ih (i12 + 1) (by omega)
              · refine r_aload_n E dX4_close_144 rfl ?_
                refine r_getf E cl_X4 1 (by decide) q1887 mdl_o rfl dX4_close_145 ?_
                refine r_iconst E (nI 0) dX4_close_148 (by decide) ?_
                refine r_iload_n E dX4_close_149 rfl ?_
                refine r_iaddN E dX4_close_150 ?_
                refine r_topi (congrArg nI (Nat.zero_add _)) ?_
                refine r_iconst E (nI 2) dX4_close_151 (by decide) ?_
                refine r_iast E mdl_1 (by omega) (by omega) dX4_close_152 ?_
                refine r_hp (h' := mdl m ((sChg (upd S.1 0 (nI 0), S.2) tx kp).1, va_up ((sChg (upd S.1 0 (nI 0), S.2) tx kp).2) 1 (upd (sFillK (upd (upd (S.2 1) (328 + j) (nI 1)) 353 ((upd (S.2 1) (328 + j) (nI 1)) 353 - nI (sOpens (S.2 1) (nI j)))) (nI j) i12) i12 (nI 2))) h0) (mdl_b1 _) ?_
                refine r_aload_n E dX4_close_153 rfl ?_
                refine r_aload_n E dX4_close_154 rfl ?_
                refine r_getf E cl_X4 1 (by decide) q1887 mdl_o rfl dX4_close_155 ?_
                refine r_sipush E (nI 256) dX4_close_158 (by decide) ?_
                refine r_iload_n E dX4_close_161 rfl ?_
                refine r_iaddN E dX4_close_162 ?_
                refine r_iald E mdl_1 (by omega) (by omega) dX4_close_163 ?_
                refine r_top (v' := .int ((upd (sFillK (upd (upd (S.2 1) (328 + j) (nI 1)) 353 ((upd (S.2 1) (328 + j) (nI 1)) 353 - nI (sOpens (S.2 1) (nI j)))) (nI j) i12) i12 (nI 2)) (256 + i12))) rfl ?_
                refine r_callV0 E (ct_X4_addProps G hl m ((sChg (upd S.1 0 (nI 0), S.2) tx kp).1, va_up ((sChg (upd S.1 0 (nI 0), S.2) tx kp).2) 1 (upd (sFillK (upd (upd (S.2 1) (328 + j) (nI 1)) 353 ((upd (S.2 1) (328 + j) (nI 1)) 353 - nI (sOpens (S.2 1) (nI j)))) (nI j) i12) i12 (nI 2))) h0 ((upd (sFillK (upd (upd (S.2 1) (328 + j) (nI 1)) 353 ((upd (S.2 1) (328 + j) (nI 1)) 353 - nI (sOpens (S.2 1) (nI j)))) (nI j) i12) i12 (nI 2)) (256 + i12))) mX4_addProps q2027 q2029 qs45 (fun H a1 => fm_rc (ci := 0) (C := RX4) (T := TX4) (N := 21) a1 rfl E.v mdl_o) rfl rfl (Nat.le_of_ble_eq_true rfl) (Nat.le_of_ble_eq_true rfl) (Nat.le_of_ble_eq_true rfl) dX4_close_164 0 0 (Nat.le_of_ble_eq_true rfl) (Nat.le_of_ble_eq_true rfl) ?_
                refine r_hp (h' := mdl m ((sChg (upd S.1 0 (nI 0), S.2) tx kp).1, va_up ((sChg (upd S.1 0 (nI 0), S.2) tx kp).2) 1 (sAddP (upd (sFillK (upd (upd (S.2 1) (328 + j) (nI 1)) 353 ((upd (S.2 1) (328 + j) (nI 1)) 353 - nI (sOpens (S.2 1) (nI j)))) (nI j) i12) i12 (nI 2)) ((upd (sFillK (upd (upd (S.2 1) (328 + j) (nI 1)) 353 ((upd (S.2 1) (328 + j) (nI 1)) 353 - nI (sOpens (S.2 1) (nI j)))) (nI j) i12) i12 (nI 2)) (256 + i12)))) h0) (mdl_vv 1 _ _) ?_
                refine r_aload_n E dX4_close_167 rfl ?_
                refine r_getf E cl_X4 1 (by decide) q1887 mdl_o rfl dX4_close_168 ?_
                refine r_sipush E (nI 256) dX4_close_171 (by decide) ?_
                refine r_iload_n E dX4_close_174 rfl ?_
                refine r_iaddN E dX4_close_175 ?_
                refine r_iconst E (nI 0) dX4_close_176 (by decide) ?_
                refine r_iast E mdl_1 (by omega) (by omega) dX4_close_177 ?_
                refine r_hp (h' := mdl m ((sChg (upd S.1 0 (nI 0), S.2) tx kp).1, va_up ((sChg (upd S.1 0 (nI 0), S.2) tx kp).2) 1 (upd (sAddP (upd (sFillK (upd (upd (S.2 1) (328 + j) (nI 1)) 353 ((upd (S.2 1) (328 + j) (nI 1)) 353 - nI (sOpens (S.2 1) (nI j)))) (nI j) i12) i12 (nI 2)) ((upd (sFillK (upd (upd (S.2 1) (328 + j) (nI 1)) 353 ((upd (S.2 1) (328 + j) (nI 1)) 353 - nI (sOpens (S.2 1) (nI j)))) (nI j) i12) i12 (nI 2)) (256 + i12))) (256 + i12) (nI 0))) h0) (mdl_b1 _) ?_
                refine r_hp (h' := mdl m ((sChg (upd S.1 0 (nI 0), S.2) tx kp).1, va_up ((sChg (upd S.1 0 (nI 0), S.2) tx kp).2) 1 (sFillK (upd (upd (S.2 1) (328 + j) (nI 1)) 353 ((upd (S.2 1) (328 + j) (nI 1)) 353 - nI (sOpens (S.2 1) (nI j)))) (nI j) (i12 + 1))) h0) (by rw [sFillK_t c15]) ?_
                refine r_iinc E (nI (i12 + 1)) [some (.ref m), some (.int (nI j)), some (.int (nI (sOpens (S.2 1) (nI j)))), some (.int (nI (i12 + 1)))] dX4_close_178 rfl (nI_1 i12) rfl rfl ?_
                refine r_goto (tgt := 129) E dX4_close_181 (by decide) ?_
                exact ih (i12 + 1) (by omega)
        exact lp12 64 0 (by omega)
      · refine r_hp (h' := mdl m (refO (upd S.1 0 (nI 0)) (some (nI 10, nI (sOpens (S.2 1) (nI j)))), S.2) h0) (by rw [refF_p c10]) ?_
        refine r_iconst E (nI 1) dX4_close_87 (by decide) ?_
        refine r_goto (tgt := 92) E dX4_close_88 (by decide) ?_
        refine r_callV1 (v1 := .int (bI true)) E (ct_X4_fails G hl m (refO (upd S.1 0 (nI 0)) (some (nI 10, nI (sOpens (S.2 1) (nI j)))), S.2) h0 (nI 2) (true)) mX4_fails q1965 q1967 qs33 (fun H a1 => fm_rc (ci := 0) (C := RX4) (T := TX4) (N := 21) a1 rfl E.v mdl_o) rfl rfl (Nat.le_of_ble_eq_true rfl) (Nat.le_of_ble_eq_true rfl) (Nat.le_of_ble_eq_true rfl) dX4_close_92 0 0 (Nat.le_of_ble_eq_true rfl) (Nat.le_of_ble_eq_true rfl) ?_
        refine r_ifB_eq (b := true) (tgt := 100) E dX4_close_95 (by decide) (fun c => absurd c (by decide)) (fun _ => ?_)
        refine r_hp (h' := mdl m (upd (refO (upd S.1 0 (nI 0)) (some (nI 10, nI (sOpens (S.2 1) (nI j))))) 0 (nI 2), S.2) h0) (by rw [nt1 rfl]) ?_
        refine r_iconst E (nI 0) dX4_close_98 (by decide) ?_
        have hs : aClose (S.2 1) (nI j) K = aRef (nI 10) (nI (sOpens (S.2 1) (nI j))) := by
          unfold aClose; rw [hcn]
          exact (aG_f c3).trans ((aG_f c6).trans ((aG_t c10).trans (rfl)))
        exact r_ireturn E P rfl dX4_close_99 ⟨by rw [hs]; rfl, by rw [hs]; rfl⟩
  · refine r_hp (h' := mdl m (upd S.1 0 (nI 1), S.2) h0) (by rw [nt1 c3]) ?_
    refine r_iconst E (nI 0) dX4_close_21 (by decide) ?_
    have hs : aClose (S.2 1) s K = aThr 1 := (aG_t c3).trans (rfl)
    exact r_ireturn E P rfl dX4_close_22 ⟨by rw [hs]; rfl, by rw [hs]; rfl⟩

