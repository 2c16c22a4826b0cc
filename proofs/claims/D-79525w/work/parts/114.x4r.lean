set_option maxHeartbeats 4000000 in
theorem ct_X4_read (G : fmG) (hl : (fmLn G).stackTraces = false) (m : Nat) (A : Nat → Nat → Int32) (h0 : fmHp) (s : Nat → Int32) (a : Nat) (w p : Bool) (t v u : Int32) (len : Nat) (hlen : s 12 = nI len) (hn60 : len ≤ 60) (kp : Nat) (h4 : s 4 = nI kp) (hk8 : kp ≤ 8) (h8 : s 8 = bI false) (hch : ∀ i, i < len → isCh (A 14 i)) (hRI : RI (A 1)) : Ct G yX4_read (ws_ yX4_read cX4_read 4 (some .int)) { frames := 9, cells := 0, slots := 0, locals := 202 } [.ref m] (mdl m (pSt s a w p t v u, A) h0) (fun v' h' => ∃ s' A', h' = mdl m (s', A') h0 ∧ rOut s A len kp u v' s' A') fmNo := by
  refine Ct.of hl (by decide +kernel) (Nat.le_of_ble_eq_true rfl) (fun Γ E P => ?_)
  refine r_aload_n E dX4_read_0 rfl ?_
  refine r_callV1 (v1 := .int (nI ((pAll (A 14) len u).2))) E (ct_X4_countCommands G hl m A h0 s a w p t v u len hlen hn60 hch) mX4_countCommands q2221 q2223 qs71 (fun H a1 => fm_rc (ci := 0) (C := RX4) (T := TX4) (N := 21) a1 rfl E.v mdl_o) rfl rfl (Nat.le_of_ble_eq_true rfl) (Nat.le_of_ble_eq_true rfl) (Nat.le_of_ble_eq_true rfl) dX4_read_1 0 0 (Nat.le_of_ble_eq_true rfl) (Nat.le_of_ble_eq_true rfl) ?_
  refine r_istore_n E [some (.ref m), some (.int (nI ((pAll (A 14) len u).2))), none, none] dX4_read_4 rfl rfl ?_
  refine r_aload_n E dX4_read_5 rfl ?_
  refine r_hp (h' := mdl m (pSt s (((pAll (A 14) len u).1).2.2.2.2.1) (((pAll (A 14) len u).1).2.2.2.2.2) (((pAll (A 14) len u).1).2.2.2.1) (((pAll (A 14) len u).1).1) (((pAll (A 14) len u).1).2.1) (((pAll (A 14) len u).1).2.2.1), A) h0) rfl ?_
  cases hw : (pAll (A 14) len u).1.2.2.2.2.2 with
  | true =>
    refine r_aload_n E dX4_read_6 rfl ?_
    refine r_getf E cl_X4 15 (by decide) q1901 mdl_o rfl dX4_read_7 ?_
    refine r_top (v' := .int (bI true)) rfl ?_
    refine r_ifB_eq (b := true) (tgt := 20) E dX4_read_10 (by decide) (fun c => absurd c (by decide)) (fun _ => ?_)
    refine r_aload_n E dX4_read_13 rfl ?_
    refine r_getf E cl_X4 13 (by decide) q1899 mdl_o rfl dX4_read_14 ?_
    refine r_top (v' := .int (nI (((pAll (A 14) len u).1).2.2.2.2.1))) rfl ?_
    refine r_goto (tgt := 24) E dX4_read_17 (by decide) ?_
    refine r_putf E cl_X4 14 (by decide) rfl q1900 (fun _ z => z) mdl_o (Nat.le_of_ble_eq_true rfl) rfl rfl dX4_read_24 ?_
    refine r_hp (h' := mdl m (pSt (upd s 14 (nI (((pAll (A 14) len u).1).2.2.2.2.1))) (((pAll (A 14) len u).1).2.2.2.2.1) true (((pAll (A 14) len u).1).2.2.2.1) (((pAll (A 14) len u).1).1) (((pAll (A 14) len u).1).2.1) (((pAll (A 14) len u).1).2.2.1), A) h0) ((mdl_s14 _).trans (congrArg (fun z => mdl m (z, A) h0) (pSt_o (by decide)))) ?_
    refine r_aload_n E dX4_read_27 rfl ?_
    refine r_iconst E (nI 1) dX4_read_28 (by decide) ?_
    refine r_aload_n E dX4_read_29 rfl ?_
    refine r_getf E cl_X4 15 (by decide) q1901 mdl_o rfl dX4_read_30 ?_
    refine r_top (v' := .int (bI true)) rfl ?_
    refine r_callV1 (v1 := .int (bI true)) E (ct_X4_fails G hl m (pSt (upd s 14 (nI (((pAll (A 14) len u).1).2.2.2.2.1))) (((pAll (A 14) len u).1).2.2.2.2.1) true (((pAll (A 14) len u).1).2.2.2.1) (((pAll (A 14) len u).1).1) (((pAll (A 14) len u).1).2.1) (((pAll (A 14) len u).1).2.2.1), A) h0 (nI 1) true) mX4_fails q1965 q1967 qs33 (fun H a1 => fm_rc (ci := 0) (C := RX4) (T := TX4) (N := 21) a1 rfl E.v mdl_o) rfl rfl (Nat.le_of_ble_eq_true rfl) (Nat.le_of_ble_eq_true rfl) (Nat.le_of_ble_eq_true rfl) dX4_read_33 0 0 (Nat.le_of_ble_eq_true rfl) (Nat.le_of_ble_eq_true rfl) ?_
    refine r_hp (h' := mdl m (pSt (upd (upd s 14 (nI (((pAll (A 14) len u).1).2.2.2.2.1))) 0 (nI 1)) (((pAll (A 14) len u).1).2.2.2.2.1) true (((pAll (A 14) len u).1).2.2.2.1) (((pAll (A 14) len u).1).1) (((pAll (A 14) len u).1).2.1) (((pAll (A 14) len u).1).2.2.1), A) h0) (congrArg (fun z => mdl m (z, A) h0) (pSt_o (by decide))) ?_
    refine r_ifB_eq (b := true) (tgt := 46) E dX4_read_36 (by decide) (fun c => absurd c (by decide)) (fun _ => ?_)
    refine r_aload_n E dX4_read_39 rfl ?_
    refine r_iconst E (nI 0) dX4_read_40 (by decide) ?_
    refine r_putf E cl_X4 12 (by decide) rfl q1898 (fun _ z => z) mdl_o (Nat.le_of_ble_eq_true rfl) rfl rfl dX4_read_41 ?_
    refine r_hp (h' := mdl m (pSt (upd (upd (upd s 14 (nI (((pAll (A 14) len u).1).2.2.2.2.1))) 0 (nI 1)) 12 (nI 0)) (((pAll (A 14) len u).1).2.2.2.2.1) true (((pAll (A 14) len u).1).2.2.2.1) (((pAll (A 14) len u).1).1) (((pAll (A 14) len u).1).2.1) (((pAll (A 14) len u).1).2.2.1), A) h0) ((mdl_s12 _).trans (congrArg (fun z => mdl m (z, A) h0) (pSt_o (by decide)))) ?_
    refine r_iconst E (nI 0) dX4_read_44 (by decide) ?_
    exact r_ireturn E P rfl dX4_read_45 ⟨_, _, rfl, rfl, h8, rfl, ⟨_, rfl⟩, ⟨true, rfl⟩, ⟨(pAll (A 14) len u).1.2.2.2.1, rfl⟩, fun _ _ _ => rfl, Or.inl ⟨hw, rfl, rfl, rfl, rfl, rfl, rfl, rfl⟩⟩
  | false =>
    refine r_aload_n E dX4_read_6 rfl ?_
    refine r_getf E cl_X4 15 (by decide) q1901 mdl_o rfl dX4_read_7 ?_
    refine r_top (v' := .int (bI false)) rfl ?_
    refine r_ifB_eq (b := false) (tgt := 20) E dX4_read_10 (by decide) (fun _ => ?_) (fun c => absurd c (by decide))
    refine r_aload_n E dX4_read_20 rfl ?_
    refine r_getf E cl_X4 14 (by decide) q1900 mdl_o rfl dX4_read_21 ?_
    refine r_putf E cl_X4 14 (by decide) rfl q1900 (fun _ z => z) mdl_o (Nat.le_of_ble_eq_true rfl) rfl rfl dX4_read_24 ?_
    refine r_hp (h' := mdl m (pSt s (((pAll (A 14) len u).1).2.2.2.2.1) false (((pAll (A 14) len u).1).2.2.2.1) (((pAll (A 14) len u).1).1) (((pAll (A 14) len u).1).2.1) (((pAll (A 14) len u).1).2.2.1), A) h0) ((mdl_s14 _).trans (congrArg (fun z => mdl m (z, A) h0) (upd_id rfl))) ?_
    refine r_aload_n E dX4_read_27 rfl ?_
    refine r_iconst E (nI 1) dX4_read_28 (by decide) ?_
    refine r_aload_n E dX4_read_29 rfl ?_
    refine r_getf E cl_X4 15 (by decide) q1901 mdl_o rfl dX4_read_30 ?_
    refine r_top (v' := .int (bI false)) rfl ?_
    refine r_callV1 (v1 := .int (bI false)) E (ct_X4_fails G hl m (pSt s (((pAll (A 14) len u).1).2.2.2.2.1) false (((pAll (A 14) len u).1).2.2.2.1) (((pAll (A 14) len u).1).1) (((pAll (A 14) len u).1).2.1) (((pAll (A 14) len u).1).2.2.1), A) h0 (nI 1) false) mX4_fails q1965 q1967 qs33 (fun H a1 => fm_rc (ci := 0) (C := RX4) (T := TX4) (N := 21) a1 rfl E.v mdl_o) rfl rfl (Nat.le_of_ble_eq_true rfl) (Nat.le_of_ble_eq_true rfl) (Nat.le_of_ble_eq_true rfl) dX4_read_33 0 0 (Nat.le_of_ble_eq_true rfl) (Nat.le_of_ble_eq_true rfl) ?_
    refine r_hp (h' := mdl m (pSt (upd s 0 (nI 0)) (((pAll (A 14) len u).1).2.2.2.2.1) false (((pAll (A 14) len u).1).2.2.2.1) (((pAll (A 14) len u).1).1) (((pAll (A 14) len u).1).2.1) (((pAll (A 14) len u).1).2.2.1), A) h0) (congrArg (fun z => mdl m (z, A) h0) (pSt_o (by decide))) ?_
    refine r_ifB_eq (b := false) (tgt := 46) E dX4_read_36 (by decide) (fun _ => ?_) (fun c => absurd c (by decide))
    refine r_aload_n E dX4_read_46 rfl ?_
    refine r_getf E cl_X4 1 (by decide) q1887 mdl_o rfl dX4_read_47 ?_
    refine r_aload_n E dX4_read_50 rfl ?_
    refine r_getf E cl_X4 20 (by decide) q1906 mdl_o rfl dX4_read_51 ?_
    refine r_callS0 E (ct_X4_copyRow G hl (mdl m (pSt (upd s 0 (nI 0)) (((pAll (A 14) len u).1).2.2.2.2.1) false (((pAll (A 14) len u).1).2.2.2.1) (((pAll (A 14) len u).1).1) (((pAll (A 14) len u).1).2.1) (((pAll (A 14) len u).1).2.2.1), A) h0) (m + 1) (m + 15) true (A 1) (A 15) mdl_1 mdl_15 (by omega)) mX4_copyRow q89 q1981 q1982 rfl rfl (Nat.le_of_ble_eq_true rfl) (Nat.le_of_ble_eq_true rfl) (Nat.le_of_ble_eq_true rfl) dX4_read_54 0 0 (Nat.le_of_ble_eq_true rfl) (Nat.le_of_ble_eq_true rfl) ?_
    refine r_hp (h' := mdl m (pSt (upd s 0 (nI 0)) (((pAll (A 14) len u).1).2.2.2.2.1) false (((pAll (A 14) len u).1).2.2.2.1) (((pAll (A 14) len u).1).1) (((pAll (A 14) len u).1).2.1) (((pAll (A 14) len u).1).2.2.1), va_up A 15 (A 1)) h0) (mdl_a15 _) ?_
    refine r_aload_n E dX4_read_57 rfl ?_
    refine r_iconst E (nI 1) dX4_read_58 (by decide) ?_
    refine r_top (v' := .int (bI true)) rfl ?_
    refine r_putf E cl_X4 8 (by decide) rfl q1894 (fun _ z => z) mdl_o (Nat.le_of_ble_eq_true rfl) (bI_n _) (bI_f _) dX4_read_59 ?_
    refine r_hp (h' := mdl m (pSt (upd (upd s 0 (nI 0)) 8 (bI true)) (((pAll (A 14) len u).1).2.2.2.2.1) false (((pAll (A 14) len u).1).2.2.2.1) (((pAll (A 14) len u).1).1) (((pAll (A 14) len u).1).2.1) (((pAll (A 14) len u).1).2.2.1), va_up A 15 (A 1)) h0) ((mdl_s8 _).trans (congrArg (fun z => mdl m (z, va_up A 15 (A 1)) h0) (pSt_o (by decide)))) ?_
    refine r_iconst E (nI 1) dX4_read_62 (by decide) ?_
    refine r_istore_n E [some (.ref m), some (.int (nI ((pAll (A 14) len u).2))), some (.int (nI 1)), none] dX4_read_63 rfl rfl ?_
    refine r_aload_n E dX4_read_64 rfl ?_
    refine r_iconst E (nI 0) dX4_read_65 (by decide) ?_
    refine r_putf E cl_X4 13 (by decide) rfl q1899 (fun _ z => z) mdl_o (Nat.le_of_ble_eq_true rfl) rfl rfl dX4_read_66 ?_
    refine r_hp (h' := mdl m (pSt (upd (upd s 0 (nI 0)) 8 (bI true)) 0 false (((pAll (A 14) len u).1).2.2.2.1) (((pAll (A 14) len u).1).1) (((pAll (A 14) len u).1).2.1) (((pAll (A 14) len u).1).2.2.1), va_up A 15 (A 1)) h0) ((mdl_s13 _).trans (congrArg (fun z => mdl m (z, va_up A 15 (A 1)) h0) pSt_13)) ?_
    refine r_iconst E (nI 0) dX4_read_69 (by decide) ?_
    refine r_istore_n E [some (.ref m), some (.int (nI ((pAll (A 14) len u).2))), some (.int (nI 1)), some (.int (nI 0))] dX4_read_70 rfl rfl ?_
    have hM := pAll_many (T := A 14) (u := u) hn60
    have aftF : ∀ (s' : Nat → Int32) (a' : Nat) (w' p' : Bool) (t' v' u' : Int32) (N : Nat → Int32) (k : Nat), s' 4 = nI kp → s' 7 = s 7 → s' 8 = bI true → s' 12 = nI len → s' 14 = s 14 → ∀ (wy mo : Int32), (tRun (A 14) len (pAll (A 14) len u).2 0 0 (pAll (A 14) len u).1.2.2.1 (A 1)).1 = some (wy, mo) → s' 5 = wy → s' 6 = mo → fmW G Γ (mdl m (pSt s' a' w' p' t' v' u', va_up (va_up A 15 (A 1)) 1 N) h0) 0 0 138 [some (.ref m), some (.int (nI ((pAll (A 14) len u).2))), some (.int (bI false)), some (.int (nI k))] [] := by
      intro s' a' w' p' t' v' u' N k f4 f7 f8 f12 f14 wy mo hR f5 f6
      refine r_aload_n E dX4_read_138 rfl ?_
      refine r_iconst E (nI 0) dX4_read_139 (by decide) ?_
      refine r_top (v' := .int (bI false)) rfl ?_
      refine r_putf E cl_X4 8 (by decide) rfl q1894 (fun _ z => z) mdl_o (Nat.le_of_ble_eq_true rfl) (bI_n _) (bI_f _) dX4_read_140 ?_
      refine r_hp (h' := mdl m (pSt (upd s' 8 (bI false)) a' w' p' t' v' u', va_up (va_up A 15 (A 1)) 1 N) h0) ((mdl_s8 _).trans (congrArg (fun z => mdl m (z, va_up (va_up A 15 (A 1)) 1 N) h0) (pSt_o (by decide)))) ?_
      refine r_aload_n E dX4_read_143 rfl ?_
      refine r_iconst E (nI 0) dX4_read_144 (by decide) ?_
      refine r_putf E cl_X4 12 (by decide) rfl q1898 (fun _ z => z) mdl_o (Nat.le_of_ble_eq_true rfl) rfl rfl dX4_read_145 ?_
      refine r_hp (h' := mdl m (pSt (upd (upd s' 8 (bI false)) 12 (nI 0)) a' w' p' t' v' u', va_up (va_up A 15 (A 1)) 1 N) h0) ((mdl_s12 _).trans (congrArg (fun z => mdl m (z, va_up (va_up A 15 (A 1)) 1 N) h0) (pSt_o (by decide)))) ?_
      refine r_aload_n E dX4_read_148 rfl ?_
      refine r_iconst E (nI 2) dX4_read_149 (by decide) ?_
      refine r_iload_n E dX4_read_150 rfl ?_
      refine r_ifB_ne (b := false) (tgt := 158) E dX4_read_151 (by decide) (fun c => absurd c (by decide)) (fun _ => ?_)
      refine r_iconst E (nI 1) dX4_read_154 (by decide) ?_
      refine r_goto (tgt := 159) E dX4_read_155 (by decide) ?_
      refine r_callV1 (v1 := .int (bI true)) E (ct_X4_fails G hl m (pSt (upd (upd s' 8 (bI false)) 12 (nI 0)) a' w' p' t' v' u', va_up (va_up A 15 (A 1)) 1 N) h0 (nI 2) true) mX4_fails q1965 q1967 qs33 (fun H a1 => fm_rc (ci := 0) (C := RX4) (T := TX4) (N := 21) a1 rfl E.v mdl_o) rfl rfl (Nat.le_of_ble_eq_true rfl) (Nat.le_of_ble_eq_true rfl) (Nat.le_of_ble_eq_true rfl) dX4_read_159 0 0 (Nat.le_of_ble_eq_true rfl) (Nat.le_of_ble_eq_true rfl) ?_
      refine r_hp (h' := mdl m (pSt (upd (upd (upd s' 8 (bI false)) 12 (nI 0)) 0 (nI 2)) a' w' p' t' v' u', va_up (va_up A 15 (A 1)) 1 N) h0) (congrArg (fun z => mdl m (z, (va_up (va_up A 15 (A 1)) 1 N)) h0) (pSt_o (by decide))) ?_
      refine r_ifB_eq (b := true) (tgt := 178) E dX4_read_162 (by decide) (fun c => absurd c (by decide)) (fun _ => ?_)
      refine r_aload_n E dX4_read_165 rfl ?_
      refine r_getf E cl_X4 20 (by decide) q1906 mdl_o rfl dX4_read_166 ?_
      refine r_aload_n E dX4_read_169 rfl ?_
      refine r_getf E cl_X4 1 (by decide) q1887 mdl_o rfl dX4_read_170 ?_
      refine r_callS0 E (ct_X4_copyRow G hl (mdl m (pSt (upd (upd (upd s' 8 (bI false)) 12 (nI 0)) 0 (nI 2)) a' w' p' t' v' u', va_up (va_up A 15 (A 1)) 1 N) h0) (m + 15) (m + 1) true (A 1) N mdl_15 mdl_1 (by omega)) mX4_copyRow q89 q1981 q1982 rfl rfl (Nat.le_of_ble_eq_true rfl) (Nat.le_of_ble_eq_true rfl) (Nat.le_of_ble_eq_true rfl) dX4_read_173 0 0 (Nat.le_of_ble_eq_true rfl) (Nat.le_of_ble_eq_true rfl) ?_
      refine r_hp (h' := mdl m (pSt (upd (upd (upd s' 8 (bI false)) 12 (nI 0)) 0 (nI 2)) a' w' p' t' v' u', va_up (va_up A 15 (A 1)) 1 (A 1)) h0) (mdl_b1 _) ?_
      refine r_iconst E (nI 0) dX4_read_176 (by decide) ?_
      exact r_ireturn E P rfl dX4_read_177 ⟨_, _, rfl, f7, rfl, rfl, ⟨_, rfl⟩, ⟨w', rfl⟩, ⟨p', rfl⟩, fun i hi hn => by rw [va_up_ne _ _ (by omega), va_up_ne _ _ (by omega)], Or.inr ⟨hw, f14, _, rfl, Or.inl ⟨wy, mo, hR, rfl, rfl, f4.trans h4.symm, f5, f6, rfl, fun i h1 h2 => by rw [va_up_ne _ _ (by omega), va_up_ne _ _ (by omega)]⟩⟩⟩
    have aftT : ∀ (s' : Nat → Int32) (a' : Nat) (p' : Bool) (t' v' u' : Int32) (N : Nat → Int32) (k : Nat), s' 4 = nI kp → s' 7 = s 7 → s' 8 = bI true → s' 12 = nI len → s' 14 = s 14 → tRun (A 14) len (pAll (A 14) len u).2 0 0 (pAll (A 14) len u).1.2.2.1 (A 1) = (none, N) → s' 5 = s 5 → s' 6 = s 6 → fmW G Γ (mdl m (pSt s' a' false p' t' v' u', va_up (va_up A 15 (A 1)) 1 N) h0) 0 0 138 [some (.ref m), some (.int (nI ((pAll (A 14) len u).2))), some (.int (bI true)), some (.int (nI k))] [] := by
      intro s' a' p' t' v' u' N k f4 f7 f8 f12 f14 hR f5 f6
      refine r_aload_n E dX4_read_138 rfl ?_
      refine r_iconst E (nI 0) dX4_read_139 (by decide) ?_
      refine r_top (v' := .int (bI false)) rfl ?_
      refine r_putf E cl_X4 8 (by decide) rfl q1894 (fun _ z => z) mdl_o (Nat.le_of_ble_eq_true rfl) (bI_n _) (bI_f _) dX4_read_140 ?_
      refine r_hp (h' := mdl m (pSt (upd s' 8 (bI false)) a' false p' t' v' u', va_up (va_up A 15 (A 1)) 1 N) h0) ((mdl_s8 _).trans (congrArg (fun z => mdl m (z, va_up (va_up A 15 (A 1)) 1 N) h0) (pSt_o (by decide)))) ?_
      refine r_aload_n E dX4_read_143 rfl ?_
      refine r_iconst E (nI 0) dX4_read_144 (by decide) ?_
      refine r_putf E cl_X4 12 (by decide) rfl q1898 (fun _ z => z) mdl_o (Nat.le_of_ble_eq_true rfl) rfl rfl dX4_read_145 ?_
      refine r_hp (h' := mdl m (pSt (upd (upd s' 8 (bI false)) 12 (nI 0)) a' false p' t' v' u', va_up (va_up A 15 (A 1)) 1 N) h0) ((mdl_s12 _).trans (congrArg (fun z => mdl m (z, va_up (va_up A 15 (A 1)) 1 N) h0) (pSt_o (by decide)))) ?_
      refine r_aload_n E dX4_read_148 rfl ?_
      refine r_iconst E (nI 2) dX4_read_149 (by decide) ?_
      refine r_iload_n E dX4_read_150 rfl ?_
      refine r_ifB_ne (b := true) (tgt := 158) E dX4_read_151 (by decide) (fun _ => ?_) (fun c => absurd c (by decide))
      refine r_iconst E (nI 0) dX4_read_158 (by decide) ?_
      refine r_callV1 (v1 := .int (bI false)) E (ct_X4_fails G hl m (pSt (upd (upd s' 8 (bI false)) 12 (nI 0)) a' false p' t' v' u', va_up (va_up A 15 (A 1)) 1 N) h0 (nI 2) false) mX4_fails q1965 q1967 qs33 (fun H a1 => fm_rc (ci := 0) (C := RX4) (T := TX4) (N := 21) a1 rfl E.v mdl_o) rfl rfl (Nat.le_of_ble_eq_true rfl) (Nat.le_of_ble_eq_true rfl) (Nat.le_of_ble_eq_true rfl) dX4_read_159 0 0 (Nat.le_of_ble_eq_true rfl) (Nat.le_of_ble_eq_true rfl) ?_
      refine r_hp (h' := mdl m (pSt (upd (upd (upd s' 8 (bI false)) 12 (nI 0)) 0 (nI 0)) a' false p' t' v' u', va_up (va_up A 15 (A 1)) 1 N) h0) (congrArg (fun z => mdl m (z, (va_up (va_up A 15 (A 1)) 1 N)) h0) (pSt_o (by decide))) ?_
      refine r_ifB_eq (b := false) (tgt := 178) E dX4_read_162 (by decide) (fun _ => ?_) (fun c => absurd c (by decide))
      refine r_aload_n E dX4_read_178 rfl ?_
      refine r_aload_n E dX4_read_179 rfl ?_
      refine r_getf E cl_X4 20 (by decide) q1906 mdl_o rfl dX4_read_180 ?_
      refine r_callV0 E (ct_X4_remember_15 G hl m (pSt (upd (upd (upd s' 8 (bI false)) 12 (nI 0)) 0 (nI 0)) a' false p' t' v' u', va_up (va_up A 15 (A 1)) 1 N) h0 kp f4 hk8) mX4_remember q1977 q1979 qs36 (fun H a1 => fm_rc (ci := 0) (C := RX4) (T := TX4) (N := 21) a1 rfl E.v mdl_o) rfl rfl (Nat.le_of_ble_eq_true rfl) (Nat.le_of_ble_eq_true rfl) (Nat.le_of_ble_eq_true rfl) dX4_read_183 0 0 (Nat.le_of_ble_eq_true rfl) (Nat.le_of_ble_eq_true rfl) ?_
      refine r_hp (h' := mdl m (sRem (pSt (upd (upd (upd s' 8 (bI false)) 12 (nI 0)) 0 (nI 0)) a' false p' t' v' u', va_up (va_up A 15 (A 1)) 1 N) (A 1) kp) h0) rfl ?_
      refine r_iload_n E dX4_read_186 rfl ?_
      exact r_ireturn E P rfl dX4_read_187 ⟨_, _, rfl, f7, rfl, rfl, ⟨_, rfl⟩, ⟨false, rfl⟩, ⟨p', rfl⟩, fun i hi hn => (sHist_o hk8 (by omega)).trans (by show va_up (va_up A 15 (A 1)) 1 N i = A i; rw [va_up_ne _ _ (by omega), va_up_ne _ _ (by omega)]), Or.inr ⟨hw, f14, _, rfl, Or.inr ⟨by rw [hR], rfl, rfl, rfl, f5, f6, (sHist_o hk8 (Or.inl (by decide))).trans (by rw [hR]; rfl), fun i h1 h2 => sHist_e (fun q h3 h4 => by show va_up (va_up A 15 (A 1)) 1 N q = A q; rw [va_up_ne _ _ (by omega), va_up_ne _ _ (by omega)]) h1 h2⟩⟩⟩
    have lp : ∀ (n : Nat) (s' : Nat → Int32) (a' : Nat) (p' : Bool) (t' v' u' : Int32) (N : Nat → Int32) (k : Nat), k + n = (pAll (A 14) len u).2 → s' 4 = nI kp → s' 7 = s 7 → s' 8 = bI true → s' 12 = nI len → s' 14 = s 14 → pGood (A 14) len n a' u' → a' ≤ 61 → RI N → tRun (A 14) len n k a' u' N = tRun (A 14) len (pAll (A 14) len u).2 0 0 (pAll (A 14) len u).1.2.2.1 (A 1) → s' 5 = s 5 → s' 6 = s 6 → fmW G Γ (mdl m (pSt s' a' false p' t' v' u', va_up (va_up A 15 (A 1)) 1 N) h0) 0 0 71 [some (.ref m), some (.int (nI ((pAll (A 14) len u).2))), some (.int (bI true)), some (.int (nI k))] [] := by
      intro n
      induction n with
      | zero =>
        intro s' a' p' t' v' u' N k hk f4 f7 f8 f12 f14 hg ha hN hR f5 f6
        refine r_iload_n E dX4_read_71 rfl ?_
        refine r_iload_n E dX4_read_72 rfl ?_
        refine r_icmpN_ge (tgt := 138) E dX4_read_73 (by decide) (by omega) (by omega) (fun _ => ?_) (fun c => absurd c (by omega))
        exact aftT s' a' p' t' v' u' N k f4 f7 f8 f12 f14 hR.symm f5 f6
      | succ n ih =>
        intro s' a' p' t' v' u' N k hk f4 f7 f8 f12 f14 hg ha hN hR f5 f6
        refine r_iload_n E dX4_read_71 rfl ?_
        refine r_iload_n E dX4_read_72 rfl ?_
        refine r_icmpN_ge (tgt := 138) E dX4_read_73 (by decide) (by omega) (by omega) (fun c => absurd c (by omega)) (fun _ => ?_)
        refine r_iload_n E dX4_read_76 rfl ?_
        refine r_ifB_eq (b := true) (tgt := 138) E dX4_read_77 (by decide) (fun c => absurd c (by decide)) (fun _ => ?_)
        obtain ⟨hg1, hg2⟩ := hg
        have o1 := pCmd_end hg1
        refine r_aload_n E dX4_read_80 rfl ?_
        refine r_callV0 E (ct_X4_readCommand G hl m (va_up (va_up A 15 (A 1)) 1 N) h0 s' a' false p' t' v' u' len f12 hn60 (by omega) hch) mX4_readCommand q2225 q2227 qs72 (fun H a1 => fm_rc (ci := 0) (C := RX4) (T := TX4) (N := 21) a1 rfl E.v mdl_o) rfl rfl (Nat.le_of_ble_eq_true rfl) (Nat.le_of_ble_eq_true rfl) (Nat.le_of_ble_eq_true rfl) dX4_read_81 0 0 (Nat.le_of_ble_eq_true rfl) (Nat.le_of_ble_eq_true rfl) ?_
        refine r_hp (h' := mdl m (pSt s' ((pCmd (A 14) len a' false u').2.2.2.2.1) false ((pCmd (A 14) len a' false u').2.2.2.1) ((pCmd (A 14) len a' false u').1) ((pCmd (A 14) len a' false u').2.1) ((pCmd (A 14) len a' false u').2.2.1), va_up (va_up A 15 (A 1)) 1 N) h0) (show mdl m (pSt s' ((pCmd (A 14) len a' false u').2.2.2.2.1) ((pCmd (A 14) len a' false u').2.2.2.2.2) ((pCmd (A 14) len a' false u').2.2.2.1) ((pCmd (A 14) len a' false u').1) ((pCmd (A 14) len a' false u').2.1) ((pCmd (A 14) len a' false u').2.2.1), va_up (va_up A 15 (A 1)) 1 N) h0 = _ by rw [hg1]) ?_
        refine r_aload_n E dX4_read_84 rfl ?_
        refine r_dup E dX4_read_85 rfl ?_
        refine r_getf E cl_X4 13 (by decide) q1899 mdl_o rfl dX4_read_86 ?_
        refine r_top (v' := .int (nI ((pCmd (A 14) len a' false u').2.2.2.2.1))) rfl ?_
        refine r_iconst E (nI 1) dX4_read_89 (by decide) ?_
        refine r_iaddN E dX4_read_90 ?_
        refine r_putf E cl_X4 13 (by decide) rfl q1899 (fun _ z => z) mdl_o (Nat.le_of_ble_eq_true rfl) rfl rfl dX4_read_91 ?_
        refine r_hp (h' := mdl m (pSt s' ((pCmd (A 14) len a' false u').2.2.2.2.1 + 1) false ((pCmd (A 14) len a' false u').2.2.2.1) ((pCmd (A 14) len a' false u').1) ((pCmd (A 14) len a' false u').2.1) ((pCmd (A 14) len a' false u').2.2.1), va_up (va_up A 15 (A 1)) 1 N) h0) ((mdl_s13 _).trans (congrArg (fun z => mdl m (z, va_up (va_up A 15 (A 1)) 1 N) h0) pSt_13)) ?_
        refine r_aload_n E dX4_read_94 rfl ?_
        refine r_callV0 E (ct_X4_carryOut G hl m (pSt s' ((pCmd (A 14) len a' false u').2.2.2.2.1 + 1) false ((pCmd (A 14) len a' false u').2.2.2.1) ((pCmd (A 14) len a' false u').1) ((pCmd (A 14) len a' false u').2.1) ((pCmd (A 14) len a' false u').2.2.1), va_up (va_up A 15 (A 1)) 1 N) h0 true f8 kp f4 hk8 hN (pCmd (A 14) len a' false u').2.2.2.1 rfl (pCmd_let hg1)) mX4_carryOut q2241 q2243 qs76 (fun H a1 => fm_rc (ci := 0) (C := RX4) (T := TX4) (N := 21) a1 rfl E.v mdl_o) rfl rfl (Nat.le_of_ble_eq_true rfl) (Nat.le_of_ble_eq_true rfl) (Nat.le_of_ble_eq_true rfl) dX4_read_95 0 0 (Nat.le_of_ble_eq_true rfl) (Nat.le_of_ble_eq_true rfl) ?_
        refine r_hp (h' := mdl m (aSt (pSt s' ((pCmd (A 14) len a' false u').2.2.2.2.1 + 1) false ((pCmd (A 14) len a' false u').2.2.2.1) ((pCmd (A 14) len a' false u').1) ((pCmd (A 14) len a' false u').2.1) ((pCmd (A 14) len a' false u').2.2.1), va_up (va_up A 15 (A 1)) 1 N) true kp 1 1 2 (aCmd N (pCmd (A 14) len a' false u').1 (pCmd (A 14) len a' false u').2.1 (pCmd (A 14) len a' false u').2.2.1 (pCmd (A 14) len a' false u').2.2.2.1)) h0) rfl ?_
        have hRI2 : (aCmd N (pCmd (A 14) len a' false u').1 (pCmd (A 14) len a' false u').2.1 (pCmd (A 14) len a' false u').2.2.1 (pCmd (A 14) len a' false u').2.2.2.1).1 = 0 → RI (aCmd N (pCmd (A 14) len a' false u').1 (pCmd (A 14) len a' false u').2.1 (pCmd (A 14) len a' false u').2.2.1 (pCmd (A 14) len a' false u').2.2.2.1).2.2.2 := aCmd_RI hN
        have hr0 := tRun_0 (T := A 14) (len := len) (n := n) (k := k) (a := a') (u := u') (N := N)
        have hr1 := tRun_1 (T := A 14) (len := len) (n := n) (k := k) (a := a') (u := u') (N := N)
        have hr3 := tRun_3 (T := A 14) (len := len) (n := n) (k := k) (a := a') (u := u') (N := N)
        rcases hr : (aCmd N (pCmd (A 14) len a' false u').1 (pCmd (A 14) len a' false u').2.1 (pCmd (A 14) len a' false u').2.2.1 (pCmd (A 14) len a' false u').2.2.2.1) with ⟨cd, ⟨wy, mo⟩, vv, NN⟩
        rw [hr] at hRI2 hr0 hr1 hr3
        match cd, hr, hRI2, hr0, hr1, hr3 with
        | 0, hr, hRI2, hr0, hr1, hr3 =>
          refine r_hp (h' := mdl m (pSt (upd s' 0 (nI 0)) ((pCmd (A 14) len a' false u').2.2.2.2.1 + 1) false ((pCmd (A 14) len a' false u').2.2.2.1) ((pCmd (A 14) len a' false u').1) ((pCmd (A 14) len a' false u').2.1) ((pCmd (A 14) len a' false u').2.2.1), va_up (va_up A 15 (A 1)) 1 NN) h0) (show mdl m (upd (pSt s' ((pCmd (A 14) len a' false u').2.2.2.2.1 + 1) false ((pCmd (A 14) len a' false u').2.2.2.1) ((pCmd (A 14) len a' false u').1) ((pCmd (A 14) len a' false u').2.1) ((pCmd (A 14) len a' false u').2.2.1)) 0 (nI 0), va_up (va_up (va_up A 15 (A 1)) 1 N) 1 NN) h0 = _ by rw [va_uu, pSt_o (by decide)]) ?_
          refine r_aload_n E dX4_read_98 rfl ?_
          refine r_getf E cl_X4 0 (by decide) q1886 mdl_o rfl dX4_read_99 ?_
          refine r_top (v' := .int (nI 0)) (congrArg Value.int rfl) ?_
          refine r_if_ne (tgt := 109) E dX4_read_102 (by decide) (fun z => absurd rfl z) (fun _ => ?_)
          refine r_iconst E (nI 1) dX4_read_105 (by decide) ?_
          refine r_goto (tgt := 110) E dX4_read_106 (by decide) ?_
          refine r_istore_n E [some (.ref m), some (.int (nI ((pAll (A 14) len u).2))), some (.int (nI 1)), some (.int (nI k))] dX4_read_110 rfl rfl ?_
          refine r_aload_n E dX4_read_111 rfl ?_
          refine r_aload_n E dX4_read_112 rfl ?_
          refine r_getf E cl_X4 0 (by decide) q1886 mdl_o rfl dX4_read_113 ?_
          refine r_top (v' := .int (nI 0)) (congrArg Value.int rfl) ?_
          refine r_iconst E (nI 1) dX4_read_116 (by decide) ?_
          refine r_icmpN_ne (tgt := 124) E dX4_read_117 (by decide) (by omega) (by omega) (fun _ => ?_) (fun c => absurd c (by decide))
          refine r_iconst E (nI 0) dX4_read_124 (by decide) ?_
          refine r_bipush E (nI 20) dX4_read_125 (by decide) ?_
          refine r_iload_n E dX4_read_127 rfl ?_
          refine r_callV1 (v1 := .int (bI false)) E (ct_X4_refuse G hl m (pSt (upd s' 0 (nI 0)) ((pCmd (A 14) len a' false u').2.2.2.2.1 + 1) false ((pCmd (A 14) len a' false u').2.2.2.1) ((pCmd (A 14) len a' false u').1) ((pCmd (A 14) len a' false u').2.1) ((pCmd (A 14) len a' false u').2.2.1), va_up (va_up A 15 (A 1)) 1 NN) h0 false (nI 20) (nI k)) mX4_refuse q1973 q1975 qs35 (fun H a1 => fm_rc (ci := 0) (C := RX4) (T := TX4) (N := 21) a1 rfl E.v mdl_o) rfl rfl (Nat.le_of_ble_eq_true rfl) (Nat.le_of_ble_eq_true rfl) (Nat.le_of_ble_eq_true rfl) dX4_read_128 0 0 (Nat.le_of_ble_eq_true rfl) (Nat.le_of_ble_eq_true rfl) ?_
          refine r_hp (h' := mdl m (pSt (upd s' 0 (nI 0)) ((pCmd (A 14) len a' false u').2.2.2.2.1 + 1) false ((pCmd (A 14) len a' false u').2.2.2.1) ((pCmd (A 14) len a' false u').1) ((pCmd (A 14) len a' false u').2.1) ((pCmd (A 14) len a' false u').2.2.1), va_up (va_up A 15 (A 1)) 1 NN) h0) rfl ?_
          refine r_pop E dX4_read_131 rfl ?_
          refine r_iinc E (nI (k + 1)) [some (.ref m), some (.int (nI ((pAll (A 14) len u).2))), some (.int (nI 1)), some (.int (nI (k + 1)))] dX4_read_132 rfl (nI_1 k) rfl rfl ?_
          refine r_goto (tgt := 71) E dX4_read_135 (by decide) ?_
          rw [hr0 rfl] at hR
          exact ih (upd s' 0 (nI 0)) _ _ _ _ _ NN (k + 1) (by omega) f4 f7 f8 f12 f14 hg2 (by omega) (hRI2 rfl) hR f5 f6
        | 1, hr, hRI2, hr0, hr1, hr3 =>
          refine r_hp (h' := mdl m (pSt (upd s' 0 (nI 1)) ((pCmd (A 14) len a' false u').2.2.2.2.1 + 1) false ((pCmd (A 14) len a' false u').2.2.2.1) ((pCmd (A 14) len a' false u').1) ((pCmd (A 14) len a' false u').2.1) ((pCmd (A 14) len a' false u').2.2.1), va_up (va_up A 15 (A 1)) 1 N) h0) (show mdl m (upd (pSt s' ((pCmd (A 14) len a' false u').2.2.2.2.1 + 1) false ((pCmd (A 14) len a' false u').2.2.2.1) ((pCmd (A 14) len a' false u').1) ((pCmd (A 14) len a' false u').2.1) ((pCmd (A 14) len a' false u').2.2.1)) 0 (nI 1), _) h0 = _ by rw [pSt_o (by decide)]) ?_
          refine r_aload_n E dX4_read_98 rfl ?_
          refine r_getf E cl_X4 0 (by decide) q1886 mdl_o rfl dX4_read_99 ?_
          refine r_top (v' := .int (nI 1)) rfl ?_
          refine r_if_ne (tgt := 109) E dX4_read_102 (by decide) (fun _ => ?_) (fun c => absurd c (by decide))
          refine r_iconst E (nI 0) dX4_read_109 (by decide) ?_
          refine r_istore_n E [some (.ref m), some (.int (nI ((pAll (A 14) len u).2))), some (.int (nI 0)), some (.int (nI k))] dX4_read_110 rfl rfl ?_
          refine r_aload_n E dX4_read_111 rfl ?_
          refine r_aload_n E dX4_read_112 rfl ?_
          refine r_getf E cl_X4 0 (by decide) q1886 mdl_o rfl dX4_read_113 ?_
          refine r_iconst E (nI 1) dX4_read_116 (by decide) ?_
          refine r_icmpN_ne (tgt := 124) E dX4_read_117 (by decide) (by omega) (by omega) (fun z => absurd rfl z) (fun _ => ?_)
          refine r_iconst E (nI 1) dX4_read_120 (by decide) ?_
          refine r_goto (tgt := 125) E dX4_read_121 (by decide) ?_
          refine r_bipush E (nI 20) dX4_read_125 (by decide) ?_
          refine r_iload_n E dX4_read_127 rfl ?_
          refine r_callV1 (v1 := .int (bI true)) E (ct_X4_refuse G hl m (pSt (upd s' 0 (nI 1)) ((pCmd (A 14) len a' false u').2.2.2.2.1 + 1) false ((pCmd (A 14) len a' false u').2.2.2.1) ((pCmd (A 14) len a' false u').1) ((pCmd (A 14) len a' false u').2.1) ((pCmd (A 14) len a' false u').2.2.1), va_up (va_up A 15 (A 1)) 1 N) h0 true (nI 20) (nI k)) mX4_refuse q1973 q1975 qs35 (fun H a1 => fm_rc (ci := 0) (C := RX4) (T := TX4) (N := 21) a1 rfl E.v mdl_o) rfl rfl (Nat.le_of_ble_eq_true rfl) (Nat.le_of_ble_eq_true rfl) (Nat.le_of_ble_eq_true rfl) dX4_read_128 0 0 (Nat.le_of_ble_eq_true rfl) (Nat.le_of_ble_eq_true rfl) ?_
          refine r_hp (h' := mdl m (pSt (upd (upd (upd s' 0 (nI 1)) 5 (nI 20)) 6 (nI k)) ((pCmd (A 14) len a' false u').2.2.2.2.1 + 1) false ((pCmd (A 14) len a' false u').2.2.2.1) ((pCmd (A 14) len a' false u').1) ((pCmd (A 14) len a' false u').2.1) ((pCmd (A 14) len a' false u').2.2.1), va_up (va_up A 15 (A 1)) 1 N) h0) (show mdl m (upd (upd (pSt (upd s' 0 (nI 1)) ((pCmd (A 14) len a' false u').2.2.2.2.1 + 1) false ((pCmd (A 14) len a' false u').2.2.2.1) ((pCmd (A 14) len a' false u').1) ((pCmd (A 14) len a' false u').2.1) ((pCmd (A 14) len a' false u').2.2.1)) 5 (nI 20)) 6 (nI k), _) h0 = _ by rw [pSt_o (by decide), pSt_o (by decide)]) ?_
          refine r_pop E dX4_read_131 rfl ?_
          refine r_iinc E (nI (k + 1)) [some (.ref m), some (.int (nI ((pAll (A 14) len u).2))), some (.int (nI 0)), some (.int (nI (k + 1)))] dX4_read_132 rfl (nI_1 k) rfl rfl ?_
          refine r_goto (tgt := 71) E dX4_read_135 (by decide) ?_
          rw [hr1 (show (1 : Nat) ≠ 0 by decide) (show (1 : Nat) ≤ 2 by decide)] at hR
          refine r_iload_n E dX4_read_71 rfl ?_
          refine r_iload_n E dX4_read_72 rfl ?_
          refine r_icmpN_ge (tgt := 138) E dX4_read_73 (by decide) (by omega) (by omega) (fun c8 => ?_) (fun c8 => ?_)
          · exact aftF _ _ _ _ _ _ _ _ _ f4 f7 f8 f12 f14 (nI 20) (nI k) (by rw [← hR]) rfl rfl
          · refine r_iload_n E dX4_read_76 rfl ?_
            refine r_if_eq (tgt := 138) E dX4_read_77 (by decide) (fun _ => ?_) (fun z => absurd rfl z)
            exact aftF _ _ _ _ _ _ _ _ _ f4 f7 f8 f12 f14 (nI 20) (nI k) (by rw [← hR]) rfl rfl
        | 2, hr, hRI2, hr0, hr1, hr3 =>
          refine r_hp (h' := mdl m (pSt (upd s' 0 (nI 1)) ((pCmd (A 14) len a' false u').2.2.2.2.1 + 1) false ((pCmd (A 14) len a' false u').2.2.2.1) ((pCmd (A 14) len a' false u').1) ((pCmd (A 14) len a' false u').2.1) ((pCmd (A 14) len a' false u').2.2.1), va_up (va_up A 15 (A 1)) 1 N) h0) (show mdl m (upd (pSt s' ((pCmd (A 14) len a' false u').2.2.2.2.1 + 1) false ((pCmd (A 14) len a' false u').2.2.2.1) ((pCmd (A 14) len a' false u').1) ((pCmd (A 14) len a' false u').2.1) ((pCmd (A 14) len a' false u').2.2.1)) 0 (nI 1), _) h0 = _ by rw [pSt_o (by decide)]) ?_
          refine r_aload_n E dX4_read_98 rfl ?_
          refine r_getf E cl_X4 0 (by decide) q1886 mdl_o rfl dX4_read_99 ?_
          refine r_top (v' := .int (nI 1)) rfl ?_
          refine r_if_ne (tgt := 109) E dX4_read_102 (by decide) (fun _ => ?_) (fun c => absurd c (by decide))
          refine r_iconst E (nI 0) dX4_read_109 (by decide) ?_
          refine r_istore_n E [some (.ref m), some (.int (nI ((pAll (A 14) len u).2))), some (.int (nI 0)), some (.int (nI k))] dX4_read_110 rfl rfl ?_
          refine r_aload_n E dX4_read_111 rfl ?_
          refine r_aload_n E dX4_read_112 rfl ?_
          refine r_getf E cl_X4 0 (by decide) q1886 mdl_o rfl dX4_read_113 ?_
          refine r_iconst E (nI 1) dX4_read_116 (by decide) ?_
          refine r_icmpN_ne (tgt := 124) E dX4_read_117 (by decide) (by omega) (by omega) (fun z => absurd rfl z) (fun _ => ?_)
          refine r_iconst E (nI 1) dX4_read_120 (by decide) ?_
          refine r_goto (tgt := 125) E dX4_read_121 (by decide) ?_
          refine r_bipush E (nI 20) dX4_read_125 (by decide) ?_
          refine r_iload_n E dX4_read_127 rfl ?_
          refine r_callV1 (v1 := .int (bI true)) E (ct_X4_refuse G hl m (pSt (upd s' 0 (nI 1)) ((pCmd (A 14) len a' false u').2.2.2.2.1 + 1) false ((pCmd (A 14) len a' false u').2.2.2.1) ((pCmd (A 14) len a' false u').1) ((pCmd (A 14) len a' false u').2.1) ((pCmd (A 14) len a' false u').2.2.1), va_up (va_up A 15 (A 1)) 1 N) h0 true (nI 20) (nI k)) mX4_refuse q1973 q1975 qs35 (fun H a1 => fm_rc (ci := 0) (C := RX4) (T := TX4) (N := 21) a1 rfl E.v mdl_o) rfl rfl (Nat.le_of_ble_eq_true rfl) (Nat.le_of_ble_eq_true rfl) (Nat.le_of_ble_eq_true rfl) dX4_read_128 0 0 (Nat.le_of_ble_eq_true rfl) (Nat.le_of_ble_eq_true rfl) ?_
          refine r_hp (h' := mdl m (pSt (upd (upd (upd s' 0 (nI 1)) 5 (nI 20)) 6 (nI k)) ((pCmd (A 14) len a' false u').2.2.2.2.1 + 1) false ((pCmd (A 14) len a' false u').2.2.2.1) ((pCmd (A 14) len a' false u').1) ((pCmd (A 14) len a' false u').2.1) ((pCmd (A 14) len a' false u').2.2.1), va_up (va_up A 15 (A 1)) 1 N) h0) (show mdl m (upd (upd (pSt (upd s' 0 (nI 1)) ((pCmd (A 14) len a' false u').2.2.2.2.1 + 1) false ((pCmd (A 14) len a' false u').2.2.2.1) ((pCmd (A 14) len a' false u').1) ((pCmd (A 14) len a' false u').2.1) ((pCmd (A 14) len a' false u').2.2.1)) 5 (nI 20)) 6 (nI k), _) h0 = _ by rw [pSt_o (by decide), pSt_o (by decide)]) ?_
          refine r_pop E dX4_read_131 rfl ?_
          refine r_iinc E (nI (k + 1)) [some (.ref m), some (.int (nI ((pAll (A 14) len u).2))), some (.int (nI 0)), some (.int (nI (k + 1)))] dX4_read_132 rfl (nI_1 k) rfl rfl ?_
          refine r_goto (tgt := 71) E dX4_read_135 (by decide) ?_
          rw [hr1 (show (2 : Nat) ≠ 0 by decide) (show (2 : Nat) ≤ 2 by decide)] at hR
          refine r_iload_n E dX4_read_71 rfl ?_
          refine r_iload_n E dX4_read_72 rfl ?_
          refine r_icmpN_ge (tgt := 138) E dX4_read_73 (by decide) (by omega) (by omega) (fun c9 => ?_) (fun c9 => ?_)
          · exact aftF _ _ _ _ _ _ _ _ _ f4 f7 f8 f12 f14 (nI 20) (nI k) (by rw [← hR]) rfl rfl
          · refine r_iload_n E dX4_read_76 rfl ?_
            refine r_if_eq (tgt := 138) E dX4_read_77 (by decide) (fun _ => ?_) (fun z => absurd rfl z)
            exact aftF _ _ _ _ _ _ _ _ _ f4 f7 f8 f12 f14 (nI 20) (nI k) (by rw [← hR]) rfl rfl
        | cd + 3, hr, hRI2, hr0, hr1, hr3 =>
          refine r_hp (h' := mdl m (pSt (upd (upd (upd (upd s' 0 (nI 0)) 5 wy) 6 mo) 0 (nI 2)) ((pCmd (A 14) len a' false u').2.2.2.2.1 + 1) false ((pCmd (A 14) len a' false u').2.2.2.1) ((pCmd (A 14) len a' false u').1) ((pCmd (A 14) len a' false u').2.1) ((pCmd (A 14) len a' false u').2.2.1), va_up (va_up A 15 (A 1)) 1 N) h0) (show mdl m (upd (upd (upd (upd (pSt s' ((pCmd (A 14) len a' false u').2.2.2.2.1 + 1) false ((pCmd (A 14) len a' false u').2.2.2.1) ((pCmd (A 14) len a' false u').1) ((pCmd (A 14) len a' false u').2.1) ((pCmd (A 14) len a' false u').2.2.1)) 0 (nI 0)) 5 wy) 6 mo) 0 (nI 2), _) h0 = _ by rw [pSt_o (by decide), pSt_o (by decide), pSt_o (by decide), pSt_o (by decide)]) ?_
          refine r_aload_n E dX4_read_98 rfl ?_
          refine r_getf E cl_X4 0 (by decide) q1886 mdl_o rfl dX4_read_99 ?_
          refine r_top (v' := .int (nI 2)) rfl ?_
          refine r_if_ne (tgt := 109) E dX4_read_102 (by decide) (fun _ => ?_) (fun c => absurd c (by decide))
          refine r_iconst E (nI 0) dX4_read_109 (by decide) ?_
          refine r_istore_n E [some (.ref m), some (.int (nI ((pAll (A 14) len u).2))), some (.int (nI 0)), some (.int (nI k))] dX4_read_110 rfl rfl ?_
          refine r_aload_n E dX4_read_111 rfl ?_
          refine r_aload_n E dX4_read_112 rfl ?_
          refine r_getf E cl_X4 0 (by decide) q1886 mdl_o rfl dX4_read_113 ?_
          refine r_iconst E (nI 1) dX4_read_116 (by decide) ?_
          refine r_icmpN_ne (tgt := 124) E dX4_read_117 (by decide) (by omega) (by omega) (fun _ => ?_) (fun c => absurd c (by decide))
          refine r_iconst E (nI 0) dX4_read_124 (by decide) ?_
          refine r_bipush E (nI 20) dX4_read_125 (by decide) ?_
          refine r_iload_n E dX4_read_127 rfl ?_
          refine r_callV1 (v1 := .int (bI false)) E (ct_X4_refuse G hl m (pSt (upd (upd (upd (upd s' 0 (nI 0)) 5 wy) 6 mo) 0 (nI 2)) ((pCmd (A 14) len a' false u').2.2.2.2.1 + 1) false ((pCmd (A 14) len a' false u').2.2.2.1) ((pCmd (A 14) len a' false u').1) ((pCmd (A 14) len a' false u').2.1) ((pCmd (A 14) len a' false u').2.2.1), va_up (va_up A 15 (A 1)) 1 N) h0 false (nI 20) (nI k)) mX4_refuse q1973 q1975 qs35 (fun H a1 => fm_rc (ci := 0) (C := RX4) (T := TX4) (N := 21) a1 rfl E.v mdl_o) rfl rfl (Nat.le_of_ble_eq_true rfl) (Nat.le_of_ble_eq_true rfl) (Nat.le_of_ble_eq_true rfl) dX4_read_128 0 0 (Nat.le_of_ble_eq_true rfl) (Nat.le_of_ble_eq_true rfl) ?_
          refine r_hp (h' := mdl m (pSt (upd (upd (upd (upd s' 0 (nI 0)) 5 wy) 6 mo) 0 (nI 2)) ((pCmd (A 14) len a' false u').2.2.2.2.1 + 1) false ((pCmd (A 14) len a' false u').2.2.2.1) ((pCmd (A 14) len a' false u').1) ((pCmd (A 14) len a' false u').2.1) ((pCmd (A 14) len a' false u').2.2.1), va_up (va_up A 15 (A 1)) 1 N) h0) rfl ?_
          refine r_pop E dX4_read_131 rfl ?_
          refine r_iinc E (nI (k + 1)) [some (.ref m), some (.int (nI ((pAll (A 14) len u).2))), some (.int (nI 0)), some (.int (nI (k + 1)))] dX4_read_132 rfl (nI_1 k) rfl rfl ?_
          refine r_goto (tgt := 71) E dX4_read_135 (by decide) ?_
          rw [hr3 (by show ¬ cd + 3 ≤ 2; omega)] at hR
          refine r_iload_n E dX4_read_71 rfl ?_
          refine r_iload_n E dX4_read_72 rfl ?_
          refine r_icmpN_ge (tgt := 138) E dX4_read_73 (by decide) (by omega) (by omega) (fun c10 => ?_) (fun c10 => ?_)
          · exact aftF _ _ _ _ _ _ _ _ _ f4 f7 f8 f12 f14 wy mo (by rw [← hR]) rfl rfl
          · refine r_iload_n E dX4_read_76 rfl ?_
            refine r_if_eq (tgt := 138) E dX4_read_77 (by decide) (fun _ => ?_) (fun z => absurd rfl z)
            exact aftF _ _ _ _ _ _ _ _ _ f4 f7 f8 f12 f14 wy mo (by rw [← hR]) rfl rfl
    have hgA := pAll_good hw (pAll (A 14) len u).1.2.2.1
    refine r_hp (h' := mdl m (pSt (upd (upd s 0 (nI 0)) 8 (bI true)) 0 false (((pAll (A 14) len u).1).2.2.2.1) (((pAll (A 14) len u).1).1) (((pAll (A 14) len u).1).2.1) (((pAll (A 14) len u).1).2.2.1), va_up (va_up A 15 (A 1)) 1 (A 1)) h0) (by rw [va_id (f := va_up A 15 (A 1)) (k := 1) (v := A 1) rfl]) ?_
    exact lp (pAll (A 14) len u).2 _ 0 _ _ _ _ (A 1) 0 (Nat.zero_add _) h4 rfl rfl hlen rfl hgA (by omega) hRI rfl rfl rfl

