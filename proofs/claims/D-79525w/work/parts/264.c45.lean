set_option maxHeartbeats 4000000 in
theorem ct_X10_text (G : fmG) (hl : (fmLn G).stackTraces = false) (h : fmHp) {x far qu d pa sb : Nat} {fl re de : Int32} {sv : Value} (hC : CC G h) (hx : DkO h x far qu d pa sb fl re de sv) (p : Nat) (hp : h p = some (true, .inr (.inl (8, [.int (nI 0), .ref x])))) (v len : Nat) (T : Nat → Int32) (hS : SBt h sb v len T) (hlen : len ≤ 60) (hch : ∀ i, i < len → ∃ k, k < 65536 ∧ T i = nI k) (u : Int32)  : Ct G yX10_text (ws_ yX10_text cX10_text 3 (some (.object "java/util/List"))) { frames := 16, cells := 373, slots := 14500, locals := 600 } [.ref p] h (fun v0 h' => ∃ (li m e : Nat) (f : Nat → Nat), v0 = some (.ref li) ∧ AL G h' li e m f ∧ CmdsAt G h' T len f m ∧ m ≤ 62 ∧ (pAll T len u).1.2.2.2.2.2 = false ∧ (pAll T len u).2 = m ∧ FrX p h h' ∧ h li = none ∧ (∀ y, h e = some y → y.1 = false)) (fun q Ex h' => (pAll T len u).1.2.2.2.2.2 = true ∧ Ex = "FlintMine$FaultException" ∧ h' q = some (true, .inr (.inl (11, [.null, .null, .null, .null, .null, .int 0, .int (nI (pAll T len u).1.2.2.2.2.1)]))) ∧ FrX p h h') := by
  refine Ct.of hl (by decide +kernel) (Nat.le_of_ble_eq_true rfl) (fun Γ E P => ?_)
  obtain ⟨u0, ml, cap, bf, hsb, hv, hrr⟩ := id hS
  have hpx : p ≠ x := fun z => by have hx0 : h x = some (true, .inr (.inl (1, [.ref far, .ref qu, .ref d, .ref pa, .ref sb, .int fl, .int re, .int de, sv]))) := hx; rw [z, hx0] at hp; cases hp
  have hps : p ≠ sb := fun z => by rw [z, hsb] at hp; cases hp
  have hpv : p ≠ v := fun z => by rw [z, hv] at hp; cases hp
  have lp : ∀ (n k li e : Nat) (f : Nat → Nat) (h1 : fmHp), TxB G h p x li T len (k + 1) h1 e f (pEnd T len k) → PlI T len u k n → fmW G Γ h1 (6 * n) (230 * n) 19 [some (.ref p), some (.ref li), none] [] := by
    intro n
    induction n with
    | zero =>
      intro k li e f h1 hB hI
      obtain ⟨hA1, hcs1, hp1, f1, hl1, hJ1⟩ := id hB
      obtain ⟨mcL1, hlo1⟩ := hA1.o
      have hk62 : k ≤ 61 := by have := hI.2.1; omega
      have he60 : pEnd T len k ≤ 60 := by have := hI.2.2.2.1; omega
      have hlp : li ≠ p := fun z => by rw [z, hp1] at hlo1; cases hlo1
      have hx1 := f1 _ _ hx (fun z => hpx z.symm)
      have hS1 : SBt h1 sb v len T := hS.kept (fun z hz => f1 _ _ hz (fun z => hps z.symm)) (fun z hz => f1 _ _ hz (fun z => hpv z.symm))
      have hC1 : CC G h1 := hC.kept (fun q z hq => f1 _ _ hq (fun z => by rw [z, hp] at hq; cases hq))
      refine r_aload_n E dX10_text_19 rfl ?_
      refine r_getf E cl_X10 0 (by decide) q1488 hp1 rfl dX10_text_20 ?_
      refine r_aload_n E dX10_text_23 rfl ?_
      refine r_getf E cl_X10 1 (by decide) q1489 hp1 rfl dX10_text_24 ?_
      refine r_getfN E cl_X1 4 (by decide) q274 hx1 rfl dX10_text_27 ?_
      refine r_callV1 (v1 := .int (nI len)) E (ct_J5_length G hl (h1) sb v len 0 u0 ml (fun _ => 0) (f1 _ _ hsb (fun z => hps z.symm))) mJ5_length q1510 q1353 q1354 (fun H a1 => fm_rc (ci := 15) (C := RJ5) (T := TJ5) (N := 4) a1 rfl E.v (f1 _ _ hsb (fun z => hps z.symm))) rfl rfl (Nat.le_of_ble_eq_true rfl) (Nat.le_of_ble_eq_true rfl) (Nat.le_of_ble_eq_true rfl) dX10_text_30 (6 * 0) (230 * 0) (Nat.le_refl _) (Nat.le_refl _) ?_
      refine r_icmpN_ge (tgt := 59) E dX10_text_33 (by decide) (by omega) (by omega) (fun c1 => ?_) (fun c1 => ?_)
      · refine r_aload_n E dX10_text_59 rfl ?_
        obtain ⟨g1, g2⟩ := hI.out (by omega)
        exact r_areturn E P rfl (Or.inl ⟨_, rfl⟩) dX10_text_60 ⟨li, k + 1, e, f, rfl, hA1, hcs1, by omega, g1, g2, f1, hl1, hJ1⟩
      · exfalso; have := hI.2.2.1; have := hI.2.2.2.1; omega
    | succ n ih =>
      intro k li e f h1 hB hI
      obtain ⟨hA1, hcs1, hp1, f1, hl1, hJ1⟩ := id hB
      obtain ⟨mcL1, hlo1⟩ := hA1.o
      have hk62 : k ≤ 61 := by have := hI.2.1; omega
      have he60 : pEnd T len k ≤ 60 := by have := hI.2.2.2.1; omega
      have hlp : li ≠ p := fun z => by rw [z, hp1] at hlo1; cases hlo1
      have hx1 := f1 _ _ hx (fun z => hpx z.symm)
      have hS1 : SBt h1 sb v len T := hS.kept (fun z hz => f1 _ _ hz (fun z => hps z.symm)) (fun z hz => f1 _ _ hz (fun z => hpv z.symm))
      have hC1 : CC G h1 := hC.kept (fun q z hq => f1 _ _ hq (fun z => by rw [z, hp] at hq; cases hq))
      refine r_aload_n E dX10_text_19 rfl ?_
      refine r_getf E cl_X10 0 (by decide) q1488 hp1 rfl dX10_text_20 ?_
      refine r_aload_n E dX10_text_23 rfl ?_
      refine r_getf E cl_X10 1 (by decide) q1489 hp1 rfl dX10_text_24 ?_
      refine r_getfN E cl_X1 4 (by decide) q274 hx1 rfl dX10_text_27 ?_
      refine r_callV1 (v1 := .int (nI len)) E (ct_J5_length G hl (h1) sb v len 0 u0 ml (fun _ => 0) (f1 _ _ hsb (fun z => hps z.symm))) mJ5_length q1510 q1353 q1354 (fun H a1 => fm_rc (ci := 15) (C := RJ5) (T := TJ5) (N := 4) a1 rfl E.v (f1 _ _ hsb (fun z => hps z.symm))) rfl rfl (Nat.le_of_ble_eq_true rfl) (Nat.le_of_ble_eq_true rfl) (Nat.le_of_ble_eq_true rfl) dX10_text_30 (6 * (n + 1)) (230 * (n + 1)) (Nat.le_refl _) (Nat.le_refl _) ?_
      refine r_icmpN_ge (tgt := 59) E dX10_text_33 (by decide) (by omega) (by omega) (fun c1 => ?_) (fun c1 => ?_)
      · refine r_aload_n E dX10_text_59 rfl ?_
        obtain ⟨g1, g2⟩ := hI.out (by omega)
        exact r_areturn E P rfl (Or.inl ⟨_, rfl⟩) dX10_text_60 ⟨li, k + 1, e, f, rfl, hA1, hcs1, by omega, g1, g2, f1, hl1, hJ1⟩
      · have hlt : pEnd T len k < len := by omega
        cases hs : pSee T len (pEnd T len k) false (nI 59) (nI 59) with
          | false =>
            refine r_aload_n E dX10_text_36 rfl ?_
            refine r_bipush E (nI 59) dX10_text_37 (by decide) ?_
            refine r_bipush E (nI 59) dX10_text_39 (by decide) ?_
            obtain ⟨g1, g2⟩ := hI.no hlt hs
            refine r_callV E (ctF_X10_take G hl h1 hC1 hx1 p (pEnd T len k) hp1 v len T hS1 hlen hch (by omega) (nI 59) (nI 59) hs) mX10_take q1591 q1593 qs29 (fun H a1 => fm_rc (ci := 8) (C := RX10) (T := TX10) (N := 2) a1 rfl E.v hp1) rfl rfl (Nat.le_of_ble_eq_true rfl) (Nat.le_of_ble_eq_true rfl) (Nat.le_of_ble_eq_true rfl) dX10_text_41 0 0 (show 0 + 1 ≤ 6 * (n + 1) by omega) (show 0 + 7 ≤ 230 * (n + 1) by omega) (fun _ _ q => q.elim) (fun q Ex h3 hx3 => ?_)
            obtain ⟨rfl, hqn, rfl⟩ := hx3
            exact r_xout E P (fun x hx => by cases hx) ⟨g1, rfl, by rw [g2]; exact fmUp_s, fun q9 y9 hq9 hn => fmUp_of (f1 q9 y9 hq9 hn) hqn⟩
          | true =>
            refine r_aload_n E dX10_text_36 rfl ?_
            refine r_bipush E (nI 59) dX10_text_37 (by decide) ?_
            refine r_bipush E (nI 59) dX10_text_39 (by decide) ?_
            refine r_callV1 (v1 := .int (T (pEnd T len k))) E (ctT_X10_take G hl h1 hC1 hx1 p (pEnd T len k) hp1 v len T hS1 hlen hch (by omega) (nI 59) (nI 59) hs) mX10_take q1591 q1593 qs29 (fun H a1 => fm_rc (ci := 8) (C := RX10) (T := TX10) (N := 2) a1 rfl E.v hp1) rfl rfl (Nat.le_of_ble_eq_true rfl) (Nat.le_of_ble_eq_true rfl) (Nat.le_of_ble_eq_true rfl) dX10_text_41 (6 * (n + 1)) (230 * (n + 1)) (Nat.le_refl _) (Nat.le_refl _) ?_
            have hB2 := hB.fr (h3 := fmUp h1 p (true, .inr (.inl (8, [.int (nI (pEnd T len k + 1)), .ref x])))) (fun q y hq hn => (fmUp_n hn).trans hq) fmUp_s
            generalize hH2 : fmUp h1 p (true, .inr (.inl (8, [.int (nI (pEnd T len k + 1)), .ref x]))) = h2 at *
            obtain ⟨hA2, hcs2, hp2, f2, hl2, hJ2⟩ := id hB2
            obtain ⟨mcL2, hlo2⟩ := hA2.o
            have hx2 := f2 _ _ hx (fun z => hpx z.symm)
            have hS2 : SBt h2 sb v len T := hS.kept (fun z hz => f2 _ _ hz (fun z => hps z.symm)) (fun z hz => f2 _ _ hz (fun z => hpv z.symm))
            have hC2 : CC G h2 := hC.kept (fun q z hq => f2 _ _ hq (fun z => by rw [z, hp] at hq; cases hq))
            refine r_istore_n E [some (.ref p), some (.ref li), some (.int (T (pEnd T len k)))] dX10_text_44 rfl rfl ?_
            refine r_aload_n E dX10_text_45 rfl ?_
            refine r_aload_n E dX10_text_46 rfl ?_
            refine r_callV E (ctA_X10_command G hl h2 hC2 hx2 p (pBeg T len (k + 1)) hp2 v len T hS2 hlen hch (by show pEnd T len k + 1 ≤ 1000; omega) (by show pEnd T len k + 1 ≤ 800; omega)) mX10_command q1501 q1503 qs27 (fun H a1 => fm_rc (ci := 8) (C := RX10) (T := TX10) (N := 2) a1 rfl E.v hp2) rfl rfl (Nat.le_of_ble_eq_true rfl) (Nat.le_of_ble_eq_true rfl) (Nat.le_of_ble_eq_true rfl) dX10_text_47 (6 * n + 1) (230 * n + 200) (show 6 * n + 1 + 5 ≤ 6 * (n + 1) by omega) (show 230 * n + 200 + 30 ≤ 230 * (n + 1) by omega) (fun v' h3 q => ?_) (fun q Ex h3 hx3 => ?_)
            · obtain ⟨hw, c, rfl, hc3, hp3, hfr3, hcn⟩ := q
              have hB3 := hB2.fr hfr3 hp3
              obtain ⟨hA3, hcs3, hp3', f3, hl3, hJ3⟩ := id hB3
              obtain ⟨mcL3, hlo3⟩ := hA3.o
              refine r_callF E (ct_J2_add G hl h3 li e (k + 1) f hA3 (by omega) (by omega) (fun i hi => (hcs3 i hi).2.isO) c hc3.isO) mJ2_add (ci := 12) rfl hlo3 1 rfl q1648 q498 q496 fx_1 rfl rfl (Nat.le_of_ble_eq_true rfl) (Nat.le_of_ble_eq_true rfl) (Nat.le_of_ble_eq_true rfl) dX10_text_50 (6 * n) (230 * n) (show (6 * n) + 1 ≤ (6 * n + 1) by omega) (show (230 * n) + 200 ≤ (230 * n + 200) by omega) (fun v' h4 q => ?_) (fun _ _ _ q => q.elim)
              obtain ⟨rfl, e', hA4, he9, hfr4⟩ := q
              refine r_pop E dX10_text_55 rfl ?_
              refine r_goto (tgt := 19) E dX10_text_56 (by decide) ?_
              refine fmW.few (L' := [some (.ref p), some (.ref li), none]) (fmFew_n (L := [some (.ref p), some (.ref li), some (.int (T (pEnd T len k)))]) 2) ?_
              exact ih (k + 1) li e' _ h4 (hB3.put hw hc3 hA4 he9 hfr4) (hI.step hlt hs hw)
            · obtain ⟨hw, rfl, hq, hfr3⟩ := hx3
              obtain ⟨g1, g2⟩ := hI.bad hlt hs hw
              exact r_xout E P (fun x hx => by cases hx) ⟨g1, rfl, by rw [g2]; exact hq, f2.trans hfr3⟩
  refine r_new E cl_J2 [.int 0, .null, .int 0] q1499 q139 q82 (by decide) 372 14490 (Nat.le_of_ble_eq_true rfl) (Nat.le_of_ble_eq_true rfl) dX10_text_0 (fun li hli kli => ?_)
  refine r_dup E dX10_text_3 rfl ?_
  refine r_callI0 E (ct_J2_init G hl (fmUp h li (true, .inr (.inl (12, [.int 0, .null, .int 0])))) li fmUp_s) mJ2_init rfl q1500 q141 rfl rfl (Nat.le_of_ble_eq_true rfl) (Nat.le_of_ble_eq_true rfl) (Nat.le_of_ble_eq_true rfl) dX10_text_4 372 14490 (Nat.le_of_ble_eq_true rfl) (Nat.le_of_ble_eq_true rfl) ?_
  refine r_hp (h' := fmUp h li (true, .inr (.inl (12, [.int (nI 0), .ref (fmAd G 10), .int (nI 0)])))) (fmUp_uu _ _ _ _) ?_
  have hk1 : Kp h (fmUp h li (true, .inr (.inl (12, [.int (nI 0), .ref (fmAd G 10), .int (nI 0)])))) := Kp.up hli
  have hB1 : TxB G h p x li T len 0 (fmUp h li (true, .inr (.inl (12, [.int (nI 0), .ref (fmAd G 10), .int (nI 0)])))) (fmAd G 10) (fun _ => 0) 0 := ⟨AL.zero (hC.kp hk1) fmUp_s, fun i hi => absurd hi (Nat.not_lt_zero _), hk1 _ _ hp, fun q y hq _ => hk1 _ _ hq, hli, fun y hy => by rw [hC.2.2.1] at hy; cases hy; rfl⟩
  generalize hH1 : fmUp h li (true, .inr (.inl (12, [.int (nI 0), .ref (fmAd G 10), .int (nI 0)]))) = h1 at *
  obtain ⟨hA1, hcs1, hp1, f1, hl1, hJ1⟩ := id hB1
  obtain ⟨mcL1, hlo1⟩ := hA1.o
  have hx1 := f1 _ _ hx (fun z => hpx z.symm)
  have hS1 : SBt h1 sb v len T := hS.kept (fun z hz => f1 _ _ hz (fun z => hps z.symm)) (fun z hz => f1 _ _ hz (fun z => hpv z.symm))
  have hC1 : CC G h1 := hC.kept (fun q z hq => f1 _ _ hq (fun z => by rw [z, hp] at hq; cases hq))
  refine r_astore_n E [some (.ref p), some (.ref li), none] dX10_text_7 rfl rfl ?_
  refine r_aload_n E dX10_text_8 rfl ?_
  refine r_aload_n E dX10_text_9 rfl ?_
  refine r_callV E (ctA_X10_command G hl h1 hC1 hx1 p 0 hp1 v len T hS1 hlen hch (by omega) (by omega)) mX10_command q1501 q1503 qs27 (fun H a1 => fm_rc (ci := 8) (C := RX10) (T := TX10) (N := 2) a1 rfl E.v hp1) rfl rfl (Nat.le_of_ble_eq_true rfl) (Nat.le_of_ble_eq_true rfl) (Nat.le_of_ble_eq_true rfl) dX10_text_10 367 14230 (Nat.le_of_ble_eq_true rfl) (Nat.le_of_ble_eq_true rfl) (fun v' h3 q => ?_) (fun q Ex h3 hx3 => ?_)
  · obtain ⟨hw, c, rfl, hc3, hp3, hfr3, hcn⟩ := q
    have hB3 := hB1.fr hfr3 hp3
    obtain ⟨hA3, hcs3, hp3', f3, hl3, hJ3⟩ := id hB3
    obtain ⟨mcL3, hlo3⟩ := hA3.o
    refine r_callF E (ct_J2_add G hl h3 li (fmAd G 10) 0 _ hA3 (by omega) (by omega) (fun i hi => absurd hi (Nat.not_lt_zero _)) c hc3.isO) mJ2_add (ci := 12) rfl hlo3 1 rfl q1648 q498 q496 fx_1 rfl rfl (Nat.le_of_ble_eq_true rfl) (Nat.le_of_ble_eq_true rfl) (Nat.le_of_ble_eq_true rfl) dX10_text_13 (6 * (len + 1)) (230 * (len + 1)) (show (6 * (len + 1)) + 1 ≤ 367 by omega) (show (230 * (len + 1)) + 200 ≤ 14230 by omega) (fun v' h4 q => ?_) (fun _ _ _ q => q.elim)
    obtain ⟨rfl, e', hA4, he9, hfr4⟩ := q
    refine r_pop E dX10_text_18 rfl ?_
    exact lp (len + 1) 0 li e' _ h4 (hB3.put hw hc3 hA4 he9 hfr4) (PlI.first hw)
  · obtain ⟨hw, rfl, hq, hfr3⟩ := hx3
    obtain ⟨g1, g2⟩ := pAll_bad (u := u) hw
    exact r_xout E P (fun x hx => by cases hx) ⟨g1, rfl, by rw [g2]; exact hq, f1.trans hfr3⟩

