set_option maxHeartbeats 4000000 in
theorem ct_X1_doAll (G : fmG) (hl : (fmLn G).stackTraces = false) (h : fmHp) {h0 : fmHp} {d g sl se pl pe : Nat} {gf sf pf : Nat → Nat} {N : Nat → Int32} {K pk : Nat} (hC0 : CC G h0) (hM : MineAt G h d g sl se pl pe gf sf pf N K pk) (hD : Dr G h0 h d g sl se pl pe) (hR : RV N K pk) (li m e9 : Nat) (fc : Nat → Nat) (hA : AL G h0 li e9 m fc) (T : Nat → Int32) (len : Nat) (hcs : CmdsAt G h0 T len fc m) (hm : m ≤ 62) (u : Int32) : Ct G yX1_doAll (wsW_ yX1_doAll cX1_doAll 6 none [(29, 37, 40, 7), (29, 37, 40, 1)]) { frames := 16, cells := 4100, slots := 14300, locals := 420 } [.ref li, .ref d] h (fun v0 h' => v0 = none ∧ (tRun T len m 0 0 u N).1 = none ∧ ∃ (se1 pe1 : Nat) (gf1 sf1 pf1 : Nat → Nat) (K1 pk1 : Nat), MineAt G h' d g sl se1 pl pe1 gf1 sf1 pf1 (tRun T len m 0 0 u N).2 K1 pk1 ∧ Dr G h0 h' d g sl se1 pl pe1 ∧ RV (tRun T len m 0 0 u N).2 K1 pk1) (fun q Ex h' => ∃ wy mm, (tRun T len m 0 0 u N).1 = some (wy, mm) ∧ Ex = "FlintMine$Refusal" ∧ Kp h0 h' ∧ h' q = some (true, .inr (.inl (10, [.null, .null, .null, .null, .null, .int 0, .int wy, .int mm])))) := by
  refine Ct.ofH hl (by decide +kernel) (Nat.le_of_ble_eq_true rfl) (fun Γ E P => ?_)
  have hC : CC G h := hC0.kp hD.1
  obtain ⟨hd, ⟨gq, hg, hgq⟩, hgd, hS, hSh, hP, hPk, hK8, hP6, hsp, hse⟩ := id hM
  obtain ⟨mcS, hsl⟩ := hS.o
  obtain ⟨mcP, hpl⟩ := hP.o
  obtain ⟨hk0, hd0, hg0, hsl0, hpl0, hse0, hpe0⟩ := id hD
  obtain ⟨feS, capS, geS, hseA⟩ := hS.el
  obtain ⟨feP, capP, geP, hpeA⟩ := hP.el
  obtain ⟨mc, cap, fe, gl, hlo, hel, hnc, hcap, -, -, hgl, -⟩ := id hA
  have hk0 : Kp h0 h := hD.1
  have hR0 := hR
  refine r_iconst E (nI 0) dX1_doAll_0 (by decide) ?_
  refine r_istore_n E [some (.ref li), some (.ref d), some (.int (nI 0)), none, none, none] dX1_doAll_1 rfl rfl ?_
  refine r_aload_n E dX1_doAll_2 rfl ?_
  refine r_callF E (ct_J2_iterator G hl h li e9 m mc (hk0 _ _ hlo)) mJ2_iterator (ci := 12) rfl (hk0 _ _ hlo) 0 rfl q1813 q375 q373 fx_0 rfl rfl (Nat.le_of_ble_eq_true rfl) (Nat.le_of_ble_eq_true rfl) (Nat.le_of_ble_eq_true rfl) dX1_doAll_3 4095 14290 (Nat.le_of_ble_eq_true rfl) (Nat.le_of_ble_eq_true rfl) (fun v' hx q => ?_) (fun _ _ _ q => q.elim)
  obtain ⟨it, hit0, kit, rfl, rfl⟩ := q
  have hit00 : h0 it = none := hk0.none hit0
  refine r_astore_n E [some (.ref li), some (.ref d), some (.int (nI 0)), some (.ref it), none, none] dX1_doAll_8 rfl rfl ?_
  have hM1 := hM.kp (Kp.up (e := (true, .inr (.inl (13, [.int (nI 0), .int (-1), .int mc, .ref li])))) hit0)
  have hD1 := Dr.it (I := (true, .inr (.inl (13, [.int (nI 0), .int (-1), .int mc, .ref li])))) hM hD hit0
  have lp : ∀ (n i : Nat) (hh : fmHp) (lr : Int32) (se1 pe1 : Nat) (gf1 sf1 pf1 : Nat → Nat) (N1 : Nat → Int32) (K1 pk1 : Nat), i + n = m → MineAt G hh d g sl se1 pl pe1 gf1 sf1 pf1 N1 K1 pk1 → Dr G (fmUp h0 it (true, .inr (.inl (13, [.int (nI i), .int lr, .int mc, .ref li])))) hh d g sl se1 pl pe1 → RV N1 K1 pk1 → (∃ u1, (tRun T len m 0 0 u N) = tRun T len n i (pBeg T len i) u1 N1) → fmW G Γ hh (66 * n) (230 * n) 9 [some (.ref li), some (.ref d), some (.int (nI i)), some (.ref it), none, none] [] := by
    intro n
    induction n with
    | zero =>
      intro i hh lr se1 pe1 gf1 sf1 pf1 N1 K1 pk1 hin hM2 hD2 hR2 hT
      have hk2 : Kp h0 hh := (Kp.up hit00).trans hD2.1
      have hit := hD2.1 _ _ (fmUp_s (h := h0) (a := it) (e := (true, .inr (.inl (13, [.int (nI i), .int lr, .int mc, .ref li])))))
      refine r_aload_n E dX1_doAll_9 rfl ?_
      refine r_callF1 (v1 := .int (bI (decide (i < m)))) E (ct_J13_hasNext G hl hh li e9 m mc (hk2 _ _ hlo) it i lr hit (by omega) (by omega)) mJ13_hasNext (ci := 13) rfl hit 6 rfl q1815 q404 q402 fx_6 rfl rfl (Nat.le_of_ble_eq_true rfl) (Nat.le_of_ble_eq_true rfl) (Nat.le_of_ble_eq_true rfl) dX1_doAll_10 (66 * 0) (230 * 0) (Nat.le_refl _) (Nat.le_refl _) ?_
      refine r_ifB_eq (b := decide (i < m)) (tgt := 59) E dX1_doAll_15 (by decide) (fun c1 => ?_) (fun c1 => ?_)
      · obtain ⟨u1, hT⟩ := hT
        have hT2 : (tRun T len m 0 0 u N) = (none, N1) := hT
        exact r_return E P rfl dX1_doAll_59 ⟨rfl, by rw [hT2], se1, pe1, gf1, sf1, pf1, K1, pk1, by rw [hT2]; exact hM2, hD2.base hit00, by rw [hT2]; exact hR2⟩
      · exfalso; have := of_decide_eq_true c1; omega
    | succ n ih =>
      intro i hh lr se1 pe1 gf1 sf1 pf1 N1 K1 pk1 hin hM2 hD2 hR2 hT
      have hk2 : Kp h0 hh := (Kp.up hit00).trans hD2.1
      have hit := hD2.1 _ _ (fmUp_s (h := h0) (a := it) (e := (true, .inr (.inl (13, [.int (nI i), .int lr, .int mc, .ref li])))))
      refine r_aload_n E dX1_doAll_9 rfl ?_
      refine r_callF1 (v1 := .int (bI (decide (i < m)))) E (ct_J13_hasNext G hl hh li e9 m mc (hk2 _ _ hlo) it i lr hit (by omega) (by omega)) mJ13_hasNext (ci := 13) rfl hit 6 rfl q1815 q404 q402 fx_6 rfl rfl (Nat.le_of_ble_eq_true rfl) (Nat.le_of_ble_eq_true rfl) (Nat.le_of_ble_eq_true rfl) dX1_doAll_10 (66 * (n + 1)) (230 * (n + 1)) (Nat.le_refl _) (Nat.le_refl _) ?_
      refine r_ifB_eq (b := decide (i < m)) (tgt := 59) E dX1_doAll_15 (by decide) (fun c1 => ?_) (fun c1 => ?_)
      · exfalso; have := of_decide_eq_false c1; omega
      · have him : i < m := by omega
        refine r_aload_n E dX1_doAll_18 rfl ?_
        refine r_callF1 (v1 := .ref (fc i)) E (ct_J13_next G hl hh li e9 m mc (hk2 _ _ hlo) it i lr hit (by omega) (by omega) cap fe gl (hk2 _ _ hel) him hnc hcap (fc i) (hgl i him)) mJ13_next (ci := 13) rfl hit 7 rfl q1817 q413 q411 fx_7 rfl rfl (Nat.le_of_ble_eq_true rfl) (Nat.le_of_ble_eq_true rfl) (Nat.le_of_ble_eq_true rfl) dX1_doAll_19 (66 * (n + 1)) (230 * (n + 1)) (Nat.le_refl _) (Nat.le_refl _) ?_
        have hM3 := hM2.oth (h' := fmUp hh it (true, .inr (.inl (13, [.int (nI (i + 1)), .int (nI i), .int mc, .ref li])))) hit (Or.inr (Or.inl rfl)) (fun q y hq hn => (fmUp_n hn).trans hq)
        have hD3 := hD2.next (I' := (true, .inr (.inl (13, [.int (nI (i + 1)), .int (nI i), .int mc, .ref li]))))
        generalize hH2 : fmUp hh it (true, .inr (.inl (13, [.int (nI (i + 1)), .int (nI i), .int mc, .ref li]))) = h2 at *
        have hk3 : Kp h0 h2 := (Kp.up hit00).trans hD3.1
        have hcm := (hcs i him).2.kept (h' := h2) (fun q c9 fs hq _ => hk3 _ _ hq) (fun q n9 f9 hq => hk3 _ _ hq)
        have hlet := pCmd_let (hcs i him).1
        have hC3 : CC G (fmUp h0 it (true, .inr (.inl (13, [.int (nI (i + 1)), .int (nI i), .int mc, .ref li])))) := hC0.kp (Kp.up hit00)
        obtain ⟨obs, hobs⟩ : ∃ fs : List Value, h2 (fc i) = some (true, .inr (.inl (9, fs))) := by obtain ⟨b, f, ⟨-, z, -⟩ | ⟨-, z, -⟩⟩ := hcm <;> exact ⟨_, z⟩
        refine r_castS E cl_X12 q1818 hobs dX1_doAll_24 ?_
        refine r_astore E [some (.ref li), some (.ref d), some (.int (nI i)), some (.ref it), some (.ref (fc i)), none] dX1_doAll_27 rfl rfl ?_
        refine r_aload E dX1_doAll_29 rfl ?_
        refine r_aload_n E dX1_doAll_31 rfl ?_
        obtain ⟨hb1, hb2, hK8, hP6⟩ := hM3.bit
        have kk : ∀ (v' : Option Value) (h3 : fmHp), dPost G (fmUp h0 it (true, .inr (.inl (13, [.int (nI (i + 1)), .int (nI i), .int mc, .ref li])))) d g sl pl (cR T len i N1) v' h3 → fmW G Γ h3 (66 * n + 1) (230 * n + 14) 35 [some (.ref li), some (.ref d), some (.int (nI i)), some (.ref it), some (.ref (fc i)), none] (v'.toList ++ []) := by
          intro v' h3 q
          obtain ⟨hr0, rfl, se2, pe2, gf2, sf2, pf2, K2, pk2, hM4, hD4, h350, h351⟩ := q
          obtain ⟨K3, pk3, hR3⟩ := aCmd_RV hR2 hb1 hb2 hr0
          obtain ⟨-, -, hK9, hP9⟩ := hM4.bit
          refine r_istore E [some (.ref li), some (.ref d), some (.int (nI i)), some (.ref it), some (.ref (fc i)), some (.int ((cR T len i N1).2.2.1))] dX1_doAll_35 rfl rfl ?_
          refine r_goto (tgt := 53) E dX1_doAll_37 (by decide) ?_
          refine r_iinc E (nI (i + 1)) [some (.ref li), some (.ref d), some (.int (nI (i + 1))), some (.ref it), some (.ref (fc i)), some (.int ((cR T len i N1).2.2.1))] dX1_doAll_53 rfl (nI_1 i) rfl rfl ?_
          refine r_goto (tgt := 9) E dX1_doAll_56 (by decide) ?_
          refine fmW.few (L' := [some (.ref li), some (.ref d), some (.int (nI (i + 1))), some (.ref it), none, some (.int ((cR T len i N1).2.2.1))]) (fmFew_n (L := [some (.ref li), some (.ref d), some (.int (nI (i + 1))), some (.ref it), some (.ref (fc i)), some (.int ((cR T len i N1).2.2.1))]) 4) ?_
          refine fmW.few (L' := [some (.ref li), some (.ref d), some (.int (nI (i + 1))), some (.ref it), none, none]) (fmFew_n (L := [some (.ref li), some (.ref d), some (.int (nI (i + 1))), some (.ref it), none, some (.int ((cR T len i N1).2.2.1))]) 5) ?_
          obtain ⟨u1, hT⟩ := hT
          obtain ⟨u2, hT2⟩ := tRun_go (n := n) (u := u1) hr0
          exact fmW.less (by omega) (by omega) (ih (i + 1) h3 (nI i) se2 pe2 gf2 sf2 pf2 _ K2 pk2 (by omega) hM4 hD4 (hR3.same h350 hK9 h351 hP9) ⟨u2, hT.trans hT2⟩)
        have kx : ∀ (q : Nat) (Ex : String) (h3 : fmHp), dXp (fmUp h0 it (true, .inr (.inl (13, [.int (nI (i + 1)), .int (nI i), .int mc, .ref li])))) (cR T len i N1) q Ex h3 → fmT G Γ h3 (66 * n + 1) (230 * n + 14) 32 [some (.ref li), some (.ref d), some (.int (nI i)), some (.ref it), some (.ref (fc i)), none] Ex q := by
          intro q Ex h3 hx3
          obtain ⟨hk4, hx4⟩ := hx3
          have hk5 : Kp h0 h3 := (Kp.up hit00).trans hk4
          obtain ⟨u1, hT⟩ := hT
          rcases hx4 with ⟨hr, rfl⟩ | ⟨hr, rfl⟩ | ⟨hr, rfl, hq⟩
          · have hT2 := hT.trans (tRun_thr (n := n) (u := u1) (Or.inl hr))
            refine r_xcatchS E [] ⟨29, 37, 40, 7⟩ [⟨29, 37, 40, 1⟩] rfl (fun z hz => by cases hz) (by decide) (by decide) q634 (classAt_of (E.ts _ q635)) ?_
            refine r_astore E [some (.ref li), some (.ref d), some (.int (nI i)), some (.ref it), some (.ref (fc i)), some (.ref q)] dX1_doAll_40 rfl rfl ?_
            refine r_new E cl_X5 [.null, .null, .null, .null, .null, .int 0, .int 0, .int 0] q655 q693 q104 (by decide) 0 0 (by omega) (by omega) dX1_doAll_42 (fun o ho ko => ?_)
            refine r_dup E dX1_doAll_45 rfl ?_
            refine r_bipush E (nI 20) dX1_doAll_46 (by decide) ?_
            refine r_iload_n E dX1_doAll_48 rfl ?_
            refine r_callI0 E (ct_X5_init G hl (fmUp h3 o (true, .inr (.inl (10, [.null, .null, .null, .null, .null, .int 0, .int 0, .int 0])))) o (nI 20) (nI i) fmUp_s) mX5_init rfl q737 q702 rfl rfl (Nat.le_of_ble_eq_true rfl) (Nat.le_of_ble_eq_true rfl) (Nat.le_of_ble_eq_true rfl) dX1_doAll_49 0 0 (Nat.le_refl _) (Nat.le_refl _) ?_
            refine r_athrow E (ci := 10) rfl fmUp_s dX1_doAll_52 ?_
            exact r_xout E P (fun z hz => by rcases List.mem_cons.mp hz with rfl | hz; (decide); rcases List.mem_singleton.mp hz with rfl; decide) ⟨nI 20, nI i, by rw [hT2], rfl, hk5.trans (fun q9 y9 hq9 => by rw [fmUp_uu]; exact fmUp_of hq9 ho), fmUp_s⟩
          · have hT2 := hT.trans (tRun_thr (n := n) (u := u1) (Or.inr hr))
            refine r_xcatchS E [⟨29, 37, 40, 7⟩] ⟨29, 37, 40, 1⟩ [] rfl (fun z hz => by rcases List.mem_singleton.mp hz with rfl; exact Or.inr ⟨by decide, "java/lang/IndexOutOfBoundsException", q634, by decide +kernel⟩) (by decide) (by decide) q666 (classAt_of (E.ts _ q667)) ?_
            refine r_astore E [some (.ref li), some (.ref d), some (.int (nI i)), some (.ref it), some (.ref (fc i)), some (.ref q)] dX1_doAll_40 rfl rfl ?_
            refine r_new E cl_X5 [.null, .null, .null, .null, .null, .int 0, .int 0, .int 0] q655 q693 q104 (by decide) 0 0 (by omega) (by omega) dX1_doAll_42 (fun o ho ko => ?_)
            refine r_dup E dX1_doAll_45 rfl ?_
            refine r_bipush E (nI 20) dX1_doAll_46 (by decide) ?_
            refine r_iload_n E dX1_doAll_48 rfl ?_
            refine r_callI0 E (ct_X5_init G hl (fmUp h3 o (true, .inr (.inl (10, [.null, .null, .null, .null, .null, .int 0, .int 0, .int 0])))) o (nI 20) (nI i) fmUp_s) mX5_init rfl q737 q702 rfl rfl (Nat.le_of_ble_eq_true rfl) (Nat.le_of_ble_eq_true rfl) (Nat.le_of_ble_eq_true rfl) dX1_doAll_49 0 0 (Nat.le_refl _) (Nat.le_refl _) ?_
            refine r_athrow E (ci := 10) rfl fmUp_s dX1_doAll_52 ?_
            exact r_xout E P (fun z hz => by rcases List.mem_cons.mp hz with rfl | hz; (decide); rcases List.mem_singleton.mp hz with rfl; decide) ⟨nI 20, nI i, by rw [hT2], rfl, hk5.trans (fun q9 y9 hq9 => by rw [fmUp_uu]; exact fmUp_of hq9 ho), fmUp_s⟩
          · have hT2 := hT.trans (tRun_ref (n := n) (u := u1) hr)
            exact r_xoutP E P (fun z hz => by rcases List.mem_cons.mp hz with rfl | hz; (exact Or.inr ⟨by decide, "java/lang/IndexOutOfBoundsException", q634, by decide +kernel⟩); rcases List.mem_singleton.mp hz with rfl; exact Or.inr ⟨by decide, "java/lang/IllegalArgumentException", q666, by decide +kernel⟩) ⟨_, _, by rw [hT2], rfl, hk5, hq⟩
        obtain ⟨b, fa, ⟨ht, ho, hb, e0, e1, e2⟩ | ⟨ht, ho, hb, e0⟩⟩ := hcm
        · have hr : cR T len i N1 = aDig N1 (fa 0) (fa 1) (decide (0 < fa 2)) K1 pk1 := by unfold cR; rw [ht, aCmd_100 hR2, e0, e1, e2, bI_pos]
          exact r_callV E (ct5_X12_done G hl h2 hC3 hM3 hD3 (fc i) b true fa hb hR2 ho) mX12_done q1819 q1820 q1821 (fun H a1 => fm_rc (ci := 9) (C := RX12) (T := TX12) (N := 2) a1 rfl E.v ho) rfl rfl (Nat.le_of_ble_eq_true rfl) (Nat.le_of_ble_eq_true rfl) (Nat.le_of_ble_eq_true rfl) dX1_doAll_32 (66 * n + 1) (230 * n + 14) (show 66 * n + 1 + 5 ≤ 66 * (n + 1) by omega) (show 230 * n + 14 + 216 ≤ 230 * (n + 1) by omega) (fun v' h3 q => kk v' h3 (by rw [hr]; exact q)) (fun q Ex h3 hx => kx q Ex h3 (by rw [hr]; exact hx))
        · rcases sLet_7 hlet with h7 | h7 | h7 | h7 | h7 | h7 | h7
          · rw [h7] at ho
            have hr : cR T len i N1 = aSink N1 (fa 0) K1 pk1 := by unfold cR; rw [h7, aCmd_115 hR2, e0]
            exact r_callV E (ct4_X12_done G hl h2 hC3 hM3 hD3 (fc i) b true fa hb hR2 ho) mX12_done q1819 q1820 q1821 (fun H a1 => fm_rc (ci := 9) (C := RX12) (T := TX12) (N := 2) a1 rfl E.v ho) rfl rfl (Nat.le_of_ble_eq_true rfl) (Nat.le_of_ble_eq_true rfl) (Nat.le_of_ble_eq_true rfl) dX1_doAll_32 (66 * n + 1) (230 * n + 14) (show 66 * n + 1 + 3 ≤ 66 * (n + 1) by omega) (show 230 * n + 14 + 205 ≤ 230 * (n + 1) by omega) (fun v' h3 q => kk v' h3 (by rw [hr]; exact q)) (fun q Ex h3 hx => kx q Ex h3 (by rw [hr]; exact hx))
          · exact absurd h7 ht
          · rw [h7] at ho
            have hr : cR T len i N1 = aProp N1 (fa 0) := by unfold cR; rw [h7, aCmd_112, e0]
            exact r_callV E (ct6_X12_done G hl h2 hC3 hM3 hD3 (fc i) b true fa hb hR2 ho) mX12_done q1819 q1820 q1821 (fun H a1 => fm_rc (ci := 9) (C := RX12) (T := TX12) (N := 2) a1 rfl E.v ho) rfl rfl (Nat.le_of_ble_eq_true rfl) (Nat.le_of_ble_eq_true rfl) (Nat.le_of_ble_eq_true rfl) dX1_doAll_32 (66 * n + 1) (230 * n + 14) (show 66 * n + 1 + 1 ≤ 66 * (n + 1) by omega) (show 230 * n + 14 + 8 ≤ 230 * (n + 1) by omega) (fun v' h3 q => kk v' h3 (by rw [hr]; exact q)) (fun q Ex h3 hx => kx q Ex h3 (by rw [hr]; exact hx))
          · rw [h7] at ho
            have hr : cR T len i N1 = aUnprop N1 (fa 0) := by unfold cR; rw [h7, aCmd_117, e0]
            exact r_callV E (ct7_X12_done G hl h2 hC3 hM3 hD3 (fc i) b true fa hb hR2 ho) mX12_done q1819 q1820 q1821 (fun H a1 => fm_rc (ci := 9) (C := RX12) (T := TX12) (N := 2) a1 rfl E.v ho) rfl rfl (Nat.le_of_ble_eq_true rfl) (Nat.le_of_ble_eq_true rfl) (Nat.le_of_ble_eq_true rfl) dX1_doAll_32 (66 * n + 1) (230 * n + 14) (show 66 * n + 1 + 1 ≤ 66 * (n + 1) by omega) (show 230 * n + 14 + 8 ≤ 230 * (n + 1) by omega) (fun v' h3 q => kk v' h3 (by rw [hr]; exact q)) (fun q Ex h3 hx => kx q Ex h3 (by rw [hr]; exact hx))
          · rw [h7] at ho
            have hr : cR T len i N1 = aClose N1 (fa 0) K1 := by unfold cR; rw [h7, aCmd_99 hR2, e0]
            exact r_callV E (ct8_X12_done G hl h2 hC3 hM3 hD3 (fc i) b true fa hb hR2 ho) mX12_done q1819 q1820 q1821 (fun H a1 => fm_rc (ci := 9) (C := RX12) (T := TX12) (N := 2) a1 rfl E.v ho) rfl rfl (Nat.le_of_ble_eq_true rfl) (Nat.le_of_ble_eq_true rfl) (Nat.le_of_ble_eq_true rfl) dX1_doAll_32 (66 * n + 1) (230 * n + 14) (show 66 * n + 1 + 65 ≤ 66 * (n + 1) by omega) (show 230 * n + 14 + 67 ≤ 230 * (n + 1) by omega) (fun v' h3 q => kk v' h3 (by rw [hr]; exact q)) (fun q Ex h3 hx => kx q Ex h3 (by rw [hr]; exact hx))
          · rw [h7] at ho
            have hr : cR T len i N1 = aPick N1 (fa 0) pk1 := by unfold cR; rw [h7, aCmd_116 hR2, e0]
            exact r_callV E (ct3_X12_done G hl h2 hC3 hM3 hD3 (fc i) b true fa hb hR2 ho) mX12_done q1819 q1820 q1821 (fun H a1 => fm_rc (ci := 9) (C := RX12) (T := TX12) (N := 2) a1 rfl E.v ho) rfl rfl (Nat.le_of_ble_eq_true rfl) (Nat.le_of_ble_eq_true rfl) (Nat.le_of_ble_eq_true rfl) dX1_doAll_32 (66 * n + 1) (230 * n + 14) (show 66 * n + 1 + 2 ≤ 66 * (n + 1) by omega) (show 230 * n + 14 + 201 ≤ 230 * (n + 1) by omega) (fun v' h3 q => kk v' h3 (by rw [hr]; exact q)) (fun q Ex h3 hx => kx q Ex h3 (by rw [hr]; exact hx))
          · rw [h7] at ho
            have hr : cR T len i N1 = aProps N1 (fa 0) := by unfold cR; rw [h7, aCmd_110, e0]
            exact r_callV E (ct2_X12_done G hl h2 hC3 hM3 hD3 (fc i) b true fa hb hR2 ho) mX12_done q1819 q1820 q1821 (fun H a1 => fm_rc (ci := 9) (C := RX12) (T := TX12) (N := 2) a1 rfl E.v ho) rfl rfl (Nat.le_of_ble_eq_true rfl) (Nat.le_of_ble_eq_true rfl) (Nat.le_of_ble_eq_true rfl) dX1_doAll_32 (66 * n + 1) (230 * n + 14) (show 66 * n + 1 + 2 ≤ 66 * (n + 1) by omega) (show 230 * n + 14 + 9 ≤ 230 * (n + 1) by omega) (fun v' h3 q => kk v' h3 (by rw [hr]; exact q)) (fun q Ex h3 hx => kx q Ex h3 (by rw [hr]; exact hx))
  exact fmW.less (by omega) (by omega) (lp m 0 _ (-1) se pe gf sf pf N K pk (Nat.zero_add m) hM1 hD1 hR ⟨u, rfl⟩)

