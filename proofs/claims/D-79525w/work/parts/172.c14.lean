set_option maxHeartbeats 4000000 in
theorem ct_X2_close (G : fmG) (hl : (fmLn G).stackTraces = false) (h : fmHp) {h0 : fmHp} {d g sl se pl pe : Nat} {gf sf pf : Nat → Nat} {N : Nat → Int32} {K pk : Nat} (hC0 : CC G h0) (hM : MineAt G h d g sl se pl pe gf sf pf N K pk) (hD : Dr G h0 h d g sl se pl pe) (s : Int32) (hR : RV N K pk) : Ct G yX2_close (ws_ yX2_close cX2_close 8 (some .int)) { frames := 8, cells := 65, slots := 67, locals := 141 } [.ref d, .int s] h (dPost G h0 d g sl pl (aClose N s K)) (dXp h0 (aClose N s K)) := by
  refine Ct.of hl (by decide +kernel) (Nat.le_of_ble_eq_true rfl) (fun Γ E P => ?_)
  have hC : CC G h := hC0.kp hD.1
  obtain ⟨hd, ⟨gq, hg, hgq⟩, hgd, hS, hSh, hP, hPk, hK8, hP6, hsp, hse⟩ := id hM
  obtain ⟨mcS, hsl⟩ := hS.o
  obtain ⟨mcP, hpl⟩ := hP.o
  obtain ⟨hk0, hd0, hg0, hsl0, hpl0, hse0, hpe0⟩ := id hD
  obtain ⟨feS, capS, geS, hseA⟩ := hS.el
  obtain ⟨feP, capP, geP, hpeA⟩ := hP.el
  cases hs : sBetween s (nI 0) (nI K - nI 1) with
  | false =>
    have hr : aClose N s K = aThr 1 := by unfold aClose; rw [hs]; rfl
    refine r_aload_n E dX2_close_0 rfl ?_
    refine r_iload_n E dX2_close_1 rfl ?_
    refine r_callV E (ctF_X2_shaft G hl h hC hM s hs) mX2_shaft q908 q909 q910 (fun H a1 => fm_rc (ci := 2) (C := RX2) (T := TX2) (N := 7) a1 rfl E.v hd) rfl rfl (Nat.le_of_ble_eq_true rfl) (Nat.le_of_ble_eq_true rfl) (Nat.le_of_ble_eq_true rfl) dX2_close_2 0 0 (Nat.le_of_ble_eq_true rfl) (Nat.le_of_ble_eq_true rfl) (fun _ _ q => q.elim) (fun q Ex h' hx => ?_)
    exact r_xout E P (fun x hx => by cases hx) (dXp.oob hk0 hr hx)
  | true =>
    obtain ⟨j, hj, rfl⟩ := sShaft_of (by omega) hs
    have hjn : cN (nI j) = j := cN_n (by omega)
    have hg1 : (!sBetween (nI j) (nI 0) (nI K - nI 1)) = false := by rw [hs]; rfl
    obtain ⟨cl, hcl, hso⟩ := hSh j hj
    obtain ⟨pr, hp9, hpr⟩ := hR.2.2.2.2.2.2.1
    have hle := sOpens_le N (nI j)
    refine r_aload_n E dX2_close_0 rfl ?_
    refine r_iload_n E dX2_close_1 rfl ?_
    refine r_callV1 (v1 := .ref (sf j)) E (ctT_X2_shaft G hl (h) hC hM j (by omega)) mX2_shaft q908 q909 q910 (fun H a1 => fm_rc (ci := 2) (C := RX2) (T := TX2) (N := 7) a1 rfl E.v hd) rfl rfl (Nat.le_of_ble_eq_true rfl) (Nat.le_of_ble_eq_true rfl) (Nat.le_of_ble_eq_true rfl) dX2_close_2 65 67 (Nat.le_of_ble_eq_true rfl) (Nat.le_of_ble_eq_true rfl) ?_
    refine r_astore_n E [some (.ref d), some (.int (nI j)), some (.ref (sf j)), none, none, none, none, none] dX2_close_5 rfl rfl ?_
    refine r_aload_n E dX2_close_6 rfl ?_
    refine r_getfN E cl_X7 2 (by decide) q893 hso rfl dX2_close_7 ?_
    refine r_ifB_ne (b := cl) (tgt := 17) E dX2_close_10 (by decide) (fun c1 => ?_) (fun c1 => ?_)
    · have hr : aClose N (nI j) K = aRef (nI 6) (nI j) := by unfold aClose; rw [aG_f hg1, hjn, aG_t (decide_eq_true (by rw [hcl, c1]; rfl))]
      refine r_iconst E (nI 0) dX2_close_17 (by decide) ?_
      refine r_bipush E (nI 6) dX2_close_18 (by decide) ?_
      refine r_iload_n E dX2_close_20 rfl ?_
      refine r_callSN E (ctF_X1_allow G hl h (nI 6) (nI j)) mX1_allow q78 q734 q735 rfl rfl (Nat.le_of_ble_eq_true rfl) (Nat.le_of_ble_eq_true rfl) (Nat.le_of_ble_eq_true rfl) dX2_close_21 0 0 (Nat.le_of_ble_eq_true rfl) (Nat.le_of_ble_eq_true rfl) (fun _ _ q => q.elim) (fun q Ex h' hx => ?_)
      exact r_xout E P (fun x hx => by cases hx) (dXp.ref hk0 (hr) hx)
    · have hg2 : decide (N (328 + j) = nI 1) = false := decide_eq_false (by rw [hcl, c1]; decide)
      refine r_iconst E (nI 1) dX2_close_13 (by decide) ?_
      refine r_goto (tgt := 18) E dX2_close_14 (by decide) ?_
      refine r_bipush E (nI 6) dX2_close_18 (by decide) ?_
      refine r_iload_n E dX2_close_20 rfl ?_
      refine r_callSN0 E (ctT_X1_allow G hl (h) (nI 6) (nI j)) mX1_allow q78 q734 q735 rfl rfl (Nat.le_of_ble_eq_true rfl) (Nat.le_of_ble_eq_true rfl) (Nat.le_of_ble_eq_true rfl) dX2_close_21 65 67 (Nat.le_of_ble_eq_true rfl) (Nat.le_of_ble_eq_true rfl) ?_
      refine r_aload_n E dX2_close_24 rfl ?_
      refine r_iload_n E dX2_close_25 rfl ?_
      refine r_callV1 (v1 := .int (nI (sOpens N (nI j)))) E (ct_X2_openCells G hl (h) hC hM (nI j)) mX2_openCells q953 q954 q955 (fun H a1 => fm_rc (ci := 2) (C := RX2) (T := TX2) (N := 7) a1 rfl E.v hd) rfl rfl (Nat.le_of_ble_eq_true rfl) (Nat.le_of_ble_eq_true rfl) (Nat.le_of_ble_eq_true rfl) dX2_close_26 65 67 (Nat.le_of_ble_eq_true rfl) (Nat.le_of_ble_eq_true rfl) ?_
      refine r_istore_n E [some (.ref d), some (.int (nI j)), some (.ref (sf j)), some (.int (nI (sOpens N (nI j)))), none, none, none, none] dX2_close_29 rfl rfl ?_
      refine r_aload_n E dX2_close_30 rfl ?_
      refine r_getf E cl_X2 5 (by decide) q195 hd rfl dX2_close_31 ?_
      refine r_iload_n E dX2_close_34 rfl ?_
      refine r_icmp_lt (x := N 353) (y := nI (sOpens N (nI j))) (tgt := 42) E dX2_close_35 (by decide) (fun c2 => ?_) (fun c2 => ?_)
      · have hr : aClose N (nI j) K = aRef (nI 10) (nI (sOpens N (nI j))) := by unfold aClose; rw [aG_f hg1, hjn, aG_f hg2, aG_t (decide_eq_true c2)]
        refine r_iconst E (nI 0) dX2_close_42 (by decide) ?_
        refine r_bipush E (nI 10) dX2_close_43 (by decide) ?_
        refine r_iload_n E dX2_close_45 rfl ?_
        refine r_callSN E (ctF_X1_allow G hl h (nI 10) (nI (sOpens N (nI j)))) mX1_allow q78 q734 q735 rfl rfl (Nat.le_of_ble_eq_true rfl) (Nat.le_of_ble_eq_true rfl) (Nat.le_of_ble_eq_true rfl) dX2_close_46 0 0 (Nat.le_of_ble_eq_true rfl) (Nat.le_of_ble_eq_true rfl) (fun _ _ q => q.elim) (fun q Ex h' hx => ?_)
        exact r_xout E P (fun x hx => by cases hx) (dXp.ref hk0 (hr) hx)
      · have hr : aClose N (nI j) K = aDon (sCloseRow N j 353) (sCloseRow N j) := by unfold aClose; rw [aG_f hg1, hjn, aG_f hg2, aG_f (decide_eq_false c2)]
        have hbit : ∀ c, c < 64 → ∃ b : Bool, N (256 + c) = bI b := fun c hc => (hgd c hc).bit
        refine r_iconst E (nI 1) dX2_close_38 (by decide) ?_
        refine r_goto (tgt := 43) E dX2_close_39 (by decide) ?_
        refine r_bipush E (nI 10) dX2_close_43 (by decide) ?_
        refine r_iload_n E dX2_close_45 rfl ?_
        refine r_callSN0 E (ctT_X1_allow G hl (h) (nI 10) (nI (sOpens N (nI j)))) mX1_allow q78 q734 q735 rfl rfl (Nat.le_of_ble_eq_true rfl) (Nat.le_of_ble_eq_true rfl) (Nat.le_of_ble_eq_true rfl) dX2_close_46 65 67 (Nat.le_of_ble_eq_true rfl) (Nat.le_of_ble_eq_true rfl) ?_
        refine r_aload_n E dX2_close_49 rfl ?_
        refine r_dup E dX2_close_50 rfl ?_
        refine r_getf E cl_X2 5 (by decide) q195 hd rfl dX2_close_51 ?_
        refine r_iload_n E dX2_close_54 rfl ?_
        refine r_isub E dX2_close_55 ?_
        refine r_putf E cl_X2 5 (by decide) rfl q195 (fun _ z => z) hd (Nat.le_of_ble_eq_true rfl) rfl rfl dX2_close_56 ?_
        refine r_hp (h' := fmUp h d (true, .inr (.inl (2, [.ref g, .ref sl, .ref pl, .int (N 355), .int (N 352), .int ((N 353) - (nI (sOpens N (nI j)))), .int (N 354)])))) (rfl) ?_
        have hM1 : MineAt G (fmUp h d (true, .inr (.inl (2, [.ref g, .ref sl, .ref pl, .int (N 355), .int (N 352), .int ((N 353) - (nI (sOpens N (nI j)))), .int (N 354)])))) d g sl se pl pe gf sf pf (upd N 353 (N 353 - nI (sOpens N (nI j)))) K pk := hM.setd (N' := upd N 353 (N 353 - nI (sOpens N (nI j)))) (fun q hq => upd_ne' (by omega))
        have hD1 : Dr G h0 (fmUp h d (true, .inr (.inl (2, [.ref g, .ref sl, .ref pl, .int (N 355), .int (N 352), .int ((N 353) - (nI (sOpens N (nI j)))), .int (N 354)])))) d g sl se pl pe := ⟨hk0.up0 hd0, hd0, hg0, hsl0, hpl0, hse0, hpe0⟩
        have hC1 := hC0.kp hD1.1
        have hso1 := (fmUp_n (e := (true, .inr (.inl (2, [.ref g, .ref sl, .ref pl, .int (N 355), .int (N 352), .int ((N 353) - (nI (sOpens N (nI j)))), .int (N 354)])))) (fun z => by rw [z, hd] at hso; cases hso)).trans hso
        obtain ⟨hd1, ⟨gq1, hg1, hgq1⟩, hgd1, hS1, hSh1, hP1, hPk1, hK81, hP61, hsp1, hse1⟩ := id hM1
        obtain ⟨mcS1, hsl1⟩ := hS1.o
        obtain ⟨mcP1, hpl1⟩ := hP1.o
        obtain ⟨feS1, capS1, geS1, hseA1⟩ := hS1.el
        obtain ⟨feP1, capP1, geP1, hpeA1⟩ := hP1.el
        obtain ⟨hk01, hd01, hg01, hsl01, hpl01, hse01, hpe01⟩ := id hD1
        refine r_aload_n E dX2_close_59 rfl ?_
        refine r_iload_n E dX2_close_60 rfl ?_
        refine r_callV1 (v1 := .int (nI (cB (upd N 353 (N 353 - nI (sOpens N (nI j)))) (nI j) 64))) E (ct_X2_propsOf G hl (fmUp h d (true, .inr (.inl (2, [.ref g, .ref sl, .ref pl, .int (N 355), .int (N 352), .int ((N 353) - (nI (sOpens N (nI j)))), .int (N 354)])))) hC1 hM1 (nI j)) mX2_propsOf q957 q958 q959 (fun H a1 => fm_rc (ci := 2) (C := RX2) (T := TX2) (N := 7) a1 rfl E.v hd1) rfl rfl (Nat.le_of_ble_eq_true rfl) (Nat.le_of_ble_eq_true rfl) (Nat.le_of_ble_eq_true rfl) dX2_close_61 65 67 (Nat.le_of_ble_eq_true rfl) (Nat.le_of_ble_eq_true rfl) ?_
        have hcb : cB (upd N 353 (N 353 - nI (sOpens N (nI j)))) (nI j) 64 = cB N (nI j) 64 := cB_cong (fun c hc => upd_ne' (by omega)) (Nat.le_refl _)
        refine r_top (v' := .int (nI (cB N (nI j) 64))) (by rw [hcb]) ?_
        have hcble := cB_le N (nI j) 64
        refine r_istore E [some (.ref d), some (.int (nI j)), some (.ref (sf j)), some (.int (nI (sOpens N (nI j)))), some (.int (nI (cB N (nI j) 64))), none, none, none] dX2_close_64 rfl rfl ?_
        refine r_iconst E (nI 0) dX2_close_66 (by decide) ?_
        refine r_istore E [some (.ref d), some (.int (nI j)), some (.ref (sf j)), some (.int (nI (sOpens N (nI j)))), some (.int (nI (cB N (nI j) 64))), some (.int (nI 0)), none, none] dX2_close_67 rfl rfl ?_
        have lp : ∀ (n i : Nat) (hh : fmHp) (gf' : Nat → Nat), i + n = 64 → MineAt G hh d g sl se pl pe gf' sf pf (cF (upd N 353 (N 353 - nI (sOpens N (nI j)))) (nI j) i) K pk → Dr G h0 hh d g sl se pl pe → fmW G Γ hh (n + 1) (n + 3) 69 [some (.ref d), some (.int (nI j)), some (.ref (sf j)), some (.int (nI (sOpens N (nI j)))), some (.int (nI (cB N (nI j) 64))), some (.int (nI i)), none, none] [] := by
          intro n
          induction n with
          | zero =>
            intro i hh gf' hi hM2 hD2
            have hC2 := hC0.kp hD2.1
            obtain ⟨hd2, ⟨gq2, hg2, hgq2⟩, hgd2, hS2, hSh2, hP2, hPk2, hK82, hP62, hsp2, hse2⟩ := id hM2
            obtain ⟨mcS2, hsl2⟩ := hS2.o
            obtain ⟨mcP2, hpl2⟩ := hP2.o
            obtain ⟨feS2, capS2, geS2, hseA2⟩ := hS2.el
            obtain ⟨feP2, capP2, geP2, hpeA2⟩ := hP2.el
            obtain ⟨hk02, hd02, hg02, hsl02, hpl02, hse02, hpe02⟩ := id hD2
            refine r_iload E dX2_close_69 rfl ?_
            refine r_bipush E (nI 64) dX2_close_71 (by decide) ?_
            refine r_icmpN_ge (tgt := 131) E dX2_close_73 (by decide) (by omega) (by omega) (fun c3 => ?_) (fun c3 => ?_)
            · obtain rfl : i = 64 := by omega
              refine r_aload_n E dX2_close_131 rfl ?_
              refine r_iload E dX2_close_132 rfl ?_
              refine r_callV E (ct_X2_addProps G hl hh hC0 hM2 hD2 pr (cB N (nI j) 64) (by rw [cF_o (by omega) (by omega), upd_ne' (by omega)]; exact hpr) hp9 (by omega)) mX2_addProps q945 q744 q745 (fun H a1 => fm_rc (ci := 2) (C := RX2) (T := TX2) (N := 7) a1 rfl E.v hd2) rfl rfl (Nat.le_of_ble_eq_true rfl) (Nat.le_of_ble_eq_true rfl) (Nat.le_of_ble_eq_true rfl) dX2_close_134 1 3 (show 1 + 0 ≤ 0 + 1 by omega) (show 3 + 0 ≤ 0 + 3 by omega) (fun v' h1 q => ?_) (fun _ _ _ q => q.elim)
              obtain ⟨rfl, hM3, hD3, ho3⟩ := q
              have hC3 := hC0.kp hD3.1
              have hM3' : MineAt G h1 d g sl se pl pe gf' sf pf (cRow N j) K pk := hM3
              obtain ⟨hd3, ⟨gq3, hg3, hgq3⟩, hgd3, hS3, hSh3, hP3, hPk3, hK83, hP63, hsp3, hse3⟩ := id hM3'
              obtain ⟨mcS3, hsl3⟩ := hS3.o
              obtain ⟨mcP3, hpl3⟩ := hP3.o
              obtain ⟨feS3, capS3, geS3, hseA3⟩ := hS3.el
              obtain ⟨feP3, capP3, geP3, hpeA3⟩ := hP3.el
              obtain ⟨hk03, hd03, hg03, hsl03, hpl03, hse03, hpe03⟩ := id hD3
              obtain ⟨cl3, f1, f2⟩ := hSh3 j hj
              refine r_istore E [some (.ref d), some (.int (nI j)), some (.ref (sf j)), some (.int (nI (sOpens N (nI j)))), some (.int (nI (cB N (nI j) 64))), some (.int (sAddP (cF (upd N 353 (N 353 - nI (sOpens N (nI j)))) (nI j) 64) (nI (cB N (nI j) 64)) 352)), none, none] dX2_close_137 rfl rfl ?_
              refine r_aload_n E dX2_close_139 rfl ?_
              refine r_getf E cl_X2 1 (by decide) q187 hd3 rfl dX2_close_140 ?_
              refine r_iload_n E dX2_close_143 rfl ?_
              refine r_aload_n E dX2_close_144 rfl ?_
              refine r_callV E (ct_X7_closed G hl _ (sf j) true (cRow N j (320 + j)) (cRow N j (336 + j)) cl3 f2) mX7_closed q971 q972 q973 (fun H a1 => fm_rc (ci := 6) (C := RX7) (T := TX7) (N := 3) a1 rfl E.v f2) rfl rfl (Nat.le_of_ble_eq_true rfl) (Nat.le_of_ble_eq_true rfl) (Nat.le_of_ble_eq_true rfl) dX2_close_145 0 0 (Nat.le_of_ble_eq_true rfl) (Nat.le_of_ble_eq_true rfl) (fun v' h5 q => ?_) (fun _ _ _ q => q.elim)
              obtain ⟨b5, hb5, kb5, rfl, rfl⟩ := q
              have hM6 := hM3'.kp (Kp.up (e := (true, .inr (.inl (6, [.int (cRow N j (320 + j)), .int (cRow N j (336 + j)), .int (bI true)])))) hb5)
              have hD6 := hD3.kp (Kp.up (e := (true, .inr (.inl (6, [.int (cRow N j (320 + j)), .int (cRow N j (336 + j)), .int (bI true)])))) hb5)
              have hC6 := hC0.kp hD6.1
              have hso6 := fmUp_of (e := (true, .inr (.inl (6, [.int (cRow N j (320 + j)), .int (cRow N j (336 + j)), .int (bI true)])))) f2 hb5
              obtain ⟨hds, ⟨gqs, hgs, hgqs⟩, hgds, hSs, hShs, hPs, hPks, hK8s, hP6s, hsps, hses⟩ := id hM6
              obtain ⟨mcSs, hsls⟩ := hSs.o
              obtain ⟨mcPs, hpls⟩ := hPs.o
              obtain ⟨feSs, capSs, geSs, hseAs⟩ := hSs.el
              obtain ⟨fePs, capPs, gePs, hpeAs⟩ := hPs.el
              obtain ⟨hk0s, hd0s, hg0s, hsl0s, hpl0s, hse0s, hpe0s⟩ := id hD6
              refine r_callF E (ct_J2_set G hl _ sl se K sf hSs (by omega) j b5 hj ⟨6, RX7, TX7, 3, true, _, rfl, fmUp_s, q2326⟩) mJ2_set (ci := 12) rfl hsls 4 rfl q856 q861 q859 fx_4 rfl rfl (Nat.le_of_ble_eq_true rfl) (Nat.le_of_ble_eq_true rfl) (Nat.le_of_ble_eq_true rfl) dX2_close_148 0 0 (Nat.le_of_ble_eq_true rfl) (Nat.le_of_ble_eq_true rfl) (fun v' h7 q => ?_) (fun _ _ _ q => q.elim)
              obtain ⟨rfl, hA, hfr⟩ := q
              have hfr2 : ∀ q x, (fmUp h1 b5 (true, .inr (.inl (6, [.int (cRow N j (320 + j)), .int (cRow N j (336 + j)), .int (bI true)])))) q = some x → q ≠ sl → (q ≠ se ∨ x.1 = false) → h7 q = some x := fun q x hq hql hqe => hqe.elim (hfr q x hq) (fun hb => by
                by_cases z : q = se
                · obtain ⟨y, hy⟩ := hSs.ft (by omega); rw [z, hy] at hq; cases hq; cases hb
                · exact hfr q x hq z)
              have hb7 := hfr _ _ fmUp_s (fun z => by rw [z, hseA3] at hb5; cases hb5)
              have hso7 := hfr _ _ hso6 (fun z => by rw [z, hseAs] at hso6; cases hso6)
              have hkk : ∀ {q : Nat} {b : Bool} {ci : Nat} {fs : List Value}, (fmUp h1 b5 (true, .inr (.inl (6, [.int (cRow N j (320 + j)), .int (cRow N j (336 + j)), .int (bI true)])))) q = some (b, .inr (.inl (ci, fs))) → h7 q = some (b, .inr (.inl (ci, fs))) := fun {q b ci fs} hq => hfr _ _ hq (fun z => by rw [z, hseAs] at hq; cases hq)
              have cr : ∀ q, q ≠ 328 + j → sCloseRow N j q = cRow N j q := fun q hq => close_row (by omega) hpr hp9 hbit hq
              have hM7 := hM6.setS (N' := sCloseRow N j) hC6 hA hfr2 hses hK8 (fun k hk => by
                  by_cases hkK : k = j
                  · subst hkK; rw [updN_s]; exact ⟨true, by rw [close_j (by omega) hpr hp9 hbit]; rfl, by rw [cr _ (by omega), cr _ (by omega)]; exact hb7⟩
                  · rw [updN_n hkK]; obtain ⟨cl4, f3, f4⟩ := hShs k hk; exact ⟨cl4, by rw [cr _ (by omega)]; exact f3, by rw [cr _ (by omega), cr _ (by omega)]; exact hkk f4⟩) (fun q hq => cr q (by omega))
              obtain ⟨hd7, -⟩ := id hM7
              refine r_castS E cl_X7 q491 hso7 dX2_close_153 ?_
              refine r_astore E [some (.ref d), some (.int (nI j)), some (.ref (sf j)), some (.int (nI (sOpens N (nI j)))), some (.int (nI (cB N (nI j) 64))), some (.int (sAddP (cF (upd N 353 (N 353 - nI (sOpens N (nI j)))) (nI j) 64) (nI (cB N (nI j) 64)) 352)), some (.ref (sf j)), none] dX2_close_156 rfl rfl ?_
              refine r_aload_n E dX2_close_158 rfl ?_
              refine r_getf E cl_X2 5 (by decide) q195 hd7 rfl dX2_close_159 ?_
              exact r_ireturn E P rfl dX2_close_162 (dPost.don hr ⟨se, pe, gf', _, pf, K, pk, hM7, ⟨Dr.list hC0 hk0s hsl0s hse0s hfr2, hd0s, hg0s, hsl0s, hpl0s, hse0s, hpe0s⟩, (by rw [cr _ (by omega)]; unfold cRow; rw [sAddP_ne (by omega), cF_o (by omega) (by omega), upd_ne' (by omega)]; exact hR.1), (by rw [cr _ (by omega)]; unfold cRow; rw [sAddP_ne (by omega), cF_o (by omega) (by omega), upd_ne' (by omega)]; exact hR.2.2.1)⟩)
            · exfalso; omega
          | succ n ih =>
            intro i hh gf' hi hM2 hD2
            have hC2 := hC0.kp hD2.1
            obtain ⟨hd2, ⟨gq2, hg2, hgq2⟩, hgd2, hS2, hSh2, hP2, hPk2, hK82, hP62, hsp2, hse2⟩ := id hM2
            obtain ⟨mcS2, hsl2⟩ := hS2.o
            obtain ⟨mcP2, hpl2⟩ := hP2.o
            obtain ⟨feS2, capS2, geS2, hseA2⟩ := hS2.el
            obtain ⟨feP2, capP2, geP2, hpeA2⟩ := hP2.el
            obtain ⟨hk02, hd02, hg02, hsl02, hpl02, hse02, hpe02⟩ := id hD2
            refine r_iload E dX2_close_69 rfl ?_
            refine r_bipush E (nI 64) dX2_close_71 (by decide) ?_
            refine r_icmpN_ge (tgt := 131) E dX2_close_73 (by decide) (by omega) (by omega) (fun c4 => ?_) (fun c4 => ?_)
            · exfalso; omega
            · rcases hgd2 i (by omega) with ⟨gd5a, gd5b, gd5c, gd5o⟩ | ⟨gd5p, gd5a, gd5c, gd5o⟩ | ⟨gd5a, gd5c, gd5o⟩
              · refine r_aload_n E dX2_close_76 rfl ?_
                refine r_getf E cl_X2 0 (by decide) q185 hd2 rfl dX2_close_77 ?_
                refine r_iload E dX2_close_80 rfl ?_
                refine r_aald E hg2 rfl rfl (by omega) (by decide) dX2_close_82 ?_
                refine r_top (v' := .ref (gf' i)) (congrArg va_rf (hgq2 _ (by omega))) ?_
                refine r_astore E [some (.ref d), some (.int (nI j)), some (.ref (sf j)), some (.int (nI (sOpens N (nI j)))), some (.int (nI (cB N (nI j) 64))), some (.int (nI i)), none, some (.ref (gf' i))] dX2_close_83 rfl rfl ?_
                refine r_aload E dX2_close_85 rfl ?_
                refine r_instNo E cl_X3 q803 (by decide +kernel) gd5o dX2_close_87 ?_
                refine r_top (v' := .int (bI false)) rfl ?_
                refine r_ifB_eq (b := false) (tgt := 125) E dX2_close_90 (by decide) (fun _ => ?_) (fun c => absurd c (by decide))
                refine r_iinc E (nI (i + 1)) [some (.ref d), some (.int (nI j)), some (.ref (sf j)), some (.int (nI (sOpens N (nI j)))), some (.int (nI (cB N (nI j) 64))), some (.int (nI (i + 1))), none, some (.ref (gf' i))] dX2_close_125 rfl (nI_1 i) rfl rfl ?_
                refine r_goto (tgt := 69) E dX2_close_128 (by decide) ?_
                refine fmW.few (L' := [some (.ref d), some (.int (nI j)), some (.ref (sf j)), some (.int (nI (sOpens N (nI j)))), some (.int (nI (cB N (nI j) 64))), some (.int (nI (i + 1))), none, none]) (fmFew_n (L := [some (.ref d), some (.int (nI j)), some (.ref (sf j)), some (.int (nI (sOpens N (nI j)))), some (.int (nI (cB N (nI j) 64))), some (.int (nI (i + 1))), none, some (.ref (gf' i))]) 7) ?_
                exact fmW.less (by omega) (by omega) (ih (i + 1) hh gf' (by omega) (by rw [cF_f (by rw [← cF_open (s' := nI j) (Nat.le_refl i) (by omega)]; exact so0 gd5a)]; exact hM2) hD2)
              · refine r_aload_n E dX2_close_76 rfl ?_
                refine r_getf E cl_X2 0 (by decide) q185 hd2 rfl dX2_close_77 ?_
                refine r_iload E dX2_close_80 rfl ?_
                refine r_aald E hg2 rfl rfl (by omega) (by decide) dX2_close_82 ?_
                refine r_top (v' := .ref (gf' i)) (congrArg va_rf (hgq2 _ (by omega))) ?_
                refine r_astore E [some (.ref d), some (.int (nI j)), some (.ref (sf j)), some (.int (nI (sOpens N (nI j)))), some (.int (nI (cB N (nI j) 64))), some (.int (nI i)), none, some (.ref (gf' i))] dX2_close_83 rfl rfl ?_
                refine r_aload E dX2_close_85 rfl ?_
                refine r_instS E cl_X6 q803 gd5o dX2_close_87 ?_
                refine r_top (v' := .int (bI true)) rfl ?_
                refine r_ifB_eq (b := true) (tgt := 125) E dX2_close_90 (by decide) (fun c => absurd c (by decide)) (fun _ => ?_)
                refine r_aload E dX2_close_93 rfl ?_
                refine r_castS E cl_X6 q803 gd5o dX2_close_95 ?_
                refine r_astore E [some (.ref d), some (.int (nI j)), some (.ref (sf j)), some (.int (nI (sOpens N (nI j)))), some (.int (nI (cB N (nI j) 64))), some (.int (nI i)), some (.ref (gf' i)), some (.ref (gf' i))] dX2_close_98 rfl rfl ?_
                refine r_aload E dX2_close_100 rfl ?_
                refine r_getfN E cl_X6 0 (by decide) q811 gd5o rfl dX2_close_102 ?_
                refine r_iload_n E dX2_close_105 rfl ?_
                refine r_icmp_ne (x := (cF (upd N 353 (N 353 - nI (sOpens N (nI j)))) (nI j) i) (192 + i)) (y := nI j) (tgt := 125) E dX2_close_106 (by decide) (fun c8 => ?_) (fun c8 => ?_)
                · refine r_iinc E (nI (i + 1)) [some (.ref d), some (.int (nI j)), some (.ref (sf j)), some (.int (nI (sOpens N (nI j)))), some (.int (nI (cB N (nI j) 64))), some (.int (nI (i + 1))), some (.ref (gf' i)), some (.ref (gf' i))] dX2_close_125 rfl (nI_1 i) rfl rfl ?_
                  refine r_goto (tgt := 69) E dX2_close_128 (by decide) ?_
                  refine fmW.few (L' := [some (.ref d), some (.int (nI j)), some (.ref (sf j)), some (.int (nI (sOpens N (nI j)))), some (.int (nI (cB N (nI j) 64))), some (.int (nI (i + 1))), none, some (.ref (gf' i))]) (fmFew_n (L := [some (.ref d), some (.int (nI j)), some (.ref (sf j)), some (.int (nI (sOpens N (nI j)))), some (.int (nI (cB N (nI j) 64))), some (.int (nI (i + 1))), some (.ref (gf' i)), some (.ref (gf' i))]) 6) ?_
                  refine fmW.few (L' := [some (.ref d), some (.int (nI j)), some (.ref (sf j)), some (.int (nI (sOpens N (nI j)))), some (.int (nI (cB N (nI j) 64))), some (.int (nI (i + 1))), none, none]) (fmFew_n (L := [some (.ref d), some (.int (nI j)), some (.ref (sf j)), some (.int (nI (sOpens N (nI j)))), some (.int (nI (cB N (nI j) 64))), some (.int (nI (i + 1))), none, some (.ref (gf' i))]) 7) ?_
                  exact fmW.less (by omega) (by omega) (ih (i + 1) hh gf' (by omega) (by rw [cF_f (by rw [← cF_open (s' := nI j) (Nat.le_refl i) (by omega), so1 gd5a]; exact decide_eq_false c8)]; exact hM2) hD2)
                · have hof : sOpenOf (upd N 353 (N 353 - nI (sOpens N (nI j)))) (some i) (nI j) = true := by rw [← cF_open (s' := nI j) (Nat.le_refl i) (by omega), so1 gd5a]; exact decide_eq_true c8
                  refine r_aload_n E dX2_close_109 rfl ?_
                  refine r_getf E cl_X2 0 (by decide) q185 hd2 rfl dX2_close_110 ?_
                  refine r_iload E dX2_close_113 rfl ?_
                  refine r_new E cl_X8 [.int 0] q961 q962 q112 (by decide) (n + 1) (n + 3) (by omega) (by omega) dX2_close_115 (fun a9 ha9 ka9 => ?_)
                  refine r_dup E dX2_close_118 rfl ?_
                  refine r_aload E dX2_close_119 rfl ?_
                  refine r_callI0 E (ct_X8_init G hl (fmUp hh a9 (true, .inr (.inl (5, [.int 0])))) a9 (gf' i) true ((cF (upd N 353 (N 353 - nI (sOpens N (nI j)))) (nI j) i) (192 + i)) gd5p fmUp_s (fmUp_of gd5o ha9)) mX8_init rfl q963 q964 rfl rfl (Nat.le_of_ble_eq_true rfl) (Nat.le_of_ble_eq_true rfl) (Nat.le_of_ble_eq_true rfl) dX2_close_121 (n + 1) (n + 3) (Nat.le_refl _) (Nat.le_refl _) ?_
                  refine r_hp (h' := fmUp hh a9 (true, .inr (.inl (5, [.int ((cF (upd N 353 (N 353 - nI (sOpens N (nI j)))) (nI j) i) (192 + i))])))) (fmUp_uu _ _ _ _) ?_
                  have hMa := hM2.kp (Kp.up (e := (true, .inr (.inl (5, [.int ((cF (upd N 353 (N 353 - nI (sOpens N (nI j)))) (nI j) i) (192 + i))])))) ha9)
                  have hga := fmUp_of (e := (true, .inr (.inl (5, [.int ((cF (upd N 353 (N 353 - nI (sOpens N (nI j)))) (nI j) i) (192 + i))])))) hg2 ha9
                  refine r_aast E (t := 7) (Ev := "FlintMine$Ground") rfl (fun H a1 => fm_rc a1 cl_X8.1 E.v fmUp_s) q320 hga (by omega) (by decide) dX2_close_124 ?_
                  have hM3 := hMa.setg hga hgq2 (c := i) (by omega) (a := a9) (N' := cF (upd N 353 (N 353 - nI (sOpens N (nI j)))) (nI j) (i + 1)) (Or.inr (Or.inr ⟨by rw [← cF_t (by omega) hof, upd_ne' (by omega), upd_eq' rfl], by rw [← cF_t (by omega) hof, upd_eq' rfl], by rw [← cF_t (by omega) hof, upd_ne' (by omega), upd_ne' (by omega)]; exact fmUp_s⟩)) (fun q q1 q2 q3 q4 q5 => by rw [← cF_t (by omega) hof, upd_ne' q5, upd_ne' q1])
                  refine r_iinc E (nI (i + 1)) [some (.ref d), some (.int (nI j)), some (.ref (sf j)), some (.int (nI (sOpens N (nI j)))), some (.int (nI (cB N (nI j) 64))), some (.int (nI (i + 1))), some (.ref (gf' i)), some (.ref (gf' i))] dX2_close_125 rfl (nI_1 i) rfl rfl ?_
                  refine r_goto (tgt := 69) E dX2_close_128 (by decide) ?_
                  refine fmW.few (L' := [some (.ref d), some (.int (nI j)), some (.ref (sf j)), some (.int (nI (sOpens N (nI j)))), some (.int (nI (cB N (nI j) 64))), some (.int (nI (i + 1))), none, some (.ref (gf' i))]) (fmFew_n (L := [some (.ref d), some (.int (nI j)), some (.ref (sf j)), some (.int (nI (sOpens N (nI j)))), some (.int (nI (cB N (nI j) 64))), some (.int (nI (i + 1))), some (.ref (gf' i)), some (.ref (gf' i))]) 6) ?_
                  refine fmW.few (L' := [some (.ref d), some (.int (nI j)), some (.ref (sf j)), some (.int (nI (sOpens N (nI j)))), some (.int (nI (cB N (nI j) 64))), some (.int (nI (i + 1))), none, none]) (fmFew_n (L := [some (.ref d), some (.int (nI j)), some (.ref (sf j)), some (.int (nI (sOpens N (nI j)))), some (.int (nI (cB N (nI j) 64))), some (.int (nI (i + 1))), none, some (.ref (gf' i))]) 7) ?_
                  exact ih (i + 1) _ _ (by omega) hM3 ⟨(hk02.trans (Kp.up ha9)).up0 hg02, hd02, hg02, hsl02, hpl02, hse02, hpe02⟩
              · refine r_aload_n E dX2_close_76 rfl ?_
                refine r_getf E cl_X2 0 (by decide) q185 hd2 rfl dX2_close_77 ?_
                refine r_iload E dX2_close_80 rfl ?_
                refine r_aald E hg2 rfl rfl (by omega) (by decide) dX2_close_82 ?_
                refine r_top (v' := .ref (gf' i)) (congrArg va_rf (hgq2 _ (by omega))) ?_
                refine r_astore E [some (.ref d), some (.int (nI j)), some (.ref (sf j)), some (.int (nI (sOpens N (nI j)))), some (.int (nI (cB N (nI j) 64))), some (.int (nI i)), none, some (.ref (gf' i))] dX2_close_83 rfl rfl ?_
                refine r_aload E dX2_close_85 rfl ?_
                refine r_instNo E cl_X8 q803 (by decide +kernel) gd5o dX2_close_87 ?_
                refine r_top (v' := .int (bI false)) rfl ?_
                refine r_ifB_eq (b := false) (tgt := 125) E dX2_close_90 (by decide) (fun _ => ?_) (fun c => absurd c (by decide))
                refine r_iinc E (nI (i + 1)) [some (.ref d), some (.int (nI j)), some (.ref (sf j)), some (.int (nI (sOpens N (nI j)))), some (.int (nI (cB N (nI j) 64))), some (.int (nI (i + 1))), none, some (.ref (gf' i))] dX2_close_125 rfl (nI_1 i) rfl rfl ?_
                refine r_goto (tgt := 69) E dX2_close_128 (by decide) ?_
                refine fmW.few (L' := [some (.ref d), some (.int (nI j)), some (.ref (sf j)), some (.int (nI (sOpens N (nI j)))), some (.int (nI (cB N (nI j) 64))), some (.int (nI (i + 1))), none, none]) (fmFew_n (L := [some (.ref d), some (.int (nI j)), some (.ref (sf j)), some (.int (nI (sOpens N (nI j)))), some (.int (nI (cB N (nI j) 64))), some (.int (nI (i + 1))), none, some (.ref (gf' i))]) 7) ?_
                exact fmW.less (by omega) (by omega) (ih (i + 1) hh gf' (by omega) (by rw [cF_f (by rw [← cF_open (s' := nI j) (Nat.le_refl i) (by omega)]; exact so2 gd5a)]; exact hM2) hD2)
        exact lp 64 0 _ gf (by omega) (by rw [cF_z]; exact hM1) hD1

