set_option maxHeartbeats 4000000 in
theorem ct_X2_wear (G : fmG) (hl : (fmLn G).stackTraces = false) (h : fmHp) {h0 : fmHp} {d g sl se pl pe : Nat} {gf sf pf : Nat → Nat} {N : Nat → Int32} {K pk : Nat} (hC0 : CC G h0) (hM : MineAt G h d g sl se pl pe gf sf pf N K pk) (hD : Dr G h0 h d g sl se pl pe) (j e n : Nat) (hj : j < pk) (he : N (344 + j) = nI e) (hn : n ≤ e) (hn1 : 1 ≤ n) (he9 : e ≤ 99) : Ct G yX2_wear (ws_ yX2_wear cX2_wear 5 none) { frames := 3, cells := 0, slots := 0, locals := 106 } [.ref d, .int (nI j), .int (nI n)] h (fun v h' => v = none ∧ ∃ (pe' : Nat) (pf' : Nat → Nat), MineAt G h' d g sl se pl pe' gf sf pf' (sStrike N j (nI n) pk) K (if e = n then pk - 1 else pk) ∧ Dr G h0 h' d g sl se pl pe' ∧ Ko h h') fmNo := by
  refine Ct.of hl (by decide +kernel) (Nat.le_of_ble_eq_true rfl) (fun Γ E P => ?_)
  have hC : CC G h := hC0.kp hD.1
  obtain ⟨hd, ⟨gq, hg, hgq⟩, hgd, hS, hSh, hP, hPk, hK8, hP6, hsp, hse⟩ := id hM
  obtain ⟨mcS, hsl⟩ := hS.o
  obtain ⟨mcP, hpl⟩ := hP.o
  obtain ⟨hk0, hd0, hg0, hsl0, hpl0, hse0, hpe0⟩ := id hD
  obtain ⟨feS, capS, geS, hseA⟩ := hS.el
  obtain ⟨feP, capP, geP, hpeA⟩ := hP.el
  have hpj : h (pf j) = some (false, .inr (.inl (17, [.int (N (344 + j))]))) := hPk j hj
  have hsub : N (344 + j) - nI n = nI (e - n) := by rw [he]; exact nI_subI hn
  refine r_aload_n E dX2_wear_0 rfl ?_
  refine r_getf E cl_X2 2 (by decide) q189 hd rfl dX2_wear_1 ?_
  refine r_iload_n E dX2_wear_4 rfl ?_
  refine r_callF1 (v1 := .ref (pf j)) E (ctA_J2_get G hl (h) pl pe pk pf hP (by omega) j (by omega)) mJ2_get (ci := 12) rfl hpl 2 rfl q829 q834 q832 fx_2 rfl rfl (Nat.le_of_ble_eq_true rfl) (Nat.le_of_ble_eq_true rfl) (Nat.le_of_ble_eq_true rfl) dX2_wear_5 0 0 (Nat.le_of_ble_eq_true rfl) (Nat.le_of_ble_eq_true rfl) ?_
  refine r_castS E cl_J20 q574 hpj dX2_wear_10 ?_
  refine r_callV1 (v1 := .int (N (344 + j))) E (ct_J20_intValue G hl (h) (pf j) false (N (344 + j)) hpj) mJ20_intValue q847 q848 q849 (fun H a1 => fm_rc (ci := 17) (C := RJ20) (T := TJ20) (N := 1) a1 rfl E.v hpj) rfl rfl (Nat.le_of_ble_eq_true rfl) (Nat.le_of_ble_eq_true rfl) (Nat.le_of_ble_eq_true rfl) dX2_wear_13 0 0 (Nat.le_of_ble_eq_true rfl) (Nat.le_of_ble_eq_true rfl) ?_
  refine r_top (v' := .int (nI e)) (by rw [he]) ?_
  refine r_iload_n E dX2_wear_16 rfl ?_
  refine r_isubN E dX2_wear_17 hn ?_
  refine r_istore_n E [some (.ref d), some (.int (nI j)), some (.int (nI n)), some (.int (nI (e - n))), none] dX2_wear_18 rfl rfl ?_
  refine r_iload_n E dX2_wear_19 rfl ?_
  refine r_ifN_le (tgt := 45) E dX2_wear_20 (by decide) (by omega) (fun c => ?_) (fun c => ?_)
  · refine r_aload_n E dX2_wear_45 rfl ?_
    refine r_getf E cl_X2 2 (by decide) q189 hd rfl dX2_wear_46 ?_
    refine r_iload_n E dX2_wear_49 rfl ?_
    refine r_callF E (ct_J2_remove G hl h pl pe pk pf hP (by omega) j hj (fun i hi => Pk.isO (hPk i hi))) mJ2_remove (ci := 12) rfl hpl 5 rfl q865 q870 q868 fx_5 rfl rfl (Nat.le_of_ble_eq_true rfl) (Nat.le_of_ble_eq_true rfl) (Nat.le_of_ble_eq_true rfl) dX2_wear_50 0 0 (Nat.le_of_ble_eq_true rfl) (Nat.le_of_ble_eq_true rfl) (fun v' h1 q => ?_) (fun _ _ _ q => q.elim)
    obtain ⟨rfl, hA, hfr⟩ := q
    have hfr2 : ∀ q x, h q = some x → q ≠ pl → (q ≠ pe ∨ x.1 = false) → h1 q = some x := fun q x hq hql hqe => hqe.elim (hfr q x hq hql) (fun hb => by
      by_cases z : q = pe
      · obtain ⟨y, hy⟩ := hP.ft (by omega); rw [z, hy] at hq; cases hq; cases hb
      · exact hfr q x hq hql z)
    have hd1 := hfr2 _ _ hd (fun z => by rw [z, hpl] at hd; cases hd) (Or.inl fun z => by rw [z, hpeA] at hd; cases hd)
    have hpj1 := hfr2 _ _ hpj (fun z => by rw [z, hpl] at hpj; cases hpj) (Or.inl fun z => by rw [z, hpeA] at hpj; cases hpj)
    have hpk : ∀ k, k < pk - 1 → Pk h1 (sMid N (sStrike N j (nI n) pk)) k (fDel pf j k) := fun k hk => by
      unfold Pk fDel
      rw [sMid_i (by omega), sStr_gone hj hP6 (by rw [hsub, c]) hk]
      by_cases hkj : k < j
      · rw [if_pos hkj, if_pos hkj]; have g1 := hPk k (by omega); unfold Pk at g1; exact hfr2 _ _ g1 (fun z => by rw [z, hpl] at g1; cases g1) (Or.inr rfl)
      · rw [if_neg hkj, if_neg hkj]; have g1 := hPk (k + 1) (by omega); unfold Pk at g1; exact hfr2 _ _ g1 (fun z => by rw [z, hpl] at g1; cases g1) (Or.inr rfl)
    refine r_castS E cl_J20 q574 hpj1 dX2_wear_55 ?_
    refine r_astore E [some (.ref d), some (.int (nI j)), some (.int (nI n)), some (.int (nI (e - n))), some (.ref (pf j))] dX2_wear_58 rfl rfl ?_
    refine r_aload_n E dX2_wear_60 rfl ?_
    refine r_dup E dX2_wear_61 rfl ?_
    refine r_getf E cl_X2 6 (by decide) q197 hd1 rfl dX2_wear_62 ?_
    refine r_iload_n E dX2_wear_65 rfl ?_
    refine r_iadd E dX2_wear_66 ?_
    refine r_putf E cl_X2 6 (by decide) rfl q197 (fun _ z => z) hd1 (Nat.le_of_ble_eq_true rfl) rfl rfl dX2_wear_67 ?_
    refine r_hp (h' := fmUp h1 d (true, .inr (.inl (2, [.ref g, .ref sl, .ref pl, .int (N 355), .int (N 352), .int (N 353), .int ((N 354) + (nI n))])))) (rfl) ?_
    have hM1 := hM.setP (N' := sMid N (sStrike N j (nI n) pk)) hC hA hfr2 hse (by omega) hpk (fun q hq => sMid_o hq)
    have hM2 := hM1.setd (N' := sStrike N j (nI n) pk) (fun q hq => sMid_b (fun h4 => sStr_lo hj hP6 (Or.inl h4) (by omega)) hq)
    rw [sStr_lo hj hP6 (q := 355) (Or.inr (by omega)) (by omega), sStr_lo hj hP6 (q := 352) (Or.inr (by omega)) (by omega), sStr_lo hj hP6 (q := 353) (Or.inr (by omega)) (by omega), sStr_354 hj hP6] at hM2
    exact r_return E P rfl dX2_wear_70 ⟨rfl, pe, _, by rw [if_pos (by omega)]; exact hM2, ⟨(Dr.list hC0 hk0 hpl0 hpe0 hfr2).up0 hd0, hd0, hg0, hsl0, hpl0, hse0, hpe0⟩, (Ko.list hpl hpeA hfr2).upd hd⟩
  · refine r_aload_n E dX2_wear_23 rfl ?_
    refine r_getf E cl_X2 2 (by decide) q189 hd rfl dX2_wear_24 ?_
    refine r_iload_n E dX2_wear_27 rfl ?_
    refine r_iload_n E dX2_wear_28 rfl ?_
    refine r_callS1 (v1 := .ref (fmAd G (100 + ((e - n) + 128)))) E (ct_J20_valueOf G hl (h) hC (e - n) (by omega)) mJ20_valueOf q106 q759 q760 rfl rfl (Nat.le_of_ble_eq_true rfl) (Nat.le_of_ble_eq_true rfl) (Nat.le_of_ble_eq_true rfl) dX2_wear_29 0 0 (Nat.le_of_ble_eq_true rfl) (Nat.le_of_ble_eq_true rfl) ?_
    have hi := hC.int (v := e - n) (by omega)
    refine r_callF E (ct_J2_set G hl h pl pe pk pf hP (by omega) j (fmAd G (100 + (e - n + 128))) hj ⟨17, RJ20, TJ20, 1, false, _, rfl, hi, q2324⟩) mJ2_set (ci := 12) rfl hpl 4 rfl q856 q861 q859 fx_4 rfl rfl (Nat.le_of_ble_eq_true rfl) (Nat.le_of_ble_eq_true rfl) (Nat.le_of_ble_eq_true rfl) dX2_wear_32 0 0 (Nat.le_of_ble_eq_true rfl) (Nat.le_of_ble_eq_true rfl) (fun v' h1 q => ?_) (fun _ _ _ q => q.elim)
    obtain ⟨rfl, hA, hfr⟩ := q
    have hfr2 : ∀ q x, h q = some x → q ≠ pl → (q ≠ pe ∨ x.1 = false) → h1 q = some x := fun q x hq hql hqe => hqe.elim (hfr q x hq) (fun hb => by
      by_cases z : q = pe
      · obtain ⟨y, hy⟩ := hP.ft (by omega); rw [z, hy] at hq; cases hq; cases hb
      · exact hfr q x hq z)
    have hd1 := hfr2 _ _ hd (fun z => by rw [z, hpl] at hd; cases hd) (Or.inl fun z => by rw [z, hpeA] at hd; cases hd)
    have hpj1 := hfr2 _ _ hpj (fun z => by rw [z, hpl] at hpj; cases hpj) (Or.inl fun z => by rw [z, hpeA] at hpj; cases hpj)
    have hpk : ∀ k, k < pk → Pk h1 (sMid N (sStrike N j (nI n) pk)) k (updN pf j (fmAd G (100 + (e - n + 128))) k) := fun k hk => by
      unfold Pk updN
      rw [sMid_i (by omega), sStr_keep hP6 (by rw [hsub]; exact fun z => by have := nI_z (k := e - n) (by omega) (z.trans nI_0); omega) hk]
      by_cases hkj : k = j
      · rw [if_pos hkj, if_pos hkj, hsub]; exact hfr2 _ _ hi (fun z => by rw [z, hpl] at hi; cases hi) (Or.inr rfl)
      · rw [if_neg hkj, if_neg hkj]; have g1 := hPk k (by omega); unfold Pk at g1; exact hfr2 _ _ g1 (fun z => by rw [z, hpl] at g1; cases g1) (Or.inr rfl)
    refine r_castS E cl_J20 q574 hpj1 dX2_wear_37 ?_
    refine r_astore E [some (.ref d), some (.int (nI j)), some (.int (nI n)), some (.int (nI (e - n))), some (.ref (pf j))] dX2_wear_40 rfl rfl ?_
    refine r_goto (tgt := 60) E dX2_wear_42 (by decide) ?_
    refine r_aload_n E dX2_wear_60 rfl ?_
    refine r_dup E dX2_wear_61 rfl ?_
    refine r_getf E cl_X2 6 (by decide) q197 hd1 rfl dX2_wear_62 ?_
    refine r_iload_n E dX2_wear_65 rfl ?_
    refine r_iadd E dX2_wear_66 ?_
    refine r_putf E cl_X2 6 (by decide) rfl q197 (fun _ z => z) hd1 (Nat.le_of_ble_eq_true rfl) rfl rfl dX2_wear_67 ?_
    refine r_hp (h' := fmUp h1 d (true, .inr (.inl (2, [.ref g, .ref sl, .ref pl, .int (N 355), .int (N 352), .int (N 353), .int ((N 354) + (nI n))])))) (rfl) ?_
    have hM1 := hM.setP (N' := sMid N (sStrike N j (nI n) pk)) hC hA hfr2 hse (by omega) hpk (fun q hq => sMid_o hq)
    have hM2 := hM1.setd (N' := sStrike N j (nI n) pk) (fun q hq => sMid_b (fun h4 => sStr_lo hj hP6 (Or.inl h4) (by omega)) hq)
    rw [sStr_lo hj hP6 (q := 355) (Or.inr (by omega)) (by omega), sStr_lo hj hP6 (q := 352) (Or.inr (by omega)) (by omega), sStr_lo hj hP6 (q := 353) (Or.inr (by omega)) (by omega), sStr_354 hj hP6] at hM2
    exact r_return E P rfl dX2_wear_70 ⟨rfl, pe, _, by rw [if_neg (by omega)]; exact hM2, ⟨(Dr.list hC0 hk0 hpl0 hpe0 hfr2).up0 hd0, hd0, hg0, hsl0, hpl0, hse0, hpe0⟩, (Ko.list hpl hpeA hfr2).upd hd⟩

