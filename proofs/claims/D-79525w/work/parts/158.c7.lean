set_option maxHeartbeats 4000000 in
theorem ctT_X2_shaft (G : fmG) (hl : (fmLn G).stackTraces = false) (h : fmHp) {d g sl se pl pe : Nat} {gf sf pf : Nat → Nat} {N : Nat → Int32} {K pk : Nat} (hC : CC G h) (hM : MineAt G h d g sl se pl pe gf sf pf N K pk) (k : Nat) (hk : k < K) : Ct G yX2_shaft (ws_ yX2_shaft cX2_shaft 2 (some (.object "FlintMine$Shaft"))) { frames := 7, cells := 0, slots := 0, locals := 120 } [.ref d, .int (nI k)] h (fmRet (some (.ref (sf k))) h) fmNo := by
  refine Ct.of hl (by decide +kernel) (Nat.le_of_ble_eq_true rfl) (fun Γ E P => ?_)
  obtain ⟨hd, ⟨gq, hg, hgq⟩, hgd, hS, hSh, hP, hPk, hK8, hP6, hsp, hse⟩ := id hM
  obtain ⟨mcS, hsl⟩ := hS.o
  obtain ⟨mcP, hpl⟩ := hP.o
  obtain ⟨cl, hcl, hso⟩ := hSh k hk
  refine r_iload_n E dX2_shaft_0 rfl ?_
  refine r_iconst E (nI 0) dX2_shaft_1 (by decide) ?_
  refine r_aload_n E dX2_shaft_2 rfl ?_
  refine r_getf E cl_X2 1 (by decide) q187 hd rfl dX2_shaft_3 ?_
  refine r_callF1 (v1 := .int (nI K)) E (ctA_J2_size G hl (h) sl se K sf hS (by omega)) mJ2_size (ci := 12) rfl hsl 3 rfl q758 q581 q579 fx_3 rfl rfl (Nat.le_of_ble_eq_true rfl) (Nat.le_of_ble_eq_true rfl) (Nat.le_of_ble_eq_true rfl) dX2_shaft_6 0 0 (Nat.le_of_ble_eq_true rfl) (Nat.le_of_ble_eq_true rfl) ?_
  refine r_iconst E (nI 1) dX2_shaft_11 (by decide) ?_
  refine r_isubN E dX2_shaft_12 (by omega) ?_
  refine r_callSN1 (v1 := .int (bI (sBetween (nI k) (nI 0) (nI (K - 1))))) E (ct_X1_inRange G hl (h) (nI k) (nI 0) (nI (K - 1))) mX1_inRange q78 q912 q629 rfl rfl (Nat.le_of_ble_eq_true rfl) (Nat.le_of_ble_eq_true rfl) (Nat.le_of_ble_eq_true rfl) dX2_shaft_13 0 0 (Nat.le_of_ble_eq_true rfl) (Nat.le_of_ble_eq_true rfl) ?_
  refine r_top (v' := .int (bI true)) (by rw [sBtw_n (by omega) (by omega)]) ?_
  refine r_callSN0 E (ctT_X1_requireIndex G hl (h)) mX1_requireIndex q78 q913 q632 rfl rfl (Nat.le_of_ble_eq_true rfl) (Nat.le_of_ble_eq_true rfl) (Nat.le_of_ble_eq_true rfl) dX2_shaft_16 0 0 (Nat.le_of_ble_eq_true rfl) (Nat.le_of_ble_eq_true rfl) ?_
  refine r_aload_n E dX2_shaft_19 rfl ?_
  refine r_getf E cl_X2 1 (by decide) q187 hd rfl dX2_shaft_20 ?_
  refine r_iload_n E dX2_shaft_23 rfl ?_
  refine r_callF1 (v1 := .ref (sf k)) E (ctA_J2_get G hl (h) sl se K sf hS (by omega) k (by omega)) mJ2_get (ci := 12) rfl hsl 2 rfl q829 q834 q832 fx_2 rfl rfl (Nat.le_of_ble_eq_true rfl) (Nat.le_of_ble_eq_true rfl) (Nat.le_of_ble_eq_true rfl) dX2_shaft_24 0 0 (Nat.le_of_ble_eq_true rfl) (Nat.le_of_ble_eq_true rfl) ?_
  refine r_castS E cl_X7 q491 hso dX2_shaft_29 ?_
  exact r_areturn E P rfl (Or.inl ⟨_, rfl⟩) dX2_shaft_32 ⟨rfl, rfl⟩

set_option maxHeartbeats 4000000 in
theorem ctF_X2_shaft (G : fmG) (hl : (fmLn G).stackTraces = false) (h : fmHp) {d g sl se pl pe : Nat} {gf sf pf : Nat → Nat} {N : Nat → Int32} {K pk : Nat} (hC : CC G h) (hM : MineAt G h d g sl se pl pe gf sf pf N K pk) (v : Int32) (hv : sBetween v (nI 0) (nI K - nI 1) = false) : Ct G yX2_shaft (ws_ yX2_shaft cX2_shaft 2 (some (.object "FlintMine$Shaft"))) { frames := 7, cells := 1, slots := 6, locals := 120 } [.ref d, .int v] h (fun _ _ => False) (fun q Ex h' => Ex = "java/lang/IndexOutOfBoundsException" ∧ h q = none ∧ (fmK0 G).size ≤ q ∧ h' = fmUp h q (true, .inr (.inl (18, [])))) := by
  refine Ct.of hl (by decide +kernel) (Nat.le_of_ble_eq_true rfl) (fun Γ E P => ?_)
  obtain ⟨hd, ⟨gq, hg, hgq⟩, hgd, hS, hSh, hP, hPk, hK8, hP6, hsp, hse⟩ := id hM
  obtain ⟨mcS, hsl⟩ := hS.o
  obtain ⟨mcP, hpl⟩ := hP.o
  refine r_iload_n E dX2_shaft_0 rfl ?_
  refine r_iconst E (nI 0) dX2_shaft_1 (by decide) ?_
  refine r_aload_n E dX2_shaft_2 rfl ?_
  refine r_getf E cl_X2 1 (by decide) q187 hd rfl dX2_shaft_3 ?_
  refine r_callF1 (v1 := .int (nI K)) E (ctA_J2_size G hl (h) sl se K sf hS (by omega)) mJ2_size (ci := 12) rfl hsl 3 rfl q758 q581 q579 fx_3 rfl rfl (Nat.le_of_ble_eq_true rfl) (Nat.le_of_ble_eq_true rfl) (Nat.le_of_ble_eq_true rfl) dX2_shaft_6 1 6 (Nat.le_of_ble_eq_true rfl) (Nat.le_of_ble_eq_true rfl) ?_
  refine r_iconst E (nI 1) dX2_shaft_11 (by decide) ?_
  refine r_isub E dX2_shaft_12 ?_
  refine r_callSN1 (v1 := .int (bI (sBetween v (nI 0) (nI K - nI 1)))) E (ct_X1_inRange G hl (h) v (nI 0) (nI K - nI 1)) mX1_inRange q78 q912 q629 rfl rfl (Nat.le_of_ble_eq_true rfl) (Nat.le_of_ble_eq_true rfl) (Nat.le_of_ble_eq_true rfl) dX2_shaft_13 1 6 (Nat.le_of_ble_eq_true rfl) (Nat.le_of_ble_eq_true rfl) ?_
  refine r_top (v' := .int (bI false)) (by rw [hv]) ?_
  refine r_callSN E (ctF_X1_requireIndex G hl h) mX1_requireIndex q78 q913 q632 rfl rfl (Nat.le_of_ble_eq_true rfl) (Nat.le_of_ble_eq_true rfl) (Nat.le_of_ble_eq_true rfl) dX2_shaft_16 0 0 (Nat.le_of_ble_eq_true rfl) (Nat.le_of_ble_eq_true rfl) (fun _ _ q => q.elim) (fun q Ex h' hx => ?_)
  exact r_xout E P (fun x hx => by cases hx) hx

set_option maxHeartbeats 4000000 in
theorem ctT_X2_chalk (G : fmG) (hl : (fmLn G).stackTraces = false) (h : fmHp) {d g sl se pl pe : Nat} {gf sf pf : Nat → Nat} {N : Nat → Int32} {K pk : Nat} (hC : CC G h) (hM : MineAt G h d g sl se pl pe gf sf pf N K pk) (c : Nat) (hc : c < 64) (h0 : N c = nI 0) : Ct G yX2_chalk (ws_ yX2_chalk cX2_chalk 4 (some (.object "FlintMine$Chalk"))) { frames := 0, cells := 0, slots := 0, locals := 0 } [.ref d, .int (nI c)] h (fmRet (some (.ref (gf c))) h) fmNo := by
  refine Ct.of hl (by decide +kernel) (Nat.le_of_ble_eq_true rfl) (fun Γ E P => ?_)
  obtain ⟨hd, ⟨gq, hg, hgq⟩, hgd, hS, hSh, hP, hPk, hK8, hP6, hsp, hse⟩ := id hM
  obtain ⟨mcS, hsl⟩ := hS.o
  obtain ⟨mcP, hpl⟩ := hP.o
  rcases hgd c hc with ⟨gd1a, gd1b, gd1c, gd1o⟩ | ⟨gd1p, gd1a, gd1c, gd1o⟩ | ⟨gd1a, gd1c, gd1o⟩
  · refine r_aload_n E dX2_chalk_0 rfl ?_
    refine r_getf E cl_X2 0 (by decide) q185 hd rfl dX2_chalk_1 ?_
    refine r_iload_n E dX2_chalk_4 rfl ?_
    refine r_aald E hg rfl rfl (by omega) (by decide) dX2_chalk_5 ?_
    refine r_top (v' := .ref (gf c)) (congrArg va_rf (hgq _ (by omega))) ?_
    refine r_astore_n E [some (.ref d), some (.int (nI c)), none, some (.ref (gf c))] dX2_chalk_6 rfl rfl ?_
    refine r_aload_n E dX2_chalk_7 rfl ?_
    refine r_instS E cl_X3 q167 gd1o dX2_chalk_8 ?_
    refine r_top (v' := .int (bI true)) rfl ?_
    refine r_ifB_eq (b := true) (tgt := 21) E dX2_chalk_11 (by decide) (fun c => absurd c (by decide)) (fun _ => ?_)
    refine r_aload_n E dX2_chalk_14 rfl ?_
    refine r_castS E cl_X3 q167 gd1o dX2_chalk_15 ?_
    refine r_astore_n E [some (.ref d), some (.int (nI c)), some (.ref (gf c)), some (.ref (gf c))] dX2_chalk_18 rfl rfl ?_
    refine r_aload_n E dX2_chalk_19 rfl ?_
    exact r_areturn E P rfl (Or.inl ⟨_, rfl⟩) dX2_chalk_20 ⟨rfl, rfl⟩
  · rw [gd1a] at h0; exact absurd h0 (by decide)
  · rw [gd1a] at h0; exact absurd h0 (by decide)

set_option maxHeartbeats 4000000 in
theorem ctF_X2_chalk (G : fmG) (hl : (fmLn G).stackTraces = false) (h : fmHp) {d g sl se pl pe : Nat} {gf sf pf : Nat → Nat} {N : Nat → Int32} {K pk : Nat} (hC : CC G h) (hM : MineAt G h d g sl se pl pe gf sf pf N K pk) (c : Nat) (hc : c < 64) (h0 : ¬ N c = nI 0) : Ct G yX2_chalk (ws_ yX2_chalk cX2_chalk 4 (some (.object "FlintMine$Chalk"))) { frames := 4, cells := 1, slots := 8, locals := 110 } [.ref d, .int (nI c)] h (fun _ _ => False) (fun q Ex h' => Ex = "FlintMine$Refusal" ∧ h q = none ∧ (fmK0 G).size ≤ q ∧ h' = fmUp h q (true, .inr (.inl (10, [.null, .null, .null, .null, .null, .int 0, .int (nI 1), .int (nI c)])))) := by
  refine Ct.of hl (by decide +kernel) (Nat.le_of_ble_eq_true rfl) (fun Γ E P => ?_)
  obtain ⟨hd, ⟨gq, hg, hgq⟩, hgd, hS, hSh, hP, hPk, hK8, hP6, hsp, hse⟩ := id hM
  obtain ⟨mcS, hsl⟩ := hS.o
  obtain ⟨mcP, hpl⟩ := hP.o
  rcases hgd c hc with ⟨gd1a, gd1b, gd1c, gd1o⟩ | ⟨gd1p, gd1a, gd1c, gd1o⟩ | ⟨gd1a, gd1c, gd1o⟩
  · exact absurd gd1a h0
  · refine r_aload_n E dX2_chalk_0 rfl ?_
    refine r_getf E cl_X2 0 (by decide) q185 hd rfl dX2_chalk_1 ?_
    refine r_iload_n E dX2_chalk_4 rfl ?_
    refine r_aald E hg rfl rfl (by omega) (by decide) dX2_chalk_5 ?_
    refine r_top (v' := .ref (gf c)) (congrArg va_rf (hgq _ (by omega))) ?_
    refine r_astore_n E [some (.ref d), some (.int (nI c)), none, some (.ref (gf c))] dX2_chalk_6 rfl rfl ?_
    refine r_aload_n E dX2_chalk_7 rfl ?_
    refine r_instNo E cl_X6 q167 (by decide +kernel) gd1o dX2_chalk_8 ?_
    refine r_top (v' := .int (bI false)) rfl ?_
    refine r_ifB_eq (b := false) (tgt := 21) E dX2_chalk_11 (by decide) (fun _ => ?_) (fun c => absurd c (by decide))
    refine r_new E cl_X5 [.null, .null, .null, .null, .null, .int 0, .int 0, .int 0] q692 q693 q104 (by decide) 0 0 (Nat.le_of_ble_eq_true rfl) (Nat.le_of_ble_eq_true rfl) dX2_chalk_21 (fun a3 ha3 ka3 => ?_)
    refine r_dup E dX2_chalk_24 rfl ?_
    refine r_iconst E (nI 1) dX2_chalk_25 (by decide) ?_
    refine r_iload_n E dX2_chalk_26 rfl ?_
    refine r_callI0 E (ct_X5_init G hl (fmUp h a3 (true, .inr (.inl (10, [.null, .null, .null, .null, .null, .int 0, .int 0, .int 0])))) a3 (nI 1) (nI c) fmUp_s) mX5_init rfl q701 q702 rfl rfl (Nat.le_of_ble_eq_true rfl) (Nat.le_of_ble_eq_true rfl) (Nat.le_of_ble_eq_true rfl) dX2_chalk_27 0 0 (Nat.le_of_ble_eq_true rfl) (Nat.le_of_ble_eq_true rfl) ?_
    refine r_athrow E (ci := 10) rfl fmUp_s dX2_chalk_30 ?_
    exact r_xout E P (fun x hx => by cases hx) ⟨rfl, ha3, ka3, fmUp_uu _ _ _ _⟩
  · refine r_aload_n E dX2_chalk_0 rfl ?_
    refine r_getf E cl_X2 0 (by decide) q185 hd rfl dX2_chalk_1 ?_
    refine r_iload_n E dX2_chalk_4 rfl ?_
    refine r_aald E hg rfl rfl (by omega) (by decide) dX2_chalk_5 ?_
    refine r_top (v' := .ref (gf c)) (congrArg va_rf (hgq _ (by omega))) ?_
    refine r_astore_n E [some (.ref d), some (.int (nI c)), none, some (.ref (gf c))] dX2_chalk_6 rfl rfl ?_
    refine r_aload_n E dX2_chalk_7 rfl ?_
    refine r_instNo E cl_X8 q167 (by decide +kernel) gd1o dX2_chalk_8 ?_
    refine r_top (v' := .int (bI false)) rfl ?_
    refine r_ifB_eq (b := false) (tgt := 21) E dX2_chalk_11 (by decide) (fun _ => ?_) (fun c => absurd c (by decide))
    refine r_new E cl_X5 [.null, .null, .null, .null, .null, .int 0, .int 0, .int 0] q692 q693 q104 (by decide) 0 0 (Nat.le_of_ble_eq_true rfl) (Nat.le_of_ble_eq_true rfl) dX2_chalk_21 (fun a5 ha5 ka5 => ?_)
    refine r_dup E dX2_chalk_24 rfl ?_
    refine r_iconst E (nI 1) dX2_chalk_25 (by decide) ?_
    refine r_iload_n E dX2_chalk_26 rfl ?_
    refine r_callI0 E (ct_X5_init G hl (fmUp h a5 (true, .inr (.inl (10, [.null, .null, .null, .null, .null, .int 0, .int 0, .int 0])))) a5 (nI 1) (nI c) fmUp_s) mX5_init rfl q701 q702 rfl rfl (Nat.le_of_ble_eq_true rfl) (Nat.le_of_ble_eq_true rfl) (Nat.le_of_ble_eq_true rfl) dX2_chalk_27 0 0 (Nat.le_of_ble_eq_true rfl) (Nat.le_of_ble_eq_true rfl) ?_
    refine r_athrow E (ci := 10) rfl fmUp_s dX2_chalk_30 ?_
    exact r_xout E P (fun x hx => by cases hx) ⟨rfl, ha5, ka5, fmUp_uu _ _ _ _⟩

set_option maxHeartbeats 4000000 in
theorem ctT_X2_open_2 (G : fmG) (hl : (fmLn G).stackTraces = false) (h : fmHp) {d g sl se pl pe : Nat} {gf sf pf : Nat → Nat} {N : Nat → Int32} {K pk : Nat} (hC : CC G h) (hM : MineAt G h d g sl se pl pe gf sf pf N K pk) (c : Nat) (b : Bool) (hc : c < 64) (h1 : N c = nI 1) (h2 : N (256 + c) = bI b) : Ct G yX2_open_2 (ws_ yX2_open_2 cX2_open_2 5 (some (.object "FlintMine$Open"))) { frames := 0, cells := 0, slots := 0, locals := 0 } [.ref d, .int (nI c), .int (bI b)] h (fmRet (some (.ref (gf c))) h) fmNo := by
  refine Ct.of hl (by decide +kernel) (Nat.le_of_ble_eq_true rfl) (fun Γ E P => ?_)
  obtain ⟨hd, ⟨gq, hg, hgq⟩, hgd, hS, hSh, hP, hPk, hK8, hP6, hsp, hse⟩ := id hM
  obtain ⟨mcS, hsl⟩ := hS.o
  obtain ⟨mcP, hpl⟩ := hP.o
  rcases hgd c hc with ⟨gd1a, gd1b, gd1c, gd1o⟩ | ⟨gd1p, gd1a, gd1c, gd1o⟩ | ⟨gd1a, gd1c, gd1o⟩
  · rw [gd1a] at h1; exact absurd h1 (by decide)
  · have hpb : gd1p = b := by rw [gd1c] at h2; exact bI_inj h2
    subst hpb
    refine r_aload_n E dX2_open_2_0 rfl ?_
    refine r_getf E cl_X2 0 (by decide) q185 hd rfl dX2_open_2_1 ?_
    refine r_iload_n E dX2_open_2_4 rfl ?_
    refine r_aald E hg rfl rfl (by omega) (by decide) dX2_open_2_5 ?_
    refine r_top (v' := .ref (gf c)) (congrArg va_rf (hgq _ (by omega))) ?_
    refine r_astore E [some (.ref d), some (.int (nI c)), some (.int (bI gd1p)), none, some (.ref (gf c))] dX2_open_2_6 rfl rfl ?_
    refine r_aload E dX2_open_2_8 rfl ?_
    refine r_instS E cl_X6 q803 gd1o dX2_open_2_10 ?_
    refine r_top (v' := .int (bI true)) rfl ?_
    refine r_ifB_eq (b := true) (tgt := 32) E dX2_open_2_13 (by decide) (fun c => absurd c (by decide)) (fun _ => ?_)
    refine r_aload E dX2_open_2_16 rfl ?_
    refine r_castS E cl_X6 q803 gd1o dX2_open_2_18 ?_
    refine r_astore_n E [some (.ref d), some (.int (nI c)), some (.int (bI gd1p)), some (.ref (gf c)), some (.ref (gf c))] dX2_open_2_21 rfl rfl ?_
    refine r_aload_n E dX2_open_2_22 rfl ?_
    refine r_getfN E cl_X6 1 (by decide) q813 gd1o rfl dX2_open_2_23 ?_
    refine r_iload_n E dX2_open_2_26 rfl ?_
    refine r_icmp_ne (tgt := 32) E dX2_open_2_27 (by decide) (fun q => absurd rfl q) (fun _ => ?_)
    refine r_aload_n E dX2_open_2_30 rfl ?_
    exact r_areturn E P rfl (Or.inl ⟨_, rfl⟩) dX2_open_2_31 ⟨rfl, rfl⟩
  · rw [gd1a] at h1; exact absurd h1 (by decide)

set_option maxHeartbeats 4000000 in
theorem ctF_X2_open_2 (G : fmG) (hl : (fmLn G).stackTraces = false) (h : fmHp) {d g sl se pl pe : Nat} {gf sf pf : Nat → Nat} {N : Nat → Int32} {K pk : Nat} (hC : CC G h) (hM : MineAt G h d g sl se pl pe gf sf pf N K pk) (c : Nat) (b : Bool) (hc : c < 64) (h0 : ¬ (N c = nI 1 ∧ N (256 + c) = bI b)) : Ct G yX2_open_2 (ws_ yX2_open_2 cX2_open_2 5 (some (.object "FlintMine$Open"))) { frames := 4, cells := 1, slots := 8, locals := 110 } [.ref d, .int (nI c), .int (bI b)] h (fun _ _ => False) (fun q Ex h' => Ex = "FlintMine$Refusal" ∧ h q = none ∧ (fmK0 G).size ≤ q ∧ h' = fmUp h q (true, .inr (.inl (10, [.null, .null, .null, .null, .null, .int 0, .int (nI 9), .int (nI c)])))) := by
  refine Ct.of hl (by decide +kernel) (Nat.le_of_ble_eq_true rfl) (fun Γ E P => ?_)
  obtain ⟨hd, ⟨gq, hg, hgq⟩, hgd, hS, hSh, hP, hPk, hK8, hP6, hsp, hse⟩ := id hM
  obtain ⟨mcS, hsl⟩ := hS.o
  obtain ⟨mcP, hpl⟩ := hP.o
  rcases hgd c hc with ⟨gd1a, gd1b, gd1c, gd1o⟩ | ⟨gd1p, gd1a, gd1c, gd1o⟩ | ⟨gd1a, gd1c, gd1o⟩
  · refine r_aload_n E dX2_open_2_0 rfl ?_
    refine r_getf E cl_X2 0 (by decide) q185 hd rfl dX2_open_2_1 ?_
    refine r_iload_n E dX2_open_2_4 rfl ?_
    refine r_aald E hg rfl rfl (by omega) (by decide) dX2_open_2_5 ?_
    refine r_top (v' := .ref (gf c)) (congrArg va_rf (hgq _ (by omega))) ?_
    refine r_astore E [some (.ref d), some (.int (nI c)), some (.int (bI b)), none, some (.ref (gf c))] dX2_open_2_6 rfl rfl ?_
    refine r_aload E dX2_open_2_8 rfl ?_
    refine r_instNo E cl_X3 q803 (by decide +kernel) gd1o dX2_open_2_10 ?_
    refine r_top (v' := .int (bI false)) rfl ?_
    refine r_ifB_eq (b := false) (tgt := 32) E dX2_open_2_13 (by decide) (fun _ => ?_) (fun c => absurd c (by decide))
    refine r_new E cl_X5 [.null, .null, .null, .null, .null, .int 0, .int 0, .int 0] q692 q693 q104 (by decide) 0 0 (Nat.le_of_ble_eq_true rfl) (Nat.le_of_ble_eq_true rfl) dX2_open_2_32 (fun a3 ha3 ka3 => ?_)
    refine r_dup E dX2_open_2_35 rfl ?_
    refine r_bipush E (nI 9) dX2_open_2_36 (by decide) ?_
    refine r_iload_n E dX2_open_2_38 rfl ?_
    refine r_callI0 E (ct_X5_init G hl (fmUp h a3 (true, .inr (.inl (10, [.null, .null, .null, .null, .null, .int 0, .int 0, .int 0])))) a3 (nI 9) (nI c) fmUp_s) mX5_init rfl q701 q702 rfl rfl (Nat.le_of_ble_eq_true rfl) (Nat.le_of_ble_eq_true rfl) (Nat.le_of_ble_eq_true rfl) dX2_open_2_39 0 0 (Nat.le_of_ble_eq_true rfl) (Nat.le_of_ble_eq_true rfl) ?_
    refine r_athrow E (ci := 10) rfl fmUp_s dX2_open_2_42 ?_
    exact r_xout E P (fun x hx => by cases hx) ⟨rfl, ha3, ka3, fmUp_uu _ _ _ _⟩
  · refine r_aload_n E dX2_open_2_0 rfl ?_
    refine r_getf E cl_X2 0 (by decide) q185 hd rfl dX2_open_2_1 ?_
    refine r_iload_n E dX2_open_2_4 rfl ?_
    refine r_aald E hg rfl rfl (by omega) (by decide) dX2_open_2_5 ?_
    refine r_top (v' := .ref (gf c)) (congrArg va_rf (hgq _ (by omega))) ?_
    refine r_astore E [some (.ref d), some (.int (nI c)), some (.int (bI b)), none, some (.ref (gf c))] dX2_open_2_6 rfl rfl ?_
    refine r_aload E dX2_open_2_8 rfl ?_
    refine r_instS E cl_X6 q803 gd1o dX2_open_2_10 ?_
    refine r_top (v' := .int (bI true)) rfl ?_
    refine r_ifB_eq (b := true) (tgt := 32) E dX2_open_2_13 (by decide) (fun c => absurd c (by decide)) (fun _ => ?_)
    refine r_aload E dX2_open_2_16 rfl ?_
    refine r_castS E cl_X6 q803 gd1o dX2_open_2_18 ?_
    refine r_astore_n E [some (.ref d), some (.int (nI c)), some (.int (bI b)), some (.ref (gf c)), some (.ref (gf c))] dX2_open_2_21 rfl rfl ?_
    refine r_aload_n E dX2_open_2_22 rfl ?_
    refine r_getfN E cl_X6 1 (by decide) q813 gd1o rfl dX2_open_2_23 ?_
    refine r_iload_n E dX2_open_2_26 rfl ?_
    refine r_icmp_ne (tgt := 32) E dX2_open_2_27 (by decide) (fun q => ?_) (fun q => absurd ⟨gd1a, by rw [gd1c, q]⟩ h0)
    refine r_new E cl_X5 [.null, .null, .null, .null, .null, .int 0, .int 0, .int 0] q692 q693 q104 (by decide) 0 0 (Nat.le_of_ble_eq_true rfl) (Nat.le_of_ble_eq_true rfl) dX2_open_2_32 (fun a5 ha5 ka5 => ?_)
    refine r_dup E dX2_open_2_35 rfl ?_
    refine r_bipush E (nI 9) dX2_open_2_36 (by decide) ?_
    refine r_iload_n E dX2_open_2_38 rfl ?_
    refine r_callI0 E (ct_X5_init G hl (fmUp h a5 (true, .inr (.inl (10, [.null, .null, .null, .null, .null, .int 0, .int 0, .int 0])))) a5 (nI 9) (nI c) fmUp_s) mX5_init rfl q701 q702 rfl rfl (Nat.le_of_ble_eq_true rfl) (Nat.le_of_ble_eq_true rfl) (Nat.le_of_ble_eq_true rfl) dX2_open_2_39 0 0 (Nat.le_of_ble_eq_true rfl) (Nat.le_of_ble_eq_true rfl) ?_
    refine r_athrow E (ci := 10) rfl fmUp_s dX2_open_2_42 ?_
    exact r_xout E P (fun x hx => by cases hx) ⟨rfl, ha5, ka5, fmUp_uu _ _ _ _⟩
  · refine r_aload_n E dX2_open_2_0 rfl ?_
    refine r_getf E cl_X2 0 (by decide) q185 hd rfl dX2_open_2_1 ?_
    refine r_iload_n E dX2_open_2_4 rfl ?_
    refine r_aald E hg rfl rfl (by omega) (by decide) dX2_open_2_5 ?_
    refine r_top (v' := .ref (gf c)) (congrArg va_rf (hgq _ (by omega))) ?_
    refine r_astore E [some (.ref d), some (.int (nI c)), some (.int (bI b)), none, some (.ref (gf c))] dX2_open_2_6 rfl rfl ?_
    refine r_aload E dX2_open_2_8 rfl ?_
    refine r_instNo E cl_X8 q803 (by decide +kernel) gd1o dX2_open_2_10 ?_
    refine r_top (v' := .int (bI false)) rfl ?_
    refine r_ifB_eq (b := false) (tgt := 32) E dX2_open_2_13 (by decide) (fun _ => ?_) (fun c => absurd c (by decide))
    refine r_new E cl_X5 [.null, .null, .null, .null, .null, .int 0, .int 0, .int 0] q692 q693 q104 (by decide) 0 0 (Nat.le_of_ble_eq_true rfl) (Nat.le_of_ble_eq_true rfl) dX2_open_2_32 (fun a7 ha7 ka7 => ?_)
    refine r_dup E dX2_open_2_35 rfl ?_
    refine r_bipush E (nI 9) dX2_open_2_36 (by decide) ?_
    refine r_iload_n E dX2_open_2_38 rfl ?_
    refine r_callI0 E (ct_X5_init G hl (fmUp h a7 (true, .inr (.inl (10, [.null, .null, .null, .null, .null, .int 0, .int 0, .int 0])))) a7 (nI 9) (nI c) fmUp_s) mX5_init rfl q701 q702 rfl rfl (Nat.le_of_ble_eq_true rfl) (Nat.le_of_ble_eq_true rfl) (Nat.le_of_ble_eq_true rfl) dX2_open_2_39 0 0 (Nat.le_of_ble_eq_true rfl) (Nat.le_of_ble_eq_true rfl) ?_
    refine r_athrow E (ci := 10) rfl fmUp_s dX2_open_2_42 ?_
    exact r_xout E P (fun x hx => by cases hx) ⟨rfl, ha7, ka7, fmUp_uu _ _ _ _⟩

set_option maxHeartbeats 4000000 in
theorem ctT_X2_allowMeeting (G : fmG) (hl : (fmLn G).stackTraces = false) (h : fmHp) {d g sl se pl pe : Nat} {gf sf pf : Nat → Nat} {N : Nat → Int32} {K pk : Nat} (hC : CC G h) (hM : MineAt G h d g sl se pl pe gf sf pf N K pk) (c : Nat) (own : Int32) (hc : c < 64) (h0 : sMeet N c own K = none) : Ct G yX2_allowMeeting (ws_ yX2_allowMeeting cX2_allowMeeting 4 none) { frames := 5, cells := 0, slots := 0, locals := 132 } [.ref d, .int (nI c), .int own] h (fmRet none h) fmNo := by
  refine Ct.of hl (by decide +kernel) (Nat.le_of_ble_eq_true rfl) (fun Γ E P => ?_)
  obtain ⟨hd, ⟨gq, hg, hgq⟩, hgd, hS, hSh, hP, hPk, hK8, hP6, hsp, hse⟩ := id hM
  obtain ⟨mcS, hsl⟩ := hS.o
  obtain ⟨mcP, hpl⟩ := hP.o
  refine r_aload_n E dX2_allowMeeting_0 rfl ?_
  refine r_iload_n E dX2_allowMeeting_1 rfl ?_
  refine r_iload_n E dX2_allowMeeting_2 rfl ?_
  refine r_callV1 (v1 := .int (cI (sMeet N c own K))) E (ct_X2_met G hl (h) hC hM c own (by omega)) mX2_met q791 q792 q793 (fun H a1 => fm_rc (ci := 2) (C := RX2) (T := TX2) (N := 7) a1 rfl E.v hd) rfl rfl (Nat.le_of_ble_eq_true rfl) (Nat.le_of_ble_eq_true rfl) (Nat.le_of_ble_eq_true rfl) dX2_allowMeeting_3 0 0 (Nat.le_of_ble_eq_true rfl) (Nat.le_of_ble_eq_true rfl) ?_
  refine r_istore_n E [some (.ref d), some (.int (nI c)), some (.int own), some (.int (cI (sMeet N c own K)))] dX2_allowMeeting_6 rfl rfl ?_
  refine r_iload_n E dX2_allowMeeting_7 rfl ?_
  refine r_iconst E (-1) dX2_allowMeeting_8 (by decide) ?_
  refine r_icmpC_ne (tgt := 16) E dX2_allowMeeting_9 (by decide) (sMeet_31 hK8) (fun c1 => ?_) (fun c1 => ?_)
  · exact absurd h0 c1
  · refine r_iconst E (nI 1) dX2_allowMeeting_12 (by decide) ?_
    refine r_goto (tgt := 17) E dX2_allowMeeting_13 (by decide) ?_
    refine r_iconst E (nI 3) dX2_allowMeeting_17 (by decide) ?_
    refine r_iload_n E dX2_allowMeeting_18 rfl ?_
    refine r_callSN0 E (ctT_X1_allow G hl (h) (nI 3) (cI (sMeet N c own K))) mX1_allow q78 q734 q735 rfl rfl (Nat.le_of_ble_eq_true rfl) (Nat.le_of_ble_eq_true rfl) (Nat.le_of_ble_eq_true rfl) dX2_allowMeeting_19 0 0 (Nat.le_of_ble_eq_true rfl) (Nat.le_of_ble_eq_true rfl) ?_
    exact r_return E P rfl dX2_allowMeeting_22 ⟨rfl, rfl⟩

set_option maxHeartbeats 4000000 in
theorem ctF_X2_allowMeeting (G : fmG) (hl : (fmLn G).stackTraces = false) (h : fmHp) {d g sl se pl pe : Nat} {gf sf pf : Nat → Nat} {N : Nat → Int32} {K pk : Nat} (hC : CC G h) (hM : MineAt G h d g sl se pl pe gf sf pf N K pk) (c : Nat) (own : Int32) (hc : c < 64) (x : Nat) (h0 : sMeet N c own K = some x) : Ct G yX2_allowMeeting (ws_ yX2_allowMeeting cX2_allowMeeting 4 none) { frames := 5, cells := 1, slots := 8, locals := 132 } [.ref d, .int (nI c), .int own] h (fun _ _ => False) (fun q Ex h' => Ex = "FlintMine$Refusal" ∧ h q = none ∧ (fmK0 G).size ≤ q ∧ h' = fmUp h q (true, .inr (.inl (10, [.null, .null, .null, .null, .null, .int 0, .int (nI 3), .int (nI x)])))) := by
  refine Ct.of hl (by decide +kernel) (Nat.le_of_ble_eq_true rfl) (fun Γ E P => ?_)
  obtain ⟨hd, ⟨gq, hg, hgq⟩, hgd, hS, hSh, hP, hPk, hK8, hP6, hsp, hse⟩ := id hM
  obtain ⟨mcS, hsl⟩ := hS.o
  obtain ⟨mcP, hpl⟩ := hP.o
  refine r_aload_n E dX2_allowMeeting_0 rfl ?_
  refine r_iload_n E dX2_allowMeeting_1 rfl ?_
  refine r_iload_n E dX2_allowMeeting_2 rfl ?_
  refine r_callV1 (v1 := .int (cI (sMeet N c own K))) E (ct_X2_met G hl (h) hC hM c own (by omega)) mX2_met q791 q792 q793 (fun H a1 => fm_rc (ci := 2) (C := RX2) (T := TX2) (N := 7) a1 rfl E.v hd) rfl rfl (Nat.le_of_ble_eq_true rfl) (Nat.le_of_ble_eq_true rfl) (Nat.le_of_ble_eq_true rfl) dX2_allowMeeting_3 1 8 (Nat.le_of_ble_eq_true rfl) (Nat.le_of_ble_eq_true rfl) ?_
  refine r_istore_n E [some (.ref d), some (.int (nI c)), some (.int own), some (.int (cI (sMeet N c own K)))] dX2_allowMeeting_6 rfl rfl ?_
  refine r_iload_n E dX2_allowMeeting_7 rfl ?_
  refine r_iconst E (-1) dX2_allowMeeting_8 (by decide) ?_
  refine r_icmpC_ne (tgt := 16) E dX2_allowMeeting_9 (by decide) (sMeet_31 hK8) (fun c1 => ?_) (fun c1 => ?_)
  · refine r_iconst E (nI 0) dX2_allowMeeting_16 (by decide) ?_
    refine r_iconst E (nI 3) dX2_allowMeeting_17 (by decide) ?_
    refine r_iload_n E dX2_allowMeeting_18 rfl ?_
    refine r_top (v' := .int (nI x)) (congrArg Value.int (by rw [h0]; rfl)) ?_
    refine r_callSN E (ctF_X1_allow G hl h (nI 3) (nI x)) mX1_allow q78 q734 q735 rfl rfl (Nat.le_of_ble_eq_true rfl) (Nat.le_of_ble_eq_true rfl) (Nat.le_of_ble_eq_true rfl) dX2_allowMeeting_19 0 0 (Nat.le_of_ble_eq_true rfl) (Nat.le_of_ble_eq_true rfl) (fun _ _ q => q.elim) (fun q Ex h' hx => ?_)
    exact r_xout E P (fun x hx => by cases hx) hx
  · rw [h0] at c1; cases c1

set_option maxHeartbeats 4000000 in
theorem ct_J20_valueOf (G : fmG) (hl : (fmLn G).stackTraces = false) (h : fmHp) (hC : CC G h) (v : Nat) (hv : v < 128) : Ct G yJ20_valueOf (ws_ yJ20_valueOf cJ20_valueOf 1 (some (.object "java/lang/Integer"))) { frames := 0, cells := 0, slots := 0, locals := 0 } [.int (nI v)] h (fmRet (some (.ref (fmAd G (100 + (v + 128))))) h) fmNo := by
  refine Ct.of hl (by decide +kernel) (Nat.le_of_ble_eq_true rfl) (fun Γ E P => ?_)
  refine r_iload_n E dJ20_valueOf_0 rfl ?_
  refine r_bipush E (-128) dJ20_valueOf_1 (by decide) ?_
  refine r_icmp_lt (tgt := 23) E dJ20_valueOf_3 (by decide) (fun q => absurd q (nI_geN (by omega) (by decide))) (fun _ => ?_)
  refine r_iload_n E dJ20_valueOf_6 rfl ?_
  refine r_gets E 12 rfl q762 dJ20_valueOf_7 ?_
  refine r_top (v' := .int (nI 127)) rfl ?_
  refine r_icmpN_gt (tgt := 23) E dJ20_valueOf_10 (by decide) (by omega) (by omega) (fun q => by omega) (fun _ => ?_)
  refine r_gets E 11 rfl q764 dJ20_valueOf_13 ?_
  refine r_iload_n E dJ20_valueOf_16 rfl ?_
  refine r_sipush E (nI 128) dJ20_valueOf_17 (by decide) ?_
  refine r_iaddN E dJ20_valueOf_20 ?_
  refine r_aaldC E hC.2.2.2.1 (by omega) (by omega) dJ20_valueOf_21 ?_
  exact r_areturn E P rfl (Or.inl ⟨_, rfl⟩) dJ20_valueOf_22 ⟨rfl, rfl⟩

