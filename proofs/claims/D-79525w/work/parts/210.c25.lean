set_option maxHeartbeats 4000000 in
theorem ctN_X9_init_2 (G : fmG) (hl : (fmLn G).stackTraces = false) (h : fmHp) (a x n : Nat) (ha : h a = some (true, .inr (.inl (7, [.int 0, .null, .int 0])))) : Ct G yX9_init_2 (ws_ yX9_init_2 cX9_init_2 4 none) { frames := 1, cells := 0, slots := 0, locals := 40 } [.ref a, .int (nI x), .null, .int (nI n)] h (fmRet none (fmUp h a (trO x .null n))) fmNo := by
  refine Ct.of hl (by decide +kernel) (Nat.le_of_ble_eq_true rfl) (fun Γ E P => ?_)
  refine r_aload_n E dX9_init_2_0 rfl ?_
  refine r_objInit E q1236 q134 q135 dX9_init_2_1 (Nat.le_of_ble_eq_true rfl) (Nat.le_of_ble_eq_true rfl) ?_
  refine r_aload_n E dX9_init_2_4 rfl ?_
  refine r_iload_n E dX9_init_2_5 rfl ?_
  refine r_putfF E cl_X9 0 (by decide) rfl rfl rfl q1237 (fun _ z => z) ha (Nat.le_of_ble_eq_true rfl) rfl rfl dX9_init_2_6 ?_
  refine r_hp (h' := fmUp h a (true, .inr (.inl (7, [.int (nI x), .null, .int 0])))) (rfl) ?_
  refine r_aload_n E dX9_init_2_9 rfl ?_
  refine r_aload_nN E dX9_init_2_10 rfl ?_
  refine r_putfF E cl_X9 1 (by decide) rfl rfl rfl q1239 (fun _ z => z) fmUp_s (Nat.le_of_ble_eq_true rfl) rfl rfl dX9_init_2_11 ?_
  refine r_hp (h' := fmUp (fmUp h a (true, .inr (.inl (7, [.int (nI x), .null, .int 0])))) a (true, .inr (.inl (7, [.int (nI x), .null, .int 0])))) (rfl) ?_
  refine r_aload_n E dX9_init_2_14 rfl ?_
  refine r_iload_n E dX9_init_2_15 rfl ?_
  refine r_putfF E cl_X9 2 (by decide) rfl rfl rfl q1240 (fun _ z => z) fmUp_s (Nat.le_of_ble_eq_true rfl) rfl rfl dX9_init_2_16 ?_
  refine r_hp (h' := fmUp (fmUp (fmUp h a (true, .inr (.inl (7, [.int (nI x), .null, .int 0])))) a (true, .inr (.inl (7, [.int (nI x), .null, .int 0])))) a (true, .inr (.inl (7, [.int (nI x), .null, .int (nI n)])))) (rfl) ?_
  exact r_return E P rfl dX9_init_2_19 ⟨rfl, by rw [fmUp_uu, fmUp_uu]⟩

set_option maxHeartbeats 4000000 in
theorem ctR_X9_init_2 (G : fmG) (hl : (fmLn G).stackTraces = false) (h : fmHp) (a x n p : Nat) (ha : h a = some (true, .inr (.inl (7, [.int 0, .null, .int 0])))) : Ct G yX9_init_2 (ws_ yX9_init_2 cX9_init_2 4 none) { frames := 1, cells := 0, slots := 0, locals := 40 } [.ref a, .int (nI x), .ref p, .int (nI n)] h (fmRet none (fmUp h a (trO x (.ref p) n))) fmNo := by
  refine Ct.of hl (by decide +kernel) (Nat.le_of_ble_eq_true rfl) (fun Γ E P => ?_)
  refine r_aload_n E dX9_init_2_0 rfl ?_
  refine r_objInit E q1236 q134 q135 dX9_init_2_1 (Nat.le_of_ble_eq_true rfl) (Nat.le_of_ble_eq_true rfl) ?_
  refine r_aload_n E dX9_init_2_4 rfl ?_
  refine r_iload_n E dX9_init_2_5 rfl ?_
  refine r_putfF E cl_X9 0 (by decide) rfl rfl rfl q1237 (fun _ z => z) ha (Nat.le_of_ble_eq_true rfl) rfl rfl dX9_init_2_6 ?_
  refine r_hp (h' := fmUp h a (true, .inr (.inl (7, [.int (nI x), .null, .int 0])))) (rfl) ?_
  refine r_aload_n E dX9_init_2_9 rfl ?_
  refine r_aload_n E dX9_init_2_10 rfl ?_
  refine r_putfF E cl_X9 1 (by decide) rfl rfl rfl q1239 (fun _ z => z) fmUp_s (Nat.le_of_ble_eq_true rfl) rfl rfl dX9_init_2_11 ?_
  refine r_hp (h' := fmUp (fmUp h a (true, .inr (.inl (7, [.int (nI x), .null, .int 0])))) a (true, .inr (.inl (7, [.int (nI x), .ref p, .int 0])))) (rfl) ?_
  refine r_aload_n E dX9_init_2_14 rfl ?_
  refine r_iload_n E dX9_init_2_15 rfl ?_
  refine r_putfF E cl_X9 2 (by decide) rfl rfl rfl q1240 (fun _ z => z) fmUp_s (Nat.le_of_ble_eq_true rfl) rfl rfl dX9_init_2_16 ?_
  refine r_hp (h' := fmUp (fmUp (fmUp h a (true, .inr (.inl (7, [.int (nI x), .null, .int 0])))) a (true, .inr (.inl (7, [.int (nI x), .ref p, .int 0])))) a (true, .inr (.inl (7, [.int (nI x), .ref p, .int (nI n)])))) (rfl) ?_
  exact r_return E P rfl dX9_init_2_19 ⟨rfl, by rw [fmUp_uu, fmUp_uu]⟩

set_option maxHeartbeats 4000000 in
theorem ct_X9_init (G : fmG) (hl : (fmLn G).stackTraces = false) (h : fmHp) (a x : Nat) (ha : h a = some (true, .inr (.inl (7, [.int 0, .null, .int 0])))) : Ct G yX9_init (ws_ yX9_init cX9_init 2 none) { frames := 2, cells := 0, slots := 0, locals := 63 } [.ref a, .int (nI x)] h (fmRet none (fmUp h a (trO x .null 1))) fmNo := by
  refine Ct.of hl (by decide +kernel) (Nat.le_of_ble_eq_true rfl) (fun Γ E P => ?_)
  refine r_aload_n E dX9_init_0 rfl ?_
  refine r_iload_n E dX9_init_1 rfl ?_
  refine r_null E dX9_init_2 ?_
  refine r_iconst E (nI 1) dX9_init_3 (by decide) ?_
  refine r_callI0 E (ctN_X9_init_2 G hl h a x 1 ha) mX9_init_2 rfl q1233 q1234 rfl rfl (Nat.le_of_ble_eq_true rfl) (Nat.le_of_ble_eq_true rfl) (Nat.le_of_ble_eq_true rfl) dX9_init_4 0 0 (Nat.le_of_ble_eq_true rfl) (Nat.le_of_ble_eq_true rfl) ?_
  exact r_return E P rfl dX9_init_7 ⟨rfl, rfl⟩

set_option maxHeartbeats 4000000 in
theorem ct_X9_init_3 (G : fmG) (hl : (fmLn G).stackTraces = false) (h : fmHp) (a x p y n : Nat) (ah : Value) (ha : h a = some (true, .inr (.inl (7, [.int 0, .null, .int 0])))) (hp : h p = some (trO y ah n)) (hn : n < 1000) : Ct G yX9_init_3 (ws_ yX9_init_3 cX9_init_3 3 none) { frames := 2, cells := 0, slots := 0, locals := 63 } [.ref a, .int (nI x), .ref p] h (fmRet none (fmUp h a (trO x (.ref p) (n + 1)))) fmNo := by
  refine Ct.of hl (by decide +kernel) (Nat.le_of_ble_eq_true rfl) (fun Γ E P => ?_)
  refine r_aload_n E dX9_init_3_0 rfl ?_
  refine r_iload_n E dX9_init_3_1 rfl ?_
  refine r_aload_n E dX9_init_3_2 rfl ?_
  refine r_aload_n E dX9_init_3_3 rfl ?_
  refine r_getf E cl_X9 2 (by decide) q1240 hp rfl dX9_init_3_4 ?_
  refine r_iconst E (nI 1) dX9_init_3_7 (by decide) ?_
  refine r_iaddN E dX9_init_3_8 ?_
  refine r_callI0 E (ctR_X9_init_2 G hl h a x (n + 1) p ha) mX9_init_2 rfl q1233 q1234 rfl rfl (Nat.le_of_ble_eq_true rfl) (Nat.le_of_ble_eq_true rfl) (Nat.le_of_ble_eq_true rfl) dX9_init_3_9 0 0 (Nat.le_of_ble_eq_true rfl) (Nat.le_of_ble_eq_true rfl) ?_
  exact r_return E P rfl dX9_init_3_12 ⟨rfl, rfl⟩

set_option maxHeartbeats 4000000 in
theorem ct_X1_goOn (G : fmG) (hl : (fmLn G).stackTraces = false) {x far qu pa sb d : Nat} {fl re de : Int32} {sv : Value} {F : Nat → Nat} {X : Nat → Int32} (hX : ∀ c, c < 64 → X c = cI (oF (F c))) (hF : ∀ c, F c ≤ 64) (hp : bPre F) (b : Nat) (hb : b < 64) (n : Nat) : ∀ (h : fmHp) (hC : CC G h) (hx : DkO h x far qu d pa sb fl re de sv) (hfar : h far = some (fqA X)) (i a : Nat) (hi : i + 1 + n = F b) (hT : TrL h F b i a), Ct G yX1_goOn (ws_ yX1_goOn cX1_goOn 5 (some (.object "FlintMine$Trail"))) { frames := n + 4, cells := n, slots := 3 * n, locals := 24 * n + 300 } [.ref x, .ref a] h (fun v h' => Kp h h' ∧ ∃ a', v = some (.ref a') ∧ TrL h' F b (F b - 1) a') fmNo := by
  induction n with
  | zero =>
    intro h hC hx hfar i a hi hT
    refine Ct.of hl (by decide +kernel) (Nat.le_of_ble_eq_true rfl) (fun Γ E P => ?_)
    obtain ⟨ah, hta, -, -⟩ := hT.top
    obtain ⟨hc6, hFc⟩ := sWalk_ok hp hb i (by omega)
    generalize hc0 : sWalk F b i = c0 at *
    have hXc : X c0 = nI (F c0) := (hX c0 hc6).trans (oF_eq (by omega))
    have hF0 := hF c0
    have hFb := hF b
    refine r_aload_n E dX1_goOn_0 rfl ?_
    refine r_getf E cl_X1 0 (by decide) q270 hx rfl dX1_goOn_1 ?_
    refine r_aload_n E dX1_goOn_4 rfl ?_
    refine r_getfN E cl_X9 0 (by decide) q1238 hta rfl dX1_goOn_5 ?_
    refine r_iald E hfar (by omega) (by omega) dX1_goOn_8 ?_
    refine r_top (v' := .int (nI (F c0))) (congrArg Value.int hXc) ?_
    refine r_iconst E (nI 1) dX1_goOn_9 (by decide) ?_
    refine r_icmpN_ne (tgt := 15) E dX1_goOn_10 (by decide) (by omega) (by omega) (fun c => absurd (show F c0 = 1 by omega) c) (fun _ => ?_)
    refine r_aload_n E dX1_goOn_13 rfl ?_
    exact r_areturn E P rfl (Or.inl ⟨_, rfl⟩) dX1_goOn_14 ⟨Kp.refl, a, rfl, by rw [show F b - 1 = i by omega]; exact hT⟩
  | succ n ih =>
    intro h hC hx hfar i a hi hT
    refine Ct.of hl (by decide +kernel) (Nat.le_of_ble_eq_true rfl) (fun Γ E P => ?_)
    obtain ⟨ah, hta, -, -⟩ := hT.top
    obtain ⟨hc6, hFc⟩ := sWalk_ok hp hb i (by omega)
    generalize hc0 : sWalk F b i = c0 at *
    have hXc : X c0 = nI (F c0) := (hX c0 hc6).trans (oF_eq (by omega))
    have hF0 := hF c0
    have hFb := hF b
    refine r_aload_n E dX1_goOn_0 rfl ?_
    refine r_getf E cl_X1 0 (by decide) q270 hx rfl dX1_goOn_1 ?_
    refine r_aload_n E dX1_goOn_4 rfl ?_
    refine r_getfN E cl_X9 0 (by decide) q1238 hta rfl dX1_goOn_5 ?_
    refine r_iald E hfar (by omega) (by omega) dX1_goOn_8 ?_
    refine r_top (v' := .int (nI (F c0))) (congrArg Value.int hXc) ?_
    refine r_iconst E (nI 1) dX1_goOn_9 (by decide) ?_
    refine r_icmpN_ne (tgt := 15) E dX1_goOn_10 (by decide) (by omega) (by omega) (fun _ => ?_) (fun c => absurd c (by omega))
    refine r_iconst E (-1) dX1_goOn_15 (by decide) ?_
    refine r_istore_n E [some (.ref x), some (.ref a), some (.int (-1)), none, none] dX1_goOn_16 rfl rfl ?_
    refine r_iconst E (nI 3) dX1_goOn_17 (by decide) ?_
    refine r_istore_n E [some (.ref x), some (.ref a), some (.int (-1)), some (.int (nI 3)), none] dX1_goOn_18 rfl rfl ?_
    have s4 : fmW G Γ (h) (n + 1) (3 * (n + 1)) 19 [some (.ref x), some (.ref a), some (.int (cI (sNxt F c0 4))), some (.int (-1)), none] [] := by
      refine r_iload_n E dX1_goOn_19 rfl ?_
      refine r_if_lt (tgt := 73) E dX1_goOn_20 (by decide) (fun _ => ?_) (fun c => absurd (by decide : (-1 : Int32) < 0) c)
      obtain ⟨y, hy⟩ := sNxt_pre hp hc6 (by omega)
      obtain ⟨hy6, hyF, hy0⟩ := sNxt_lt hc6 hy
      have hys : sWalk F b (i + 1) = y := by show (sNxt F (sWalk F b i) 4).getD 0 = y; rw [hc0, hy]; rfl
      refine r_aload_n E dX1_goOn_73 rfl ?_
      refine r_new E cl_X9 [(.int 0), .null, (.int 0)] q1228 q1229 q115 (by decide) n (3 * n) (by omega) (by omega) dX1_goOn_74 (fun a1 ha1 ka1 => ?_)
      have hca : a ≠ a1 := fun z => by rw [z, ha1] at hta; cases hta
      refine r_dup E dX1_goOn_77 rfl ?_
      refine r_iload_n E dX1_goOn_78 rfl ?_
      refine r_top (v' := .int (nI y)) (congrArg Value.int (by rw [hy]; rfl)) ?_
      refine r_aload_n E dX1_goOn_79 rfl ?_
      refine r_callI0 E (ct_X9_init_3 G hl _ a1 y a c0 (i + 1) ah fmUp_s (fmUp_of hta ha1) (by omega)) mX9_init_3 rfl q1253 q1254 rfl rfl (Nat.le_of_ble_eq_true rfl) (Nat.le_of_ble_eq_true rfl) (Nat.le_of_ble_eq_true rfl) dX1_goOn_80 n (3 * n) (Nat.le_refl _) (Nat.le_refl _) ?_
      refine r_hp (h' := fmUp h a1 (trO y (.ref a) (i + 2))) (fmUp_uu _ _ _ _) ?_
      have hk : Kp h (fmUp h a1 (trO y (.ref a) (i + 2))) := Kp.up ha1
      have hT2 : TrL (fmUp h a1 (trO y (.ref a) (i + 2))) F b (i + 1) a1 := ⟨a, by rw [hys]; exact fmUp_s, hT.kp hk⟩
      refine r_callV E (ih _ (hC.kp hk) (hk _ _ hx) (hk _ _ hfar) (i + 1) a1 (by omega) hT2) mX1_goOn q1249 q1251 qs20 (fun H a1 => fm_rc (ci := 1) (C := RX1) (T := TX1) (N := 9) a1 rfl E.v (hk _ _ hx)) rfl rfl (by show n + 4 + 1 ≤ n + 1 + 4; omega) (by show 8 + (5 + 11) + (24 * n + 300) ≤ 24 * (n + 1) + 300; omega) (Nat.le_of_ble_eq_true rfl) dX1_goOn_83 0 0 (by show 0 + n ≤ n; omega) (by show 0 + 3 * n ≤ 3 * n; omega) (fun v' h1 q => ?_) (fun _ _ _ q => q.elim)
      obtain ⟨hk1, a2, rfl, hT3⟩ := q
      exact r_areturn E P rfl (Or.inl ⟨_, rfl⟩) dX1_goOn_86 ⟨hk.trans hk1, a2, rfl, hT3⟩
    have s3 : fmW G Γ (h) (n + 1) (3 * (n + 1)) 19 [some (.ref x), some (.ref a), some (.int (cI (sNxt F c0 3))), some (.int (nI 0)), none] [] := by
      refine r_iload_n E dX1_goOn_19 rfl ?_
      refine r_if_lt (tgt := 73) E dX1_goOn_20 (by decide) (fun c => absurd c (by decide)) (fun _ => ?_)
      refine r_aload_n E dX1_goOn_23 rfl ?_
      refine r_getfN E cl_X9 0 (by decide) q1238 hta rfl dX1_goOn_24 ?_
      refine r_iload_n E dX1_goOn_27 rfl ?_
      refine r_callS1 (v1 := .int (cI (sBsd c0 0))) E (ct_X1_beside G hl (h) hC c0 0 (by omega) (by omega)) mX1_beside q78 q1155 q337 rfl rfl (Nat.le_of_ble_eq_true rfl) (Nat.le_of_ble_eq_true rfl) (Nat.le_of_ble_eq_true rfl) dX1_goOn_28 (n + 1) (3 * (n + 1)) (Nat.le_refl _) (Nat.le_refl _) ?_
      refine r_istore E [some (.ref x), some (.ref a), some (.int (cI (sNxt F c0 3))), some (.int (nI 0)), some (.int (cI (sBsd c0 0)))] dX1_goOn_31 rfl rfl ?_
      refine r_iload E dX1_goOn_33 rfl ?_
      refine r_iconst E (-1) dX1_goOn_35 (by decide) ?_
      refine r_icmpC_eq (tgt := 65) E dX1_goOn_36 (by decide) (fun x hx => Nat.lt_trans (sBsd_lt hc6 hx) (by decide)) (fun c1 => ?_) (fun c1 => ?_)
      · refine r_iload_n E dX1_goOn_65 rfl ?_
        refine r_top (v' := .int (cI (sNxt F c0 4))) (congrArg (fun z => Value.int (cI z)) (sNxt_none c1).symm) ?_
        refine r_istore_n E [some (.ref x), some (.ref a), some (.int (cI (sNxt F c0 4))), some (.int (nI 0)), some (.int (cI (sBsd c0 0)))] dX1_goOn_66 rfl rfl ?_
        refine r_iinc E (-1) [some (.ref x), some (.ref a), some (.int (cI (sNxt F c0 4))), some (.int (-1)), some (.int (cI (sBsd c0 0)))] dX1_goOn_67 rfl (by decide) rfl rfl ?_
        refine r_goto (tgt := 19) E dX1_goOn_70 (by decide) ?_
        refine fmW.few (L' := [some (.ref x), some (.ref a), some (.int (cI (sNxt F c0 4))), some (.int (-1)), none]) (fmFew_n (L := [some (.ref x), some (.ref a), some (.int (cI (sNxt F c0 4))), some (.int (-1)), some (.int (cI (sBsd c0 0)))]) 4) ?_
        exact s4
      · obtain ⟨x9, hx9⟩ := Option.ne_none_iff_exists'.mp c1
        have hx6 := sBsd_lt hc6 hx9
        have hf9 := hF x9
        refine r_aload_n E dX1_goOn_39 rfl ?_
        refine r_getf E cl_X1 0 (by decide) q270 hx rfl dX1_goOn_40 ?_
        refine r_iload E dX1_goOn_43 rfl ?_
        refine r_top (v' := .int (nI x9)) (congrArg Value.int (by rw [hx9]; rfl)) ?_
        refine r_iald E hfar (by omega) (by omega) dX1_goOn_45 ?_
        refine r_top (v' := .int (cI (oF (F x9)))) (congrArg Value.int (hX x9 hx6)) ?_
        refine r_aload_n E dX1_goOn_46 rfl ?_
        refine r_getf E cl_X1 0 (by decide) q270 hx rfl dX1_goOn_47 ?_
        refine r_aload_n E dX1_goOn_50 rfl ?_
        refine r_getfN E cl_X9 0 (by decide) q1238 hta rfl dX1_goOn_51 ?_
        refine r_iald E hfar (by omega) (by omega) dX1_goOn_54 ?_
        refine r_top (v' := .int (nI (F c0))) (congrArg Value.int hXc) ?_
        refine r_iconst E (nI 1) dX1_goOn_55 (by decide) ?_
        refine r_isubN E dX1_goOn_56 (by omega) ?_
        refine r_icmp_ne (tgt := 65) E dX1_goOn_57 (by decide) (fun c2 => ?_) (fun c2 => ?_)
        · refine r_iload_n E dX1_goOn_65 rfl ?_
          refine r_top (v' := .int (cI (sNxt F c0 4))) (congrArg (fun z => Value.int (cI z)) (sNxt_no hx9 (fun z => c2 ((oF_m hf9 (by omega)).mpr ⟨by omega, by omega⟩))).symm) ?_
          refine r_istore_n E [some (.ref x), some (.ref a), some (.int (cI (sNxt F c0 4))), some (.int (nI 0)), some (.int (cI (sBsd c0 0)))] dX1_goOn_66 rfl rfl ?_
          refine r_iinc E (-1) [some (.ref x), some (.ref a), some (.int (cI (sNxt F c0 4))), some (.int (-1)), some (.int (cI (sBsd c0 0)))] dX1_goOn_67 rfl (by decide) rfl rfl ?_
          refine r_goto (tgt := 19) E dX1_goOn_70 (by decide) ?_
          refine fmW.few (L' := [some (.ref x), some (.ref a), some (.int (cI (sNxt F c0 4))), some (.int (-1)), none]) (fmFew_n (L := [some (.ref x), some (.ref a), some (.int (cI (sNxt F c0 4))), some (.int (-1)), some (.int (cI (sBsd c0 0)))]) 4) ?_
          exact s4
        · have c3 := (oF_m hf9 (by omega)).mp c2
          refine r_iload E dX1_goOn_60 rfl ?_
          refine r_top (v' := .int (nI x9)) (congrArg Value.int (by rw [hx9]; rfl)) ?_
          refine r_goto (tgt := 66) E dX1_goOn_62 (by decide) ?_
          refine r_top (v' := .int (cI (sNxt F c0 4))) (by rw [sNxt_yes hx9 ⟨by omega, by omega⟩]; rfl) ?_
          refine r_istore_n E [some (.ref x), some (.ref a), some (.int (cI (sNxt F c0 4))), some (.int (nI 0)), some (.int (cI (sBsd c0 0)))] dX1_goOn_66 rfl rfl ?_
          refine r_iinc E (-1) [some (.ref x), some (.ref a), some (.int (cI (sNxt F c0 4))), some (.int (-1)), some (.int (cI (sBsd c0 0)))] dX1_goOn_67 rfl (by decide) rfl rfl ?_
          refine r_goto (tgt := 19) E dX1_goOn_70 (by decide) ?_
          refine fmW.few (L' := [some (.ref x), some (.ref a), some (.int (cI (sNxt F c0 4))), some (.int (-1)), none]) (fmFew_n (L := [some (.ref x), some (.ref a), some (.int (cI (sNxt F c0 4))), some (.int (-1)), some (.int (cI (sBsd c0 0)))]) 4) ?_
          exact s4
    have s2 : fmW G Γ (h) (n + 1) (3 * (n + 1)) 19 [some (.ref x), some (.ref a), some (.int (cI (sNxt F c0 2))), some (.int (nI 1)), none] [] := by
      refine r_iload_n E dX1_goOn_19 rfl ?_
      refine r_if_lt (tgt := 73) E dX1_goOn_20 (by decide) (fun c => absurd c (by decide)) (fun _ => ?_)
      refine r_aload_n E dX1_goOn_23 rfl ?_
      refine r_getfN E cl_X9 0 (by decide) q1238 hta rfl dX1_goOn_24 ?_
      refine r_iload_n E dX1_goOn_27 rfl ?_
      refine r_callS1 (v1 := .int (cI (sBsd c0 1))) E (ct_X1_beside G hl (h) hC c0 1 (by omega) (by omega)) mX1_beside q78 q1155 q337 rfl rfl (Nat.le_of_ble_eq_true rfl) (Nat.le_of_ble_eq_true rfl) (Nat.le_of_ble_eq_true rfl) dX1_goOn_28 (n + 1) (3 * (n + 1)) (Nat.le_refl _) (Nat.le_refl _) ?_
      refine r_istore E [some (.ref x), some (.ref a), some (.int (cI (sNxt F c0 2))), some (.int (nI 1)), some (.int (cI (sBsd c0 1)))] dX1_goOn_31 rfl rfl ?_
      refine r_iload E dX1_goOn_33 rfl ?_
      refine r_iconst E (-1) dX1_goOn_35 (by decide) ?_
      refine r_icmpC_eq (tgt := 65) E dX1_goOn_36 (by decide) (fun x hx => Nat.lt_trans (sBsd_lt hc6 hx) (by decide)) (fun c1 => ?_) (fun c1 => ?_)
      · refine r_iload_n E dX1_goOn_65 rfl ?_
        refine r_top (v' := .int (cI (sNxt F c0 3))) (congrArg (fun z => Value.int (cI z)) (sNxt_none c1).symm) ?_
        refine r_istore_n E [some (.ref x), some (.ref a), some (.int (cI (sNxt F c0 3))), some (.int (nI 1)), some (.int (cI (sBsd c0 1)))] dX1_goOn_66 rfl rfl ?_
        refine r_iinc E (nI 0) [some (.ref x), some (.ref a), some (.int (cI (sNxt F c0 3))), some (.int (nI 0)), some (.int (cI (sBsd c0 1)))] dX1_goOn_67 rfl (by decide) rfl rfl ?_
        refine r_goto (tgt := 19) E dX1_goOn_70 (by decide) ?_
        refine fmW.few (L' := [some (.ref x), some (.ref a), some (.int (cI (sNxt F c0 3))), some (.int (nI 0)), none]) (fmFew_n (L := [some (.ref x), some (.ref a), some (.int (cI (sNxt F c0 3))), some (.int (nI 0)), some (.int (cI (sBsd c0 1)))]) 4) ?_
        exact s3
      · obtain ⟨x9, hx9⟩ := Option.ne_none_iff_exists'.mp c1
        have hx6 := sBsd_lt hc6 hx9
        have hf9 := hF x9
        refine r_aload_n E dX1_goOn_39 rfl ?_
        refine r_getf E cl_X1 0 (by decide) q270 hx rfl dX1_goOn_40 ?_
        refine r_iload E dX1_goOn_43 rfl ?_
        refine r_top (v' := .int (nI x9)) (congrArg Value.int (by rw [hx9]; rfl)) ?_
        refine r_iald E hfar (by omega) (by omega) dX1_goOn_45 ?_
        refine r_top (v' := .int (cI (oF (F x9)))) (congrArg Value.int (hX x9 hx6)) ?_
        refine r_aload_n E dX1_goOn_46 rfl ?_
        refine r_getf E cl_X1 0 (by decide) q270 hx rfl dX1_goOn_47 ?_
        refine r_aload_n E dX1_goOn_50 rfl ?_
        refine r_getfN E cl_X9 0 (by decide) q1238 hta rfl dX1_goOn_51 ?_
        refine r_iald E hfar (by omega) (by omega) dX1_goOn_54 ?_
        refine r_top (v' := .int (nI (F c0))) (congrArg Value.int hXc) ?_
        refine r_iconst E (nI 1) dX1_goOn_55 (by decide) ?_
        refine r_isubN E dX1_goOn_56 (by omega) ?_
        refine r_icmp_ne (tgt := 65) E dX1_goOn_57 (by decide) (fun c2 => ?_) (fun c2 => ?_)
        · refine r_iload_n E dX1_goOn_65 rfl ?_
          refine r_top (v' := .int (cI (sNxt F c0 3))) (congrArg (fun z => Value.int (cI z)) (sNxt_no hx9 (fun z => c2 ((oF_m hf9 (by omega)).mpr ⟨by omega, by omega⟩))).symm) ?_
          refine r_istore_n E [some (.ref x), some (.ref a), some (.int (cI (sNxt F c0 3))), some (.int (nI 1)), some (.int (cI (sBsd c0 1)))] dX1_goOn_66 rfl rfl ?_
          refine r_iinc E (nI 0) [some (.ref x), some (.ref a), some (.int (cI (sNxt F c0 3))), some (.int (nI 0)), some (.int (cI (sBsd c0 1)))] dX1_goOn_67 rfl (by decide) rfl rfl ?_
          refine r_goto (tgt := 19) E dX1_goOn_70 (by decide) ?_
          refine fmW.few (L' := [some (.ref x), some (.ref a), some (.int (cI (sNxt F c0 3))), some (.int (nI 0)), none]) (fmFew_n (L := [some (.ref x), some (.ref a), some (.int (cI (sNxt F c0 3))), some (.int (nI 0)), some (.int (cI (sBsd c0 1)))]) 4) ?_
          exact s3
        · have c3 := (oF_m hf9 (by omega)).mp c2
          refine r_iload E dX1_goOn_60 rfl ?_
          refine r_top (v' := .int (nI x9)) (congrArg Value.int (by rw [hx9]; rfl)) ?_
          refine r_goto (tgt := 66) E dX1_goOn_62 (by decide) ?_
          refine r_top (v' := .int (cI (sNxt F c0 3))) (by rw [sNxt_yes hx9 ⟨by omega, by omega⟩]; rfl) ?_
          refine r_istore_n E [some (.ref x), some (.ref a), some (.int (cI (sNxt F c0 3))), some (.int (nI 1)), some (.int (cI (sBsd c0 1)))] dX1_goOn_66 rfl rfl ?_
          refine r_iinc E (nI 0) [some (.ref x), some (.ref a), some (.int (cI (sNxt F c0 3))), some (.int (nI 0)), some (.int (cI (sBsd c0 1)))] dX1_goOn_67 rfl (by decide) rfl rfl ?_
          refine r_goto (tgt := 19) E dX1_goOn_70 (by decide) ?_
          refine fmW.few (L' := [some (.ref x), some (.ref a), some (.int (cI (sNxt F c0 3))), some (.int (nI 0)), none]) (fmFew_n (L := [some (.ref x), some (.ref a), some (.int (cI (sNxt F c0 3))), some (.int (nI 0)), some (.int (cI (sBsd c0 1)))]) 4) ?_
          exact s3
    have s1 : fmW G Γ (h) (n + 1) (3 * (n + 1)) 19 [some (.ref x), some (.ref a), some (.int (cI (sNxt F c0 1))), some (.int (nI 2)), none] [] := by
      refine r_iload_n E dX1_goOn_19 rfl ?_
      refine r_if_lt (tgt := 73) E dX1_goOn_20 (by decide) (fun c => absurd c (by decide)) (fun _ => ?_)
      refine r_aload_n E dX1_goOn_23 rfl ?_
      refine r_getfN E cl_X9 0 (by decide) q1238 hta rfl dX1_goOn_24 ?_
      refine r_iload_n E dX1_goOn_27 rfl ?_
      refine r_callS1 (v1 := .int (cI (sBsd c0 2))) E (ct_X1_beside G hl (h) hC c0 2 (by omega) (by omega)) mX1_beside q78 q1155 q337 rfl rfl (Nat.le_of_ble_eq_true rfl) (Nat.le_of_ble_eq_true rfl) (Nat.le_of_ble_eq_true rfl) dX1_goOn_28 (n + 1) (3 * (n + 1)) (Nat.le_refl _) (Nat.le_refl _) ?_
      refine r_istore E [some (.ref x), some (.ref a), some (.int (cI (sNxt F c0 1))), some (.int (nI 2)), some (.int (cI (sBsd c0 2)))] dX1_goOn_31 rfl rfl ?_
      refine r_iload E dX1_goOn_33 rfl ?_
      refine r_iconst E (-1) dX1_goOn_35 (by decide) ?_
      refine r_icmpC_eq (tgt := 65) E dX1_goOn_36 (by decide) (fun x hx => Nat.lt_trans (sBsd_lt hc6 hx) (by decide)) (fun c1 => ?_) (fun c1 => ?_)
      · refine r_iload_n E dX1_goOn_65 rfl ?_
        refine r_top (v' := .int (cI (sNxt F c0 2))) (congrArg (fun z => Value.int (cI z)) (sNxt_none c1).symm) ?_
        refine r_istore_n E [some (.ref x), some (.ref a), some (.int (cI (sNxt F c0 2))), some (.int (nI 2)), some (.int (cI (sBsd c0 2)))] dX1_goOn_66 rfl rfl ?_
        refine r_iinc E (nI 1) [some (.ref x), some (.ref a), some (.int (cI (sNxt F c0 2))), some (.int (nI 1)), some (.int (cI (sBsd c0 2)))] dX1_goOn_67 rfl (by decide) rfl rfl ?_
        refine r_goto (tgt := 19) E dX1_goOn_70 (by decide) ?_
        refine fmW.few (L' := [some (.ref x), some (.ref a), some (.int (cI (sNxt F c0 2))), some (.int (nI 1)), none]) (fmFew_n (L := [some (.ref x), some (.ref a), some (.int (cI (sNxt F c0 2))), some (.int (nI 1)), some (.int (cI (sBsd c0 2)))]) 4) ?_
        exact s2
      · obtain ⟨x9, hx9⟩ := Option.ne_none_iff_exists'.mp c1
        have hx6 := sBsd_lt hc6 hx9
        have hf9 := hF x9
        refine r_aload_n E dX1_goOn_39 rfl ?_
        refine r_getf E cl_X1 0 (by decide) q270 hx rfl dX1_goOn_40 ?_
        refine r_iload E dX1_goOn_43 rfl ?_
        refine r_top (v' := .int (nI x9)) (congrArg Value.int (by rw [hx9]; rfl)) ?_
        refine r_iald E hfar (by omega) (by omega) dX1_goOn_45 ?_
        refine r_top (v' := .int (cI (oF (F x9)))) (congrArg Value.int (hX x9 hx6)) ?_
        refine r_aload_n E dX1_goOn_46 rfl ?_
        refine r_getf E cl_X1 0 (by decide) q270 hx rfl dX1_goOn_47 ?_
        refine r_aload_n E dX1_goOn_50 rfl ?_
        refine r_getfN E cl_X9 0 (by decide) q1238 hta rfl dX1_goOn_51 ?_
        refine r_iald E hfar (by omega) (by omega) dX1_goOn_54 ?_
        refine r_top (v' := .int (nI (F c0))) (congrArg Value.int hXc) ?_
        refine r_iconst E (nI 1) dX1_goOn_55 (by decide) ?_
        refine r_isubN E dX1_goOn_56 (by omega) ?_
        refine r_icmp_ne (tgt := 65) E dX1_goOn_57 (by decide) (fun c2 => ?_) (fun c2 => ?_)
        · refine r_iload_n E dX1_goOn_65 rfl ?_
          refine r_top (v' := .int (cI (sNxt F c0 2))) (congrArg (fun z => Value.int (cI z)) (sNxt_no hx9 (fun z => c2 ((oF_m hf9 (by omega)).mpr ⟨by omega, by omega⟩))).symm) ?_
          refine r_istore_n E [some (.ref x), some (.ref a), some (.int (cI (sNxt F c0 2))), some (.int (nI 2)), some (.int (cI (sBsd c0 2)))] dX1_goOn_66 rfl rfl ?_
          refine r_iinc E (nI 1) [some (.ref x), some (.ref a), some (.int (cI (sNxt F c0 2))), some (.int (nI 1)), some (.int (cI (sBsd c0 2)))] dX1_goOn_67 rfl (by decide) rfl rfl ?_
          refine r_goto (tgt := 19) E dX1_goOn_70 (by decide) ?_
          refine fmW.few (L' := [some (.ref x), some (.ref a), some (.int (cI (sNxt F c0 2))), some (.int (nI 1)), none]) (fmFew_n (L := [some (.ref x), some (.ref a), some (.int (cI (sNxt F c0 2))), some (.int (nI 1)), some (.int (cI (sBsd c0 2)))]) 4) ?_
          exact s2
        · have c3 := (oF_m hf9 (by omega)).mp c2
          refine r_iload E dX1_goOn_60 rfl ?_
          refine r_top (v' := .int (nI x9)) (congrArg Value.int (by rw [hx9]; rfl)) ?_
          refine r_goto (tgt := 66) E dX1_goOn_62 (by decide) ?_
          refine r_top (v' := .int (cI (sNxt F c0 2))) (by rw [sNxt_yes hx9 ⟨by omega, by omega⟩]; rfl) ?_
          refine r_istore_n E [some (.ref x), some (.ref a), some (.int (cI (sNxt F c0 2))), some (.int (nI 2)), some (.int (cI (sBsd c0 2)))] dX1_goOn_66 rfl rfl ?_
          refine r_iinc E (nI 1) [some (.ref x), some (.ref a), some (.int (cI (sNxt F c0 2))), some (.int (nI 1)), some (.int (cI (sBsd c0 2)))] dX1_goOn_67 rfl (by decide) rfl rfl ?_
          refine r_goto (tgt := 19) E dX1_goOn_70 (by decide) ?_
          refine fmW.few (L' := [some (.ref x), some (.ref a), some (.int (cI (sNxt F c0 2))), some (.int (nI 1)), none]) (fmFew_n (L := [some (.ref x), some (.ref a), some (.int (cI (sNxt F c0 2))), some (.int (nI 1)), some (.int (cI (sBsd c0 2)))]) 4) ?_
          exact s2
    have s0 : fmW G Γ (h) (n + 1) (3 * (n + 1)) 19 [some (.ref x), some (.ref a), some (.int (cI (sNxt F c0 0))), some (.int (nI 3)), none] [] := by
      refine r_iload_n E dX1_goOn_19 rfl ?_
      refine r_if_lt (tgt := 73) E dX1_goOn_20 (by decide) (fun c => absurd c (by decide)) (fun _ => ?_)
      refine r_aload_n E dX1_goOn_23 rfl ?_
      refine r_getfN E cl_X9 0 (by decide) q1238 hta rfl dX1_goOn_24 ?_
      refine r_iload_n E dX1_goOn_27 rfl ?_
      refine r_callS1 (v1 := .int (cI (sBsd c0 3))) E (ct_X1_beside G hl (h) hC c0 3 (by omega) (by omega)) mX1_beside q78 q1155 q337 rfl rfl (Nat.le_of_ble_eq_true rfl) (Nat.le_of_ble_eq_true rfl) (Nat.le_of_ble_eq_true rfl) dX1_goOn_28 (n + 1) (3 * (n + 1)) (Nat.le_refl _) (Nat.le_refl _) ?_
      refine r_istore E [some (.ref x), some (.ref a), some (.int (cI (sNxt F c0 0))), some (.int (nI 3)), some (.int (cI (sBsd c0 3)))] dX1_goOn_31 rfl rfl ?_
      refine r_iload E dX1_goOn_33 rfl ?_
      refine r_iconst E (-1) dX1_goOn_35 (by decide) ?_
      refine r_icmpC_eq (tgt := 65) E dX1_goOn_36 (by decide) (fun x hx => Nat.lt_trans (sBsd_lt hc6 hx) (by decide)) (fun c1 => ?_) (fun c1 => ?_)
      · refine r_iload_n E dX1_goOn_65 rfl ?_
        refine r_top (v' := .int (cI (sNxt F c0 1))) (congrArg (fun z => Value.int (cI z)) (sNxt_none c1).symm) ?_
        refine r_istore_n E [some (.ref x), some (.ref a), some (.int (cI (sNxt F c0 1))), some (.int (nI 3)), some (.int (cI (sBsd c0 3)))] dX1_goOn_66 rfl rfl ?_
        refine r_iinc E (nI 2) [some (.ref x), some (.ref a), some (.int (cI (sNxt F c0 1))), some (.int (nI 2)), some (.int (cI (sBsd c0 3)))] dX1_goOn_67 rfl (by decide) rfl rfl ?_
        refine r_goto (tgt := 19) E dX1_goOn_70 (by decide) ?_
        refine fmW.few (L' := [some (.ref x), some (.ref a), some (.int (cI (sNxt F c0 1))), some (.int (nI 2)), none]) (fmFew_n (L := [some (.ref x), some (.ref a), some (.int (cI (sNxt F c0 1))), some (.int (nI 2)), some (.int (cI (sBsd c0 3)))]) 4) ?_
        exact s1
      · obtain ⟨x9, hx9⟩ := Option.ne_none_iff_exists'.mp c1
        have hx6 := sBsd_lt hc6 hx9
        have hf9 := hF x9
        refine r_aload_n E dX1_goOn_39 rfl ?_
        refine r_getf E cl_X1 0 (by decide) q270 hx rfl dX1_goOn_40 ?_
        refine r_iload E dX1_goOn_43 rfl ?_
        refine r_top (v' := .int (nI x9)) (congrArg Value.int (by rw [hx9]; rfl)) ?_
        refine r_iald E hfar (by omega) (by omega) dX1_goOn_45 ?_
        refine r_top (v' := .int (cI (oF (F x9)))) (congrArg Value.int (hX x9 hx6)) ?_
        refine r_aload_n E dX1_goOn_46 rfl ?_
        refine r_getf E cl_X1 0 (by decide) q270 hx rfl dX1_goOn_47 ?_
        refine r_aload_n E dX1_goOn_50 rfl ?_
        refine r_getfN E cl_X9 0 (by decide) q1238 hta rfl dX1_goOn_51 ?_
        refine r_iald E hfar (by omega) (by omega) dX1_goOn_54 ?_
        refine r_top (v' := .int (nI (F c0))) (congrArg Value.int hXc) ?_
        refine r_iconst E (nI 1) dX1_goOn_55 (by decide) ?_
        refine r_isubN E dX1_goOn_56 (by omega) ?_
        refine r_icmp_ne (tgt := 65) E dX1_goOn_57 (by decide) (fun c2 => ?_) (fun c2 => ?_)
        · refine r_iload_n E dX1_goOn_65 rfl ?_
          refine r_top (v' := .int (cI (sNxt F c0 1))) (congrArg (fun z => Value.int (cI z)) (sNxt_no hx9 (fun z => c2 ((oF_m hf9 (by omega)).mpr ⟨by omega, by omega⟩))).symm) ?_
          refine r_istore_n E [some (.ref x), some (.ref a), some (.int (cI (sNxt F c0 1))), some (.int (nI 3)), some (.int (cI (sBsd c0 3)))] dX1_goOn_66 rfl rfl ?_
          refine r_iinc E (nI 2) [some (.ref x), some (.ref a), some (.int (cI (sNxt F c0 1))), some (.int (nI 2)), some (.int (cI (sBsd c0 3)))] dX1_goOn_67 rfl (by decide) rfl rfl ?_
          refine r_goto (tgt := 19) E dX1_goOn_70 (by decide) ?_
          refine fmW.few (L' := [some (.ref x), some (.ref a), some (.int (cI (sNxt F c0 1))), some (.int (nI 2)), none]) (fmFew_n (L := [some (.ref x), some (.ref a), some (.int (cI (sNxt F c0 1))), some (.int (nI 2)), some (.int (cI (sBsd c0 3)))]) 4) ?_
          exact s1
        · have c3 := (oF_m hf9 (by omega)).mp c2
          refine r_iload E dX1_goOn_60 rfl ?_
          refine r_top (v' := .int (nI x9)) (congrArg Value.int (by rw [hx9]; rfl)) ?_
          refine r_goto (tgt := 66) E dX1_goOn_62 (by decide) ?_
          refine r_top (v' := .int (cI (sNxt F c0 1))) (by rw [sNxt_yes hx9 ⟨by omega, by omega⟩]; rfl) ?_
          refine r_istore_n E [some (.ref x), some (.ref a), some (.int (cI (sNxt F c0 1))), some (.int (nI 3)), some (.int (cI (sBsd c0 3)))] dX1_goOn_66 rfl rfl ?_
          refine r_iinc E (nI 2) [some (.ref x), some (.ref a), some (.int (cI (sNxt F c0 1))), some (.int (nI 2)), some (.int (cI (sBsd c0 3)))] dX1_goOn_67 rfl (by decide) rfl rfl ?_
          refine r_goto (tgt := 19) E dX1_goOn_70 (by decide) ?_
          refine fmW.few (L' := [some (.ref x), some (.ref a), some (.int (cI (sNxt F c0 1))), some (.int (nI 2)), none]) (fmFew_n (L := [some (.ref x), some (.ref a), some (.int (cI (sNxt F c0 1))), some (.int (nI 2)), some (.int (cI (sBsd c0 3)))]) 4) ?_
          exact s1
    exact s0

