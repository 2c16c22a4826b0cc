/-! PURE LAWS: sinking, digging, closing keep the row's invariants -/
theorem oU_RV {N : Nat → Int32} {K pk c j x : Nat} (h : RV N K pk) (hc : c < 64) (hj : j < K) (h0 : N (328 + j) = nI 0) (hx : sPickK N (sStrokes N c) pk = some x) : RV (sOpenUp N c j pk) K (oPk N c pk) := by
  obtain ⟨hjx, hxp, e, n, he, hn, hne, hn1, he9, hn27, hpk⟩ := h.strike hc hx
  obtain ⟨h1, h2, h3, h4, h5, h6, h7, h8⟩ := h
  have ho : ∀ q, q ≠ c → q ≠ 192 + c → q ≠ 336 + j → q ≠ 353 → sOpenUp N c j pk q = oW N c pk q := fun q a1 a2 a3 a4 => oU_o a1 a2 a3 a4
  have hlo : ∀ q, (q < 344 ∨ 352 ≤ q) → q ≠ c → q ≠ 192 + c → q ≠ 336 + j → q ≠ 353 → q ≠ 354 → sOpenUp N c j pk q = N q := fun q hq a1 a2 a3 a4 a5 => (oU_o a1 a2 a3 a4).trans (oW_lo h4 hx hq a5)
  have hp6 : oPk N c pk ≤ 6 := by rw [hpk]; split <;> omega
  have hsub : N (344 + x) - nI n = nI (e - n) := by rw [he]; exact nI_subI hne
  refine ⟨(ho 350 (by omega) (by omega) (by omega) (by omega)).trans ((oW_350 h4 hx).trans h1), h2, (ho 351 (by omega) (by omega) (by omega) (by omega)).trans (oW_351 h4 hx h3), hp6, fun k hk => ?_, fun c' hc' => ?_, ?_, fun c' hc' z => ?_⟩
  · have hk6 : k < 6 := by omega
    rw [ho (344 + k) (by omega) (by omega) (by omega) (by omega)]
    unfold oW
    rw [hjx, hn]
    by_cases q : e = n
    · rw [hpk, if_pos q] at hk
      rw [sStr_gone hxp h4 (by rw [hsub, q, Nat.sub_self]) hk]
      split
      · exact h5 k (by omega)
      · exact h5 (k + 1) (by omega)
    · rw [hpk, if_neg q] at hk
      rw [sStr_keep h4 (by rw [hsub]; exact fun z => by have := nI_z (k := e - n) (by omega) (z.trans nI_0); omega) hk]
      split
      · exact ⟨e - n, by omega, by omega, hsub⟩
      · exact h5 k hk
  · rw [hlo (64 + c') (by omega) (by omega) (by omega) (by omega) (by omega) (by omega), hlo (128 + c') (by omega) (by omega) (by omega) (by omega) (by omega) (by omega)]
    exact h6 c' hc'
  · rw [hlo 352 (by omega) (by omega) (by omega) (by omega) (by omega) (by omega)]
    exact h7
  · by_cases q : c' = c
    · subst q
      exact ⟨j, hj, oU_s hc, (hlo (328 + j) (by omega) (by omega) (by omega) (by omega) (by omega) (by omega)).trans h0⟩
    · rw [hlo c' (by omega) (by omega) (by omega) (by omega) (by omega) (by omega)] at z
      obtain ⟨s, s1, s2, s3⟩ := h8 c' hc' z
      exact ⟨s, s1, (hlo (192 + c') (by omega) (by omega) (by omega) (by omega) (by omega) (by omega)).trans s2, (hlo (328 + s) (by omega) (by omega) (by omega) (by omega) (by omega) (by omega)).trans s3⟩
theorem sSink4_RV {N : Nat → Int32} {K pk c : Nat} (h : RV N K pk) (hK : K < 8) : RV (sSink4 N c K) (K + 1) pk ∧ sSink4 N c K (328 + K) = nI 0 := by
  obtain ⟨h1, h2, h3, h4, h5, h6, h7, h8⟩ := h
  have ho : ∀ q, (q < 320 ∨ 344 ≤ q) → q ≠ 350 → sSink4 N c K q = N q := fun q a b => sSink4_o hK a b
  refine ⟨⟨upd_eq' rfl, hK, (ho 351 (by omega) (by omega)).trans h3, h4, fun k hk => by rw [ho _ (by omega) (by omega)]; exact h5 k hk, fun c' hc' => by rw [ho _ (by omega) (by omega), ho _ (by omega) (by omega)]; exact h6 c' hc', by rw [ho _ (by omega) (by omega)]; exact h7, fun c' hc' z => ?_⟩, ?_⟩
  · rw [ho _ (by omega) (by omega)] at z
    obtain ⟨s, s1, s2, s3⟩ := h8 c' hc' z
    refine ⟨s, by omega, (ho _ (by omega) (by omega)).trans s2, ?_⟩
    show upd (upd (upd (upd N (320 + K) (nI c)) (328 + K) (nI 0)) (336 + K) (nI 0)) 350 (nI (K + 1)) (328 + s) = nI 0
    rw [upd_ne' (by omega), upd_ne' (by omega), upd_ne' (by omega), upd_ne' (by omega)]
    exact s3
  · show upd (upd (upd (upd N (320 + K) (nI c)) (328 + K) (nI 0)) (336 + K) (nI 0)) 350 (nI (K + 1)) (328 + K) = nI 0
    rw [upd_ne' (by omega), upd_ne' (by omega), upd_eq' rfl]
theorem aSink_RV {N : Nat → Int32} {K pk : Nat} {v : Int32} (h : RV N K pk) (h0 : (aSink N v K pk).1 = 0) : ∃ K' pk', RV (aSink N v K pk).2.2.2 K' pk' := by
  obtain ⟨b1, e1⟩ := aG_00 (by decide) h0
  change aSink N v K pk = _ at e1
  rw [e1] at h0 ⊢
  obtain ⟨b2, e2⟩ := aG_00 (show (3 : Nat) ≠ 0 by decide) h0
  rw [e2] at h0 ⊢
  obtain ⟨b3, e3⟩ := aG_00 (show (3 : Nat) ≠ 0 by decide) h0
  rw [e3] at h0 ⊢
  obtain ⟨b4, e4⟩ := aG_00 (show (3 : Nat) ≠ 0 by decide) h0
  rw [e4] at h0 ⊢
  obtain ⟨b5, e5⟩ := aG_00 (show (3 : Nat) ≠ 0 by decide) h0
  rw [e5]
  obtain ⟨c, hc, rfl⟩ := sCell_of b1
  have hcn : cN (nI c) = c := cN_n (by omega)
  rw [hcn] at b5 ⊢
  have hK : K < 8 := by have := h.2.1; have := of_decide_eq_false b2; omega
  obtain ⟨x, hx⟩ := Option.isSome_iff_exists.mp (by simpa using b5 : (sPickK N (sStrokes N c) pk).isSome = true)
  obtain ⟨g1, g2⟩ := sSink4_RV (c := c) h hK
  exact ⟨K + 1, _, oU_RV g1 hc (Nat.lt_succ_self K) g2 (sink_x hc hK h.2.2.2.1 hx)⟩
theorem aGO_00 {o : Option (Int32 × Int32)} {y : ARes} (h : (aGO o y).1 = 0) : o = none ∧ aGO o y = y := by
  cases o with
  | none => exact ⟨rfl, rfl⟩
  | some z => exact absurd h (by obtain ⟨w, m⟩ := z; exact (by decide : (3 : Nat) ≠ 0))
theorem aDig_RV {N : Nat → Int32} {K pk : Nat} {s v : Int32} {p : Bool} (h : RV N K pk) (hb : ∀ k, k < K → ∃ b : Bool, N (328 + k) = bI b) (h0 : (aDig N s v p K pk).1 = 0) : ∃ K' pk', RV (aDig N s v p K pk).2.2.2 K' pk' := by
  obtain ⟨b1, e1⟩ := aG_00 (by decide) h0
  change aDig N s v p K pk = _ at e1
  rw [e1] at h0 ⊢
  obtain ⟨b2, e2⟩ := aGO_00 h0
  rw [e2]
  rw [Bool.not_eq_false', Bool.and_eq_true] at b1
  obtain ⟨j, hj, rfl⟩ := sShaft_of (by have := h.2.1; omega) b1.1
  obtain ⟨c, hc, rfl⟩ := sCell_of (by rw [b1.2]; rfl)
  have hcn : cN (nI c) = c := cN_n (by omega)
  have hjn : cN (nI j) = j := cN_n (by have := h.2.1; omega)
  rw [hcn, hjn] at b2 ⊢
  obtain ⟨x, hx⟩ := sDigRef_pick b2
  have hall := sChk_none b2
  have hcl : decide (N (328 + j) = nI 1) = false := hall _ (List.mem_cons_self ..)
  have hpp : (p && decide (N 352 = nI 0)) = false := hall (p && decide (N 352 = nI 0), nI 7, nI 0) (by simp)
  have hj0 : N (328 + j) = nI 0 := by
    obtain ⟨b, e⟩ := hb j hj
    cases b with
    | false => exact e
    | true => exact absurd e (of_decide_eq_false hcl)
  have hU := oU_RV h hc hj hj0 hx
  obtain ⟨p0, p9, hp0⟩ := h.2.2.2.2.2.2.1
  have hK8 := h.2.1
  have hpk6 := hU.2.2.2.1
  have h352 : sOpenUp N c j pk 352 = nI p0 := (oU_o (by omega) (by omega) (by omega) (by omega)).trans ((oW_lo h.2.2.2.1 hx (by omega) (by omega)).trans hp0)
  have hn : ∀ q, q ≠ 256 + c → q ≠ 352 → sDigRow N j c pk p q = sOpenUp N c j pk q := fun q a b => by
    show upd (upd (sOpenUp N c j pk) (256 + c) (bI p)) 352 _ q = _
    rw [upd_ne' b, upd_ne' a]
  show ∃ K' pk', RV (sDigRow N j c pk p) K' pk'
  refine ⟨K, _, hU.to (hn _ (by omega) (by omega)) (hn _ (by omega) (by omega)) (fun k hk => hn _ (by omega) (by omega)) (fun c' hc' => by rw [hn _ (by omega) (by omega), hn _ (by omega) (by omega)]; exact hU.2.2.2.2.2.1 c' hc') ?_ (fun c' hc' z => ⟨(hn c' (by omega) (by omega)).symm.trans z, hn _ (by omega) (by omega)⟩) (fun k hk => hn _ (by omega) (by omega))⟩
  show ∃ p', p' ≤ 99 ∧ upd (upd (sOpenUp N c j pk) (256 + c) (bI p)) 352 (upd (sOpenUp N c j pk) (256 + c) (bI p) 352 - bI p) 352 = nI p'
  rw [upd_eq' rfl, upd_ne' (by omega), h352]
  cases p with
  | false => exact ⟨p0, p9, Int32.sub_zero _⟩
  | true =>
    have h1 : 1 ≤ p0 := by
      have := of_decide_eq_false (show decide (N 352 = nI 0) = false from hpp)
      by_cases z : p0 = 0
      · rw [z] at hp0; exact absurd hp0 this
      · omega
    exact ⟨p0 - 1, by omega, nI_subI (b := 1) h1⟩
theorem aClose_RV {N : Nat → Int32} {K pk : Nat} {v : Int32} (h : RV N K pk) (hb : ∀ c, c < 64 → ∃ b : Bool, N (256 + c) = bI b) (h0 : (aClose N v K).1 = 0) : ∃ K' pk', RV (aClose N v K).2.2.2 K' pk' := by
  obtain ⟨b1, e1⟩ := aG_00 (by decide) h0
  change aClose N v K = _ at e1
  rw [e1] at h0 ⊢
  obtain ⟨b2, e2⟩ := aG_00 (show (3 : Nat) ≠ 0 by decide) h0
  rw [e2] at h0 ⊢
  obtain ⟨b3, e3⟩ := aG_00 (show (3 : Nat) ≠ 0 by decide) h0
  rw [e3]
  rw [Bool.not_eq_false'] at b1
  have hK8 := h.2.1
  have hpk6 := h.2.2.2.1
  obtain ⟨j, hj, rfl⟩ := sShaft_of (by omega) b1
  have hjn : cN (nI j) = j := cN_n (by omega)
  rw [hjn, aDon_4]
  obtain ⟨p0, p9, hp0⟩ := h.2.2.2.2.2.2.1
  have hA : ∀ q, q ≠ 328 + j → q ≠ 353 → upd (upd N (328 + j) (nI 1)) 353 (upd N (328 + j) (nI 1) 353 - nI (sOpens N (nI j))) q = N q := fun q h1 h2 => by rw [upd_ne' h2, upd_ne' h1]
  have hbA : ∀ c, c < 64 → ∃ b : Bool, upd (upd N (328 + j) (nI 1)) 353 (upd N (328 + j) (nI 1) 353 - nI (sOpens N (nI j))) (256 + c) = bI b := fun c hc => by
    rw [hA _ (by omega) (by omega)]; exact hb c hc
  obtain ⟨h1, h2⟩ := fill_law (s := nI j) ((hA 352 (by omega) (by omega)).trans hp0) p9 hbA 64 (Nat.le_refl _)
  have hhi : ∀ q, 320 ≤ q → q ≠ 352 → q ≠ 353 → q ≠ 328 + j → sCloseRow N j q = N q := fun q a1 a2 a3 a4 => by
    show sFillK _ (nI j) 64 q = _
    rw [h1 q a2, cF_o (by omega) (by omega), hA q a4 a3]
  have hlo : ∀ c, c < 64 → sCloseRow N j (64 + c) = N (64 + c) ∧ sCloseRow N j (128 + c) = N (128 + c) ∧ sCloseRow N j (192 + c) = N (192 + c) ∧ (sCloseRow N j c = nI 1 → N c = nI 1 ∧ N (192 + c) ≠ nI j) := fun c hc => by
    refine ⟨?_, ?_, ?_, fun z => ?_⟩
    · show sFillK _ (nI j) 64 _ = _
      rw [h1 _ (by omega), cF_o (by omega) (by omega), hA _ (by omega) (by omega)]
    · show sFillK _ (nI j) 64 _ = _
      rw [h1 _ (by omega), cF_o (by omega) (by omega), hA _ (by omega) (by omega)]
    · show sFillK _ (nI j) 64 _ = _
      rw [h1 _ (by omega), cF_o (by omega) (by omega), hA _ (by omega) (by omega)]
    · change sFillK _ (nI j) 64 c = _ at z
      rw [h1 c (by omega)] at z
      unfold cF at z
      by_cases g : c < 64 ∧ sOpenOf (upd (upd N (328 + j) (nI 1)) 353 (upd N (328 + j) (nI 1) 353 - nI (sOpens N (nI j)))) (some c) (nI j) = true
      · rw [if_pos g] at z; exact absurd z (by decide)
      · rw [if_neg g, if_neg (fun w => absurd w.1 (by omega)), hA c (by omega) (by omega)] at z
        refine ⟨z, fun w => g ⟨hc, ?_⟩⟩
        show (decide (_ = nI 1) && decide (_ = nI j)) = true
        rw [hA c (by omega) (by omega), hA (192 + c) (by omega) (by omega), z, w, decide_eq_true rfl, decide_eq_true rfl]
        rfl
  obtain ⟨g1, g2, g3, g4, g5, g6, g7, g8⟩ := h
  refine ⟨K, pk, (hhi _ (by omega) (by omega) (by omega) (by omega)).trans g1, g2, (hhi _ (by omega) (by omega) (by omega) (by omega)).trans g3, g4, fun k hk => by rw [hhi _ (by omega) (by omega) (by omega) (by omega)]; exact g5 k hk, fun c hc => by rw [(hlo c hc).1, (hlo c hc).2.1]; exact g6 c hc, ⟨min 99 (p0 + cB _ (nI j) 64), by omega, h2⟩, fun c hc z => ?_⟩
  obtain ⟨z1, z2⟩ := (hlo c hc).2.2.2 z
  obtain ⟨s, s1, s2, s3⟩ := g8 c hc z1
  have hsj : s ≠ j := fun w => z2 (by rw [s2, w])
  exact ⟨s, s1, (hlo c hc).2.2.1.trans s2, (hhi _ (by omega) (by omega) (by omega) (by omega)).trans s3⟩
/-- a told command keeps them -/
theorem aCmd_RV {N : Nat → Int32} {K pk : Nat} {t v u : Int32} {p : Bool} (h : RV N K pk) (hb : ∀ k, k < K → ∃ b : Bool, N (328 + k) = bI b) (hc : ∀ c, c < 64 → ∃ b : Bool, N (256 + c) = bI b) : (aCmd N t v u p).1 = 0 → ∃ K' pk', RV (aCmd N t v u p).2.2.2 K' pk' := by
  obtain ⟨-, eK, eP⟩ := RI_of h.1 h.2.1 h.2.2.1 h.2.2.2.1
  unfold aCmd
  rw [eK, eP]
  split
  · exact aSink_RV h
  · split
    · exact aDig_RV h hb
    · split
      · exact fun z => ⟨_, _, aProp_RV h z⟩
      · split
        · exact fun z => ⟨_, _, aUnprop_RV h z⟩
        · split
          · exact aClose_RV h hc
          · split
            · exact fun z => ⟨_, _, aPick_RV h z⟩
            · exact fun z => ⟨_, _, aProps_RV h z⟩
/-- the counts that a row tells are its only ones -/
theorem RV.same {N : Nat → Int32} {K pk K' pk' : Nat} (h : RV N K pk) (h1 : N 350 = nI K') (h2 : K' ≤ 8) (h3 : N 351 = nI pk') (h4 : pk' ≤ 6) : RV N K' pk' := by
  obtain ⟨-, eK, eP⟩ := RI_of h.1 h.2.1 h.2.2.1 h.2.2.2.1
  obtain ⟨-, eK2, eP2⟩ := RI_of h1 h2 h3 h4
  rw [← eK2, ← eP2, eK, eP]
  exact h
