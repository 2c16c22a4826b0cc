/-! THE LAW's cases -/
theorem aFault_fl (M : MSt) (fo : Option Nat) : (aFault M fo).1 = (aFl fo).1 ∧ aAns (aFault M fo) = aAns (aFl fo) := by cases fo <;> exact ⟨rfl, rfl⟩
theorem aRefusal_rl {M : MSt} {re de : Int32} {b : Bool} (h5 : M.1 5 = re) (h6 : M.1 6 = de) : (aRefusal M b).1 = (aRl re de b).1 ∧ aAns (aRefusal M b) = aAns (aRl re de b) := by
  unfold aRefusal aRl
  rw [h5, h6]
  cases decide (re = nI 0) <;> exact ⟨rfl, rfl⟩
theorem LI.kB {G : fmG} {h : fmHp} {x m o od b L : Nat} {xs : Nat → Int32} {a : DA} {S : DS} {M : MSt} (hI : LI G h x m o od b L xs a S M) : S.sv = true → (if S.sv = true then M.2 2 350 else nI 0) = nI (rK S.B) := fun hs => by
  obtain ⟨⟨hC, ⟨d, dh, w, pm, X, W, h1, h2, h3, h4, h5, h6, h7, h8, h9⟩, -⟩, hS⟩ := hI
  rw [if_pos hs, hS.2.2.2.2.2.1 hs]
  rcases h9 with ⟨z, -⟩ | ⟨-, s, -, g, sl, se, pl, pe, gf, sf, pf, K, pk, hM, hR, -⟩
  · rw [hs] at z; cases z
  · obtain ⟨⟨⟨e1, -⟩, -⟩, -⟩ := RI_of hR.1 hR.2.1 hR.2.2.1 hR.2.2.2.1
    exact e1
set_option maxHeartbeats 4000000 in
theorem lc_0 (G : fmG) (hl : (fmLn G).stackTraces = false) {Γ : fmC} (E : fmE G Γ cL_law 10 "FlintMineLaw" "law" ret room_1 []) {h : fmHp} {x m o od b L : Nat} {xs : Nat → Int32} {a : DA} {S : DS} {M : MSt} (hI : LI G h x m o od b L xs a S M) (hL : L ≤ 96) {i : Nat} (hi : i + 4 ≤ L) {kc ks : Nat} (kk : ∀ (h' : fmHp) (a' : DA) (S' : DS) (M' : MSt), LI G h' x m o od b L xs a' S' M' → fmW G Γ h' kc ks 1916 [some (.ref b), some (.ref x), some (.ref m), some (.ref o), some (.ref od), some (.int (nI i)), none, none, none, none] []) : fmW G Γ h (kc + 4700) (ks + 34000) 180 [some (.ref b), some (.ref x), some (.ref m), some (.ref o), some (.ref od), some (.int (nI i)), none, none, none, none] [] := by
  obtain ⟨e350, eK8, e351, eP6, eN, hk8⟩ := hI.k
  have hkB := hI.kB
  obtain ⟨hLH, hSR⟩ := hI
  obtain ⟨hC, hD, hm, hdis, ⟨f0, ho⟩, ⟨g0, hod⟩, hb⟩ := id hLH
  obtain ⟨-, s4, -, -, s7, s6b, s8, s12, s60, s14, sch, ⟨fo, hfo, hfo31⟩, sf, s5, s6, ⟨qa, s13⟩, ⟨qw, s15⟩, ⟨qp, s16⟩⟩ := id hSR
  skip
  refine r_aload_n E dL_law_180 rfl ?_
  refine r_aload_n E dL_law_181 rfl ?_
  refine r_iload E dL_law_182 rfl ?_
  refine r_iconst E (nI 1) dL_law_184 (by decide) ?_
  refine r_iaddN E dL_law_185 ?_
  refine r_iald E hb (by omega) (by omega) dL_law_186 ?_
  refine r_aload_n E dL_law_187 rfl ?_
  refine r_iload E dL_law_188 rfl ?_
  refine r_iconst E (nI 2) dL_law_190 (by decide) ?_
  refine r_iaddN E dL_law_191 ?_
  refine r_iald E hb (by omega) (by omega) dL_law_192 ?_
  refine r_aload_n E dL_law_193 rfl ?_
  refine r_iload E dL_law_194 rfl ?_
  refine r_iconst E (nI 3) dL_law_196 (by decide) ?_
  refine r_iaddN E dL_law_197 ?_
  refine r_iald E hb (by omega) (by omega) dL_law_198 ?_
  refine r_aload_n E dL_law_199 rfl ?_
  refine r_callSH E (w_rock G hl h hC hD hk8 o f0 ho (xs (i + 1)) (xs (i + 2)) (xs (i + 3))) mX0_rock q77 q584 q585 rfl rfl (Nat.le_of_ble_eq_true rfl) (Nat.le_of_ble_eq_true rfl) (Nat.le_of_ble_eq_true rfl) dL_law_200 kc ks (show kc + 28 ≤ kc + 4700 by omega) (show ks + 3011 ≤ ks + 34000 by omega) (fun v' h1 q => ?_) (fun _ _ _ q => q.elim)
  obtain ⟨rfl, hOP⟩ := q
  obtain ⟨a1, hL1, f1, ho1, hans⟩ := hLH.w hOP
  refine r_istore E [some (.ref b), some (.ref x), some (.ref m), some (.ref o), some (.ref od), some (.int (nI i)), some (.int (nI (kf 1 2 3 (aRock S.N (xs (i + 1)) (xs (i + 2)) (xs (i + 3))).1))), none, none, none] dL_law_203 rfl rfl ?_
  refine r_hp (h' := mdl m M h1) hL1.2.2.1.symm ?_
  refine r_aload_n E dL_law_205 rfl ?_
  refine r_aload_n E dL_law_206 rfl ?_
  refine r_iload E dL_law_207 rfl ?_
  refine r_iconst E (nI 1) dL_law_209 (by decide) ?_
  refine r_iaddN E dL_law_210 ?_
  refine r_iald E (hL1.m M).1.2.2.2.2.2.2 (by omega) (by omega) dL_law_211 ?_
  refine r_aload_n E dL_law_212 rfl ?_
  refine r_iload E dL_law_213 rfl ?_
  refine r_iconst E (nI 2) dL_law_215 (by decide) ?_
  refine r_iaddN E dL_law_216 ?_
  refine r_iald E (hL1.m M).1.2.2.2.2.2.2 (by omega) (by omega) dL_law_217 ?_
  refine r_aload_n E dL_law_218 rfl ?_
  refine r_iload E dL_law_219 rfl ?_
  refine r_iconst E (nI 3) dL_law_221 (by decide) ?_
  refine r_iaddN E dL_law_222 ?_
  refine r_iald E (hL1.m M).1.2.2.2.2.2.2 (by omega) (by omega) dL_law_223 ?_
  refine r_callV1 (v1 := .int (aAns (aRock (M.2 1) (xs (i + 1)) (xs (i + 2)) (xs (i + 3))))) E (ct_X4_rock G hl m M h1 (xs (i + 1)) (xs (i + 2)) (xs (i + 3)) S.kp s4 hk8) mX4_rock q1955 q1956 q1957 (fun H a1 => fm_rc (ci := 0) (C := RX4) (T := TX4) (N := 21) a1 rfl E.v mdl_o) rfl rfl (Nat.le_of_ble_eq_true rfl) (Nat.le_of_ble_eq_true rfl) (Nat.le_of_ble_eq_true rfl) dL_law_224 kc ks (Nat.le_refl _) (Nat.le_refl _) ?_
  rw [eN]
  obtain ⟨hS2, hth⟩ := hSR.chg (k1 := 1) (k2 := 2) (k3 := 3) (r := aRock S.N (xs (i + 1)) (xs (i + 2)) (xs (i + 3))) (by have := (show (aRock S.N (xs (i + 1)) (xs (i + 2)) (xs (i + 3))).1 = 0 ∨ (aRock S.N (xs (i + 1)) (xs (i + 2)) (xs (i + 3))).1 = 1 ∨ (aRock S.N (xs (i + 1)) (xs (i + 2)) (xs (i + 3))).1 = 2 ∨ (aRock S.N (xs (i + 1)) (xs (i + 2)) (xs (i + 3))).1 = 3 from cd_rock); omega)
  obtain ⟨M2, hM2⟩ : ∃ M2 : MSt, M2 = aSt M false S.kp 1 2 3 (aRock S.N (xs (i + 1)) (xs (i + 2)) (xs (i + 3))) := ⟨_, rfl⟩
  rw [← hM2] at hS2 hth ⊢
  have hL2 := (hL1.m M2).1
  have ho2 := hL1.o ho1 M2
  refine r_istore E [some (.ref b), some (.ref x), some (.ref m), some (.ref o), some (.ref od), some (.int (nI i)), some (.int (nI (kf 1 2 3 (aRock S.N (xs (i + 1)) (xs (i + 2)) (xs (i + 3))).1))), some (.int (aAns (aRock S.N (xs (i + 1)) (xs (i + 2)) (xs (i + 3))))), none, none] dL_law_227 rfl rfl ?_
  refine r_aload_n E dL_law_229 rfl ?_
  refine r_callV1 (v1 := .int (M2.1 0)) E (ct_X4_thrown G hl m M2 h1) mX4_thrown q1951 q1952 q1953 (fun H a1 => fm_rc (ci := 0) (C := RX4) (T := TX4) (N := 21) a1 rfl E.v mdl_o) rfl rfl (Nat.le_of_ble_eq_true rfl) (Nat.le_of_ble_eq_true rfl) (Nat.le_of_ble_eq_true rfl) dL_law_230 kc ks (Nat.le_refl _) (Nat.le_refl _) ?_
  refine r_top (v' := .int (nI (kf 1 2 3 (aRock S.N (xs (i + 1)) (xs (i + 2)) (xs (i + 3))).1))) (congrArg Value.int hth) ?_
  refine r_iload E dL_law_233 rfl ?_
  refine r_icmp_eq (tgt := 240) E dL_law_235 (by decide) (fun _ => ?_) (fun c => absurd rfl c)
  refine r_iload E dL_law_240 rfl ?_
  refine r_if_ne (tgt := 257) E dL_law_242 (by decide) (fun c => ?_) (fun c => ?_)
  · refine r_goto (tgt := 1916) E dL_law_257 (by decide) ?_
    refine fmW.few (L' := [some (.ref b), some (.ref x), some (.ref m), some (.ref o), some (.ref od), some (.int (nI i)), none, some (.int (aAns (aRock S.N (xs (i + 1)) (xs (i + 2)) (xs (i + 3))))), none, none]) (fmFew_n (L := [some (.ref b), some (.ref x), some (.ref m), some (.ref o), some (.ref od), some (.int (nI i)), some (.int (nI (kf 1 2 3 (aRock S.N (xs (i + 1)) (xs (i + 2)) (xs (i + 3))).1))), some (.int (aAns (aRock S.N (xs (i + 1)) (xs (i + 2)) (xs (i + 3))))), none, none]) 6) ?_
    refine fmW.few (L' := [some (.ref b), some (.ref x), some (.ref m), some (.ref o), some (.ref od), some (.int (nI i)), none, none, none, none]) (fmFew_n (L := [some (.ref b), some (.ref x), some (.ref m), some (.ref o), some (.ref od), some (.int (nI i)), none, some (.int (aAns (aRock S.N (xs (i + 1)) (xs (i + 2)) (xs (i + 3))))), none, none]) 7) ?_
    exact kk _ _ _ _ ⟨hL2, hS2⟩
  · have hc0 := kf_0 (by decide) (by decide) (by decide) c
    refine r_aload_n E dL_law_245 rfl ?_
    refine r_iconst E (nI 0) dL_law_246 (by decide) ?_
    refine r_lald E ho2 (by decide) (by decide) dL_law_247 ?_
    refine r_iload E dL_law_248 rfl ?_
    refine r_i2l E dL_law_250 ?_
    refine r_lcmp E dL_law_251 ?_
    refine r_if_eq (tgt := 257) E dL_law_252 (by decide) (fun _ => ?_) (fun c2 => absurd (lcmp_0.mpr (hans hc0)) c2)
    refine r_goto (tgt := 1916) E dL_law_257 (by decide) ?_
    refine fmW.few (L' := [some (.ref b), some (.ref x), some (.ref m), some (.ref o), some (.ref od), some (.int (nI i)), none, some (.int (aAns (aRock S.N (xs (i + 1)) (xs (i + 2)) (xs (i + 3))))), none, none]) (fmFew_n (L := [some (.ref b), some (.ref x), some (.ref m), some (.ref o), some (.ref od), some (.int (nI i)), some (.int (nI (kf 1 2 3 (aRock S.N (xs (i + 1)) (xs (i + 2)) (xs (i + 3))).1))), some (.int (aAns (aRock S.N (xs (i + 1)) (xs (i + 2)) (xs (i + 3))))), none, none]) 6) ?_
    refine fmW.few (L' := [some (.ref b), some (.ref x), some (.ref m), some (.ref o), some (.ref od), some (.int (nI i)), none, none, none, none]) (fmFew_n (L := [some (.ref b), some (.ref x), some (.ref m), some (.ref o), some (.ref od), some (.int (nI i)), none, some (.int (aAns (aRock S.N (xs (i + 1)) (xs (i + 2)) (xs (i + 3))))), none, none]) 7) ?_
    exact kk _ _ _ _ ⟨hL2, hS2⟩
set_option maxHeartbeats 4000000 in
theorem lc_1 (G : fmG) (hl : (fmLn G).stackTraces = false) {Γ : fmC} (E : fmE G Γ cL_law 10 "FlintMineLaw" "law" ret room_1 []) {h : fmHp} {x m o od b L : Nat} {xs : Nat → Int32} {a : DA} {S : DS} {M : MSt} (hI : LI G h x m o od b L xs a S M) (hL : L ≤ 96) {i : Nat} (hi : i + 4 ≤ L) {kc ks : Nat} (kk : ∀ (h' : fmHp) (a' : DA) (S' : DS) (M' : MSt), LI G h' x m o od b L xs a' S' M' → fmW G Γ h' kc ks 1916 [some (.ref b), some (.ref x), some (.ref m), some (.ref o), some (.ref od), some (.int (nI i)), none, none, none, none] []) : fmW G Γ h (kc + 4700) (ks + 34000) 260 [some (.ref b), some (.ref x), some (.ref m), some (.ref o), some (.ref od), some (.int (nI i)), none, none, none, none] [] := by
  obtain ⟨e350, eK8, e351, eP6, eN, hk8⟩ := hI.k
  have hkB := hI.kB
  obtain ⟨hLH, hSR⟩ := hI
  obtain ⟨hC, hD, hm, hdis, ⟨f0, ho⟩, ⟨g0, hod⟩, hb⟩ := id hLH
  obtain ⟨-, s4, -, -, s7, s6b, s8, s12, s60, s14, sch, ⟨fo, hfo, hfo31⟩, sf, s5, s6, ⟨qa, s13⟩, ⟨qw, s15⟩, ⟨qp, s16⟩⟩ := id hSR
  skip
  refine r_aload_n E dL_law_260 rfl ?_
  refine r_aload_n E dL_law_261 rfl ?_
  refine r_iload E dL_law_262 rfl ?_
  refine r_iconst E (nI 1) dL_law_264 (by decide) ?_
  refine r_iaddN E dL_law_265 ?_
  refine r_iald E hb (by omega) (by omega) dL_law_266 ?_
  refine r_aload_n E dL_law_267 rfl ?_
  refine r_callSH E (w_roof G hl h hC hD hk8 o f0 ho (xs (i + 1))) mX0_roof q77 q1057 q1058 rfl rfl (Nat.le_of_ble_eq_true rfl) (Nat.le_of_ble_eq_true rfl) (Nat.le_of_ble_eq_true rfl) dL_law_268 kc ks (show kc + 25 ≤ kc + 4700 by omega) (show ks + 3003 ≤ ks + 34000 by omega) (fun v' h1 q => ?_) (fun _ _ _ q => q.elim)
  obtain ⟨rfl, hOP⟩ := q
  obtain ⟨a1, hL1, f1, ho1, hans⟩ := hLH.w hOP
  refine r_istore E [some (.ref b), some (.ref x), some (.ref m), some (.ref o), some (.ref od), some (.int (nI i)), some (.int (nI (kf 9 1 2 (aRoof S.N (xs (i + 1))).1))), none, none, none] dL_law_271 rfl rfl ?_
  refine r_hp (h' := mdl m M h1) hL1.2.2.1.symm ?_
  refine r_aload_n E dL_law_273 rfl ?_
  refine r_aload_n E dL_law_274 rfl ?_
  refine r_iload E dL_law_275 rfl ?_
  refine r_iconst E (nI 1) dL_law_277 (by decide) ?_
  refine r_iaddN E dL_law_278 ?_
  refine r_iald E (hL1.m M).1.2.2.2.2.2.2 (by omega) (by omega) dL_law_279 ?_
  refine r_callV1 (v1 := .int (aAns (aRoof (M.2 1) (xs (i + 1))))) E (ct_X4_roof G hl m M h1 (xs (i + 1)) S.kp s4 hk8) mX4_roof q1988 q1989 q1990 (fun H a1 => fm_rc (ci := 0) (C := RX4) (T := TX4) (N := 21) a1 rfl E.v mdl_o) rfl rfl (Nat.le_of_ble_eq_true rfl) (Nat.le_of_ble_eq_true rfl) (Nat.le_of_ble_eq_true rfl) dL_law_280 kc ks (Nat.le_refl _) (Nat.le_refl _) ?_
  rw [eN]
  obtain ⟨hS2, hth⟩ := hSR.chg (k1 := 9) (k2 := 1) (k3 := 2) (r := aRoof S.N (xs (i + 1))) (by have := (show (aRoof S.N (xs (i + 1))).1 = 0 ∨ (aRoof S.N (xs (i + 1))).1 = 2 ∨ (aRoof S.N (xs (i + 1))).1 = 3 from cd_roof); revert this; generalize (aRoof S.N (xs (i + 1))).1 = c9; intro this; rcases this with z | z | z <;> omega)
  obtain ⟨M2, hM2⟩ : ∃ M2 : MSt, M2 = aSt M false S.kp 9 1 2 (aRoof S.N (xs (i + 1))) := ⟨_, rfl⟩
  rw [← hM2] at hS2 hth ⊢
  have hL2 := (hL1.m M2).1
  have ho2 := hL1.o ho1 M2
  refine r_istore E [some (.ref b), some (.ref x), some (.ref m), some (.ref o), some (.ref od), some (.int (nI i)), some (.int (nI (kf 9 1 2 (aRoof S.N (xs (i + 1))).1))), some (.int (aAns (aRoof S.N (xs (i + 1))))), none, none] dL_law_283 rfl rfl ?_
  refine r_aload_n E dL_law_285 rfl ?_
  refine r_callV1 (v1 := .int (M2.1 0)) E (ct_X4_thrown G hl m M2 h1) mX4_thrown q1951 q1952 q1953 (fun H a1 => fm_rc (ci := 0) (C := RX4) (T := TX4) (N := 21) a1 rfl E.v mdl_o) rfl rfl (Nat.le_of_ble_eq_true rfl) (Nat.le_of_ble_eq_true rfl) (Nat.le_of_ble_eq_true rfl) dL_law_286 kc ks (Nat.le_refl _) (Nat.le_refl _) ?_
  refine r_top (v' := .int (nI (kf 9 1 2 (aRoof S.N (xs (i + 1))).1))) (congrArg Value.int hth) ?_
  refine r_iload E dL_law_289 rfl ?_
  refine r_icmp_eq (tgt := 296) E dL_law_291 (by decide) (fun _ => ?_) (fun c => absurd rfl c)
  refine r_iload E dL_law_296 rfl ?_
  refine r_if_ne (tgt := 313) E dL_law_298 (by decide) (fun c => ?_) (fun c => ?_)
  · refine r_goto (tgt := 1916) E dL_law_313 (by decide) ?_
    refine fmW.few (L' := [some (.ref b), some (.ref x), some (.ref m), some (.ref o), some (.ref od), some (.int (nI i)), none, some (.int (aAns (aRoof S.N (xs (i + 1))))), none, none]) (fmFew_n (L := [some (.ref b), some (.ref x), some (.ref m), some (.ref o), some (.ref od), some (.int (nI i)), some (.int (nI (kf 9 1 2 (aRoof S.N (xs (i + 1))).1))), some (.int (aAns (aRoof S.N (xs (i + 1))))), none, none]) 6) ?_
    refine fmW.few (L' := [some (.ref b), some (.ref x), some (.ref m), some (.ref o), some (.ref od), some (.int (nI i)), none, none, none, none]) (fmFew_n (L := [some (.ref b), some (.ref x), some (.ref m), some (.ref o), some (.ref od), some (.int (nI i)), none, some (.int (aAns (aRoof S.N (xs (i + 1))))), none, none]) 7) ?_
    exact kk _ _ _ _ ⟨hL2, hS2⟩
  · have hc0 := kf_0 (by decide) (by decide) (by decide) c
    refine r_aload_n E dL_law_301 rfl ?_
    refine r_iconst E (nI 0) dL_law_302 (by decide) ?_
    refine r_lald E ho2 (by decide) (by decide) dL_law_303 ?_
    refine r_iload E dL_law_304 rfl ?_
    refine r_i2l E dL_law_306 ?_
    refine r_lcmp E dL_law_307 ?_
    refine r_if_eq (tgt := 313) E dL_law_308 (by decide) (fun _ => ?_) (fun c2 => absurd (lcmp_0.mpr (hans hc0)) c2)
    refine r_goto (tgt := 1916) E dL_law_313 (by decide) ?_
    refine fmW.few (L' := [some (.ref b), some (.ref x), some (.ref m), some (.ref o), some (.ref od), some (.int (nI i)), none, some (.int (aAns (aRoof S.N (xs (i + 1))))), none, none]) (fmFew_n (L := [some (.ref b), some (.ref x), some (.ref m), some (.ref o), some (.ref od), some (.int (nI i)), some (.int (nI (kf 9 1 2 (aRoof S.N (xs (i + 1))).1))), some (.int (aAns (aRoof S.N (xs (i + 1))))), none, none]) 6) ?_
    refine fmW.few (L' := [some (.ref b), some (.ref x), some (.ref m), some (.ref o), some (.ref od), some (.int (nI i)), none, none, none, none]) (fmFew_n (L := [some (.ref b), some (.ref x), some (.ref m), some (.ref o), some (.ref od), some (.int (nI i)), none, some (.int (aAns (aRoof S.N (xs (i + 1))))), none, none]) 7) ?_
    exact kk _ _ _ _ ⟨hL2, hS2⟩
set_option maxHeartbeats 4000000 in
theorem lc_2 (G : fmG) (hl : (fmLn G).stackTraces = false) {Γ : fmC} (E : fmE G Γ cL_law 10 "FlintMineLaw" "law" ret room_1 []) {h : fmHp} {x m o od b L : Nat} {xs : Nat → Int32} {a : DA} {S : DS} {M : MSt} (hI : LI G h x m o od b L xs a S M) (hL : L ≤ 96) {i : Nat} (hi : i + 4 ≤ L) {kc ks : Nat} (kk : ∀ (h' : fmHp) (a' : DA) (S' : DS) (M' : MSt), LI G h' x m o od b L xs a' S' M' → fmW G Γ h' kc ks 1916 [some (.ref b), some (.ref x), some (.ref m), some (.ref o), some (.ref od), some (.int (nI i)), none, none, none, none] []) : fmW G Γ h (kc + 4700) (ks + 34000) 316 [some (.ref b), some (.ref x), some (.ref m), some (.ref o), some (.ref od), some (.int (nI i)), none, none, none, none] [] := by
  obtain ⟨e350, eK8, e351, eP6, eN, hk8⟩ := hI.k
  have hkB := hI.kB
  obtain ⟨hLH, hSR⟩ := hI
  obtain ⟨hC, hD, hm, hdis, ⟨f0, ho⟩, ⟨g0, hod⟩, hb⟩ := id hLH
  obtain ⟨-, s4, -, -, s7, s6b, s8, s12, s60, s14, sch, ⟨fo, hfo, hfo31⟩, sf, s5, s6, ⟨qa, s13⟩, ⟨qw, s15⟩, ⟨qp, s16⟩⟩ := id hSR
  skip
  refine r_aload_n E dL_law_316 rfl ?_
  refine r_aload_n E dL_law_317 rfl ?_
  refine r_iload E dL_law_318 rfl ?_
  refine r_iconst E (nI 1) dL_law_320 (by decide) ?_
  refine r_iaddN E dL_law_321 ?_
  refine r_iald E hb (by omega) (by omega) dL_law_322 ?_
  refine r_aload_n E dL_law_323 rfl ?_
  refine r_callSH E (w_props G hl h hC hD hk8 o f0 ho (xs (i + 1))) mX0_props q77 q1066 q1067 rfl rfl (Nat.le_of_ble_eq_true rfl) (Nat.le_of_ble_eq_true rfl) (Nat.le_of_ble_eq_true rfl) dL_law_324 kc ks (show kc + 25 ≤ kc + 4700 by omega) (show ks + 3003 ≤ ks + 34000 by omega) (fun v' h1 q => ?_) (fun _ _ _ q => q.elim)
  obtain ⟨rfl, hOP⟩ := q
  obtain ⟨a1, hL1, f1, ho1, hans⟩ := hLH.w hOP
  refine r_istore E [some (.ref b), some (.ref x), some (.ref m), some (.ref o), some (.ref od), some (.int (nI i)), some (.int (nI (kf 9 1 9 (aProps S.N (xs (i + 1))).1))), none, none, none] dL_law_327 rfl rfl ?_
  refine r_hp (h' := mdl m M h1) hL1.2.2.1.symm ?_
  refine r_aload_n E dL_law_329 rfl ?_
  refine r_aload_n E dL_law_330 rfl ?_
  refine r_iload E dL_law_331 rfl ?_
  refine r_iconst E (nI 1) dL_law_333 (by decide) ?_
  refine r_iaddN E dL_law_334 ?_
  refine r_iald E (hL1.m M).1.2.2.2.2.2.2 (by omega) (by omega) dL_law_335 ?_
  refine r_callV1 (v1 := .int (aAns (aProps (M.2 1) (xs (i + 1))))) E (ct_X4_props G hl m M h1 (xs (i + 1)) false s8 S.kp s4 hk8) mX4_props q2019 q2020 q2021 (fun H a1 => fm_rc (ci := 0) (C := RX4) (T := TX4) (N := 21) a1 rfl E.v mdl_o) rfl rfl (Nat.le_of_ble_eq_true rfl) (Nat.le_of_ble_eq_true rfl) (Nat.le_of_ble_eq_true rfl) dL_law_336 kc ks (Nat.le_refl _) (Nat.le_refl _) ?_
  rw [eN]
  obtain ⟨hS2, hth⟩ := hSR.chg (k1 := 9) (k2 := 1) (k3 := 9) (r := aProps S.N (xs (i + 1))) (by have := (show (aProps S.N (xs (i + 1))).1 = 0 ∨ (aProps S.N (xs (i + 1))).1 = 2 from cd_props); revert this; generalize (aProps S.N (xs (i + 1))).1 = c9; intro this; rcases this with z | z | z <;> omega)
  obtain ⟨M2, hM2⟩ : ∃ M2 : MSt, M2 = aSt M false S.kp 9 1 9 (aProps S.N (xs (i + 1))) := ⟨_, rfl⟩
  rw [← hM2] at hS2 hth ⊢
  have hL2 := (hL1.m M2).1
  have ho2 := hL1.o ho1 M2
  refine r_istore E [some (.ref b), some (.ref x), some (.ref m), some (.ref o), some (.ref od), some (.int (nI i)), some (.int (nI (kf 9 1 9 (aProps S.N (xs (i + 1))).1))), some (.int (aAns (aProps S.N (xs (i + 1))))), none, none] dL_law_339 rfl rfl ?_
  refine r_aload_n E dL_law_341 rfl ?_
  refine r_callV1 (v1 := .int (M2.1 0)) E (ct_X4_thrown G hl m M2 h1) mX4_thrown q1951 q1952 q1953 (fun H a1 => fm_rc (ci := 0) (C := RX4) (T := TX4) (N := 21) a1 rfl E.v mdl_o) rfl rfl (Nat.le_of_ble_eq_true rfl) (Nat.le_of_ble_eq_true rfl) (Nat.le_of_ble_eq_true rfl) dL_law_342 kc ks (Nat.le_refl _) (Nat.le_refl _) ?_
  refine r_top (v' := .int (nI (kf 9 1 9 (aProps S.N (xs (i + 1))).1))) (congrArg Value.int hth) ?_
  refine r_iload E dL_law_345 rfl ?_
  refine r_icmp_eq (tgt := 352) E dL_law_347 (by decide) (fun _ => ?_) (fun c => absurd rfl c)
  refine r_iload E dL_law_352 rfl ?_
  refine r_if_ne (tgt := 369) E dL_law_354 (by decide) (fun c => ?_) (fun c => ?_)
  · refine r_goto (tgt := 1916) E dL_law_369 (by decide) ?_
    refine fmW.few (L' := [some (.ref b), some (.ref x), some (.ref m), some (.ref o), some (.ref od), some (.int (nI i)), none, some (.int (aAns (aProps S.N (xs (i + 1))))), none, none]) (fmFew_n (L := [some (.ref b), some (.ref x), some (.ref m), some (.ref o), some (.ref od), some (.int (nI i)), some (.int (nI (kf 9 1 9 (aProps S.N (xs (i + 1))).1))), some (.int (aAns (aProps S.N (xs (i + 1))))), none, none]) 6) ?_
    refine fmW.few (L' := [some (.ref b), some (.ref x), some (.ref m), some (.ref o), some (.ref od), some (.int (nI i)), none, none, none, none]) (fmFew_n (L := [some (.ref b), some (.ref x), some (.ref m), some (.ref o), some (.ref od), some (.int (nI i)), none, some (.int (aAns (aProps S.N (xs (i + 1))))), none, none]) 7) ?_
    exact kk _ _ _ _ ⟨hL2, hS2⟩
  · have hc0 := kf_0 (by decide) (by decide) (by decide) c
    refine r_aload_n E dL_law_357 rfl ?_
    refine r_iconst E (nI 0) dL_law_358 (by decide) ?_
    refine r_lald E ho2 (by decide) (by decide) dL_law_359 ?_
    refine r_iload E dL_law_360 rfl ?_
    refine r_i2l E dL_law_362 ?_
    refine r_lcmp E dL_law_363 ?_
    refine r_if_eq (tgt := 369) E dL_law_364 (by decide) (fun _ => ?_) (fun c2 => absurd (lcmp_0.mpr (hans hc0)) c2)
    refine r_goto (tgt := 1916) E dL_law_369 (by decide) ?_
    refine fmW.few (L' := [some (.ref b), some (.ref x), some (.ref m), some (.ref o), some (.ref od), some (.int (nI i)), none, some (.int (aAns (aProps S.N (xs (i + 1))))), none, none]) (fmFew_n (L := [some (.ref b), some (.ref x), some (.ref m), some (.ref o), some (.ref od), some (.int (nI i)), some (.int (nI (kf 9 1 9 (aProps S.N (xs (i + 1))).1))), some (.int (aAns (aProps S.N (xs (i + 1))))), none, none]) 6) ?_
    refine fmW.few (L' := [some (.ref b), some (.ref x), some (.ref m), some (.ref o), some (.ref od), some (.int (nI i)), none, none, none, none]) (fmFew_n (L := [some (.ref b), some (.ref x), some (.ref m), some (.ref o), some (.ref od), some (.int (nI i)), none, some (.int (aAns (aProps S.N (xs (i + 1))))), none, none]) 7) ?_
    exact kk _ _ _ _ ⟨hL2, hS2⟩
set_option maxHeartbeats 4000000 in
theorem lc_3 (G : fmG) (hl : (fmLn G).stackTraces = false) {Γ : fmC} (E : fmE G Γ cL_law 10 "FlintMineLaw" "law" ret room_1 []) {h : fmHp} {x m o od b L : Nat} {xs : Nat → Int32} {a : DA} {S : DS} {M : MSt} (hI : LI G h x m o od b L xs a S M) (hL : L ≤ 96) {i : Nat} (hi : i + 4 ≤ L) {kc ks : Nat} (kk : ∀ (h' : fmHp) (a' : DA) (S' : DS) (M' : MSt), LI G h' x m o od b L xs a' S' M' → fmW G Γ h' kc ks 1916 [some (.ref b), some (.ref x), some (.ref m), some (.ref o), some (.ref od), some (.int (nI i)), none, none, none, none] []) : fmW G Γ h (kc + 4700) (ks + 34000) 372 [some (.ref b), some (.ref x), some (.ref m), some (.ref o), some (.ref od), some (.int (nI i)), none, none, none, none] [] := by
  obtain ⟨e350, eK8, e351, eP6, eN, hk8⟩ := hI.k
  have hkB := hI.kB
  obtain ⟨hLH, hSR⟩ := hI
  obtain ⟨hC, hD, hm, hdis, ⟨f0, ho⟩, ⟨g0, hod⟩, hb⟩ := id hLH
  obtain ⟨-, s4, -, -, s7, s6b, s8, s12, s60, s14, sch, ⟨fo, hfo, hfo31⟩, sf, s5, s6, ⟨qa, s13⟩, ⟨qw, s15⟩, ⟨qp, s16⟩⟩ := id hSR
  skip
  refine r_aload_n E dL_law_372 rfl ?_
  refine r_aload_n E dL_law_373 rfl ?_
  refine r_iload E dL_law_374 rfl ?_
  refine r_iconst E (nI 1) dL_law_376 (by decide) ?_
  refine r_iaddN E dL_law_377 ?_
  refine r_iald E hb (by omega) (by omega) dL_law_378 ?_
  refine r_aload_n E dL_law_379 rfl ?_
  refine r_callSH E (w_pick G hl h hC hD hk8 o f0 ho (xs (i + 1))) mX0_pick q77 q1075 q1076 rfl rfl (Nat.le_of_ble_eq_true rfl) (Nat.le_of_ble_eq_true rfl) (Nat.le_of_ble_eq_true rfl) dL_law_380 kc ks (show kc + 25 ≤ kc + 4700 by omega) (show ks + 3195 ≤ ks + 34000 by omega) (fun v' h1 q => ?_) (fun _ _ _ q => q.elim)
  obtain ⟨rfl, hOP⟩ := q
  obtain ⟨a1, hL1, f1, ho1, hans⟩ := hLH.w hOP
  refine r_istore E [some (.ref b), some (.ref x), some (.ref m), some (.ref o), some (.ref od), some (.int (nI i)), some (.int (nI (kf 9 1 2 (aPick S.N (xs (i + 1)) (rP S.N)).1))), none, none, none] dL_law_383 rfl rfl ?_
  refine r_hp (h' := mdl m M h1) hL1.2.2.1.symm ?_
  refine r_aload_n E dL_law_385 rfl ?_
  refine r_aload_n E dL_law_386 rfl ?_
  refine r_iload E dL_law_387 rfl ?_
  refine r_iconst E (nI 1) dL_law_389 (by decide) ?_
  refine r_iaddN E dL_law_390 ?_
  refine r_iald E (hL1.m M).1.2.2.2.2.2.2 (by omega) (by omega) dL_law_391 ?_
  refine r_callV1 (v1 := .int (aAns (aPick (M.2 1) (xs (i + 1)) (rP (M.2 1))))) E (ct_X4_pick G hl m M h1 (xs (i + 1)) false s8 S.kp s4 hk8 (rP (M.2 1)) e351 eP6) mX4_pick q2031 q2032 q2033 (fun H a1 => fm_rc (ci := 0) (C := RX4) (T := TX4) (N := 21) a1 rfl E.v mdl_o) rfl rfl (Nat.le_of_ble_eq_true rfl) (Nat.le_of_ble_eq_true rfl) (Nat.le_of_ble_eq_true rfl) dL_law_392 kc ks (Nat.le_refl _) (Nat.le_refl _) ?_
  rw [eN]
  obtain ⟨hS2, hth⟩ := hSR.chg (k1 := 9) (k2 := 1) (k3 := 2) (r := aPick S.N (xs (i + 1)) (rP S.N)) (by have := (show (aPick S.N (xs (i + 1)) (rP S.N)).1 = 0 ∨ (aPick S.N (xs (i + 1)) (rP S.N)).1 = 2 ∨ (aPick S.N (xs (i + 1)) (rP S.N)).1 = 3 from cd_pick); revert this; generalize (aPick S.N (xs (i + 1)) (rP S.N)).1 = c9; intro this; rcases this with z | z | z <;> omega)
  obtain ⟨M2, hM2⟩ : ∃ M2 : MSt, M2 = aSt M false S.kp 9 1 2 (aPick S.N (xs (i + 1)) (rP S.N)) := ⟨_, rfl⟩
  rw [← hM2] at hS2 hth ⊢
  have hL2 := (hL1.m M2).1
  have ho2 := hL1.o ho1 M2
  refine r_istore E [some (.ref b), some (.ref x), some (.ref m), some (.ref o), some (.ref od), some (.int (nI i)), some (.int (nI (kf 9 1 2 (aPick S.N (xs (i + 1)) (rP S.N)).1))), some (.int (aAns (aPick S.N (xs (i + 1)) (rP S.N)))), none, none] dL_law_395 rfl rfl ?_
  refine r_aload_n E dL_law_397 rfl ?_
  refine r_callV1 (v1 := .int (M2.1 0)) E (ct_X4_thrown G hl m M2 h1) mX4_thrown q1951 q1952 q1953 (fun H a1 => fm_rc (ci := 0) (C := RX4) (T := TX4) (N := 21) a1 rfl E.v mdl_o) rfl rfl (Nat.le_of_ble_eq_true rfl) (Nat.le_of_ble_eq_true rfl) (Nat.le_of_ble_eq_true rfl) dL_law_398 kc ks (Nat.le_refl _) (Nat.le_refl _) ?_
  refine r_top (v' := .int (nI (kf 9 1 2 (aPick S.N (xs (i + 1)) (rP S.N)).1))) (congrArg Value.int hth) ?_
  refine r_iload E dL_law_401 rfl ?_
  refine r_icmp_eq (tgt := 408) E dL_law_403 (by decide) (fun _ => ?_) (fun c => absurd rfl c)
  refine r_iload E dL_law_408 rfl ?_
  refine r_if_ne (tgt := 425) E dL_law_410 (by decide) (fun c => ?_) (fun c => ?_)
  · refine r_goto (tgt := 1916) E dL_law_425 (by decide) ?_
    refine fmW.few (L' := [some (.ref b), some (.ref x), some (.ref m), some (.ref o), some (.ref od), some (.int (nI i)), none, some (.int (aAns (aPick S.N (xs (i + 1)) (rP S.N)))), none, none]) (fmFew_n (L := [some (.ref b), some (.ref x), some (.ref m), some (.ref o), some (.ref od), some (.int (nI i)), some (.int (nI (kf 9 1 2 (aPick S.N (xs (i + 1)) (rP S.N)).1))), some (.int (aAns (aPick S.N (xs (i + 1)) (rP S.N)))), none, none]) 6) ?_
    refine fmW.few (L' := [some (.ref b), some (.ref x), some (.ref m), some (.ref o), some (.ref od), some (.int (nI i)), none, none, none, none]) (fmFew_n (L := [some (.ref b), some (.ref x), some (.ref m), some (.ref o), some (.ref od), some (.int (nI i)), none, some (.int (aAns (aPick S.N (xs (i + 1)) (rP S.N)))), none, none]) 7) ?_
    exact kk _ _ _ _ ⟨hL2, hS2⟩
  · have hc0 := kf_0 (by decide) (by decide) (by decide) c
    refine r_aload_n E dL_law_413 rfl ?_
    refine r_iconst E (nI 0) dL_law_414 (by decide) ?_
    refine r_lald E ho2 (by decide) (by decide) dL_law_415 ?_
    refine r_iload E dL_law_416 rfl ?_
    refine r_i2l E dL_law_418 ?_
    refine r_lcmp E dL_law_419 ?_
    refine r_if_eq (tgt := 425) E dL_law_420 (by decide) (fun _ => ?_) (fun c2 => absurd (lcmp_0.mpr (hans hc0)) c2)
    refine r_goto (tgt := 1916) E dL_law_425 (by decide) ?_
    refine fmW.few (L' := [some (.ref b), some (.ref x), some (.ref m), some (.ref o), some (.ref od), some (.int (nI i)), none, some (.int (aAns (aPick S.N (xs (i + 1)) (rP S.N)))), none, none]) (fmFew_n (L := [some (.ref b), some (.ref x), some (.ref m), some (.ref o), some (.ref od), some (.int (nI i)), some (.int (nI (kf 9 1 2 (aPick S.N (xs (i + 1)) (rP S.N)).1))), some (.int (aAns (aPick S.N (xs (i + 1)) (rP S.N)))), none, none]) 6) ?_
    refine fmW.few (L' := [some (.ref b), some (.ref x), some (.ref m), some (.ref o), some (.ref od), some (.int (nI i)), none, none, none, none]) (fmFew_n (L := [some (.ref b), some (.ref x), some (.ref m), some (.ref o), some (.ref od), some (.int (nI i)), none, some (.int (aAns (aPick S.N (xs (i + 1)) (rP S.N)))), none, none]) 7) ?_
    exact kk _ _ _ _ ⟨hL2, hS2⟩
set_option maxHeartbeats 4000000 in
theorem lc_4 (G : fmG) (hl : (fmLn G).stackTraces = false) {Γ : fmC} (E : fmE G Γ cL_law 10 "FlintMineLaw" "law" ret room_1 []) {h : fmHp} {x m o od b L : Nat} {xs : Nat → Int32} {a : DA} {S : DS} {M : MSt} (hI : LI G h x m o od b L xs a S M) (hL : L ≤ 96) {i : Nat} (hi : i + 4 ≤ L) {kc ks : Nat} (kk : ∀ (h' : fmHp) (a' : DA) (S' : DS) (M' : MSt), LI G h' x m o od b L xs a' S' M' → fmW G Γ h' kc ks 1916 [some (.ref b), some (.ref x), some (.ref m), some (.ref o), some (.ref od), some (.int (nI i)), none, none, none, none] []) : fmW G Γ h (kc + 4700) (ks + 34000) 428 [some (.ref b), some (.ref x), some (.ref m), some (.ref o), some (.ref od), some (.int (nI i)), none, none, none, none] [] := by
  obtain ⟨e350, eK8, e351, eP6, eN, hk8⟩ := hI.k
  have hkB := hI.kB
  obtain ⟨hLH, hSR⟩ := hI
  obtain ⟨hC, hD, hm, hdis, ⟨f0, ho⟩, ⟨g0, hod⟩, hb⟩ := id hLH
  obtain ⟨-, s4, -, -, s7, s6b, s8, s12, s60, s14, sch, ⟨fo, hfo, hfo31⟩, sf, s5, s6, ⟨qa, s13⟩, ⟨qw, s15⟩, ⟨qp, s16⟩⟩ := id hSR
  skip
  refine r_aload_n E dL_law_428 rfl ?_
  refine r_aload_n E dL_law_429 rfl ?_
  refine r_iload E dL_law_430 rfl ?_
  refine r_iconst E (nI 1) dL_law_432 (by decide) ?_
  refine r_iaddN E dL_law_433 ?_
  refine r_iald E hb (by omega) (by omega) dL_law_434 ?_
  refine r_aload_n E dL_law_435 rfl ?_
  refine r_callSH E (w_edge G hl h hC hD hk8 o f0 ho (xs (i + 1))) mX0_edge q77 q1084 q1085 rfl rfl (Nat.le_of_ble_eq_true rfl) (Nat.le_of_ble_eq_true rfl) (Nat.le_of_ble_eq_true rfl) dL_law_436 kc ks (show kc + 1 ≤ kc + 4700 by omega) (show ks + 6 ≤ ks + 34000 by omega) (fun v' h1 q => ?_) (fun _ _ _ q => q.elim)
  obtain ⟨rfl, hOP⟩ := q
  obtain ⟨a1, hL1, f1, ho1, hans⟩ := hLH.w hOP
  refine r_istore E [some (.ref b), some (.ref x), some (.ref m), some (.ref o), some (.ref od), some (.int (nI i)), some (.int (nI (kf 1 2 9 (aEdge S.N (xs (i + 1)) (rP S.N)).1))), none, none, none] dL_law_439 rfl rfl ?_
  refine r_hp (h' := mdl m M h1) hL1.2.2.1.symm ?_
  refine r_aload_n E dL_law_441 rfl ?_
  refine r_aload_n E dL_law_442 rfl ?_
  refine r_iload E dL_law_443 rfl ?_
  refine r_iconst E (nI 1) dL_law_445 (by decide) ?_
  refine r_iaddN E dL_law_446 ?_
  refine r_iald E (hL1.m M).1.2.2.2.2.2.2 (by omega) (by omega) dL_law_447 ?_
  refine r_callV1 (v1 := .int (aAns (aEdge (M.2 1) (xs (i + 1)) (rP (M.2 1))))) E (ct_X4_edge G hl m M h1 (xs (i + 1)) (rP (M.2 1)) e351 eP6) mX4_edge q2035 q2036 q2037 (fun H a1 => fm_rc (ci := 0) (C := RX4) (T := TX4) (N := 21) a1 rfl E.v mdl_o) rfl rfl (Nat.le_of_ble_eq_true rfl) (Nat.le_of_ble_eq_true rfl) (Nat.le_of_ble_eq_true rfl) dL_law_448 kc ks (Nat.le_refl _) (Nat.le_refl _) ?_
  rw [eN]
  obtain ⟨hS2, hth⟩ := hSR.q (r := aEdge S.N (xs (i + 1)) (rP S.N)) (C1.two cd_edge)
  obtain ⟨M2, hM2⟩ : ∃ M2 : MSt, M2 = qSt M (aEdge S.N (xs (i + 1)) (rP S.N)) := ⟨_, rfl⟩
  rw [← hM2] at hS2 hth ⊢
  have hL2 := (hL1.m M2).1
  have ho2 := hL1.o ho1 M2
  refine r_istore E [some (.ref b), some (.ref x), some (.ref m), some (.ref o), some (.ref od), some (.int (nI i)), some (.int (nI (kf 1 2 9 (aEdge S.N (xs (i + 1)) (rP S.N)).1))), some (.int (aAns (aEdge S.N (xs (i + 1)) (rP S.N)))), none, none] dL_law_451 rfl rfl ?_
  refine r_aload_n E dL_law_453 rfl ?_
  refine r_callV1 (v1 := .int (M2.1 0)) E (ct_X4_thrown G hl m M2 h1) mX4_thrown q1951 q1952 q1953 (fun H a1 => fm_rc (ci := 0) (C := RX4) (T := TX4) (N := 21) a1 rfl E.v mdl_o) rfl rfl (Nat.le_of_ble_eq_true rfl) (Nat.le_of_ble_eq_true rfl) (Nat.le_of_ble_eq_true rfl) dL_law_454 kc ks (Nat.le_refl _) (Nat.le_refl _) ?_
  refine r_top (v' := .int (nI (kf 1 2 9 (aEdge S.N (xs (i + 1)) (rP S.N)).1))) (congrArg Value.int hth) ?_
  refine r_iload E dL_law_457 rfl ?_
  refine r_icmp_eq (tgt := 464) E dL_law_459 (by decide) (fun _ => ?_) (fun c => absurd rfl c)
  refine r_iload E dL_law_464 rfl ?_
  refine r_if_ne (tgt := 481) E dL_law_466 (by decide) (fun c => ?_) (fun c => ?_)
  · refine r_goto (tgt := 1916) E dL_law_481 (by decide) ?_
    refine fmW.few (L' := [some (.ref b), some (.ref x), some (.ref m), some (.ref o), some (.ref od), some (.int (nI i)), none, some (.int (aAns (aEdge S.N (xs (i + 1)) (rP S.N)))), none, none]) (fmFew_n (L := [some (.ref b), some (.ref x), some (.ref m), some (.ref o), some (.ref od), some (.int (nI i)), some (.int (nI (kf 1 2 9 (aEdge S.N (xs (i + 1)) (rP S.N)).1))), some (.int (aAns (aEdge S.N (xs (i + 1)) (rP S.N)))), none, none]) 6) ?_
    refine fmW.few (L' := [some (.ref b), some (.ref x), some (.ref m), some (.ref o), some (.ref od), some (.int (nI i)), none, none, none, none]) (fmFew_n (L := [some (.ref b), some (.ref x), some (.ref m), some (.ref o), some (.ref od), some (.int (nI i)), none, some (.int (aAns (aEdge S.N (xs (i + 1)) (rP S.N)))), none, none]) 7) ?_
    exact kk _ _ _ _ ⟨hL2, hS2⟩
  · have hc0 := kf_0 (by decide) (by decide) (by decide) c
    refine r_aload_n E dL_law_469 rfl ?_
    refine r_iconst E (nI 0) dL_law_470 (by decide) ?_
    refine r_lald E ho2 (by decide) (by decide) dL_law_471 ?_
    refine r_iload E dL_law_472 rfl ?_
    refine r_i2l E dL_law_474 ?_
    refine r_lcmp E dL_law_475 ?_
    refine r_if_eq (tgt := 481) E dL_law_476 (by decide) (fun _ => ?_) (fun c2 => absurd (lcmp_0.mpr (hans hc0)) c2)
    refine r_goto (tgt := 1916) E dL_law_481 (by decide) ?_
    refine fmW.few (L' := [some (.ref b), some (.ref x), some (.ref m), some (.ref o), some (.ref od), some (.int (nI i)), none, some (.int (aAns (aEdge S.N (xs (i + 1)) (rP S.N)))), none, none]) (fmFew_n (L := [some (.ref b), some (.ref x), some (.ref m), some (.ref o), some (.ref od), some (.int (nI i)), some (.int (nI (kf 1 2 9 (aEdge S.N (xs (i + 1)) (rP S.N)).1))), some (.int (aAns (aEdge S.N (xs (i + 1)) (rP S.N)))), none, none]) 6) ?_
    refine fmW.few (L' := [some (.ref b), some (.ref x), some (.ref m), some (.ref o), some (.ref od), some (.int (nI i)), none, none, none, none]) (fmFew_n (L := [some (.ref b), some (.ref x), some (.ref m), some (.ref o), some (.ref od), some (.int (nI i)), none, some (.int (aAns (aEdge S.N (xs (i + 1)) (rP S.N)))), none, none]) 7) ?_
    exact kk _ _ _ _ ⟨hL2, hS2⟩
set_option maxHeartbeats 4000000 in
theorem lc_5 (G : fmG) (hl : (fmLn G).stackTraces = false) {Γ : fmC} (E : fmE G Γ cL_law 10 "FlintMineLaw" "law" ret room_1 []) {h : fmHp} {x m o od b L : Nat} {xs : Nat → Int32} {a : DA} {S : DS} {M : MSt} (hI : LI G h x m o od b L xs a S M) (hL : L ≤ 96) {i : Nat} (hi : i + 4 ≤ L) {kc ks : Nat} (kk : ∀ (h' : fmHp) (a' : DA) (S' : DS) (M' : MSt), LI G h' x m o od b L xs a' S' M' → fmW G Γ h' kc ks 1916 [some (.ref b), some (.ref x), some (.ref m), some (.ref o), some (.ref od), some (.int (nI i)), none, none, none, none] []) : fmW G Γ h (kc + 4700) (ks + 34000) 484 [some (.ref b), some (.ref x), some (.ref m), some (.ref o), some (.ref od), some (.int (nI i)), none, none, none, none] [] := by
  obtain ⟨e350, eK8, e351, eP6, eN, hk8⟩ := hI.k
  have hkB := hI.kB
  obtain ⟨hLH, hSR⟩ := hI
  obtain ⟨hC, hD, hm, hdis, ⟨f0, ho⟩, ⟨g0, hod⟩, hb⟩ := id hLH
  obtain ⟨-, s4, -, -, s7, s6b, s8, s12, s60, s14, sch, ⟨fo, hfo, hfo31⟩, sf, s5, s6, ⟨qa, s13⟩, ⟨qw, s15⟩, ⟨qp, s16⟩⟩ := id hSR
  skip
  refine r_aload_n E dL_law_484 rfl ?_
  refine r_aload_n E dL_law_485 rfl ?_
  refine r_iload E dL_law_486 rfl ?_
  refine r_iconst E (nI 1) dL_law_488 (by decide) ?_
  refine r_iaddN E dL_law_489 ?_
  refine r_iald E hb (by omega) (by omega) dL_law_490 ?_
  refine r_aload_n E dL_law_491 rfl ?_
  refine r_iload E dL_law_492 rfl ?_
  refine r_iconst E (nI 2) dL_law_494 (by decide) ?_
  refine r_iaddN E dL_law_495 ?_
  refine r_iald E hb (by omega) (by omega) dL_law_496 ?_
  refine r_aload_n E dL_law_497 rfl ?_
  refine r_callSH E (w_cell G hl h hC hD hk8 o f0 ho (xs (i + 1)) (xs (i + 2))) mX0_cell q77 q1095 q1096 rfl rfl (Nat.le_of_ble_eq_true rfl) (Nat.le_of_ble_eq_true rfl) (Nat.le_of_ble_eq_true rfl) dL_law_498 kc ks (show kc + 3 ≤ kc + 4700 by omega) (show ks + 16 ≤ ks + 34000 by omega) (fun v' h1 q => ?_) (fun _ _ _ q => q.elim)
  obtain ⟨rfl, hOP⟩ := q
  obtain ⟨a1, hL1, f1, ho1, hans⟩ := hLH.w hOP
  refine r_istore E [some (.ref b), some (.ref x), some (.ref m), some (.ref o), some (.ref od), some (.int (nI i)), some (.int (nI (kf 1 2 9 (aCell S.N (xs (i + 1)) (xs (i + 2))).1))), none, none, none] dL_law_501 rfl rfl ?_
  refine r_hp (h' := mdl m M h1) hL1.2.2.1.symm ?_
  refine r_aload_n E dL_law_503 rfl ?_
  refine r_aload_n E dL_law_504 rfl ?_
  refine r_iload E dL_law_505 rfl ?_
  refine r_iconst E (nI 1) dL_law_507 (by decide) ?_
  refine r_iaddN E dL_law_508 ?_
  refine r_iald E (hL1.m M).1.2.2.2.2.2.2 (by omega) (by omega) dL_law_509 ?_
  refine r_aload_n E dL_law_510 rfl ?_
  refine r_iload E dL_law_511 rfl ?_
  refine r_iconst E (nI 2) dL_law_513 (by decide) ?_
  refine r_iaddN E dL_law_514 ?_
  refine r_iald E (hL1.m M).1.2.2.2.2.2.2 (by omega) (by omega) dL_law_515 ?_
  refine r_callV1 (v1 := .int (aAns (aCell (M.2 1) (xs (i + 1)) (xs (i + 2))))) E (ct_X4_cell G hl m M h1 (xs (i + 1)) (xs (i + 2))) mX4_cell q2039 q2040 q2041 (fun H a1 => fm_rc (ci := 0) (C := RX4) (T := TX4) (N := 21) a1 rfl E.v mdl_o) rfl rfl (Nat.le_of_ble_eq_true rfl) (Nat.le_of_ble_eq_true rfl) (Nat.le_of_ble_eq_true rfl) dL_law_516 kc ks (Nat.le_refl _) (Nat.le_refl _) ?_
  rw [eN]
  obtain ⟨hS2, hth⟩ := hSR.q (r := aCell S.N (xs (i + 1)) (xs (i + 2))) (cd_cell)
  obtain ⟨M2, hM2⟩ : ∃ M2 : MSt, M2 = qSt M (aCell S.N (xs (i + 1)) (xs (i + 2))) := ⟨_, rfl⟩
  rw [← hM2] at hS2 hth ⊢
  have hL2 := (hL1.m M2).1
  have ho2 := hL1.o ho1 M2
  refine r_istore E [some (.ref b), some (.ref x), some (.ref m), some (.ref o), some (.ref od), some (.int (nI i)), some (.int (nI (kf 1 2 9 (aCell S.N (xs (i + 1)) (xs (i + 2))).1))), some (.int (aAns (aCell S.N (xs (i + 1)) (xs (i + 2))))), none, none] dL_law_519 rfl rfl ?_
  refine r_aload_n E dL_law_521 rfl ?_
  refine r_callV1 (v1 := .int (M2.1 0)) E (ct_X4_thrown G hl m M2 h1) mX4_thrown q1951 q1952 q1953 (fun H a1 => fm_rc (ci := 0) (C := RX4) (T := TX4) (N := 21) a1 rfl E.v mdl_o) rfl rfl (Nat.le_of_ble_eq_true rfl) (Nat.le_of_ble_eq_true rfl) (Nat.le_of_ble_eq_true rfl) dL_law_522 kc ks (Nat.le_refl _) (Nat.le_refl _) ?_
  refine r_top (v' := .int (nI (kf 1 2 9 (aCell S.N (xs (i + 1)) (xs (i + 2))).1))) (congrArg Value.int hth) ?_
  refine r_iload E dL_law_525 rfl ?_
  refine r_icmp_eq (tgt := 532) E dL_law_527 (by decide) (fun _ => ?_) (fun c => absurd rfl c)
  refine r_iload E dL_law_532 rfl ?_
  refine r_if_ne (tgt := 549) E dL_law_534 (by decide) (fun c => ?_) (fun c => ?_)
  · refine r_goto (tgt := 1916) E dL_law_549 (by decide) ?_
    refine fmW.few (L' := [some (.ref b), some (.ref x), some (.ref m), some (.ref o), some (.ref od), some (.int (nI i)), none, some (.int (aAns (aCell S.N (xs (i + 1)) (xs (i + 2))))), none, none]) (fmFew_n (L := [some (.ref b), some (.ref x), some (.ref m), some (.ref o), some (.ref od), some (.int (nI i)), some (.int (nI (kf 1 2 9 (aCell S.N (xs (i + 1)) (xs (i + 2))).1))), some (.int (aAns (aCell S.N (xs (i + 1)) (xs (i + 2))))), none, none]) 6) ?_
    refine fmW.few (L' := [some (.ref b), some (.ref x), some (.ref m), some (.ref o), some (.ref od), some (.int (nI i)), none, none, none, none]) (fmFew_n (L := [some (.ref b), some (.ref x), some (.ref m), some (.ref o), some (.ref od), some (.int (nI i)), none, some (.int (aAns (aCell S.N (xs (i + 1)) (xs (i + 2))))), none, none]) 7) ?_
    exact kk _ _ _ _ ⟨hL2, hS2⟩
  · have hc0 := kf_0 (by decide) (by decide) (by decide) c
    refine r_aload_n E dL_law_537 rfl ?_
    refine r_iconst E (nI 0) dL_law_538 (by decide) ?_
    refine r_lald E ho2 (by decide) (by decide) dL_law_539 ?_
    refine r_iload E dL_law_540 rfl ?_
    refine r_i2l E dL_law_542 ?_
    refine r_lcmp E dL_law_543 ?_
    refine r_if_eq (tgt := 549) E dL_law_544 (by decide) (fun _ => ?_) (fun c2 => absurd (lcmp_0.mpr (hans hc0)) c2)
    refine r_goto (tgt := 1916) E dL_law_549 (by decide) ?_
    refine fmW.few (L' := [some (.ref b), some (.ref x), some (.ref m), some (.ref o), some (.ref od), some (.int (nI i)), none, some (.int (aAns (aCell S.N (xs (i + 1)) (xs (i + 2))))), none, none]) (fmFew_n (L := [some (.ref b), some (.ref x), some (.ref m), some (.ref o), some (.ref od), some (.int (nI i)), some (.int (nI (kf 1 2 9 (aCell S.N (xs (i + 1)) (xs (i + 2))).1))), some (.int (aAns (aCell S.N (xs (i + 1)) (xs (i + 2))))), none, none]) 6) ?_
    refine fmW.few (L' := [some (.ref b), some (.ref x), some (.ref m), some (.ref o), some (.ref od), some (.int (nI i)), none, none, none, none]) (fmFew_n (L := [some (.ref b), some (.ref x), some (.ref m), some (.ref o), some (.ref od), some (.int (nI i)), none, some (.int (aAns (aCell S.N (xs (i + 1)) (xs (i + 2))))), none, none]) 7) ?_
    exact kk _ _ _ _ ⟨hL2, hS2⟩
set_option maxHeartbeats 4000000 in
theorem lc_6 (G : fmG) (hl : (fmLn G).stackTraces = false) {Γ : fmC} (E : fmE G Γ cL_law 10 "FlintMineLaw" "law" ret room_1 []) {h : fmHp} {x m o od b L : Nat} {xs : Nat → Int32} {a : DA} {S : DS} {M : MSt} (hI : LI G h x m o od b L xs a S M) (hL : L ≤ 96) {i : Nat} (hi : i + 4 ≤ L) {kc ks : Nat} (kk : ∀ (h' : fmHp) (a' : DA) (S' : DS) (M' : MSt), LI G h' x m o od b L xs a' S' M' → fmW G Γ h' kc ks 1916 [some (.ref b), some (.ref x), some (.ref m), some (.ref o), some (.ref od), some (.int (nI i)), none, none, none, none] []) : fmW G Γ h (kc + 4700) (ks + 34000) 552 [some (.ref b), some (.ref x), some (.ref m), some (.ref o), some (.ref od), some (.int (nI i)), none, none, none, none] [] := by
  obtain ⟨e350, eK8, e351, eP6, eN, hk8⟩ := hI.k
  have hkB := hI.kB
  obtain ⟨hLH, hSR⟩ := hI
  obtain ⟨hC, hD, hm, hdis, ⟨f0, ho⟩, ⟨g0, hod⟩, hb⟩ := id hLH
  obtain ⟨-, s4, -, -, s7, s6b, s8, s12, s60, s14, sch, ⟨fo, hfo, hfo31⟩, sf, s5, s6, ⟨qa, s13⟩, ⟨qw, s15⟩, ⟨qp, s16⟩⟩ := id hSR
  skip
  refine r_aload_n E dL_law_552 rfl ?_
  refine r_aload_n E dL_law_553 rfl ?_
  refine r_iload E dL_law_554 rfl ?_
  refine r_iconst E (nI 1) dL_law_556 (by decide) ?_
  refine r_iaddN E dL_law_557 ?_
  refine r_iald E hb (by omega) (by omega) dL_law_558 ?_
  refine r_aload_n E dL_law_559 rfl ?_
  refine r_iload E dL_law_560 rfl ?_
  refine r_iconst E (nI 2) dL_law_562 (by decide) ?_
  refine r_iaddN E dL_law_563 ?_
  refine r_iald E hb (by omega) (by omega) dL_law_564 ?_
  refine r_if_eq (tgt := 572) E dL_law_565 (by decide) (fun c1 => ?_) (fun c1 => ?_)
  · refine r_iconst E (nI 0) dL_law_572 (by decide) ?_
    refine r_top (v' := .int (bI false)) rfl ?_
    refine r_aload_n E dL_law_573 rfl ?_
    refine r_callSH E (w_span G hl h hC hD hk8 o f0 ho (xs (i + 1)) false) mX0_span q77 q1130 q1131 rfl rfl (Nat.le_of_ble_eq_true rfl) (Nat.le_of_ble_eq_true rfl) (Nat.le_of_ble_eq_true rfl) dL_law_574 kc ks (show kc + 2 ≤ kc + 4700 by omega) (show ks + 8 ≤ ks + 34000 by omega) (fun v' h1 q => ?_) (fun _ _ _ q => q.elim)
    obtain ⟨rfl, hOP⟩ := q
    obtain ⟨a1, hL1, f1, ho1, hans⟩ := hLH.w hOP
    refine r_istore E [some (.ref b), some (.ref x), some (.ref m), some (.ref o), some (.ref od), some (.int (nI i)), some (.int (nI (kf 1 2 9 (aSpan S.N (xs (i + 1)) false).1))), none, none, none] dL_law_577 rfl rfl ?_
    refine r_hp (h' := mdl m M h1) hL1.2.2.1.symm ?_
    refine r_aload_n E dL_law_579 rfl ?_
    refine r_aload_n E dL_law_580 rfl ?_
    refine r_iload E dL_law_581 rfl ?_
    refine r_iconst E (nI 1) dL_law_583 (by decide) ?_
    refine r_iaddN E dL_law_584 ?_
    refine r_iald E (hL1.m M).1.2.2.2.2.2.2 (by omega) (by omega) dL_law_585 ?_
    refine r_aload_n E dL_law_586 rfl ?_
    refine r_iload E dL_law_587 rfl ?_
    refine r_iconst E (nI 2) dL_law_589 (by decide) ?_
    refine r_iaddN E dL_law_590 ?_
    refine r_iald E (hL1.m M).1.2.2.2.2.2.2 (by omega) (by omega) dL_law_591 ?_
    refine r_if_eq (tgt := 599) E dL_law_592 (by decide) (fun _ => ?_) (fun c9 => absurd c1 c9)
    refine r_iconst E (nI 0) dL_law_599 (by decide) ?_
    refine r_top (v' := .int (bI false)) rfl ?_
    refine r_callV1 (v1 := .int (aAns (aSpan (M.2 1) (xs (i + 1)) false))) E (ct_X4_span G hl m M h1 (xs (i + 1)) false) mX4_span q2043 q2044 q2045 (fun H a1 => fm_rc (ci := 0) (C := RX4) (T := TX4) (N := 21) a1 rfl E.v mdl_o) rfl rfl (Nat.le_of_ble_eq_true rfl) (Nat.le_of_ble_eq_true rfl) (Nat.le_of_ble_eq_true rfl) dL_law_600 kc ks (Nat.le_refl _) (Nat.le_refl _) ?_
    rw [eN]
    obtain ⟨hS2, hth⟩ := hSR.q (r := aSpan S.N (xs (i + 1)) false) (C1.two cd_span)
    obtain ⟨M2, hM2⟩ : ∃ M2 : MSt, M2 = qSt M (aSpan S.N (xs (i + 1)) false) := ⟨_, rfl⟩
    rw [← hM2] at hS2 hth ⊢
    have hL2 := (hL1.m M2).1
    have ho2 := hL1.o ho1 M2
    refine r_istore E [some (.ref b), some (.ref x), some (.ref m), some (.ref o), some (.ref od), some (.int (nI i)), some (.int (nI (kf 1 2 9 (aSpan S.N (xs (i + 1)) false).1))), some (.int (aAns (aSpan S.N (xs (i + 1)) false))), none, none] dL_law_603 rfl rfl ?_
    refine r_aload_n E dL_law_605 rfl ?_
    refine r_callV1 (v1 := .int (M2.1 0)) E (ct_X4_thrown G hl m M2 h1) mX4_thrown q1951 q1952 q1953 (fun H a1 => fm_rc (ci := 0) (C := RX4) (T := TX4) (N := 21) a1 rfl E.v mdl_o) rfl rfl (Nat.le_of_ble_eq_true rfl) (Nat.le_of_ble_eq_true rfl) (Nat.le_of_ble_eq_true rfl) dL_law_606 kc ks (Nat.le_refl _) (Nat.le_refl _) ?_
    refine r_top (v' := .int (nI (kf 1 2 9 (aSpan S.N (xs (i + 1)) false).1))) (congrArg Value.int hth) ?_
    refine r_iload E dL_law_609 rfl ?_
    refine r_icmp_eq (tgt := 616) E dL_law_611 (by decide) (fun _ => ?_) (fun c => absurd rfl c)
    refine r_iload E dL_law_616 rfl ?_
    refine r_if_ne (tgt := 633) E dL_law_618 (by decide) (fun c => ?_) (fun c => ?_)
    · refine r_goto (tgt := 1916) E dL_law_633 (by decide) ?_
      refine fmW.few (L' := [some (.ref b), some (.ref x), some (.ref m), some (.ref o), some (.ref od), some (.int (nI i)), none, some (.int (aAns (aSpan S.N (xs (i + 1)) false))), none, none]) (fmFew_n (L := [some (.ref b), some (.ref x), some (.ref m), some (.ref o), some (.ref od), some (.int (nI i)), some (.int (nI (kf 1 2 9 (aSpan S.N (xs (i + 1)) false).1))), some (.int (aAns (aSpan S.N (xs (i + 1)) false))), none, none]) 6) ?_
      refine fmW.few (L' := [some (.ref b), some (.ref x), some (.ref m), some (.ref o), some (.ref od), some (.int (nI i)), none, none, none, none]) (fmFew_n (L := [some (.ref b), some (.ref x), some (.ref m), some (.ref o), some (.ref od), some (.int (nI i)), none, some (.int (aAns (aSpan S.N (xs (i + 1)) false))), none, none]) 7) ?_
      exact kk _ _ _ _ ⟨hL2, hS2⟩
    · have hc0 := kf_0 (by decide) (by decide) (by decide) c
      refine r_aload_n E dL_law_621 rfl ?_
      refine r_iconst E (nI 0) dL_law_622 (by decide) ?_
      refine r_lald E ho2 (by decide) (by decide) dL_law_623 ?_
      refine r_iload E dL_law_624 rfl ?_
      refine r_i2l E dL_law_626 ?_
      refine r_lcmp E dL_law_627 ?_
      refine r_if_eq (tgt := 633) E dL_law_628 (by decide) (fun _ => ?_) (fun c2 => absurd (lcmp_0.mpr (hans hc0)) c2)
      refine r_goto (tgt := 1916) E dL_law_633 (by decide) ?_
      refine fmW.few (L' := [some (.ref b), some (.ref x), some (.ref m), some (.ref o), some (.ref od), some (.int (nI i)), none, some (.int (aAns (aSpan S.N (xs (i + 1)) false))), none, none]) (fmFew_n (L := [some (.ref b), some (.ref x), some (.ref m), some (.ref o), some (.ref od), some (.int (nI i)), some (.int (nI (kf 1 2 9 (aSpan S.N (xs (i + 1)) false).1))), some (.int (aAns (aSpan S.N (xs (i + 1)) false))), none, none]) 6) ?_
      refine fmW.few (L' := [some (.ref b), some (.ref x), some (.ref m), some (.ref o), some (.ref od), some (.int (nI i)), none, none, none, none]) (fmFew_n (L := [some (.ref b), some (.ref x), some (.ref m), some (.ref o), some (.ref od), some (.int (nI i)), none, some (.int (aAns (aSpan S.N (xs (i + 1)) false))), none, none]) 7) ?_
      exact kk _ _ _ _ ⟨hL2, hS2⟩
  · refine r_iconst E (nI 1) dL_law_568 (by decide) ?_
    refine r_top (v' := .int (bI true)) rfl ?_
    refine r_goto (tgt := 573) E dL_law_569 (by decide) ?_
    refine r_aload_n E dL_law_573 rfl ?_
    refine r_callSH E (w_span G hl h hC hD hk8 o f0 ho (xs (i + 1)) true) mX0_span q77 q1130 q1131 rfl rfl (Nat.le_of_ble_eq_true rfl) (Nat.le_of_ble_eq_true rfl) (Nat.le_of_ble_eq_true rfl) dL_law_574 kc ks (show kc + 2 ≤ kc + 4700 by omega) (show ks + 8 ≤ ks + 34000 by omega) (fun v' h1 q => ?_) (fun _ _ _ q => q.elim)
    obtain ⟨rfl, hOP⟩ := q
    obtain ⟨a1, hL1, f1, ho1, hans⟩ := hLH.w hOP
    refine r_istore E [some (.ref b), some (.ref x), some (.ref m), some (.ref o), some (.ref od), some (.int (nI i)), some (.int (nI (kf 1 2 9 (aSpan S.N (xs (i + 1)) true).1))), none, none, none] dL_law_577 rfl rfl ?_
    refine r_hp (h' := mdl m M h1) hL1.2.2.1.symm ?_
    refine r_aload_n E dL_law_579 rfl ?_
    refine r_aload_n E dL_law_580 rfl ?_
    refine r_iload E dL_law_581 rfl ?_
    refine r_iconst E (nI 1) dL_law_583 (by decide) ?_
    refine r_iaddN E dL_law_584 ?_
    refine r_iald E (hL1.m M).1.2.2.2.2.2.2 (by omega) (by omega) dL_law_585 ?_
    refine r_aload_n E dL_law_586 rfl ?_
    refine r_iload E dL_law_587 rfl ?_
    refine r_iconst E (nI 2) dL_law_589 (by decide) ?_
    refine r_iaddN E dL_law_590 ?_
    refine r_iald E (hL1.m M).1.2.2.2.2.2.2 (by omega) (by omega) dL_law_591 ?_
    refine r_if_eq (tgt := 599) E dL_law_592 (by decide) (fun c9 => absurd c9 c1) (fun _ => ?_)
    refine r_iconst E (nI 1) dL_law_595 (by decide) ?_
    refine r_top (v' := .int (bI true)) rfl ?_
    refine r_goto (tgt := 600) E dL_law_596 (by decide) ?_
    refine r_callV1 (v1 := .int (aAns (aSpan (M.2 1) (xs (i + 1)) true))) E (ct_X4_span G hl m M h1 (xs (i + 1)) true) mX4_span q2043 q2044 q2045 (fun H a1 => fm_rc (ci := 0) (C := RX4) (T := TX4) (N := 21) a1 rfl E.v mdl_o) rfl rfl (Nat.le_of_ble_eq_true rfl) (Nat.le_of_ble_eq_true rfl) (Nat.le_of_ble_eq_true rfl) dL_law_600 kc ks (Nat.le_refl _) (Nat.le_refl _) ?_
    rw [eN]
    obtain ⟨hS2, hth⟩ := hSR.q (r := aSpan S.N (xs (i + 1)) true) (C1.two cd_span)
    obtain ⟨M2, hM2⟩ : ∃ M2 : MSt, M2 = qSt M (aSpan S.N (xs (i + 1)) true) := ⟨_, rfl⟩
    rw [← hM2] at hS2 hth ⊢
    have hL2 := (hL1.m M2).1
    have ho2 := hL1.o ho1 M2
    refine r_istore E [some (.ref b), some (.ref x), some (.ref m), some (.ref o), some (.ref od), some (.int (nI i)), some (.int (nI (kf 1 2 9 (aSpan S.N (xs (i + 1)) true).1))), some (.int (aAns (aSpan S.N (xs (i + 1)) true))), none, none] dL_law_603 rfl rfl ?_
    refine r_aload_n E dL_law_605 rfl ?_
    refine r_callV1 (v1 := .int (M2.1 0)) E (ct_X4_thrown G hl m M2 h1) mX4_thrown q1951 q1952 q1953 (fun H a1 => fm_rc (ci := 0) (C := RX4) (T := TX4) (N := 21) a1 rfl E.v mdl_o) rfl rfl (Nat.le_of_ble_eq_true rfl) (Nat.le_of_ble_eq_true rfl) (Nat.le_of_ble_eq_true rfl) dL_law_606 kc ks (Nat.le_refl _) (Nat.le_refl _) ?_
    refine r_top (v' := .int (nI (kf 1 2 9 (aSpan S.N (xs (i + 1)) true).1))) (congrArg Value.int hth) ?_
    refine r_iload E dL_law_609 rfl ?_
    refine r_icmp_eq (tgt := 616) E dL_law_611 (by decide) (fun _ => ?_) (fun c => absurd rfl c)
    refine r_iload E dL_law_616 rfl ?_
    refine r_if_ne (tgt := 633) E dL_law_618 (by decide) (fun c => ?_) (fun c => ?_)
    · refine r_goto (tgt := 1916) E dL_law_633 (by decide) ?_
      refine fmW.few (L' := [some (.ref b), some (.ref x), some (.ref m), some (.ref o), some (.ref od), some (.int (nI i)), none, some (.int (aAns (aSpan S.N (xs (i + 1)) true))), none, none]) (fmFew_n (L := [some (.ref b), some (.ref x), some (.ref m), some (.ref o), some (.ref od), some (.int (nI i)), some (.int (nI (kf 1 2 9 (aSpan S.N (xs (i + 1)) true).1))), some (.int (aAns (aSpan S.N (xs (i + 1)) true))), none, none]) 6) ?_
      refine fmW.few (L' := [some (.ref b), some (.ref x), some (.ref m), some (.ref o), some (.ref od), some (.int (nI i)), none, none, none, none]) (fmFew_n (L := [some (.ref b), some (.ref x), some (.ref m), some (.ref o), some (.ref od), some (.int (nI i)), none, some (.int (aAns (aSpan S.N (xs (i + 1)) true))), none, none]) 7) ?_
      exact kk _ _ _ _ ⟨hL2, hS2⟩
    · have hc0 := kf_0 (by decide) (by decide) (by decide) c
      refine r_aload_n E dL_law_621 rfl ?_
      refine r_iconst E (nI 0) dL_law_622 (by decide) ?_
      refine r_lald E ho2 (by decide) (by decide) dL_law_623 ?_
      refine r_iload E dL_law_624 rfl ?_
      refine r_i2l E dL_law_626 ?_
      refine r_lcmp E dL_law_627 ?_
      refine r_if_eq (tgt := 633) E dL_law_628 (by decide) (fun _ => ?_) (fun c2 => absurd (lcmp_0.mpr (hans hc0)) c2)
      refine r_goto (tgt := 1916) E dL_law_633 (by decide) ?_
      refine fmW.few (L' := [some (.ref b), some (.ref x), some (.ref m), some (.ref o), some (.ref od), some (.int (nI i)), none, some (.int (aAns (aSpan S.N (xs (i + 1)) true))), none, none]) (fmFew_n (L := [some (.ref b), some (.ref x), some (.ref m), some (.ref o), some (.ref od), some (.int (nI i)), some (.int (nI (kf 1 2 9 (aSpan S.N (xs (i + 1)) true).1))), some (.int (aAns (aSpan S.N (xs (i + 1)) true))), none, none]) 6) ?_
      refine fmW.few (L' := [some (.ref b), some (.ref x), some (.ref m), some (.ref o), some (.ref od), some (.int (nI i)), none, none, none, none]) (fmFew_n (L := [some (.ref b), some (.ref x), some (.ref m), some (.ref o), some (.ref od), some (.int (nI i)), none, some (.int (aAns (aSpan S.N (xs (i + 1)) true))), none, none]) 7) ?_
      exact kk _ _ _ _ ⟨hL2, hS2⟩
set_option maxHeartbeats 4000000 in
theorem lc_7 (G : fmG) (hl : (fmLn G).stackTraces = false) {Γ : fmC} (E : fmE G Γ cL_law 10 "FlintMineLaw" "law" ret room_1 []) {h : fmHp} {x m o od b L : Nat} {xs : Nat → Int32} {a : DA} {S : DS} {M : MSt} (hI : LI G h x m o od b L xs a S M) (hL : L ≤ 96) {i : Nat} (hi : i + 4 ≤ L) {kc ks : Nat} (kk : ∀ (h' : fmHp) (a' : DA) (S' : DS) (M' : MSt), LI G h' x m o od b L xs a' S' M' → fmW G Γ h' kc ks 1916 [some (.ref b), some (.ref x), some (.ref m), some (.ref o), some (.ref od), some (.int (nI i)), none, none, none, none] []) : fmW G Γ h (kc + 4700) (ks + 34000) 636 [some (.ref b), some (.ref x), some (.ref m), some (.ref o), some (.ref od), some (.int (nI i)), none, none, none, none] [] := by
  obtain ⟨e350, eK8, e351, eP6, eN, hk8⟩ := hI.k
  have hkB := hI.kB
  obtain ⟨hLH, hSR⟩ := hI
  obtain ⟨hC, hD, hm, hdis, ⟨f0, ho⟩, ⟨g0, hod⟩, hb⟩ := id hLH
  obtain ⟨-, s4, -, -, s7, s6b, s8, s12, s60, s14, sch, ⟨fo, hfo, hfo31⟩, sf, s5, s6, ⟨qa, s13⟩, ⟨qw, s15⟩, ⟨qp, s16⟩⟩ := id hSR
  refine r_aload_n E dL_law_636 rfl ?_
  obtain ⟨d0, dh0, w0, pm0, X0, W0, hx0, -⟩ := id hD
  refine r_callV E (jn_longest G hl h hC hD hk8) mX1_longest q299 q300 q301 (fun H a1 => fm_rc (ci := 1) (C := RX1) (T := TX1) (N := 9) a1 rfl E.v hx0) rfl rfl (Nat.le_of_ble_eq_true rfl) (Nat.le_of_ble_eq_true rfl) (Nat.le_of_ble_eq_true rfl) dL_law_637 kc ks (show kc + 0 ≤ kc + 4700 by omega) (show ks + 0 ≤ ks + 34000 by omega) (fun v' h1 q => ?_) (fun _ _ _ q => q.elim)
  obtain ⟨-, rfl, hJ⟩ := q
  obtain ⟨a1, hL1⟩ := hLH.jp hJ
  refine r_hp (h' := mdl m M h1) hL1.2.2.1.symm ?_
  refine r_aload_n E dL_law_640 rfl ?_
  refine r_callV1 (v1 := .int (nI (sLong (M.2 1)))) E (ct_X4_longest G hl m M h1) mX4_longest q2051 q2052 q2053 (fun H a1 => fm_rc (ci := 0) (C := RX4) (T := TX4) (N := 21) a1 rfl E.v mdl_o) rfl rfl (Nat.le_of_ble_eq_true rfl) (Nat.le_of_ble_eq_true rfl) (Nat.le_of_ble_eq_true rfl) dL_law_641 kc ks (Nat.le_refl _) (Nat.le_refl _) ?_
  refine r_icmp_eq (tgt := 1916) E dL_law_644 (by decide) (fun _ => ?_) (fun c => absurd (by rw [eN]) c)
  exact kk _ _ _ _ ⟨(hL1.m _).1, hSR.up0 _⟩
set_option maxHeartbeats 4000000 in
theorem lc_8 (G : fmG) (hl : (fmLn G).stackTraces = false) {Γ : fmC} (E : fmE G Γ cL_law 10 "FlintMineLaw" "law" ret room_1 []) {h : fmHp} {x m o od b L : Nat} {xs : Nat → Int32} {a : DA} {S : DS} {M : MSt} (hI : LI G h x m o od b L xs a S M) (hL : L ≤ 96) {i : Nat} (hi : i + 4 ≤ L) {kc ks : Nat} (kk : ∀ (h' : fmHp) (a' : DA) (S' : DS) (M' : MSt), LI G h' x m o od b L xs a' S' M' → fmW G Γ h' kc ks 1916 [some (.ref b), some (.ref x), some (.ref m), some (.ref o), some (.ref od), some (.int (nI i)), none, none, none, none] []) : fmW G Γ h (kc + 4700) (ks + 34000) 649 [some (.ref b), some (.ref x), some (.ref m), some (.ref o), some (.ref od), some (.int (nI i)), none, none, none, none] [] := by
  obtain ⟨e350, eK8, e351, eP6, eN, hk8⟩ := hI.k
  have hkB := hI.kB
  obtain ⟨hLH, hSR⟩ := hI
  obtain ⟨hC, hD, hm, hdis, ⟨f0, ho⟩, ⟨g0, hod⟩, hb⟩ := id hLH
  obtain ⟨-, s4, -, -, s7, s6b, s8, s12, s60, s14, sch, ⟨fo, hfo, hfo31⟩, sf, s5, s6, ⟨qa, s13⟩, ⟨qw, s15⟩, ⟨qp, s16⟩⟩ := id hSR
  skip
  refine r_aload_n E dL_law_649 rfl ?_
  refine r_aload_n E dL_law_650 rfl ?_
  refine r_iload E dL_law_651 rfl ?_
  refine r_iconst E (nI 1) dL_law_653 (by decide) ?_
  refine r_iaddN E dL_law_654 ?_
  refine r_iald E hb (by omega) (by omega) dL_law_655 ?_
  refine r_aload_n E dL_law_656 rfl ?_
  refine r_callSH E (w_knock G hl h hC hD hk8 o f0 ho (xs (i + 1))) mX0_knock q77 q1138 q1139 rfl rfl (Nat.le_of_ble_eq_true rfl) (Nat.le_of_ble_eq_true rfl) (Nat.le_of_ble_eq_true rfl) dL_law_657 kc ks (show kc + 2 ≤ kc + 4700 by omega) (show ks + 8 ≤ ks + 34000 by omega) (fun v' h1 q => ?_) (fun _ _ _ q => q.elim)
  obtain ⟨rfl, hOP⟩ := q
  obtain ⟨a1, hL1, f1, ho1, hans⟩ := hLH.w hOP
  refine r_istore E [some (.ref b), some (.ref x), some (.ref m), some (.ref o), some (.ref od), some (.int (nI i)), some (.int (nI (kf 1 2 9 (aKnock S.N (xs (i + 1)) (rK S.N)).1))), none, none, none] dL_law_660 rfl rfl ?_
  refine r_hp (h' := mdl m M h1) hL1.2.2.1.symm ?_
  refine r_aload_n E dL_law_662 rfl ?_
  refine r_aload_n E dL_law_663 rfl ?_
  refine r_iload E dL_law_664 rfl ?_
  refine r_iconst E (nI 1) dL_law_666 (by decide) ?_
  refine r_iaddN E dL_law_667 ?_
  refine r_iald E (hL1.m M).1.2.2.2.2.2.2 (by omega) (by omega) dL_law_668 ?_
  refine r_callV1 (v1 := .int (aAns (aKnock (M.2 1) (xs (i + 1)) (rK (M.2 1))))) E (ct_X4_knock G hl m M h1 (xs (i + 1)) (rK (M.2 1)) e350 eK8) mX4_knock q2055 q2056 q2057 (fun H a1 => fm_rc (ci := 0) (C := RX4) (T := TX4) (N := 21) a1 rfl E.v mdl_o) rfl rfl (Nat.le_of_ble_eq_true rfl) (Nat.le_of_ble_eq_true rfl) (Nat.le_of_ble_eq_true rfl) dL_law_669 kc ks (Nat.le_refl _) (Nat.le_refl _) ?_
  rw [eN]
  obtain ⟨hS2, hth⟩ := hSR.q (r := aKnock S.N (xs (i + 1)) (rK S.N)) (cd_knock)
  obtain ⟨M2, hM2⟩ : ∃ M2 : MSt, M2 = qSt M (aKnock S.N (xs (i + 1)) (rK S.N)) := ⟨_, rfl⟩
  rw [← hM2] at hS2 hth ⊢
  have hL2 := (hL1.m M2).1
  have ho2 := hL1.o ho1 M2
  refine r_istore E [some (.ref b), some (.ref x), some (.ref m), some (.ref o), some (.ref od), some (.int (nI i)), some (.int (nI (kf 1 2 9 (aKnock S.N (xs (i + 1)) (rK S.N)).1))), some (.int (aAns (aKnock S.N (xs (i + 1)) (rK S.N)))), none, none] dL_law_672 rfl rfl ?_
  refine r_aload_n E dL_law_674 rfl ?_
  refine r_callV1 (v1 := .int (M2.1 0)) E (ct_X4_thrown G hl m M2 h1) mX4_thrown q1951 q1952 q1953 (fun H a1 => fm_rc (ci := 0) (C := RX4) (T := TX4) (N := 21) a1 rfl E.v mdl_o) rfl rfl (Nat.le_of_ble_eq_true rfl) (Nat.le_of_ble_eq_true rfl) (Nat.le_of_ble_eq_true rfl) dL_law_675 kc ks (Nat.le_refl _) (Nat.le_refl _) ?_
  refine r_top (v' := .int (nI (kf 1 2 9 (aKnock S.N (xs (i + 1)) (rK S.N)).1))) (congrArg Value.int hth) ?_
  refine r_iload E dL_law_678 rfl ?_
  refine r_icmp_eq (tgt := 685) E dL_law_680 (by decide) (fun _ => ?_) (fun c => absurd rfl c)
  refine r_iload E dL_law_685 rfl ?_
  refine r_if_ne (tgt := 702) E dL_law_687 (by decide) (fun c => ?_) (fun c => ?_)
  · refine r_goto (tgt := 1916) E dL_law_702 (by decide) ?_
    refine fmW.few (L' := [some (.ref b), some (.ref x), some (.ref m), some (.ref o), some (.ref od), some (.int (nI i)), none, some (.int (aAns (aKnock S.N (xs (i + 1)) (rK S.N)))), none, none]) (fmFew_n (L := [some (.ref b), some (.ref x), some (.ref m), some (.ref o), some (.ref od), some (.int (nI i)), some (.int (nI (kf 1 2 9 (aKnock S.N (xs (i + 1)) (rK S.N)).1))), some (.int (aAns (aKnock S.N (xs (i + 1)) (rK S.N)))), none, none]) 6) ?_
    refine fmW.few (L' := [some (.ref b), some (.ref x), some (.ref m), some (.ref o), some (.ref od), some (.int (nI i)), none, none, none, none]) (fmFew_n (L := [some (.ref b), some (.ref x), some (.ref m), some (.ref o), some (.ref od), some (.int (nI i)), none, some (.int (aAns (aKnock S.N (xs (i + 1)) (rK S.N)))), none, none]) 7) ?_
    exact kk _ _ _ _ ⟨hL2, hS2⟩
  · have hc0 := kf_0 (by decide) (by decide) (by decide) c
    refine r_aload_n E dL_law_690 rfl ?_
    refine r_iconst E (nI 0) dL_law_691 (by decide) ?_
    refine r_lald E ho2 (by decide) (by decide) dL_law_692 ?_
    refine r_iload E dL_law_693 rfl ?_
    refine r_i2l E dL_law_695 ?_
    refine r_lcmp E dL_law_696 ?_
    refine r_if_eq (tgt := 702) E dL_law_697 (by decide) (fun _ => ?_) (fun c2 => absurd (lcmp_0.mpr (hans hc0)) c2)
    refine r_goto (tgt := 1916) E dL_law_702 (by decide) ?_
    refine fmW.few (L' := [some (.ref b), some (.ref x), some (.ref m), some (.ref o), some (.ref od), some (.int (nI i)), none, some (.int (aAns (aKnock S.N (xs (i + 1)) (rK S.N)))), none, none]) (fmFew_n (L := [some (.ref b), some (.ref x), some (.ref m), some (.ref o), some (.ref od), some (.int (nI i)), some (.int (nI (kf 1 2 9 (aKnock S.N (xs (i + 1)) (rK S.N)).1))), some (.int (aAns (aKnock S.N (xs (i + 1)) (rK S.N)))), none, none]) 6) ?_
    refine fmW.few (L' := [some (.ref b), some (.ref x), some (.ref m), some (.ref o), some (.ref od), some (.int (nI i)), none, none, none, none]) (fmFew_n (L := [some (.ref b), some (.ref x), some (.ref m), some (.ref o), some (.ref od), some (.int (nI i)), none, some (.int (aAns (aKnock S.N (xs (i + 1)) (rK S.N)))), none, none]) 7) ?_
    exact kk _ _ _ _ ⟨hL2, hS2⟩
set_option maxHeartbeats 4000000 in
theorem lc_9 (G : fmG) (hl : (fmLn G).stackTraces = false) {Γ : fmC} (E : fmE G Γ cL_law 10 "FlintMineLaw" "law" ret room_1 []) {h : fmHp} {x m o od b L : Nat} {xs : Nat → Int32} {a : DA} {S : DS} {M : MSt} (hI : LI G h x m o od b L xs a S M) (hL : L ≤ 96) {i : Nat} (hi : i + 4 ≤ L) {kc ks : Nat} (kk : ∀ (h' : fmHp) (a' : DA) (S' : DS) (M' : MSt), LI G h' x m o od b L xs a' S' M' → fmW G Γ h' kc ks 1916 [some (.ref b), some (.ref x), some (.ref m), some (.ref o), some (.ref od), some (.int (nI i)), none, none, none, none] []) : fmW G Γ h (kc + 4700) (ks + 34000) 705 [some (.ref b), some (.ref x), some (.ref m), some (.ref o), some (.ref od), some (.int (nI i)), none, none, none, none] [] := by
  obtain ⟨e350, eK8, e351, eP6, eN, hk8⟩ := hI.k
  have hkB := hI.kB
  obtain ⟨hLH, hSR⟩ := hI
  obtain ⟨hC, hD, hm, hdis, ⟨f0, ho⟩, ⟨g0, hod⟩, hb⟩ := id hLH
  obtain ⟨-, s4, -, -, s7, s6b, s8, s12, s60, s14, sch, ⟨fo, hfo, hfo31⟩, sf, s5, s6, ⟨qa, s13⟩, ⟨qw, s15⟩, ⟨qp, s16⟩⟩ := id hSR
  skip
  refine r_aload_n E dL_law_705 rfl ?_
  refine r_aload_n E dL_law_706 rfl ?_
  refine r_iload E dL_law_707 rfl ?_
  refine r_iconst E (nI 1) dL_law_709 (by decide) ?_
  refine r_iaddN E dL_law_710 ?_
  refine r_iald E hb (by omega) (by omega) dL_law_711 ?_
  refine r_aload_n E dL_law_712 rfl ?_
  refine r_callSH E (w_sink G hl h hC hD hk8 o f0 ho (xs (i + 1))) mX0_sink q77 q1156 q1157 rfl rfl (Nat.le_of_ble_eq_true rfl) (Nat.le_of_ble_eq_true rfl) (Nat.le_of_ble_eq_true rfl) dL_law_713 kc ks (show kc + 26 ≤ kc + 4700 by omega) (show ks + 3199 ≤ ks + 34000 by omega) (fun v' h1 q => ?_) (fun _ _ _ q => q.elim)
  obtain ⟨rfl, hOP⟩ := q
  obtain ⟨a1, hL1, f1, ho1, hans⟩ := hLH.w hOP
  refine r_istore E [some (.ref b), some (.ref x), some (.ref m), some (.ref o), some (.ref od), some (.int (nI i)), some (.int (nI (kf 1 9 2 (aSink S.N (xs (i + 1)) (rK S.N) (rP S.N)).1))), none, none, none] dL_law_716 rfl rfl ?_
  refine r_hp (h' := mdl m M h1) hL1.2.2.1.symm ?_
  refine r_aload_n E dL_law_718 rfl ?_
  refine r_aload_n E dL_law_719 rfl ?_
  refine r_iload E dL_law_720 rfl ?_
  refine r_iconst E (nI 1) dL_law_722 (by decide) ?_
  refine r_iaddN E dL_law_723 ?_
  refine r_iald E (hL1.m M).1.2.2.2.2.2.2 (by omega) (by omega) dL_law_724 ?_
  refine r_callV1 (v1 := .int (aAns (aSink (M.2 1) (xs (i + 1)) (rK (M.2 1)) (rP (M.2 1))))) E (ct_X4_sink G hl m M h1 (xs (i + 1)) false s8 S.kp s4 hk8 (rK (M.2 1)) e350 eK8 (rP (M.2 1)) e351 eP6) mX4_sink q2071 q2072 q2073 (fun H a1 => fm_rc (ci := 0) (C := RX4) (T := TX4) (N := 21) a1 rfl E.v mdl_o) rfl rfl (Nat.le_of_ble_eq_true rfl) (Nat.le_of_ble_eq_true rfl) (Nat.le_of_ble_eq_true rfl) dL_law_725 kc ks (Nat.le_refl _) (Nat.le_refl _) ?_
  rw [eN]
  obtain ⟨hS2, hth⟩ := hSR.chg (k1 := 1) (k2 := 9) (k3 := 2) (r := aSink S.N (xs (i + 1)) (rK S.N) (rP S.N)) (by have := (show (aSink S.N (xs (i + 1)) (rK S.N) (rP S.N)).1 = 0 ∨ (aSink S.N (xs (i + 1)) (rK S.N) (rP S.N)).1 = 1 ∨ (aSink S.N (xs (i + 1)) (rK S.N) (rP S.N)).1 = 3 from cd_sink); revert this; generalize (aSink S.N (xs (i + 1)) (rK S.N) (rP S.N)).1 = c9; intro this; rcases this with z | z | z <;> omega)
  obtain ⟨M2, hM2⟩ : ∃ M2 : MSt, M2 = aSt M false S.kp 1 9 2 (aSink S.N (xs (i + 1)) (rK S.N) (rP S.N)) := ⟨_, rfl⟩
  rw [← hM2] at hS2 hth ⊢
  have hL2 := (hL1.m M2).1
  have ho2 := hL1.o ho1 M2
  refine r_istore E [some (.ref b), some (.ref x), some (.ref m), some (.ref o), some (.ref od), some (.int (nI i)), some (.int (nI (kf 1 9 2 (aSink S.N (xs (i + 1)) (rK S.N) (rP S.N)).1))), some (.int (aAns (aSink S.N (xs (i + 1)) (rK S.N) (rP S.N)))), none, none] dL_law_728 rfl rfl ?_
  refine r_aload_n E dL_law_730 rfl ?_
  refine r_callV1 (v1 := .int (M2.1 0)) E (ct_X4_thrown G hl m M2 h1) mX4_thrown q1951 q1952 q1953 (fun H a1 => fm_rc (ci := 0) (C := RX4) (T := TX4) (N := 21) a1 rfl E.v mdl_o) rfl rfl (Nat.le_of_ble_eq_true rfl) (Nat.le_of_ble_eq_true rfl) (Nat.le_of_ble_eq_true rfl) dL_law_731 kc ks (Nat.le_refl _) (Nat.le_refl _) ?_
  refine r_top (v' := .int (nI (kf 1 9 2 (aSink S.N (xs (i + 1)) (rK S.N) (rP S.N)).1))) (congrArg Value.int hth) ?_
  refine r_iload E dL_law_734 rfl ?_
  refine r_icmp_eq (tgt := 741) E dL_law_736 (by decide) (fun _ => ?_) (fun c => absurd rfl c)
  refine r_iload E dL_law_741 rfl ?_
  refine r_if_ne (tgt := 758) E dL_law_743 (by decide) (fun c => ?_) (fun c => ?_)
  · refine r_goto (tgt := 1916) E dL_law_758 (by decide) ?_
    refine fmW.few (L' := [some (.ref b), some (.ref x), some (.ref m), some (.ref o), some (.ref od), some (.int (nI i)), none, some (.int (aAns (aSink S.N (xs (i + 1)) (rK S.N) (rP S.N)))), none, none]) (fmFew_n (L := [some (.ref b), some (.ref x), some (.ref m), some (.ref o), some (.ref od), some (.int (nI i)), some (.int (nI (kf 1 9 2 (aSink S.N (xs (i + 1)) (rK S.N) (rP S.N)).1))), some (.int (aAns (aSink S.N (xs (i + 1)) (rK S.N) (rP S.N)))), none, none]) 6) ?_
    refine fmW.few (L' := [some (.ref b), some (.ref x), some (.ref m), some (.ref o), some (.ref od), some (.int (nI i)), none, none, none, none]) (fmFew_n (L := [some (.ref b), some (.ref x), some (.ref m), some (.ref o), some (.ref od), some (.int (nI i)), none, some (.int (aAns (aSink S.N (xs (i + 1)) (rK S.N) (rP S.N)))), none, none]) 7) ?_
    exact kk _ _ _ _ ⟨hL2, hS2⟩
  · have hc0 := kf_0 (by decide) (by decide) (by decide) c
    refine r_aload_n E dL_law_746 rfl ?_
    refine r_iconst E (nI 0) dL_law_747 (by decide) ?_
    refine r_lald E ho2 (by decide) (by decide) dL_law_748 ?_
    refine r_iload E dL_law_749 rfl ?_
    refine r_i2l E dL_law_751 ?_
    refine r_lcmp E dL_law_752 ?_
    refine r_if_eq (tgt := 758) E dL_law_753 (by decide) (fun _ => ?_) (fun c2 => absurd (lcmp_0.mpr (hans hc0)) c2)
    refine r_goto (tgt := 1916) E dL_law_758 (by decide) ?_
    refine fmW.few (L' := [some (.ref b), some (.ref x), some (.ref m), some (.ref o), some (.ref od), some (.int (nI i)), none, some (.int (aAns (aSink S.N (xs (i + 1)) (rK S.N) (rP S.N)))), none, none]) (fmFew_n (L := [some (.ref b), some (.ref x), some (.ref m), some (.ref o), some (.ref od), some (.int (nI i)), some (.int (nI (kf 1 9 2 (aSink S.N (xs (i + 1)) (rK S.N) (rP S.N)).1))), some (.int (aAns (aSink S.N (xs (i + 1)) (rK S.N) (rP S.N)))), none, none]) 6) ?_
    refine fmW.few (L' := [some (.ref b), some (.ref x), some (.ref m), some (.ref o), some (.ref od), some (.int (nI i)), none, none, none, none]) (fmFew_n (L := [some (.ref b), some (.ref x), some (.ref m), some (.ref o), some (.ref od), some (.int (nI i)), none, some (.int (aAns (aSink S.N (xs (i + 1)) (rK S.N) (rP S.N)))), none, none]) 7) ?_
    exact kk _ _ _ _ ⟨hL2, hS2⟩
set_option maxHeartbeats 4000000 in
theorem lc_10 (G : fmG) (hl : (fmLn G).stackTraces = false) {Γ : fmC} (E : fmE G Γ cL_law 10 "FlintMineLaw" "law" ret room_1 []) {h : fmHp} {x m o od b L : Nat} {xs : Nat → Int32} {a : DA} {S : DS} {M : MSt} (hI : LI G h x m o od b L xs a S M) (hL : L ≤ 96) {i : Nat} (hi : i + 4 ≤ L) {kc ks : Nat} (kk : ∀ (h' : fmHp) (a' : DA) (S' : DS) (M' : MSt), LI G h' x m o od b L xs a' S' M' → fmW G Γ h' kc ks 1916 [some (.ref b), some (.ref x), some (.ref m), some (.ref o), some (.ref od), some (.int (nI i)), none, none, none, none] []) : fmW G Γ h (kc + 4700) (ks + 34000) 761 [some (.ref b), some (.ref x), some (.ref m), some (.ref o), some (.ref od), some (.int (nI i)), none, none, none, none] [] := by
  obtain ⟨e350, eK8, e351, eP6, eN, hk8⟩ := hI.k
  have hkB := hI.kB
  obtain ⟨hLH, hSR⟩ := hI
  obtain ⟨hC, hD, hm, hdis, ⟨f0, ho⟩, ⟨g0, hod⟩, hb⟩ := id hLH
  obtain ⟨-, s4, -, -, s7, s6b, s8, s12, s60, s14, sch, ⟨fo, hfo, hfo31⟩, sf, s5, s6, ⟨qa, s13⟩, ⟨qw, s15⟩, ⟨qp, s16⟩⟩ := id hSR
  skip
  refine r_aload_n E dL_law_761 rfl ?_
  refine r_aload_n E dL_law_762 rfl ?_
  refine r_iload E dL_law_763 rfl ?_
  refine r_iconst E (nI 1) dL_law_765 (by decide) ?_
  refine r_iaddN E dL_law_766 ?_
  refine r_iald E hb (by omega) (by omega) dL_law_767 ?_
  refine r_aload_n E dL_law_768 rfl ?_
  refine r_iload E dL_law_769 rfl ?_
  refine r_iconst E (nI 2) dL_law_771 (by decide) ?_
  refine r_iaddN E dL_law_772 ?_
  refine r_iald E hb (by omega) (by omega) dL_law_773 ?_
  refine r_aload_n E dL_law_774 rfl ?_
  refine r_iload E dL_law_775 rfl ?_
  refine r_iconst E (nI 3) dL_law_777 (by decide) ?_
  refine r_iaddN E dL_law_778 ?_
  refine r_iald E hb (by omega) (by omega) dL_law_779 ?_
  refine r_if_eq (tgt := 787) E dL_law_780 (by decide) (fun c1 => ?_) (fun c1 => ?_)
  · refine r_iconst E (nI 0) dL_law_787 (by decide) ?_
    refine r_top (v' := .int (bI false)) rfl ?_
    refine r_aload_n E dL_law_788 rfl ?_
    refine r_callSH E (w_dig G hl h hC hD hk8 o f0 ho (xs (i + 1)) (xs (i + 2)) false) mX0_dig q77 q1165 q1166 rfl rfl (Nat.le_of_ble_eq_true rfl) (Nat.le_of_ble_eq_true rfl) (Nat.le_of_ble_eq_true rfl) dL_law_789 kc ks (show kc + 28 ≤ kc + 4700 by omega) (show ks + 3212 ≤ ks + 34000 by omega) (fun v' h1 q => ?_) (fun _ _ _ q => q.elim)
    obtain ⟨rfl, hOP⟩ := q
    obtain ⟨a1, hL1, f1, ho1, hans⟩ := hLH.w hOP
    refine r_istore E [some (.ref b), some (.ref x), some (.ref m), some (.ref o), some (.ref od), some (.int (nI i)), some (.int (nI (kf 1 9 2 (aDig S.N (xs (i + 1)) (xs (i + 2)) false (rK S.N) (rP S.N)).1))), none, none, none] dL_law_792 rfl rfl ?_
    refine r_hp (h' := mdl m M h1) hL1.2.2.1.symm ?_
    refine r_aload_n E dL_law_794 rfl ?_
    refine r_aload_n E dL_law_795 rfl ?_
    refine r_iload E dL_law_796 rfl ?_
    refine r_iconst E (nI 1) dL_law_798 (by decide) ?_
    refine r_iaddN E dL_law_799 ?_
    refine r_iald E (hL1.m M).1.2.2.2.2.2.2 (by omega) (by omega) dL_law_800 ?_
    refine r_aload_n E dL_law_801 rfl ?_
    refine r_iload E dL_law_802 rfl ?_
    refine r_iconst E (nI 2) dL_law_804 (by decide) ?_
    refine r_iaddN E dL_law_805 ?_
    refine r_iald E (hL1.m M).1.2.2.2.2.2.2 (by omega) (by omega) dL_law_806 ?_
    refine r_aload_n E dL_law_807 rfl ?_
    refine r_iload E dL_law_808 rfl ?_
    refine r_iconst E (nI 3) dL_law_810 (by decide) ?_
    refine r_iaddN E dL_law_811 ?_
    refine r_iald E (hL1.m M).1.2.2.2.2.2.2 (by omega) (by omega) dL_law_812 ?_
    refine r_if_eq (tgt := 820) E dL_law_813 (by decide) (fun _ => ?_) (fun c9 => absurd c1 c9)
    refine r_iconst E (nI 0) dL_law_820 (by decide) ?_
    refine r_top (v' := .int (bI false)) rfl ?_
    refine r_callV1 (v1 := .int (aAns (aDig (M.2 1) (xs (i + 1)) (xs (i + 2)) false (rK (M.2 1)) (rP (M.2 1))))) E (ct_X4_dig G hl m M h1 (xs (i + 1)) (xs (i + 2)) false false s8 S.kp s4 hk8 (rK (M.2 1)) e350 eK8 (rP (M.2 1)) e351 eP6) mX4_dig q2095 q2096 q2097 (fun H a1 => fm_rc (ci := 0) (C := RX4) (T := TX4) (N := 21) a1 rfl E.v mdl_o) rfl rfl (Nat.le_of_ble_eq_true rfl) (Nat.le_of_ble_eq_true rfl) (Nat.le_of_ble_eq_true rfl) dL_law_821 kc ks (Nat.le_refl _) (Nat.le_refl _) ?_
    rw [eN]
    obtain ⟨hS2, hth⟩ := hSR.chg (k1 := 1) (k2 := 9) (k3 := 2) (r := aDig S.N (xs (i + 1)) (xs (i + 2)) false (rK S.N) (rP S.N)) (by have := (show (aDig S.N (xs (i + 1)) (xs (i + 2)) false (rK S.N) (rP S.N)).1 = 0 ∨ (aDig S.N (xs (i + 1)) (xs (i + 2)) false (rK S.N) (rP S.N)).1 = 1 ∨ (aDig S.N (xs (i + 1)) (xs (i + 2)) false (rK S.N) (rP S.N)).1 = 3 from cd_dig); revert this; generalize (aDig S.N (xs (i + 1)) (xs (i + 2)) false (rK S.N) (rP S.N)).1 = c9; intro this; rcases this with z | z | z <;> omega)
    obtain ⟨M2, hM2⟩ : ∃ M2 : MSt, M2 = aSt M false S.kp 1 9 2 (aDig S.N (xs (i + 1)) (xs (i + 2)) false (rK S.N) (rP S.N)) := ⟨_, rfl⟩
    rw [← hM2] at hS2 hth ⊢
    have hL2 := (hL1.m M2).1
    have ho2 := hL1.o ho1 M2
    refine r_istore E [some (.ref b), some (.ref x), some (.ref m), some (.ref o), some (.ref od), some (.int (nI i)), some (.int (nI (kf 1 9 2 (aDig S.N (xs (i + 1)) (xs (i + 2)) false (rK S.N) (rP S.N)).1))), some (.int (aAns (aDig S.N (xs (i + 1)) (xs (i + 2)) false (rK S.N) (rP S.N)))), none, none] dL_law_824 rfl rfl ?_
    refine r_aload_n E dL_law_826 rfl ?_
    refine r_callV1 (v1 := .int (M2.1 0)) E (ct_X4_thrown G hl m M2 h1) mX4_thrown q1951 q1952 q1953 (fun H a1 => fm_rc (ci := 0) (C := RX4) (T := TX4) (N := 21) a1 rfl E.v mdl_o) rfl rfl (Nat.le_of_ble_eq_true rfl) (Nat.le_of_ble_eq_true rfl) (Nat.le_of_ble_eq_true rfl) dL_law_827 kc ks (Nat.le_refl _) (Nat.le_refl _) ?_
    refine r_top (v' := .int (nI (kf 1 9 2 (aDig S.N (xs (i + 1)) (xs (i + 2)) false (rK S.N) (rP S.N)).1))) (congrArg Value.int hth) ?_
    refine r_iload E dL_law_830 rfl ?_
    refine r_icmp_eq (tgt := 837) E dL_law_832 (by decide) (fun _ => ?_) (fun c => absurd rfl c)
    refine r_iload E dL_law_837 rfl ?_
    refine r_if_ne (tgt := 854) E dL_law_839 (by decide) (fun c => ?_) (fun c => ?_)
    · refine r_goto (tgt := 1916) E dL_law_854 (by decide) ?_
      refine fmW.few (L' := [some (.ref b), some (.ref x), some (.ref m), some (.ref o), some (.ref od), some (.int (nI i)), none, some (.int (aAns (aDig S.N (xs (i + 1)) (xs (i + 2)) false (rK S.N) (rP S.N)))), none, none]) (fmFew_n (L := [some (.ref b), some (.ref x), some (.ref m), some (.ref o), some (.ref od), some (.int (nI i)), some (.int (nI (kf 1 9 2 (aDig S.N (xs (i + 1)) (xs (i + 2)) false (rK S.N) (rP S.N)).1))), some (.int (aAns (aDig S.N (xs (i + 1)) (xs (i + 2)) false (rK S.N) (rP S.N)))), none, none]) 6) ?_
      refine fmW.few (L' := [some (.ref b), some (.ref x), some (.ref m), some (.ref o), some (.ref od), some (.int (nI i)), none, none, none, none]) (fmFew_n (L := [some (.ref b), some (.ref x), some (.ref m), some (.ref o), some (.ref od), some (.int (nI i)), none, some (.int (aAns (aDig S.N (xs (i + 1)) (xs (i + 2)) false (rK S.N) (rP S.N)))), none, none]) 7) ?_
      exact kk _ _ _ _ ⟨hL2, hS2⟩
    · have hc0 := kf_0 (by decide) (by decide) (by decide) c
      refine r_aload_n E dL_law_842 rfl ?_
      refine r_iconst E (nI 0) dL_law_843 (by decide) ?_
      refine r_lald E ho2 (by decide) (by decide) dL_law_844 ?_
      refine r_iload E dL_law_845 rfl ?_
      refine r_i2l E dL_law_847 ?_
      refine r_lcmp E dL_law_848 ?_
      refine r_if_eq (tgt := 854) E dL_law_849 (by decide) (fun _ => ?_) (fun c2 => absurd (lcmp_0.mpr (hans hc0)) c2)
      refine r_goto (tgt := 1916) E dL_law_854 (by decide) ?_
      refine fmW.few (L' := [some (.ref b), some (.ref x), some (.ref m), some (.ref o), some (.ref od), some (.int (nI i)), none, some (.int (aAns (aDig S.N (xs (i + 1)) (xs (i + 2)) false (rK S.N) (rP S.N)))), none, none]) (fmFew_n (L := [some (.ref b), some (.ref x), some (.ref m), some (.ref o), some (.ref od), some (.int (nI i)), some (.int (nI (kf 1 9 2 (aDig S.N (xs (i + 1)) (xs (i + 2)) false (rK S.N) (rP S.N)).1))), some (.int (aAns (aDig S.N (xs (i + 1)) (xs (i + 2)) false (rK S.N) (rP S.N)))), none, none]) 6) ?_
      refine fmW.few (L' := [some (.ref b), some (.ref x), some (.ref m), some (.ref o), some (.ref od), some (.int (nI i)), none, none, none, none]) (fmFew_n (L := [some (.ref b), some (.ref x), some (.ref m), some (.ref o), some (.ref od), some (.int (nI i)), none, some (.int (aAns (aDig S.N (xs (i + 1)) (xs (i + 2)) false (rK S.N) (rP S.N)))), none, none]) 7) ?_
      exact kk _ _ _ _ ⟨hL2, hS2⟩
  · refine r_iconst E (nI 1) dL_law_783 (by decide) ?_
    refine r_top (v' := .int (bI true)) rfl ?_
    refine r_goto (tgt := 788) E dL_law_784 (by decide) ?_
    refine r_aload_n E dL_law_788 rfl ?_
    refine r_callSH E (w_dig G hl h hC hD hk8 o f0 ho (xs (i + 1)) (xs (i + 2)) true) mX0_dig q77 q1165 q1166 rfl rfl (Nat.le_of_ble_eq_true rfl) (Nat.le_of_ble_eq_true rfl) (Nat.le_of_ble_eq_true rfl) dL_law_789 kc ks (show kc + 28 ≤ kc + 4700 by omega) (show ks + 3212 ≤ ks + 34000 by omega) (fun v' h1 q => ?_) (fun _ _ _ q => q.elim)
    obtain ⟨rfl, hOP⟩ := q
    obtain ⟨a1, hL1, f1, ho1, hans⟩ := hLH.w hOP
    refine r_istore E [some (.ref b), some (.ref x), some (.ref m), some (.ref o), some (.ref od), some (.int (nI i)), some (.int (nI (kf 1 9 2 (aDig S.N (xs (i + 1)) (xs (i + 2)) true (rK S.N) (rP S.N)).1))), none, none, none] dL_law_792 rfl rfl ?_
    refine r_hp (h' := mdl m M h1) hL1.2.2.1.symm ?_
    refine r_aload_n E dL_law_794 rfl ?_
    refine r_aload_n E dL_law_795 rfl ?_
    refine r_iload E dL_law_796 rfl ?_
    refine r_iconst E (nI 1) dL_law_798 (by decide) ?_
    refine r_iaddN E dL_law_799 ?_
    refine r_iald E (hL1.m M).1.2.2.2.2.2.2 (by omega) (by omega) dL_law_800 ?_
    refine r_aload_n E dL_law_801 rfl ?_
    refine r_iload E dL_law_802 rfl ?_
    refine r_iconst E (nI 2) dL_law_804 (by decide) ?_
    refine r_iaddN E dL_law_805 ?_
    refine r_iald E (hL1.m M).1.2.2.2.2.2.2 (by omega) (by omega) dL_law_806 ?_
    refine r_aload_n E dL_law_807 rfl ?_
    refine r_iload E dL_law_808 rfl ?_
    refine r_iconst E (nI 3) dL_law_810 (by decide) ?_
    refine r_iaddN E dL_law_811 ?_
    refine r_iald E (hL1.m M).1.2.2.2.2.2.2 (by omega) (by omega) dL_law_812 ?_
    refine r_if_eq (tgt := 820) E dL_law_813 (by decide) (fun c9 => absurd c9 c1) (fun _ => ?_)
    refine r_iconst E (nI 1) dL_law_816 (by decide) ?_
    refine r_top (v' := .int (bI true)) rfl ?_
    refine r_goto (tgt := 821) E dL_law_817 (by decide) ?_
    refine r_callV1 (v1 := .int (aAns (aDig (M.2 1) (xs (i + 1)) (xs (i + 2)) true (rK (M.2 1)) (rP (M.2 1))))) E (ct_X4_dig G hl m M h1 (xs (i + 1)) (xs (i + 2)) true false s8 S.kp s4 hk8 (rK (M.2 1)) e350 eK8 (rP (M.2 1)) e351 eP6) mX4_dig q2095 q2096 q2097 (fun H a1 => fm_rc (ci := 0) (C := RX4) (T := TX4) (N := 21) a1 rfl E.v mdl_o) rfl rfl (Nat.le_of_ble_eq_true rfl) (Nat.le_of_ble_eq_true rfl) (Nat.le_of_ble_eq_true rfl) dL_law_821 kc ks (Nat.le_refl _) (Nat.le_refl _) ?_
    rw [eN]
    obtain ⟨hS2, hth⟩ := hSR.chg (k1 := 1) (k2 := 9) (k3 := 2) (r := aDig S.N (xs (i + 1)) (xs (i + 2)) true (rK S.N) (rP S.N)) (by have := (show (aDig S.N (xs (i + 1)) (xs (i + 2)) true (rK S.N) (rP S.N)).1 = 0 ∨ (aDig S.N (xs (i + 1)) (xs (i + 2)) true (rK S.N) (rP S.N)).1 = 1 ∨ (aDig S.N (xs (i + 1)) (xs (i + 2)) true (rK S.N) (rP S.N)).1 = 3 from cd_dig); revert this; generalize (aDig S.N (xs (i + 1)) (xs (i + 2)) true (rK S.N) (rP S.N)).1 = c9; intro this; rcases this with z | z | z <;> omega)
    obtain ⟨M2, hM2⟩ : ∃ M2 : MSt, M2 = aSt M false S.kp 1 9 2 (aDig S.N (xs (i + 1)) (xs (i + 2)) true (rK S.N) (rP S.N)) := ⟨_, rfl⟩
    rw [← hM2] at hS2 hth ⊢
    have hL2 := (hL1.m M2).1
    have ho2 := hL1.o ho1 M2
    refine r_istore E [some (.ref b), some (.ref x), some (.ref m), some (.ref o), some (.ref od), some (.int (nI i)), some (.int (nI (kf 1 9 2 (aDig S.N (xs (i + 1)) (xs (i + 2)) true (rK S.N) (rP S.N)).1))), some (.int (aAns (aDig S.N (xs (i + 1)) (xs (i + 2)) true (rK S.N) (rP S.N)))), none, none] dL_law_824 rfl rfl ?_
    refine r_aload_n E dL_law_826 rfl ?_
    refine r_callV1 (v1 := .int (M2.1 0)) E (ct_X4_thrown G hl m M2 h1) mX4_thrown q1951 q1952 q1953 (fun H a1 => fm_rc (ci := 0) (C := RX4) (T := TX4) (N := 21) a1 rfl E.v mdl_o) rfl rfl (Nat.le_of_ble_eq_true rfl) (Nat.le_of_ble_eq_true rfl) (Nat.le_of_ble_eq_true rfl) dL_law_827 kc ks (Nat.le_refl _) (Nat.le_refl _) ?_
    refine r_top (v' := .int (nI (kf 1 9 2 (aDig S.N (xs (i + 1)) (xs (i + 2)) true (rK S.N) (rP S.N)).1))) (congrArg Value.int hth) ?_
    refine r_iload E dL_law_830 rfl ?_
    refine r_icmp_eq (tgt := 837) E dL_law_832 (by decide) (fun _ => ?_) (fun c => absurd rfl c)
    refine r_iload E dL_law_837 rfl ?_
    refine r_if_ne (tgt := 854) E dL_law_839 (by decide) (fun c => ?_) (fun c => ?_)
    · refine r_goto (tgt := 1916) E dL_law_854 (by decide) ?_
      refine fmW.few (L' := [some (.ref b), some (.ref x), some (.ref m), some (.ref o), some (.ref od), some (.int (nI i)), none, some (.int (aAns (aDig S.N (xs (i + 1)) (xs (i + 2)) true (rK S.N) (rP S.N)))), none, none]) (fmFew_n (L := [some (.ref b), some (.ref x), some (.ref m), some (.ref o), some (.ref od), some (.int (nI i)), some (.int (nI (kf 1 9 2 (aDig S.N (xs (i + 1)) (xs (i + 2)) true (rK S.N) (rP S.N)).1))), some (.int (aAns (aDig S.N (xs (i + 1)) (xs (i + 2)) true (rK S.N) (rP S.N)))), none, none]) 6) ?_
      refine fmW.few (L' := [some (.ref b), some (.ref x), some (.ref m), some (.ref o), some (.ref od), some (.int (nI i)), none, none, none, none]) (fmFew_n (L := [some (.ref b), some (.ref x), some (.ref m), some (.ref o), some (.ref od), some (.int (nI i)), none, some (.int (aAns (aDig S.N (xs (i + 1)) (xs (i + 2)) true (rK S.N) (rP S.N)))), none, none]) 7) ?_
      exact kk _ _ _ _ ⟨hL2, hS2⟩
    · have hc0 := kf_0 (by decide) (by decide) (by decide) c
      refine r_aload_n E dL_law_842 rfl ?_
      refine r_iconst E (nI 0) dL_law_843 (by decide) ?_
      refine r_lald E ho2 (by decide) (by decide) dL_law_844 ?_
      refine r_iload E dL_law_845 rfl ?_
      refine r_i2l E dL_law_847 ?_
      refine r_lcmp E dL_law_848 ?_
      refine r_if_eq (tgt := 854) E dL_law_849 (by decide) (fun _ => ?_) (fun c2 => absurd (lcmp_0.mpr (hans hc0)) c2)
      refine r_goto (tgt := 1916) E dL_law_854 (by decide) ?_
      refine fmW.few (L' := [some (.ref b), some (.ref x), some (.ref m), some (.ref o), some (.ref od), some (.int (nI i)), none, some (.int (aAns (aDig S.N (xs (i + 1)) (xs (i + 2)) true (rK S.N) (rP S.N)))), none, none]) (fmFew_n (L := [some (.ref b), some (.ref x), some (.ref m), some (.ref o), some (.ref od), some (.int (nI i)), some (.int (nI (kf 1 9 2 (aDig S.N (xs (i + 1)) (xs (i + 2)) true (rK S.N) (rP S.N)).1))), some (.int (aAns (aDig S.N (xs (i + 1)) (xs (i + 2)) true (rK S.N) (rP S.N)))), none, none]) 6) ?_
      refine fmW.few (L' := [some (.ref b), some (.ref x), some (.ref m), some (.ref o), some (.ref od), some (.int (nI i)), none, none, none, none]) (fmFew_n (L := [some (.ref b), some (.ref x), some (.ref m), some (.ref o), some (.ref od), some (.int (nI i)), none, some (.int (aAns (aDig S.N (xs (i + 1)) (xs (i + 2)) true (rK S.N) (rP S.N)))), none, none]) 7) ?_
      exact kk _ _ _ _ ⟨hL2, hS2⟩
set_option maxHeartbeats 4000000 in
theorem lc_11 (G : fmG) (hl : (fmLn G).stackTraces = false) {Γ : fmC} (E : fmE G Γ cL_law 10 "FlintMineLaw" "law" ret room_1 []) {h : fmHp} {x m o od b L : Nat} {xs : Nat → Int32} {a : DA} {S : DS} {M : MSt} (hI : LI G h x m o od b L xs a S M) (hL : L ≤ 96) {i : Nat} (hi : i + 4 ≤ L) {kc ks : Nat} (kk : ∀ (h' : fmHp) (a' : DA) (S' : DS) (M' : MSt), LI G h' x m o od b L xs a' S' M' → fmW G Γ h' kc ks 1916 [some (.ref b), some (.ref x), some (.ref m), some (.ref o), some (.ref od), some (.int (nI i)), none, none, none, none] []) : fmW G Γ h (kc + 4700) (ks + 34000) 857 [some (.ref b), some (.ref x), some (.ref m), some (.ref o), some (.ref od), some (.int (nI i)), none, none, none, none] [] := by
  obtain ⟨e350, eK8, e351, eP6, eN, hk8⟩ := hI.k
  have hkB := hI.kB
  obtain ⟨hLH, hSR⟩ := hI
  obtain ⟨hC, hD, hm, hdis, ⟨f0, ho⟩, ⟨g0, hod⟩, hb⟩ := id hLH
  obtain ⟨-, s4, -, -, s7, s6b, s8, s12, s60, s14, sch, ⟨fo, hfo, hfo31⟩, sf, s5, s6, ⟨qa, s13⟩, ⟨qw, s15⟩, ⟨qp, s16⟩⟩ := id hSR
  skip
  refine r_aload_n E dL_law_857 rfl ?_
  refine r_aload_n E dL_law_858 rfl ?_
  refine r_iload E dL_law_859 rfl ?_
  refine r_iconst E (nI 1) dL_law_861 (by decide) ?_
  refine r_iaddN E dL_law_862 ?_
  refine r_iald E hb (by omega) (by omega) dL_law_863 ?_
  refine r_aload_n E dL_law_864 rfl ?_
  refine r_callSH E (w_prop G hl h hC hD hk8 o f0 ho (xs (i + 1))) mX0_prop q77 q1174 q1175 rfl rfl (Nat.le_of_ble_eq_true rfl) (Nat.le_of_ble_eq_true rfl) (Nat.le_of_ble_eq_true rfl) dL_law_865 kc ks (show kc + 24 ≤ kc + 4700 by omega) (show ks + 3002 ≤ ks + 34000 by omega) (fun v' h1 q => ?_) (fun _ _ _ q => q.elim)
  obtain ⟨rfl, hOP⟩ := q
  obtain ⟨a1, hL1, f1, ho1, hans⟩ := hLH.w hOP
  refine r_istore E [some (.ref b), some (.ref x), some (.ref m), some (.ref o), some (.ref od), some (.int (nI i)), some (.int (nI (kf 1 9 2 (aProp S.N (xs (i + 1))).1))), none, none, none] dL_law_868 rfl rfl ?_
  refine r_hp (h' := mdl m M h1) hL1.2.2.1.symm ?_
  refine r_aload_n E dL_law_870 rfl ?_
  refine r_aload_n E dL_law_871 rfl ?_
  refine r_iload E dL_law_872 rfl ?_
  refine r_iconst E (nI 1) dL_law_874 (by decide) ?_
  refine r_iaddN E dL_law_875 ?_
  refine r_iald E (hL1.m M).1.2.2.2.2.2.2 (by omega) (by omega) dL_law_876 ?_
  refine r_callV1 (v1 := .int (aAns (aProp (M.2 1) (xs (i + 1))))) E (ct_X4_prop G hl m M h1 (xs (i + 1)) false s8 S.kp s4 hk8) mX4_prop q2111 q2112 q2113 (fun H a1 => fm_rc (ci := 0) (C := RX4) (T := TX4) (N := 21) a1 rfl E.v mdl_o) rfl rfl (Nat.le_of_ble_eq_true rfl) (Nat.le_of_ble_eq_true rfl) (Nat.le_of_ble_eq_true rfl) dL_law_877 kc ks (Nat.le_refl _) (Nat.le_refl _) ?_
  rw [eN]
  obtain ⟨hS2, hth⟩ := hSR.chg (k1 := 1) (k2 := 9) (k3 := 2) (r := aProp S.N (xs (i + 1))) (by have := (show (aProp S.N (xs (i + 1))).1 = 0 ∨ (aProp S.N (xs (i + 1))).1 = 1 ∨ (aProp S.N (xs (i + 1))).1 = 3 from cd_prop); revert this; generalize (aProp S.N (xs (i + 1))).1 = c9; intro this; rcases this with z | z | z <;> omega)
  obtain ⟨M2, hM2⟩ : ∃ M2 : MSt, M2 = aSt M false S.kp 1 9 2 (aProp S.N (xs (i + 1))) := ⟨_, rfl⟩
  rw [← hM2] at hS2 hth ⊢
  have hL2 := (hL1.m M2).1
  have ho2 := hL1.o ho1 M2
  refine r_istore E [some (.ref b), some (.ref x), some (.ref m), some (.ref o), some (.ref od), some (.int (nI i)), some (.int (nI (kf 1 9 2 (aProp S.N (xs (i + 1))).1))), some (.int (aAns (aProp S.N (xs (i + 1))))), none, none] dL_law_880 rfl rfl ?_
  refine r_aload_n E dL_law_882 rfl ?_
  refine r_callV1 (v1 := .int (M2.1 0)) E (ct_X4_thrown G hl m M2 h1) mX4_thrown q1951 q1952 q1953 (fun H a1 => fm_rc (ci := 0) (C := RX4) (T := TX4) (N := 21) a1 rfl E.v mdl_o) rfl rfl (Nat.le_of_ble_eq_true rfl) (Nat.le_of_ble_eq_true rfl) (Nat.le_of_ble_eq_true rfl) dL_law_883 kc ks (Nat.le_refl _) (Nat.le_refl _) ?_
  refine r_top (v' := .int (nI (kf 1 9 2 (aProp S.N (xs (i + 1))).1))) (congrArg Value.int hth) ?_
  refine r_iload E dL_law_886 rfl ?_
  refine r_icmp_eq (tgt := 893) E dL_law_888 (by decide) (fun _ => ?_) (fun c => absurd rfl c)
  refine r_iload E dL_law_893 rfl ?_
  refine r_if_ne (tgt := 910) E dL_law_895 (by decide) (fun c => ?_) (fun c => ?_)
  · refine r_goto (tgt := 1916) E dL_law_910 (by decide) ?_
    refine fmW.few (L' := [some (.ref b), some (.ref x), some (.ref m), some (.ref o), some (.ref od), some (.int (nI i)), none, some (.int (aAns (aProp S.N (xs (i + 1))))), none, none]) (fmFew_n (L := [some (.ref b), some (.ref x), some (.ref m), some (.ref o), some (.ref od), some (.int (nI i)), some (.int (nI (kf 1 9 2 (aProp S.N (xs (i + 1))).1))), some (.int (aAns (aProp S.N (xs (i + 1))))), none, none]) 6) ?_
    refine fmW.few (L' := [some (.ref b), some (.ref x), some (.ref m), some (.ref o), some (.ref od), some (.int (nI i)), none, none, none, none]) (fmFew_n (L := [some (.ref b), some (.ref x), some (.ref m), some (.ref o), some (.ref od), some (.int (nI i)), none, some (.int (aAns (aProp S.N (xs (i + 1))))), none, none]) 7) ?_
    exact kk _ _ _ _ ⟨hL2, hS2⟩
  · have hc0 := kf_0 (by decide) (by decide) (by decide) c
    refine r_aload_n E dL_law_898 rfl ?_
    refine r_iconst E (nI 0) dL_law_899 (by decide) ?_
    refine r_lald E ho2 (by decide) (by decide) dL_law_900 ?_
    refine r_iload E dL_law_901 rfl ?_
    refine r_i2l E dL_law_903 ?_
    refine r_lcmp E dL_law_904 ?_
    refine r_if_eq (tgt := 910) E dL_law_905 (by decide) (fun _ => ?_) (fun c2 => absurd (lcmp_0.mpr (hans hc0)) c2)
    refine r_goto (tgt := 1916) E dL_law_910 (by decide) ?_
    refine fmW.few (L' := [some (.ref b), some (.ref x), some (.ref m), some (.ref o), some (.ref od), some (.int (nI i)), none, some (.int (aAns (aProp S.N (xs (i + 1))))), none, none]) (fmFew_n (L := [some (.ref b), some (.ref x), some (.ref m), some (.ref o), some (.ref od), some (.int (nI i)), some (.int (nI (kf 1 9 2 (aProp S.N (xs (i + 1))).1))), some (.int (aAns (aProp S.N (xs (i + 1))))), none, none]) 6) ?_
    refine fmW.few (L' := [some (.ref b), some (.ref x), some (.ref m), some (.ref o), some (.ref od), some (.int (nI i)), none, none, none, none]) (fmFew_n (L := [some (.ref b), some (.ref x), some (.ref m), some (.ref o), some (.ref od), some (.int (nI i)), none, some (.int (aAns (aProp S.N (xs (i + 1))))), none, none]) 7) ?_
    exact kk _ _ _ _ ⟨hL2, hS2⟩
set_option maxHeartbeats 4000000 in
theorem lc_12 (G : fmG) (hl : (fmLn G).stackTraces = false) {Γ : fmC} (E : fmE G Γ cL_law 10 "FlintMineLaw" "law" ret room_1 []) {h : fmHp} {x m o od b L : Nat} {xs : Nat → Int32} {a : DA} {S : DS} {M : MSt} (hI : LI G h x m o od b L xs a S M) (hL : L ≤ 96) {i : Nat} (hi : i + 4 ≤ L) {kc ks : Nat} (kk : ∀ (h' : fmHp) (a' : DA) (S' : DS) (M' : MSt), LI G h' x m o od b L xs a' S' M' → fmW G Γ h' kc ks 1916 [some (.ref b), some (.ref x), some (.ref m), some (.ref o), some (.ref od), some (.int (nI i)), none, none, none, none] []) : fmW G Γ h (kc + 4700) (ks + 34000) 913 [some (.ref b), some (.ref x), some (.ref m), some (.ref o), some (.ref od), some (.int (nI i)), none, none, none, none] [] := by
  obtain ⟨e350, eK8, e351, eP6, eN, hk8⟩ := hI.k
  have hkB := hI.kB
  obtain ⟨hLH, hSR⟩ := hI
  obtain ⟨hC, hD, hm, hdis, ⟨f0, ho⟩, ⟨g0, hod⟩, hb⟩ := id hLH
  obtain ⟨-, s4, -, -, s7, s6b, s8, s12, s60, s14, sch, ⟨fo, hfo, hfo31⟩, sf, s5, s6, ⟨qa, s13⟩, ⟨qw, s15⟩, ⟨qp, s16⟩⟩ := id hSR
  skip
  refine r_aload_n E dL_law_913 rfl ?_
  refine r_aload_n E dL_law_914 rfl ?_
  refine r_iload E dL_law_915 rfl ?_
  refine r_iconst E (nI 1) dL_law_917 (by decide) ?_
  refine r_iaddN E dL_law_918 ?_
  refine r_iald E hb (by omega) (by omega) dL_law_919 ?_
  refine r_aload_n E dL_law_920 rfl ?_
  refine r_callSH E (w_unprop G hl h hC hD hk8 o f0 ho (xs (i + 1))) mX0_unprop q77 q1183 q1184 rfl rfl (Nat.le_of_ble_eq_true rfl) (Nat.le_of_ble_eq_true rfl) (Nat.le_of_ble_eq_true rfl) dL_law_921 kc ks (show kc + 24 ≤ kc + 4700 by omega) (show ks + 3002 ≤ ks + 34000 by omega) (fun v' h1 q => ?_) (fun _ _ _ q => q.elim)
  obtain ⟨rfl, hOP⟩ := q
  obtain ⟨a1, hL1, f1, ho1, hans⟩ := hLH.w hOP
  refine r_istore E [some (.ref b), some (.ref x), some (.ref m), some (.ref o), some (.ref od), some (.int (nI i)), some (.int (nI (kf 1 9 2 (aUnprop S.N (xs (i + 1))).1))), none, none, none] dL_law_924 rfl rfl ?_
  refine r_hp (h' := mdl m M h1) hL1.2.2.1.symm ?_
  refine r_aload_n E dL_law_926 rfl ?_
  refine r_aload_n E dL_law_927 rfl ?_
  refine r_iload E dL_law_928 rfl ?_
  refine r_iconst E (nI 1) dL_law_930 (by decide) ?_
  refine r_iaddN E dL_law_931 ?_
  refine r_iald E (hL1.m M).1.2.2.2.2.2.2 (by omega) (by omega) dL_law_932 ?_
  refine r_callV1 (v1 := .int (aAns (aUnprop (M.2 1) (xs (i + 1))))) E (ct_X4_unprop G hl m M h1 (xs (i + 1)) false s8 S.kp s4 hk8) mX4_unprop q2115 q2116 q2117 (fun H a1 => fm_rc (ci := 0) (C := RX4) (T := TX4) (N := 21) a1 rfl E.v mdl_o) rfl rfl (Nat.le_of_ble_eq_true rfl) (Nat.le_of_ble_eq_true rfl) (Nat.le_of_ble_eq_true rfl) dL_law_933 kc ks (Nat.le_refl _) (Nat.le_refl _) ?_
  rw [eN]
  obtain ⟨hS2, hth⟩ := hSR.chg (k1 := 1) (k2 := 9) (k3 := 2) (r := aUnprop S.N (xs (i + 1))) (by have := (show (aUnprop S.N (xs (i + 1))).1 = 0 ∨ (aUnprop S.N (xs (i + 1))).1 = 1 ∨ (aUnprop S.N (xs (i + 1))).1 = 3 from cd_unprop); revert this; generalize (aUnprop S.N (xs (i + 1))).1 = c9; intro this; rcases this with z | z | z <;> omega)
  obtain ⟨M2, hM2⟩ : ∃ M2 : MSt, M2 = aSt M false S.kp 1 9 2 (aUnprop S.N (xs (i + 1))) := ⟨_, rfl⟩
  rw [← hM2] at hS2 hth ⊢
  have hL2 := (hL1.m M2).1
  have ho2 := hL1.o ho1 M2
  refine r_istore E [some (.ref b), some (.ref x), some (.ref m), some (.ref o), some (.ref od), some (.int (nI i)), some (.int (nI (kf 1 9 2 (aUnprop S.N (xs (i + 1))).1))), some (.int (aAns (aUnprop S.N (xs (i + 1))))), none, none] dL_law_936 rfl rfl ?_
  refine r_aload_n E dL_law_938 rfl ?_
  refine r_callV1 (v1 := .int (M2.1 0)) E (ct_X4_thrown G hl m M2 h1) mX4_thrown q1951 q1952 q1953 (fun H a1 => fm_rc (ci := 0) (C := RX4) (T := TX4) (N := 21) a1 rfl E.v mdl_o) rfl rfl (Nat.le_of_ble_eq_true rfl) (Nat.le_of_ble_eq_true rfl) (Nat.le_of_ble_eq_true rfl) dL_law_939 kc ks (Nat.le_refl _) (Nat.le_refl _) ?_
  refine r_top (v' := .int (nI (kf 1 9 2 (aUnprop S.N (xs (i + 1))).1))) (congrArg Value.int hth) ?_
  refine r_iload E dL_law_942 rfl ?_
  refine r_icmp_eq (tgt := 949) E dL_law_944 (by decide) (fun _ => ?_) (fun c => absurd rfl c)
  refine r_iload E dL_law_949 rfl ?_
  refine r_if_ne (tgt := 966) E dL_law_951 (by decide) (fun c => ?_) (fun c => ?_)
  · refine r_goto (tgt := 1916) E dL_law_966 (by decide) ?_
    refine fmW.few (L' := [some (.ref b), some (.ref x), some (.ref m), some (.ref o), some (.ref od), some (.int (nI i)), none, some (.int (aAns (aUnprop S.N (xs (i + 1))))), none, none]) (fmFew_n (L := [some (.ref b), some (.ref x), some (.ref m), some (.ref o), some (.ref od), some (.int (nI i)), some (.int (nI (kf 1 9 2 (aUnprop S.N (xs (i + 1))).1))), some (.int (aAns (aUnprop S.N (xs (i + 1))))), none, none]) 6) ?_
    refine fmW.few (L' := [some (.ref b), some (.ref x), some (.ref m), some (.ref o), some (.ref od), some (.int (nI i)), none, none, none, none]) (fmFew_n (L := [some (.ref b), some (.ref x), some (.ref m), some (.ref o), some (.ref od), some (.int (nI i)), none, some (.int (aAns (aUnprop S.N (xs (i + 1))))), none, none]) 7) ?_
    exact kk _ _ _ _ ⟨hL2, hS2⟩
  · have hc0 := kf_0 (by decide) (by decide) (by decide) c
    refine r_aload_n E dL_law_954 rfl ?_
    refine r_iconst E (nI 0) dL_law_955 (by decide) ?_
    refine r_lald E ho2 (by decide) (by decide) dL_law_956 ?_
    refine r_iload E dL_law_957 rfl ?_
    refine r_i2l E dL_law_959 ?_
    refine r_lcmp E dL_law_960 ?_
    refine r_if_eq (tgt := 966) E dL_law_961 (by decide) (fun _ => ?_) (fun c2 => absurd (lcmp_0.mpr (hans hc0)) c2)
    refine r_goto (tgt := 1916) E dL_law_966 (by decide) ?_
    refine fmW.few (L' := [some (.ref b), some (.ref x), some (.ref m), some (.ref o), some (.ref od), some (.int (nI i)), none, some (.int (aAns (aUnprop S.N (xs (i + 1))))), none, none]) (fmFew_n (L := [some (.ref b), some (.ref x), some (.ref m), some (.ref o), some (.ref od), some (.int (nI i)), some (.int (nI (kf 1 9 2 (aUnprop S.N (xs (i + 1))).1))), some (.int (aAns (aUnprop S.N (xs (i + 1))))), none, none]) 6) ?_
    refine fmW.few (L' := [some (.ref b), some (.ref x), some (.ref m), some (.ref o), some (.ref od), some (.int (nI i)), none, none, none, none]) (fmFew_n (L := [some (.ref b), some (.ref x), some (.ref m), some (.ref o), some (.ref od), some (.int (nI i)), none, some (.int (aAns (aUnprop S.N (xs (i + 1))))), none, none]) 7) ?_
    exact kk _ _ _ _ ⟨hL2, hS2⟩
set_option maxHeartbeats 4000000 in
theorem lc_13 (G : fmG) (hl : (fmLn G).stackTraces = false) {Γ : fmC} (E : fmE G Γ cL_law 10 "FlintMineLaw" "law" ret room_1 []) {h : fmHp} {x m o od b L : Nat} {xs : Nat → Int32} {a : DA} {S : DS} {M : MSt} (hI : LI G h x m o od b L xs a S M) (hL : L ≤ 96) {i : Nat} (hi : i + 4 ≤ L) {kc ks : Nat} (kk : ∀ (h' : fmHp) (a' : DA) (S' : DS) (M' : MSt), LI G h' x m o od b L xs a' S' M' → fmW G Γ h' kc ks 1916 [some (.ref b), some (.ref x), some (.ref m), some (.ref o), some (.ref od), some (.int (nI i)), none, none, none, none] []) : fmW G Γ h (kc + 4700) (ks + 34000) 969 [some (.ref b), some (.ref x), some (.ref m), some (.ref o), some (.ref od), some (.int (nI i)), none, none, none, none] [] := by
  obtain ⟨e350, eK8, e351, eP6, eN, hk8⟩ := hI.k
  have hkB := hI.kB
  obtain ⟨hLH, hSR⟩ := hI
  obtain ⟨hC, hD, hm, hdis, ⟨f0, ho⟩, ⟨g0, hod⟩, hb⟩ := id hLH
  obtain ⟨-, s4, -, -, s7, s6b, s8, s12, s60, s14, sch, ⟨fo, hfo, hfo31⟩, sf, s5, s6, ⟨qa, s13⟩, ⟨qw, s15⟩, ⟨qp, s16⟩⟩ := id hSR
  skip
  refine r_aload_n E dL_law_969 rfl ?_
  refine r_aload_n E dL_law_970 rfl ?_
  refine r_iload E dL_law_971 rfl ?_
  refine r_iconst E (nI 1) dL_law_973 (by decide) ?_
  refine r_iaddN E dL_law_974 ?_
  refine r_iald E hb (by omega) (by omega) dL_law_975 ?_
  refine r_aload_n E dL_law_976 rfl ?_
  refine r_callSH E (w_close G hl h hC hD hk8 o f0 ho (xs (i + 1))) mX0_close q77 q1192 q1193 rfl rfl (Nat.le_of_ble_eq_true rfl) (Nat.le_of_ble_eq_true rfl) (Nat.le_of_ble_eq_true rfl) dL_law_977 kc ks (show kc + 88 ≤ kc + 4700 by omega) (show ks + 3061 ≤ ks + 34000 by omega) (fun v' h1 q => ?_) (fun _ _ _ q => q.elim)
  obtain ⟨rfl, hOP⟩ := q
  obtain ⟨a1, hL1, f1, ho1, hans⟩ := hLH.w hOP
  refine r_istore E [some (.ref b), some (.ref x), some (.ref m), some (.ref o), some (.ref od), some (.int (nI i)), some (.int (nI (kf 1 9 2 (aClose S.N (xs (i + 1)) (rK S.N)).1))), none, none, none] dL_law_980 rfl rfl ?_
  refine r_hp (h' := mdl m M h1) hL1.2.2.1.symm ?_
  refine r_aload_n E dL_law_982 rfl ?_
  refine r_aload_n E dL_law_983 rfl ?_
  refine r_iload E dL_law_984 rfl ?_
  refine r_iconst E (nI 1) dL_law_986 (by decide) ?_
  refine r_iaddN E dL_law_987 ?_
  refine r_iald E (hL1.m M).1.2.2.2.2.2.2 (by omega) (by omega) dL_law_988 ?_
  refine r_callV1 (v1 := .int (aAns (aClose (M.2 1) (xs (i + 1)) (rK (M.2 1))))) E (ct_X4_close G hl m M h1 (xs (i + 1)) false s8 S.kp s4 hk8 (rK (M.2 1)) e350 eK8) mX4_close q2119 q2120 q2121 (fun H a1 => fm_rc (ci := 0) (C := RX4) (T := TX4) (N := 21) a1 rfl E.v mdl_o) rfl rfl (Nat.le_of_ble_eq_true rfl) (Nat.le_of_ble_eq_true rfl) (Nat.le_of_ble_eq_true rfl) dL_law_989 kc ks (Nat.le_refl _) (Nat.le_refl _) ?_
  rw [eN]
  obtain ⟨hS2, hth⟩ := hSR.chg (k1 := 1) (k2 := 9) (k3 := 2) (r := aClose S.N (xs (i + 1)) (rK S.N)) (by have := (show (aClose S.N (xs (i + 1)) (rK S.N)).1 = 0 ∨ (aClose S.N (xs (i + 1)) (rK S.N)).1 = 1 ∨ (aClose S.N (xs (i + 1)) (rK S.N)).1 = 3 from cd_close); revert this; generalize (aClose S.N (xs (i + 1)) (rK S.N)).1 = c9; intro this; rcases this with z | z | z <;> omega)
  obtain ⟨M2, hM2⟩ : ∃ M2 : MSt, M2 = aSt M false S.kp 1 9 2 (aClose S.N (xs (i + 1)) (rK S.N)) := ⟨_, rfl⟩
  rw [← hM2] at hS2 hth ⊢
  have hL2 := (hL1.m M2).1
  have ho2 := hL1.o ho1 M2
  refine r_istore E [some (.ref b), some (.ref x), some (.ref m), some (.ref o), some (.ref od), some (.int (nI i)), some (.int (nI (kf 1 9 2 (aClose S.N (xs (i + 1)) (rK S.N)).1))), some (.int (aAns (aClose S.N (xs (i + 1)) (rK S.N)))), none, none] dL_law_992 rfl rfl ?_
  refine r_aload_n E dL_law_994 rfl ?_
  refine r_callV1 (v1 := .int (M2.1 0)) E (ct_X4_thrown G hl m M2 h1) mX4_thrown q1951 q1952 q1953 (fun H a1 => fm_rc (ci := 0) (C := RX4) (T := TX4) (N := 21) a1 rfl E.v mdl_o) rfl rfl (Nat.le_of_ble_eq_true rfl) (Nat.le_of_ble_eq_true rfl) (Nat.le_of_ble_eq_true rfl) dL_law_995 kc ks (Nat.le_refl _) (Nat.le_refl _) ?_
  refine r_top (v' := .int (nI (kf 1 9 2 (aClose S.N (xs (i + 1)) (rK S.N)).1))) (congrArg Value.int hth) ?_
  refine r_iload E dL_law_998 rfl ?_
  refine r_icmp_eq (tgt := 1005) E dL_law_1000 (by decide) (fun _ => ?_) (fun c => absurd rfl c)
  refine r_iload E dL_law_1005 rfl ?_
  refine r_if_ne (tgt := 1022) E dL_law_1007 (by decide) (fun c => ?_) (fun c => ?_)
  · refine r_goto (tgt := 1916) E dL_law_1022 (by decide) ?_
    refine fmW.few (L' := [some (.ref b), some (.ref x), some (.ref m), some (.ref o), some (.ref od), some (.int (nI i)), none, some (.int (aAns (aClose S.N (xs (i + 1)) (rK S.N)))), none, none]) (fmFew_n (L := [some (.ref b), some (.ref x), some (.ref m), some (.ref o), some (.ref od), some (.int (nI i)), some (.int (nI (kf 1 9 2 (aClose S.N (xs (i + 1)) (rK S.N)).1))), some (.int (aAns (aClose S.N (xs (i + 1)) (rK S.N)))), none, none]) 6) ?_
    refine fmW.few (L' := [some (.ref b), some (.ref x), some (.ref m), some (.ref o), some (.ref od), some (.int (nI i)), none, none, none, none]) (fmFew_n (L := [some (.ref b), some (.ref x), some (.ref m), some (.ref o), some (.ref od), some (.int (nI i)), none, some (.int (aAns (aClose S.N (xs (i + 1)) (rK S.N)))), none, none]) 7) ?_
    exact kk _ _ _ _ ⟨hL2, hS2⟩
  · have hc0 := kf_0 (by decide) (by decide) (by decide) c
    refine r_aload_n E dL_law_1010 rfl ?_
    refine r_iconst E (nI 0) dL_law_1011 (by decide) ?_
    refine r_lald E ho2 (by decide) (by decide) dL_law_1012 ?_
    refine r_iload E dL_law_1013 rfl ?_
    refine r_i2l E dL_law_1015 ?_
    refine r_lcmp E dL_law_1016 ?_
    refine r_if_eq (tgt := 1022) E dL_law_1017 (by decide) (fun _ => ?_) (fun c2 => absurd (lcmp_0.mpr (hans hc0)) c2)
    refine r_goto (tgt := 1916) E dL_law_1022 (by decide) ?_
    refine fmW.few (L' := [some (.ref b), some (.ref x), some (.ref m), some (.ref o), some (.ref od), some (.int (nI i)), none, some (.int (aAns (aClose S.N (xs (i + 1)) (rK S.N)))), none, none]) (fmFew_n (L := [some (.ref b), some (.ref x), some (.ref m), some (.ref o), some (.ref od), some (.int (nI i)), some (.int (nI (kf 1 9 2 (aClose S.N (xs (i + 1)) (rK S.N)).1))), some (.int (aAns (aClose S.N (xs (i + 1)) (rK S.N)))), none, none]) 6) ?_
    refine fmW.few (L' := [some (.ref b), some (.ref x), some (.ref m), some (.ref o), some (.ref od), some (.int (nI i)), none, none, none, none]) (fmFew_n (L := [some (.ref b), some (.ref x), some (.ref m), some (.ref o), some (.ref od), some (.int (nI i)), none, some (.int (aAns (aClose S.N (xs (i + 1)) (rK S.N)))), none, none]) 7) ?_
    exact kk _ _ _ _ ⟨hL2, hS2⟩
set_option maxHeartbeats 4000000 in
theorem lc_14 (G : fmG) (hl : (fmLn G).stackTraces = false) {Γ : fmC} (E : fmE G Γ cL_law 10 "FlintMineLaw" "law" ret room_1 []) {h : fmHp} {x m o od b L : Nat} {xs : Nat → Int32} {a : DA} {S : DS} {M : MSt} (hI : LI G h x m o od b L xs a S M) (hL : L ≤ 96) {i : Nat} (hi : i + 4 ≤ L) {kc ks : Nat} (kk : ∀ (h' : fmHp) (a' : DA) (S' : DS) (M' : MSt), LI G h' x m o od b L xs a' S' M' → fmW G Γ h' kc ks 1916 [some (.ref b), some (.ref x), some (.ref m), some (.ref o), some (.ref od), some (.int (nI i)), none, none, none, none] []) : fmW G Γ h (kc + 4700) (ks + 34000) 1025 [some (.ref b), some (.ref x), some (.ref m), some (.ref o), some (.ref od), some (.int (nI i)), none, none, none, none] [] := by
  obtain ⟨e350, eK8, e351, eP6, eN, hk8⟩ := hI.k
  have hkB := hI.kB
  obtain ⟨hLH, hSR⟩ := hI
  obtain ⟨hC, hD, hm, hdis, ⟨f0, ho⟩, ⟨g0, hod⟩, hb⟩ := id hLH
  obtain ⟨-, s4, -, -, s7, s6b, s8, s12, s60, s14, sch, ⟨fo, hfo, hfo31⟩, sf, s5, s6, ⟨qa, s13⟩, ⟨qw, s15⟩, ⟨qp, s16⟩⟩ := id hSR
  skip
  refine r_aload_n E dL_law_1025 rfl ?_
  refine r_aload_n E dL_law_1026 rfl ?_
  refine r_iload E dL_law_1027 rfl ?_
  refine r_iconst E (nI 1) dL_law_1029 (by decide) ?_
  refine r_iaddN E dL_law_1030 ?_
  refine r_iald E hb (by omega) (by omega) dL_law_1031 ?_
  refine r_aload_n E dL_law_1032 rfl ?_
  refine r_iload E dL_law_1033 rfl ?_
  refine r_iconst E (nI 2) dL_law_1035 (by decide) ?_
  refine r_iaddN E dL_law_1036 ?_
  refine r_iald E hb (by omega) (by omega) dL_law_1037 ?_
  refine r_aload_n E dL_law_1038 rfl ?_
  refine r_callSH E (w_shaft G hl h hC hD hk8 o f0 ho (xs (i + 1)) (xs (i + 2))) mX0_shaft q77 q1201 q1202 rfl rfl (Nat.le_of_ble_eq_true rfl) (Nat.le_of_ble_eq_true rfl) (Nat.le_of_ble_eq_true rfl) dL_law_1039 kc ks (show kc + 4098 ≤ kc + 4700 by omega) (show ks + 12300 ≤ ks + 34000 by omega) (fun v' h1 q => ?_) (fun _ _ _ q => q.elim)
  obtain ⟨rfl, hOP⟩ := q
  obtain ⟨a1, hL1, f1, ho1, hans⟩ := hLH.w hOP
  refine r_istore E [some (.ref b), some (.ref x), some (.ref m), some (.ref o), some (.ref od), some (.int (nI i)), some (.int (nI (kf 1 2 9 (aShaft S.N (xs (i + 1)) (xs (i + 2)) (rK S.N)).1))), none, none, none] dL_law_1042 rfl rfl ?_
  refine r_hp (h' := mdl m M h1) hL1.2.2.1.symm ?_
  refine r_aload_n E dL_law_1044 rfl ?_
  refine r_aload_n E dL_law_1045 rfl ?_
  refine r_iload E dL_law_1046 rfl ?_
  refine r_iconst E (nI 1) dL_law_1048 (by decide) ?_
  refine r_iaddN E dL_law_1049 ?_
  refine r_iald E (hL1.m M).1.2.2.2.2.2.2 (by omega) (by omega) dL_law_1050 ?_
  refine r_aload_n E dL_law_1051 rfl ?_
  refine r_iload E dL_law_1052 rfl ?_
  refine r_iconst E (nI 2) dL_law_1054 (by decide) ?_
  refine r_iaddN E dL_law_1055 ?_
  refine r_iald E (hL1.m M).1.2.2.2.2.2.2 (by omega) (by omega) dL_law_1056 ?_
  refine r_callV E (ct_X4_shaft G hl m M h1 (xs (i + 1)) (xs (i + 2)) (rK (M.2 1)) e350 eK8) mX4_shaft q2127 q2128 q2129 (fun H a1 => fm_rc (ci := 0) (C := RX4) (T := TX4) (N := 21) a1 rfl E.v mdl_o) rfl rfl (Nat.le_of_ble_eq_true rfl) (Nat.le_of_ble_eq_true rfl) (Nat.le_of_ble_eq_true rfl) dL_law_1057 kc ks (Nat.le_refl _) (Nat.le_refl _) (fun v' h2 q => ?_) (fun _ _ _ q => q.elim)
  obtain ⟨rfl, X9, W9, rfl⟩ := q
  rw [eN]
  obtain ⟨hS2, hth⟩ := hSR.e (c := (aShaft S.N (xs (i + 1)) (xs (i + 2)) (rK S.N)).1) (X := X9) (W := W9) cd_shaft
  change ((upd M.1 0 (nI (aShaft S.N (xs (i + 1)) (xs (i + 2)) (rK S.N)).1), va_up (va_up M.2 12 X9) 13 W9) : MSt).1 0 = _ at hth
  obtain ⟨M2, hM2⟩ : ∃ M2 : MSt, M2 = (upd M.1 0 (nI (aShaft S.N (xs (i + 1)) (xs (i + 2)) (rK S.N)).1), va_up (va_up M.2 12 X9) 13 W9) := ⟨_, rfl⟩
  rw [← hM2] at hS2 hth ⊢
  have hL2 := (hL1.m M2).1
  have ho2 := hL1.o ho1 M2
  refine r_istore E [some (.ref b), some (.ref x), some (.ref m), some (.ref o), some (.ref od), some (.int (nI i)), some (.int (nI (kf 1 2 9 (aShaft S.N (xs (i + 1)) (xs (i + 2)) (rK S.N)).1))), some (.int (aAns (aShaft S.N (xs (i + 1)) (xs (i + 2)) (rK S.N)))), none, none] dL_law_1060 rfl rfl ?_
  refine r_aload_n E dL_law_1062 rfl ?_
  refine r_callV1 (v1 := .int (M2.1 0)) E (ct_X4_thrown G hl m M2 h1) mX4_thrown q1951 q1952 q1953 (fun H a1 => fm_rc (ci := 0) (C := RX4) (T := TX4) (N := 21) a1 rfl E.v mdl_o) rfl rfl (Nat.le_of_ble_eq_true rfl) (Nat.le_of_ble_eq_true rfl) (Nat.le_of_ble_eq_true rfl) dL_law_1063 kc ks (Nat.le_refl _) (Nat.le_refl _) ?_
  refine r_top (v' := .int (nI (kf 1 2 9 (aShaft S.N (xs (i + 1)) (xs (i + 2)) (rK S.N)).1))) (congrArg Value.int hth) ?_
  refine r_iload E dL_law_1066 rfl ?_
  refine r_icmp_eq (tgt := 1073) E dL_law_1068 (by decide) (fun _ => ?_) (fun c => absurd rfl c)
  refine r_iload E dL_law_1073 rfl ?_
  refine r_if_ne (tgt := 1090) E dL_law_1075 (by decide) (fun c => ?_) (fun c => ?_)
  · refine r_goto (tgt := 1916) E dL_law_1090 (by decide) ?_
    refine fmW.few (L' := [some (.ref b), some (.ref x), some (.ref m), some (.ref o), some (.ref od), some (.int (nI i)), none, some (.int (aAns (aShaft S.N (xs (i + 1)) (xs (i + 2)) (rK S.N)))), none, none]) (fmFew_n (L := [some (.ref b), some (.ref x), some (.ref m), some (.ref o), some (.ref od), some (.int (nI i)), some (.int (nI (kf 1 2 9 (aShaft S.N (xs (i + 1)) (xs (i + 2)) (rK S.N)).1))), some (.int (aAns (aShaft S.N (xs (i + 1)) (xs (i + 2)) (rK S.N)))), none, none]) 6) ?_
    refine fmW.few (L' := [some (.ref b), some (.ref x), some (.ref m), some (.ref o), some (.ref od), some (.int (nI i)), none, none, none, none]) (fmFew_n (L := [some (.ref b), some (.ref x), some (.ref m), some (.ref o), some (.ref od), some (.int (nI i)), none, some (.int (aAns (aShaft S.N (xs (i + 1)) (xs (i + 2)) (rK S.N)))), none, none]) 7) ?_
    exact kk _ _ _ _ ⟨hL2, hS2⟩
  · have hc0 := kf_0 (by decide) (by decide) (by decide) c
    refine r_aload_n E dL_law_1078 rfl ?_
    refine r_iconst E (nI 0) dL_law_1079 (by decide) ?_
    refine r_lald E ho2 (by decide) (by decide) dL_law_1080 ?_
    refine r_iload E dL_law_1081 rfl ?_
    refine r_i2l E dL_law_1083 ?_
    refine r_lcmp E dL_law_1084 ?_
    refine r_if_eq (tgt := 1090) E dL_law_1085 (by decide) (fun _ => ?_) (fun c2 => absurd (lcmp_0.mpr (hans hc0)) c2)
    refine r_goto (tgt := 1916) E dL_law_1090 (by decide) ?_
    refine fmW.few (L' := [some (.ref b), some (.ref x), some (.ref m), some (.ref o), some (.ref od), some (.int (nI i)), none, some (.int (aAns (aShaft S.N (xs (i + 1)) (xs (i + 2)) (rK S.N)))), none, none]) (fmFew_n (L := [some (.ref b), some (.ref x), some (.ref m), some (.ref o), some (.ref od), some (.int (nI i)), some (.int (nI (kf 1 2 9 (aShaft S.N (xs (i + 1)) (xs (i + 2)) (rK S.N)).1))), some (.int (aAns (aShaft S.N (xs (i + 1)) (xs (i + 2)) (rK S.N)))), none, none]) 6) ?_
    refine fmW.few (L' := [some (.ref b), some (.ref x), some (.ref m), some (.ref o), some (.ref od), some (.int (nI i)), none, none, none, none]) (fmFew_n (L := [some (.ref b), some (.ref x), some (.ref m), some (.ref o), some (.ref od), some (.int (nI i)), none, some (.int (aAns (aShaft S.N (xs (i + 1)) (xs (i + 2)) (rK S.N)))), none, none]) 7) ?_
    exact kk _ _ _ _ ⟨hL2, hS2⟩
set_option maxHeartbeats 4000000 in
theorem lc_15 (G : fmG) (hl : (fmLn G).stackTraces = false) {Γ : fmC} (E : fmE G Γ cL_law 10 "FlintMineLaw" "law" ret room_1 []) {h : fmHp} {x m o od b L : Nat} {xs : Nat → Int32} {a : DA} {S : DS} {M : MSt} (hI : LI G h x m o od b L xs a S M) (hL : L ≤ 96) {i : Nat} (hi : i + 4 ≤ L) {kc ks : Nat} (kk : ∀ (h' : fmHp) (a' : DA) (S' : DS) (M' : MSt), LI G h' x m o od b L xs a' S' M' → fmW G Γ h' kc ks 1916 [some (.ref b), some (.ref x), some (.ref m), some (.ref o), some (.ref od), some (.int (nI i)), none, none, none, none] []) : fmW G Γ h (kc + 4700) (ks + 34000) 1093 [some (.ref b), some (.ref x), some (.ref m), some (.ref o), some (.ref od), some (.int (nI i)), none, none, none, none] [] := by
  obtain ⟨e350, eK8, e351, eP6, eN, hk8⟩ := hI.k
  have hkB := hI.kB
  obtain ⟨hLH, hSR⟩ := hI
  obtain ⟨hC, hD, hm, hdis, ⟨f0, ho⟩, ⟨g0, hod⟩, hb⟩ := id hLH
  obtain ⟨-, s4, -, -, s7, s6b, s8, s12, s60, s14, sch, ⟨fo, hfo, hfo31⟩, sf, s5, s6, ⟨qa, s13⟩, ⟨qw, s15⟩, ⟨qp, s16⟩⟩ := id hSR
  skip
  refine r_aload_n E dL_law_1093 rfl ?_
  refine r_aload_n E dL_law_1094 rfl ?_
  refine r_iload E dL_law_1095 rfl ?_
  refine r_iconst E (nI 1) dL_law_1097 (by decide) ?_
  refine r_iaddN E dL_law_1098 ?_
  refine r_iald E hb (by omega) (by omega) dL_law_1099 ?_
  refine r_aload_n E dL_law_1100 rfl ?_
  refine r_callSH E (w_best G hl h hC hD hk8 o f0 ho (xs (i + 1))) mX0_best q77 q1256 q1257 rfl rfl (Nat.le_of_ble_eq_true rfl) (Nat.le_of_ble_eq_true rfl) (Nat.le_of_ble_eq_true rfl) dL_law_1101 kc ks (show kc + 1 ≤ kc + 4700 by omega) (show ks + 6 ≤ ks + 34000 by omega) (fun v' h1 q => ?_) (fun _ _ _ q => q.elim)
  obtain ⟨rfl, hOP⟩ := q
  obtain ⟨a1, hL1, f1, ho1, hans⟩ := hLH.w hOP
  refine r_istore E [some (.ref b), some (.ref x), some (.ref m), some (.ref o), some (.ref od), some (.int (nI i)), some (.int (nI (kf 1 2 9 (aBest S.N (xs (i + 1)) (rK S.N) (rP S.N)).1))), none, none, none] dL_law_1104 rfl rfl ?_
  refine r_hp (h' := mdl m M h1) hL1.2.2.1.symm ?_
  refine r_aload_n E dL_law_1106 rfl ?_
  refine r_aload_n E dL_law_1107 rfl ?_
  refine r_iload E dL_law_1108 rfl ?_
  refine r_iconst E (nI 1) dL_law_1110 (by decide) ?_
  refine r_iaddN E dL_law_1111 ?_
  refine r_iald E (hL1.m M).1.2.2.2.2.2.2 (by omega) (by omega) dL_law_1112 ?_
  refine r_callV1 (v1 := .int (aAns (aBest (M.2 1) (xs (i + 1)) (rK (M.2 1)) (rP (M.2 1))))) E (ct_X4_best G hl m M h1 (xs (i + 1)) (rK (M.2 1)) e350 eK8 (rP (M.2 1)) e351 eP6) mX4_best q2143 q2144 q2145 (fun H a1 => fm_rc (ci := 0) (C := RX4) (T := TX4) (N := 21) a1 rfl E.v mdl_o) rfl rfl (Nat.le_of_ble_eq_true rfl) (Nat.le_of_ble_eq_true rfl) (Nat.le_of_ble_eq_true rfl) dL_law_1113 kc ks (Nat.le_refl _) (Nat.le_refl _) ?_
  rw [eN]
  obtain ⟨hS2, hth⟩ := hSR.q (r := aBest S.N (xs (i + 1)) (rK S.N) (rP S.N)) (cd_best)
  obtain ⟨M2, hM2⟩ : ∃ M2 : MSt, M2 = qSt M (aBest S.N (xs (i + 1)) (rK S.N) (rP S.N)) := ⟨_, rfl⟩
  rw [← hM2] at hS2 hth ⊢
  have hL2 := (hL1.m M2).1
  have ho2 := hL1.o ho1 M2
  refine r_istore E [some (.ref b), some (.ref x), some (.ref m), some (.ref o), some (.ref od), some (.int (nI i)), some (.int (nI (kf 1 2 9 (aBest S.N (xs (i + 1)) (rK S.N) (rP S.N)).1))), some (.int (aAns (aBest S.N (xs (i + 1)) (rK S.N) (rP S.N)))), none, none] dL_law_1116 rfl rfl ?_
  refine r_aload_n E dL_law_1118 rfl ?_
  refine r_callV1 (v1 := .int (M2.1 0)) E (ct_X4_thrown G hl m M2 h1) mX4_thrown q1951 q1952 q1953 (fun H a1 => fm_rc (ci := 0) (C := RX4) (T := TX4) (N := 21) a1 rfl E.v mdl_o) rfl rfl (Nat.le_of_ble_eq_true rfl) (Nat.le_of_ble_eq_true rfl) (Nat.le_of_ble_eq_true rfl) dL_law_1119 kc ks (Nat.le_refl _) (Nat.le_refl _) ?_
  refine r_top (v' := .int (nI (kf 1 2 9 (aBest S.N (xs (i + 1)) (rK S.N) (rP S.N)).1))) (congrArg Value.int hth) ?_
  refine r_iload E dL_law_1122 rfl ?_
  refine r_icmp_eq (tgt := 1129) E dL_law_1124 (by decide) (fun _ => ?_) (fun c => absurd rfl c)
  refine r_iload E dL_law_1129 rfl ?_
  refine r_if_ne (tgt := 1146) E dL_law_1131 (by decide) (fun c => ?_) (fun c => ?_)
  · refine r_goto (tgt := 1916) E dL_law_1146 (by decide) ?_
    refine fmW.few (L' := [some (.ref b), some (.ref x), some (.ref m), some (.ref o), some (.ref od), some (.int (nI i)), none, some (.int (aAns (aBest S.N (xs (i + 1)) (rK S.N) (rP S.N)))), none, none]) (fmFew_n (L := [some (.ref b), some (.ref x), some (.ref m), some (.ref o), some (.ref od), some (.int (nI i)), some (.int (nI (kf 1 2 9 (aBest S.N (xs (i + 1)) (rK S.N) (rP S.N)).1))), some (.int (aAns (aBest S.N (xs (i + 1)) (rK S.N) (rP S.N)))), none, none]) 6) ?_
    refine fmW.few (L' := [some (.ref b), some (.ref x), some (.ref m), some (.ref o), some (.ref od), some (.int (nI i)), none, none, none, none]) (fmFew_n (L := [some (.ref b), some (.ref x), some (.ref m), some (.ref o), some (.ref od), some (.int (nI i)), none, some (.int (aAns (aBest S.N (xs (i + 1)) (rK S.N) (rP S.N)))), none, none]) 7) ?_
    exact kk _ _ _ _ ⟨hL2, hS2⟩
  · have hc0 := kf_0 (by decide) (by decide) (by decide) c
    refine r_aload_n E dL_law_1134 rfl ?_
    refine r_iconst E (nI 0) dL_law_1135 (by decide) ?_
    refine r_lald E ho2 (by decide) (by decide) dL_law_1136 ?_
    refine r_iload E dL_law_1137 rfl ?_
    refine r_i2l E dL_law_1139 ?_
    refine r_lcmp E dL_law_1140 ?_
    refine r_if_eq (tgt := 1146) E dL_law_1141 (by decide) (fun _ => ?_) (fun c2 => absurd (lcmp_0.mpr (hans hc0)) c2)
    refine r_goto (tgt := 1916) E dL_law_1146 (by decide) ?_
    refine fmW.few (L' := [some (.ref b), some (.ref x), some (.ref m), some (.ref o), some (.ref od), some (.int (nI i)), none, some (.int (aAns (aBest S.N (xs (i + 1)) (rK S.N) (rP S.N)))), none, none]) (fmFew_n (L := [some (.ref b), some (.ref x), some (.ref m), some (.ref o), some (.ref od), some (.int (nI i)), some (.int (nI (kf 1 2 9 (aBest S.N (xs (i + 1)) (rK S.N) (rP S.N)).1))), some (.int (aAns (aBest S.N (xs (i + 1)) (rK S.N) (rP S.N)))), none, none]) 6) ?_
    refine fmW.few (L' := [some (.ref b), some (.ref x), some (.ref m), some (.ref o), some (.ref od), some (.int (nI i)), none, none, none, none]) (fmFew_n (L := [some (.ref b), some (.ref x), some (.ref m), some (.ref o), some (.ref od), some (.int (nI i)), none, some (.int (aAns (aBest S.N (xs (i + 1)) (rK S.N) (rP S.N)))), none, none]) 7) ?_
    exact kk _ _ _ _ ⟨hL2, hS2⟩
set_option maxHeartbeats 4000000 in
theorem lc_16 (G : fmG) (hl : (fmLn G).stackTraces = false) {Γ : fmC} (E : fmE G Γ cL_law 10 "FlintMineLaw" "law" ret room_1 []) {h : fmHp} {x m o od b L : Nat} {xs : Nat → Int32} {a : DA} {S : DS} {M : MSt} (hI : LI G h x m o od b L xs a S M) (hL : L ≤ 96) {i : Nat} (hi : i + 4 ≤ L) {kc ks : Nat} (kk : ∀ (h' : fmHp) (a' : DA) (S' : DS) (M' : MSt), LI G h' x m o od b L xs a' S' M' → fmW G Γ h' kc ks 1916 [some (.ref b), some (.ref x), some (.ref m), some (.ref o), some (.ref od), some (.int (nI i)), none, none, none, none] []) : fmW G Γ h (kc + 4700) (ks + 34000) 1149 [some (.ref b), some (.ref x), some (.ref m), some (.ref o), some (.ref od), some (.int (nI i)), none, none, none, none] [] := by
  obtain ⟨e350, eK8, e351, eP6, eN, hk8⟩ := hI.k
  have hkB := hI.kB
  obtain ⟨hLH, hSR⟩ := hI
  obtain ⟨hC, hD, hm, hdis, ⟨f0, ho⟩, ⟨g0, hod⟩, hb⟩ := id hLH
  obtain ⟨-, s4, -, -, s7, s6b, s8, s12, s60, s14, sch, ⟨fo, hfo, hfo31⟩, sf, s5, s6, ⟨qa, s13⟩, ⟨qw, s15⟩, ⟨qp, s16⟩⟩ := id hSR
  skip
  refine r_aload_n E dL_law_1149 rfl ?_
  refine r_aload_n E dL_law_1150 rfl ?_
  refine r_iload E dL_law_1151 rfl ?_
  refine r_iconst E (nI 1) dL_law_1153 (by decide) ?_
  refine r_iaddN E dL_law_1154 ?_
  refine r_iald E hb (by omega) (by omega) dL_law_1155 ?_
  refine r_aload_n E dL_law_1156 rfl ?_
  refine r_iload E dL_law_1157 rfl ?_
  refine r_iconst E (nI 2) dL_law_1159 (by decide) ?_
  refine r_iaddN E dL_law_1160 ?_
  refine r_iald E hb (by omega) (by omega) dL_law_1161 ?_
  refine r_aload_n E dL_law_1162 rfl ?_
  refine r_callSH E (w_way G hl h hC hD hk8 o f0 ho (xs (i + 1)) (xs (i + 2))) mX0_way q77 q1278 q1279 rfl rfl (Nat.le_of_ble_eq_true rfl) (Nat.le_of_ble_eq_true rfl) (Nat.le_of_ble_eq_true rfl) dL_law_1163 kc ks (show kc + 68 ≤ kc + 4700 by omega) (show ks + 220 ≤ ks + 34000 by omega) (fun v' h1 q => ?_) (fun _ _ _ q => q.elim)
  obtain ⟨rfl, hOP⟩ := q
  obtain ⟨a1, hL1, f1, ho1, hans⟩ := hLH.w hOP
  refine r_istore E [some (.ref b), some (.ref x), some (.ref m), some (.ref o), some (.ref od), some (.int (nI i)), some (.int (nI (kf 1 2 9 (aWay S.N (xs (i + 1)) (xs (i + 2)) (rK S.N)).1))), none, none, none] dL_law_1166 rfl rfl ?_
  refine r_hp (h' := mdl m M h1) hL1.2.2.1.symm ?_
  refine r_aload_n E dL_law_1168 rfl ?_
  refine r_aload_n E dL_law_1169 rfl ?_
  refine r_iload E dL_law_1170 rfl ?_
  refine r_iconst E (nI 1) dL_law_1172 (by decide) ?_
  refine r_iaddN E dL_law_1173 ?_
  refine r_iald E (hL1.m M).1.2.2.2.2.2.2 (by omega) (by omega) dL_law_1174 ?_
  refine r_aload_n E dL_law_1175 rfl ?_
  refine r_iload E dL_law_1176 rfl ?_
  refine r_iconst E (nI 2) dL_law_1178 (by decide) ?_
  refine r_iaddN E dL_law_1179 ?_
  refine r_iald E (hL1.m M).1.2.2.2.2.2.2 (by omega) (by omega) dL_law_1180 ?_
  refine r_callV E (ct_X4_way G hl m M h1 (xs (i + 1)) (xs (i + 2)) (rK (M.2 1)) e350 eK8) mX4_way q2155 q2156 q2157 (fun H a1 => fm_rc (ci := 0) (C := RX4) (T := TX4) (N := 21) a1 rfl E.v mdl_o) rfl rfl (Nat.le_of_ble_eq_true rfl) (Nat.le_of_ble_eq_true rfl) (Nat.le_of_ble_eq_true rfl) dL_law_1181 kc ks (Nat.le_refl _) (Nat.le_refl _) (fun v' h2 q => ?_) (fun _ _ _ q => q.elim)
  obtain ⟨rfl, X9, W9, rfl⟩ := q
  rw [eN]
  obtain ⟨hS2, hth⟩ := hSR.e (c := (aWay S.N (xs (i + 1)) (xs (i + 2)) (rK S.N)).1) (X := X9) (W := W9) cd_way
  change ((upd M.1 0 (nI (aWay S.N (xs (i + 1)) (xs (i + 2)) (rK S.N)).1), va_up (va_up M.2 12 X9) 13 W9) : MSt).1 0 = _ at hth
  obtain ⟨M2, hM2⟩ : ∃ M2 : MSt, M2 = (upd M.1 0 (nI (aWay S.N (xs (i + 1)) (xs (i + 2)) (rK S.N)).1), va_up (va_up M.2 12 X9) 13 W9) := ⟨_, rfl⟩
  rw [← hM2] at hS2 hth ⊢
  have hL2 := (hL1.m M2).1
  have ho2 := hL1.o ho1 M2
  refine r_istore E [some (.ref b), some (.ref x), some (.ref m), some (.ref o), some (.ref od), some (.int (nI i)), some (.int (nI (kf 1 2 9 (aWay S.N (xs (i + 1)) (xs (i + 2)) (rK S.N)).1))), some (.int (aAns (aWay S.N (xs (i + 1)) (xs (i + 2)) (rK S.N)))), none, none] dL_law_1184 rfl rfl ?_
  refine r_aload_n E dL_law_1186 rfl ?_
  refine r_callV1 (v1 := .int (M2.1 0)) E (ct_X4_thrown G hl m M2 h1) mX4_thrown q1951 q1952 q1953 (fun H a1 => fm_rc (ci := 0) (C := RX4) (T := TX4) (N := 21) a1 rfl E.v mdl_o) rfl rfl (Nat.le_of_ble_eq_true rfl) (Nat.le_of_ble_eq_true rfl) (Nat.le_of_ble_eq_true rfl) dL_law_1187 kc ks (Nat.le_refl _) (Nat.le_refl _) ?_
  refine r_top (v' := .int (nI (kf 1 2 9 (aWay S.N (xs (i + 1)) (xs (i + 2)) (rK S.N)).1))) (congrArg Value.int hth) ?_
  refine r_iload E dL_law_1190 rfl ?_
  refine r_icmp_eq (tgt := 1197) E dL_law_1192 (by decide) (fun _ => ?_) (fun c => absurd rfl c)
  refine r_iload E dL_law_1197 rfl ?_
  refine r_if_ne (tgt := 1214) E dL_law_1199 (by decide) (fun c => ?_) (fun c => ?_)
  · refine r_goto (tgt := 1916) E dL_law_1214 (by decide) ?_
    refine fmW.few (L' := [some (.ref b), some (.ref x), some (.ref m), some (.ref o), some (.ref od), some (.int (nI i)), none, some (.int (aAns (aWay S.N (xs (i + 1)) (xs (i + 2)) (rK S.N)))), none, none]) (fmFew_n (L := [some (.ref b), some (.ref x), some (.ref m), some (.ref o), some (.ref od), some (.int (nI i)), some (.int (nI (kf 1 2 9 (aWay S.N (xs (i + 1)) (xs (i + 2)) (rK S.N)).1))), some (.int (aAns (aWay S.N (xs (i + 1)) (xs (i + 2)) (rK S.N)))), none, none]) 6) ?_
    refine fmW.few (L' := [some (.ref b), some (.ref x), some (.ref m), some (.ref o), some (.ref od), some (.int (nI i)), none, none, none, none]) (fmFew_n (L := [some (.ref b), some (.ref x), some (.ref m), some (.ref o), some (.ref od), some (.int (nI i)), none, some (.int (aAns (aWay S.N (xs (i + 1)) (xs (i + 2)) (rK S.N)))), none, none]) 7) ?_
    exact kk _ _ _ _ ⟨hL2, hS2⟩
  · have hc0 := kf_0 (by decide) (by decide) (by decide) c
    refine r_aload_n E dL_law_1202 rfl ?_
    refine r_iconst E (nI 0) dL_law_1203 (by decide) ?_
    refine r_lald E ho2 (by decide) (by decide) dL_law_1204 ?_
    refine r_iload E dL_law_1205 rfl ?_
    refine r_i2l E dL_law_1207 ?_
    refine r_lcmp E dL_law_1208 ?_
    refine r_if_eq (tgt := 1214) E dL_law_1209 (by decide) (fun _ => ?_) (fun c2 => absurd (lcmp_0.mpr (hans hc0)) c2)
    refine r_goto (tgt := 1916) E dL_law_1214 (by decide) ?_
    refine fmW.few (L' := [some (.ref b), some (.ref x), some (.ref m), some (.ref o), some (.ref od), some (.int (nI i)), none, some (.int (aAns (aWay S.N (xs (i + 1)) (xs (i + 2)) (rK S.N)))), none, none]) (fmFew_n (L := [some (.ref b), some (.ref x), some (.ref m), some (.ref o), some (.ref od), some (.int (nI i)), some (.int (nI (kf 1 2 9 (aWay S.N (xs (i + 1)) (xs (i + 2)) (rK S.N)).1))), some (.int (aAns (aWay S.N (xs (i + 1)) (xs (i + 2)) (rK S.N)))), none, none]) 6) ?_
    refine fmW.few (L' := [some (.ref b), some (.ref x), some (.ref m), some (.ref o), some (.ref od), some (.int (nI i)), none, none, none, none]) (fmFew_n (L := [some (.ref b), some (.ref x), some (.ref m), some (.ref o), some (.ref od), some (.int (nI i)), none, some (.int (aAns (aWay S.N (xs (i + 1)) (xs (i + 2)) (rK S.N)))), none, none]) 7) ?_
    exact kk _ _ _ _ ⟨hL2, hS2⟩
set_option maxHeartbeats 4000000 in
theorem lc_17 (G : fmG) (hl : (fmLn G).stackTraces = false) {Γ : fmC} (E : fmE G Γ cL_law 10 "FlintMineLaw" "law" ret room_1 []) {h : fmHp} {x m o od b L : Nat} {xs : Nat → Int32} {a : DA} {S : DS} {M : MSt} (hI : LI G h x m o od b L xs a S M) (hL : L ≤ 96) {i : Nat} (hi : i + 4 ≤ L) {kc ks : Nat} (kk : ∀ (h' : fmHp) (a' : DA) (S' : DS) (M' : MSt), LI G h' x m o od b L xs a' S' M' → fmW G Γ h' kc ks 1916 [some (.ref b), some (.ref x), some (.ref m), some (.ref o), some (.ref od), some (.int (nI i)), none, none, none, none] []) : fmW G Γ h (kc + 4700) (ks + 34000) 1217 [some (.ref b), some (.ref x), some (.ref m), some (.ref o), some (.ref od), some (.int (nI i)), none, none, none, none] [] := by
  obtain ⟨e350, eK8, e351, eP6, eN, hk8⟩ := hI.k
  have hkB := hI.kB
  obtain ⟨hLH, hSR⟩ := hI
  obtain ⟨hC, hD, hm, hdis, ⟨f0, ho⟩, ⟨g0, hod⟩, hb⟩ := id hLH
  obtain ⟨-, s4, -, -, s7, s6b, s8, s12, s60, s14, sch, ⟨fo, hfo, hfo31⟩, sf, s5, s6, ⟨qa, s13⟩, ⟨qw, s15⟩, ⟨qp, s16⟩⟩ := id hSR
  skip
  refine r_aload_n E dL_law_1217 rfl ?_
  refine r_aload_n E dL_law_1218 rfl ?_
  refine r_iload E dL_law_1219 rfl ?_
  refine r_iconst E (nI 1) dL_law_1221 (by decide) ?_
  refine r_iaddN E dL_law_1222 ?_
  refine r_iald E hb (by omega) (by omega) dL_law_1223 ?_
  refine r_aload_n E dL_law_1224 rfl ?_
  refine r_iload E dL_law_1225 rfl ?_
  refine r_iconst E (nI 2) dL_law_1227 (by decide) ?_
  refine r_iaddN E dL_law_1228 ?_
  refine r_iald E hb (by omega) (by omega) dL_law_1229 ?_
  refine r_aload_n E dL_law_1230 rfl ?_
  refine r_callSH E (w_wayAgain G hl h hC hD hk8 o f0 ho (xs (i + 1)) (xs (i + 2))) mX0_wayAgain q77 q1289 q1290 rfl rfl (Nat.le_of_ble_eq_true rfl) (Nat.le_of_ble_eq_true rfl) (Nat.le_of_ble_eq_true rfl) dL_law_1231 kc ks (show kc + 2 ≤ kc + 4700 by omega) (show ks + 8 ≤ ks + 34000 by omega) (fun v' h1 q => ?_) (fun _ _ _ q => q.elim)
  obtain ⟨rfl, hOP⟩ := q
  obtain ⟨a1, hL1, f1, ho1, hans⟩ := hLH.w hOP
  refine r_istore E [some (.ref b), some (.ref x), some (.ref m), some (.ref o), some (.ref od), some (.int (nI i)), some (.int (nI (kf 1 2 9 (aWay S.N (xs (i + 1)) (xs (i + 2)) (rK S.N)).1))), none, none, none] dL_law_1234 rfl rfl ?_
  refine r_hp (h' := mdl m M h1) hL1.2.2.1.symm ?_
  refine r_aload_n E dL_law_1236 rfl ?_
  refine r_aload_n E dL_law_1237 rfl ?_
  refine r_iload E dL_law_1238 rfl ?_
  refine r_iconst E (nI 1) dL_law_1240 (by decide) ?_
  refine r_iaddN E dL_law_1241 ?_
  refine r_iald E (hL1.m M).1.2.2.2.2.2.2 (by omega) (by omega) dL_law_1242 ?_
  refine r_aload_n E dL_law_1243 rfl ?_
  refine r_iload E dL_law_1244 rfl ?_
  refine r_iconst E (nI 2) dL_law_1246 (by decide) ?_
  refine r_iaddN E dL_law_1247 ?_
  refine r_iald E (hL1.m M).1.2.2.2.2.2.2 (by omega) (by omega) dL_law_1248 ?_
  refine r_callV E (ct_X4_wayAgain G hl m M h1 (xs (i + 1)) (xs (i + 2)) (rK (M.2 1)) e350 eK8) mX4_wayAgain q2171 q2172 q2173 (fun H a1 => fm_rc (ci := 0) (C := RX4) (T := TX4) (N := 21) a1 rfl E.v mdl_o) rfl rfl (Nat.le_of_ble_eq_true rfl) (Nat.le_of_ble_eq_true rfl) (Nat.le_of_ble_eq_true rfl) dL_law_1249 kc ks (Nat.le_refl _) (Nat.le_refl _) (fun v' h2 q => ?_) (fun _ _ _ q => q.elim)
  obtain ⟨rfl, X9, W9, rfl⟩ := q
  rw [eN]
  obtain ⟨hS2, hth⟩ := hSR.e (c := (aWay S.N (xs (i + 1)) (xs (i + 2)) (rK S.N)).1) (X := X9) (W := W9) cd_way
  change ((upd M.1 0 (nI (aWay S.N (xs (i + 1)) (xs (i + 2)) (rK S.N)).1), va_up (va_up M.2 12 X9) 13 W9) : MSt).1 0 = _ at hth
  obtain ⟨M2, hM2⟩ : ∃ M2 : MSt, M2 = (upd M.1 0 (nI (aWay S.N (xs (i + 1)) (xs (i + 2)) (rK S.N)).1), va_up (va_up M.2 12 X9) 13 W9) := ⟨_, rfl⟩
  rw [← hM2] at hS2 hth ⊢
  have hL2 := (hL1.m M2).1
  have ho2 := hL1.o ho1 M2
  refine r_istore E [some (.ref b), some (.ref x), some (.ref m), some (.ref o), some (.ref od), some (.int (nI i)), some (.int (nI (kf 1 2 9 (aWay S.N (xs (i + 1)) (xs (i + 2)) (rK S.N)).1))), some (.int (aAns (aWay S.N (xs (i + 1)) (xs (i + 2)) (rK S.N)))), none, none] dL_law_1252 rfl rfl ?_
  refine r_aload_n E dL_law_1254 rfl ?_
  refine r_callV1 (v1 := .int (M2.1 0)) E (ct_X4_thrown G hl m M2 h1) mX4_thrown q1951 q1952 q1953 (fun H a1 => fm_rc (ci := 0) (C := RX4) (T := TX4) (N := 21) a1 rfl E.v mdl_o) rfl rfl (Nat.le_of_ble_eq_true rfl) (Nat.le_of_ble_eq_true rfl) (Nat.le_of_ble_eq_true rfl) dL_law_1255 kc ks (Nat.le_refl _) (Nat.le_refl _) ?_
  refine r_top (v' := .int (nI (kf 1 2 9 (aWay S.N (xs (i + 1)) (xs (i + 2)) (rK S.N)).1))) (congrArg Value.int hth) ?_
  refine r_iload E dL_law_1258 rfl ?_
  refine r_icmp_eq (tgt := 1265) E dL_law_1260 (by decide) (fun _ => ?_) (fun c => absurd rfl c)
  refine r_iload E dL_law_1265 rfl ?_
  refine r_if_ne (tgt := 1282) E dL_law_1267 (by decide) (fun c => ?_) (fun c => ?_)
  · refine r_goto (tgt := 1916) E dL_law_1282 (by decide) ?_
    refine fmW.few (L' := [some (.ref b), some (.ref x), some (.ref m), some (.ref o), some (.ref od), some (.int (nI i)), none, some (.int (aAns (aWay S.N (xs (i + 1)) (xs (i + 2)) (rK S.N)))), none, none]) (fmFew_n (L := [some (.ref b), some (.ref x), some (.ref m), some (.ref o), some (.ref od), some (.int (nI i)), some (.int (nI (kf 1 2 9 (aWay S.N (xs (i + 1)) (xs (i + 2)) (rK S.N)).1))), some (.int (aAns (aWay S.N (xs (i + 1)) (xs (i + 2)) (rK S.N)))), none, none]) 6) ?_
    refine fmW.few (L' := [some (.ref b), some (.ref x), some (.ref m), some (.ref o), some (.ref od), some (.int (nI i)), none, none, none, none]) (fmFew_n (L := [some (.ref b), some (.ref x), some (.ref m), some (.ref o), some (.ref od), some (.int (nI i)), none, some (.int (aAns (aWay S.N (xs (i + 1)) (xs (i + 2)) (rK S.N)))), none, none]) 7) ?_
    exact kk _ _ _ _ ⟨hL2, hS2⟩
  · have hc0 := kf_0 (by decide) (by decide) (by decide) c
    refine r_aload_n E dL_law_1270 rfl ?_
    refine r_iconst E (nI 0) dL_law_1271 (by decide) ?_
    refine r_lald E ho2 (by decide) (by decide) dL_law_1272 ?_
    refine r_iload E dL_law_1273 rfl ?_
    refine r_i2l E dL_law_1275 ?_
    refine r_lcmp E dL_law_1276 ?_
    refine r_if_eq (tgt := 1282) E dL_law_1277 (by decide) (fun _ => ?_) (fun c2 => absurd (lcmp_0.mpr (hans hc0)) c2)
    refine r_goto (tgt := 1916) E dL_law_1282 (by decide) ?_
    refine fmW.few (L' := [some (.ref b), some (.ref x), some (.ref m), some (.ref o), some (.ref od), some (.int (nI i)), none, some (.int (aAns (aWay S.N (xs (i + 1)) (xs (i + 2)) (rK S.N)))), none, none]) (fmFew_n (L := [some (.ref b), some (.ref x), some (.ref m), some (.ref o), some (.ref od), some (.int (nI i)), some (.int (nI (kf 1 2 9 (aWay S.N (xs (i + 1)) (xs (i + 2)) (rK S.N)).1))), some (.int (aAns (aWay S.N (xs (i + 1)) (xs (i + 2)) (rK S.N)))), none, none]) 6) ?_
    refine fmW.few (L' := [some (.ref b), some (.ref x), some (.ref m), some (.ref o), some (.ref od), some (.int (nI i)), none, none, none, none]) (fmFew_n (L := [some (.ref b), some (.ref x), some (.ref m), some (.ref o), some (.ref od), some (.int (nI i)), none, some (.int (aAns (aWay S.N (xs (i + 1)) (xs (i + 2)) (rK S.N)))), none, none]) 7) ?_
    exact kk _ _ _ _ ⟨hL2, hS2⟩
set_option maxHeartbeats 4000000 in
theorem lc_18 (G : fmG) (hl : (fmLn G).stackTraces = false) {Γ : fmC} (E : fmE G Γ cL_law 10 "FlintMineLaw" "law" ret room_1 []) {h : fmHp} {x m o od b L : Nat} {xs : Nat → Int32} {a : DA} {S : DS} {M : MSt} (hI : LI G h x m o od b L xs a S M) (hL : L ≤ 96) {i : Nat} (hi : i + 4 ≤ L) {kc ks : Nat} (kk : ∀ (h' : fmHp) (a' : DA) (S' : DS) (M' : MSt), LI G h' x m o od b L xs a' S' M' → fmW G Γ h' kc ks 1916 [some (.ref b), some (.ref x), some (.ref m), some (.ref o), some (.ref od), some (.int (nI i)), none, none, none, none] []) : fmW G Γ h (kc + 4700) (ks + 34000) 1285 [some (.ref b), some (.ref x), some (.ref m), some (.ref o), some (.ref od), some (.int (nI i)), none, none, none, none] [] := by
  obtain ⟨e350, eK8, e351, eP6, eN, hk8⟩ := hI.k
  have hkB := hI.kB
  obtain ⟨hLH, hSR⟩ := hI
  obtain ⟨hC, hD, hm, hdis, ⟨f0, ho⟩, ⟨g0, hod⟩, hb⟩ := id hLH
  obtain ⟨-, s4, -, -, s7, s6b, s8, s12, s60, s14, sch, ⟨fo, hfo, hfo31⟩, sf, s5, s6, ⟨qa, s13⟩, ⟨qw, s15⟩, ⟨qp, s16⟩⟩ := id hSR
  skip
  refine r_aload_n E dL_law_1285 rfl ?_
  refine r_aload_n E dL_law_1286 rfl ?_
  refine r_iload E dL_law_1287 rfl ?_
  refine r_iconst E (nI 1) dL_law_1289 (by decide) ?_
  refine r_iaddN E dL_law_1290 ?_
  refine r_iald E hb (by omega) (by omega) dL_law_1291 ?_
  refine r_aload_n E dL_law_1292 rfl ?_
  refine r_iload E dL_law_1293 rfl ?_
  refine r_iconst E (nI 2) dL_law_1295 (by decide) ?_
  refine r_iaddN E dL_law_1296 ?_
  refine r_iald E hb (by omega) (by omega) dL_law_1297 ?_
  refine r_aload_n E dL_law_1298 rfl ?_
  refine r_iload E dL_law_1299 rfl ?_
  refine r_iconst E (nI 3) dL_law_1301 (by decide) ?_
  refine r_iaddN E dL_law_1302 ?_
  refine r_iald E hb (by omega) (by omega) dL_law_1303 ?_
  refine r_aload_n E dL_law_1304 rfl ?_
  refine r_callSH E (w_step G hl h hC hD hk8 o f0 ho (xs (i + 1)) (xs (i + 2)) (xs (i + 3))) mX0_step q77 q1300 q1301 rfl rfl (Nat.le_of_ble_eq_true rfl) (Nat.le_of_ble_eq_true rfl) (Nat.le_of_ble_eq_true rfl) dL_law_1305 kc ks (show kc + 68 ≤ kc + 4700 by omega) (show ks + 220 ≤ ks + 34000 by omega) (fun v' h1 q => ?_) (fun _ _ _ q => q.elim)
  obtain ⟨rfl, hOP⟩ := q
  obtain ⟨a1, hL1, f1, ho1, hans⟩ := hLH.w hOP
  refine r_istore E [some (.ref b), some (.ref x), some (.ref m), some (.ref o), some (.ref od), some (.int (nI i)), some (.int (nI (kf 1 2 9 (aStep S.N (xs (i + 1)) (xs (i + 2)) (xs (i + 3)) (rK S.N)).1))), none, none, none] dL_law_1308 rfl rfl ?_
  refine r_hp (h' := mdl m M h1) hL1.2.2.1.symm ?_
  refine r_aload_n E dL_law_1310 rfl ?_
  refine r_aload_n E dL_law_1311 rfl ?_
  refine r_iload E dL_law_1312 rfl ?_
  refine r_iconst E (nI 1) dL_law_1314 (by decide) ?_
  refine r_iaddN E dL_law_1315 ?_
  refine r_iald E (hL1.m M).1.2.2.2.2.2.2 (by omega) (by omega) dL_law_1316 ?_
  refine r_aload_n E dL_law_1317 rfl ?_
  refine r_iload E dL_law_1318 rfl ?_
  refine r_iconst E (nI 2) dL_law_1320 (by decide) ?_
  refine r_iaddN E dL_law_1321 ?_
  refine r_iald E (hL1.m M).1.2.2.2.2.2.2 (by omega) (by omega) dL_law_1322 ?_
  refine r_aload_n E dL_law_1323 rfl ?_
  refine r_iload E dL_law_1324 rfl ?_
  refine r_iconst E (nI 3) dL_law_1326 (by decide) ?_
  refine r_iaddN E dL_law_1327 ?_
  refine r_iald E (hL1.m M).1.2.2.2.2.2.2 (by omega) (by omega) dL_law_1328 ?_
  refine r_callV E (ct_X4_step G hl m M h1 (xs (i + 1)) (xs (i + 2)) (xs (i + 3)) (rK (M.2 1)) e350 eK8) mX4_step q2176 q2177 q2178 (fun H a1 => fm_rc (ci := 0) (C := RX4) (T := TX4) (N := 21) a1 rfl E.v mdl_o) rfl rfl (Nat.le_of_ble_eq_true rfl) (Nat.le_of_ble_eq_true rfl) (Nat.le_of_ble_eq_true rfl) dL_law_1329 kc ks (Nat.le_refl _) (Nat.le_refl _) (fun v' h2 q => ?_) (fun _ _ _ q => q.elim)
  obtain ⟨rfl, X9, W9, rfl⟩ := q
  rw [eN]
  obtain ⟨hS2, hth⟩ := hSR.e (c := (aStep S.N (xs (i + 1)) (xs (i + 2)) (xs (i + 3)) (rK S.N)).1) (X := X9) (W := W9) cd_step
  change ((upd M.1 0 (nI (aStep S.N (xs (i + 1)) (xs (i + 2)) (xs (i + 3)) (rK S.N)).1), va_up (va_up M.2 12 X9) 13 W9) : MSt).1 0 = _ at hth
  obtain ⟨M2, hM2⟩ : ∃ M2 : MSt, M2 = (upd M.1 0 (nI (aStep S.N (xs (i + 1)) (xs (i + 2)) (xs (i + 3)) (rK S.N)).1), va_up (va_up M.2 12 X9) 13 W9) := ⟨_, rfl⟩
  rw [← hM2] at hS2 hth ⊢
  have hL2 := (hL1.m M2).1
  have ho2 := hL1.o ho1 M2
  refine r_istore E [some (.ref b), some (.ref x), some (.ref m), some (.ref o), some (.ref od), some (.int (nI i)), some (.int (nI (kf 1 2 9 (aStep S.N (xs (i + 1)) (xs (i + 2)) (xs (i + 3)) (rK S.N)).1))), some (.int (aAns (aStep S.N (xs (i + 1)) (xs (i + 2)) (xs (i + 3)) (rK S.N)))), none, none] dL_law_1332 rfl rfl ?_
  refine r_aload_n E dL_law_1334 rfl ?_
  refine r_callV1 (v1 := .int (M2.1 0)) E (ct_X4_thrown G hl m M2 h1) mX4_thrown q1951 q1952 q1953 (fun H a1 => fm_rc (ci := 0) (C := RX4) (T := TX4) (N := 21) a1 rfl E.v mdl_o) rfl rfl (Nat.le_of_ble_eq_true rfl) (Nat.le_of_ble_eq_true rfl) (Nat.le_of_ble_eq_true rfl) dL_law_1335 kc ks (Nat.le_refl _) (Nat.le_refl _) ?_
  refine r_top (v' := .int (nI (kf 1 2 9 (aStep S.N (xs (i + 1)) (xs (i + 2)) (xs (i + 3)) (rK S.N)).1))) (congrArg Value.int hth) ?_
  refine r_iload E dL_law_1338 rfl ?_
  refine r_icmp_eq (tgt := 1345) E dL_law_1340 (by decide) (fun _ => ?_) (fun c => absurd rfl c)
  refine r_iload E dL_law_1345 rfl ?_
  refine r_if_ne (tgt := 1362) E dL_law_1347 (by decide) (fun c => ?_) (fun c => ?_)
  · refine r_goto (tgt := 1916) E dL_law_1362 (by decide) ?_
    refine fmW.few (L' := [some (.ref b), some (.ref x), some (.ref m), some (.ref o), some (.ref od), some (.int (nI i)), none, some (.int (aAns (aStep S.N (xs (i + 1)) (xs (i + 2)) (xs (i + 3)) (rK S.N)))), none, none]) (fmFew_n (L := [some (.ref b), some (.ref x), some (.ref m), some (.ref o), some (.ref od), some (.int (nI i)), some (.int (nI (kf 1 2 9 (aStep S.N (xs (i + 1)) (xs (i + 2)) (xs (i + 3)) (rK S.N)).1))), some (.int (aAns (aStep S.N (xs (i + 1)) (xs (i + 2)) (xs (i + 3)) (rK S.N)))), none, none]) 6) ?_
    refine fmW.few (L' := [some (.ref b), some (.ref x), some (.ref m), some (.ref o), some (.ref od), some (.int (nI i)), none, none, none, none]) (fmFew_n (L := [some (.ref b), some (.ref x), some (.ref m), some (.ref o), some (.ref od), some (.int (nI i)), none, some (.int (aAns (aStep S.N (xs (i + 1)) (xs (i + 2)) (xs (i + 3)) (rK S.N)))), none, none]) 7) ?_
    exact kk _ _ _ _ ⟨hL2, hS2⟩
  · have hc0 := kf_0 (by decide) (by decide) (by decide) c
    refine r_aload_n E dL_law_1350 rfl ?_
    refine r_iconst E (nI 0) dL_law_1351 (by decide) ?_
    refine r_lald E ho2 (by decide) (by decide) dL_law_1352 ?_
    refine r_iload E dL_law_1353 rfl ?_
    refine r_i2l E dL_law_1355 ?_
    refine r_lcmp E dL_law_1356 ?_
    refine r_if_eq (tgt := 1362) E dL_law_1357 (by decide) (fun _ => ?_) (fun c2 => absurd (lcmp_0.mpr (hans hc0)) c2)
    refine r_goto (tgt := 1916) E dL_law_1362 (by decide) ?_
    refine fmW.few (L' := [some (.ref b), some (.ref x), some (.ref m), some (.ref o), some (.ref od), some (.int (nI i)), none, some (.int (aAns (aStep S.N (xs (i + 1)) (xs (i + 2)) (xs (i + 3)) (rK S.N)))), none, none]) (fmFew_n (L := [some (.ref b), some (.ref x), some (.ref m), some (.ref o), some (.ref od), some (.int (nI i)), some (.int (nI (kf 1 2 9 (aStep S.N (xs (i + 1)) (xs (i + 2)) (xs (i + 3)) (rK S.N)).1))), some (.int (aAns (aStep S.N (xs (i + 1)) (xs (i + 2)) (xs (i + 3)) (rK S.N)))), none, none]) 6) ?_
    refine fmW.few (L' := [some (.ref b), some (.ref x), some (.ref m), some (.ref o), some (.ref od), some (.int (nI i)), none, none, none, none]) (fmFew_n (L := [some (.ref b), some (.ref x), some (.ref m), some (.ref o), some (.ref od), some (.int (nI i)), none, some (.int (aAns (aStep S.N (xs (i + 1)) (xs (i + 2)) (xs (i + 3)) (rK S.N)))), none, none]) 7) ?_
    exact kk _ _ _ _ ⟨hL2, hS2⟩
set_option maxHeartbeats 4000000 in
theorem lc_19 (G : fmG) (hl : (fmLn G).stackTraces = false) {Γ : fmC} (E : fmE G Γ cL_law 10 "FlintMineLaw" "law" ret room_1 []) {h : fmHp} {x m o od b L : Nat} {xs : Nat → Int32} {a : DA} {S : DS} {M : MSt} (hI : LI G h x m o od b L xs a S M) (hL : L ≤ 96) {i : Nat} (hi : i + 4 ≤ L) {kc ks : Nat} (kk : ∀ (h' : fmHp) (a' : DA) (S' : DS) (M' : MSt), LI G h' x m o od b L xs a' S' M' → fmW G Γ h' kc ks 1916 [some (.ref b), some (.ref x), some (.ref m), some (.ref o), some (.ref od), some (.int (nI i)), none, none, none, none] []) : fmW G Γ h (kc + 4700) (ks + 34000) 1365 [some (.ref b), some (.ref x), some (.ref m), some (.ref o), some (.ref od), some (.int (nI i)), none, none, none, none] [] := by
  obtain ⟨e350, eK8, e351, eP6, eN, hk8⟩ := hI.k
  have hkB := hI.kB
  obtain ⟨hLH, hSR⟩ := hI
  obtain ⟨hC, hD, hm, hdis, ⟨f0, ho⟩, ⟨g0, hod⟩, hb⟩ := id hLH
  obtain ⟨-, s4, -, -, s7, s6b, s8, s12, s60, s14, sch, ⟨fo, hfo, hfo31⟩, sf, s5, s6, ⟨qa, s13⟩, ⟨qw, s15⟩, ⟨qp, s16⟩⟩ := id hSR
  skip
  refine r_aload_n E dL_law_1365 rfl ?_
  refine r_aload_n E dL_law_1366 rfl ?_
  refine r_iload E dL_law_1367 rfl ?_
  refine r_iconst E (nI 1) dL_law_1369 (by decide) ?_
  refine r_iaddN E dL_law_1370 ?_
  refine r_iald E hb (by omega) (by omega) dL_law_1371 ?_
  refine r_aload_n E dL_law_1372 rfl ?_
  refine r_iload E dL_law_1373 rfl ?_
  refine r_iconst E (nI 2) dL_law_1375 (by decide) ?_
  refine r_iaddN E dL_law_1376 ?_
  refine r_iald E hb (by omega) (by omega) dL_law_1377 ?_
  refine r_aload_n E dL_law_1378 rfl ?_
  refine r_callSH E (w_strokes G hl h hC hD hk8 o f0 ho (xs (i + 1)) (xs (i + 2))) mX0_strokes q77 q1312 q1313 rfl rfl (Nat.le_of_ble_eq_true rfl) (Nat.le_of_ble_eq_true rfl) (Nat.le_of_ble_eq_true rfl) dL_law_1379 kc ks (show kc + 68 ≤ kc + 4700 by omega) (show ks + 220 ≤ ks + 34000 by omega) (fun v' h1 q => ?_) (fun _ _ _ q => q.elim)
  obtain ⟨rfl, hOP⟩ := q
  obtain ⟨a1, hL1, f1, ho1, hans⟩ := hLH.w hOP
  refine r_istore E [some (.ref b), some (.ref x), some (.ref m), some (.ref o), some (.ref od), some (.int (nI i)), some (.int (nI (kf 1 2 9 (aStrokes S.N (xs (i + 1)) (xs (i + 2)) (rK S.N)).1))), none, none, none] dL_law_1382 rfl rfl ?_
  refine r_hp (h' := mdl m M h1) hL1.2.2.1.symm ?_
  refine r_aload_n E dL_law_1384 rfl ?_
  refine r_aload_n E dL_law_1385 rfl ?_
  refine r_iload E dL_law_1386 rfl ?_
  refine r_iconst E (nI 1) dL_law_1388 (by decide) ?_
  refine r_iaddN E dL_law_1389 ?_
  refine r_iald E (hL1.m M).1.2.2.2.2.2.2 (by omega) (by omega) dL_law_1390 ?_
  refine r_aload_n E dL_law_1391 rfl ?_
  refine r_iload E dL_law_1392 rfl ?_
  refine r_iconst E (nI 2) dL_law_1394 (by decide) ?_
  refine r_iaddN E dL_law_1395 ?_
  refine r_iald E (hL1.m M).1.2.2.2.2.2.2 (by omega) (by omega) dL_law_1396 ?_
  refine r_callV E (ct_X4_strokes G hl m M h1 (xs (i + 1)) (xs (i + 2)) (rK (M.2 1)) e350 eK8) mX4_strokes q2184 q2185 q2186 (fun H a1 => fm_rc (ci := 0) (C := RX4) (T := TX4) (N := 21) a1 rfl E.v mdl_o) rfl rfl (Nat.le_of_ble_eq_true rfl) (Nat.le_of_ble_eq_true rfl) (Nat.le_of_ble_eq_true rfl) dL_law_1397 kc ks (Nat.le_refl _) (Nat.le_refl _) (fun v' h2 q => ?_) (fun _ _ _ q => q.elim)
  obtain ⟨rfl, X9, W9, rfl⟩ := q
  rw [eN]
  obtain ⟨hS2, hth⟩ := hSR.e (c := (aStrokes S.N (xs (i + 1)) (xs (i + 2)) (rK S.N)).1) (X := X9) (W := W9) cd_strokes
  change ((upd M.1 0 (nI (aStrokes S.N (xs (i + 1)) (xs (i + 2)) (rK S.N)).1), va_up (va_up M.2 12 X9) 13 W9) : MSt).1 0 = _ at hth
  obtain ⟨M2, hM2⟩ : ∃ M2 : MSt, M2 = (upd M.1 0 (nI (aStrokes S.N (xs (i + 1)) (xs (i + 2)) (rK S.N)).1), va_up (va_up M.2 12 X9) 13 W9) := ⟨_, rfl⟩
  rw [← hM2] at hS2 hth ⊢
  have hL2 := (hL1.m M2).1
  have ho2 := hL1.o ho1 M2
  refine r_istore E [some (.ref b), some (.ref x), some (.ref m), some (.ref o), some (.ref od), some (.int (nI i)), some (.int (nI (kf 1 2 9 (aStrokes S.N (xs (i + 1)) (xs (i + 2)) (rK S.N)).1))), some (.int (aAns (aStrokes S.N (xs (i + 1)) (xs (i + 2)) (rK S.N)))), none, none] dL_law_1400 rfl rfl ?_
  refine r_aload_n E dL_law_1402 rfl ?_
  refine r_callV1 (v1 := .int (M2.1 0)) E (ct_X4_thrown G hl m M2 h1) mX4_thrown q1951 q1952 q1953 (fun H a1 => fm_rc (ci := 0) (C := RX4) (T := TX4) (N := 21) a1 rfl E.v mdl_o) rfl rfl (Nat.le_of_ble_eq_true rfl) (Nat.le_of_ble_eq_true rfl) (Nat.le_of_ble_eq_true rfl) dL_law_1403 kc ks (Nat.le_refl _) (Nat.le_refl _) ?_
  refine r_top (v' := .int (nI (kf 1 2 9 (aStrokes S.N (xs (i + 1)) (xs (i + 2)) (rK S.N)).1))) (congrArg Value.int hth) ?_
  refine r_iload E dL_law_1406 rfl ?_
  refine r_icmp_eq (tgt := 1413) E dL_law_1408 (by decide) (fun _ => ?_) (fun c => absurd rfl c)
  refine r_iload E dL_law_1413 rfl ?_
  refine r_if_ne (tgt := 1430) E dL_law_1415 (by decide) (fun c => ?_) (fun c => ?_)
  · refine r_goto (tgt := 1916) E dL_law_1430 (by decide) ?_
    refine fmW.few (L' := [some (.ref b), some (.ref x), some (.ref m), some (.ref o), some (.ref od), some (.int (nI i)), none, some (.int (aAns (aStrokes S.N (xs (i + 1)) (xs (i + 2)) (rK S.N)))), none, none]) (fmFew_n (L := [some (.ref b), some (.ref x), some (.ref m), some (.ref o), some (.ref od), some (.int (nI i)), some (.int (nI (kf 1 2 9 (aStrokes S.N (xs (i + 1)) (xs (i + 2)) (rK S.N)).1))), some (.int (aAns (aStrokes S.N (xs (i + 1)) (xs (i + 2)) (rK S.N)))), none, none]) 6) ?_
    refine fmW.few (L' := [some (.ref b), some (.ref x), some (.ref m), some (.ref o), some (.ref od), some (.int (nI i)), none, none, none, none]) (fmFew_n (L := [some (.ref b), some (.ref x), some (.ref m), some (.ref o), some (.ref od), some (.int (nI i)), none, some (.int (aAns (aStrokes S.N (xs (i + 1)) (xs (i + 2)) (rK S.N)))), none, none]) 7) ?_
    exact kk _ _ _ _ ⟨hL2, hS2⟩
  · have hc0 := kf_0 (by decide) (by decide) (by decide) c
    refine r_aload_n E dL_law_1418 rfl ?_
    refine r_iconst E (nI 0) dL_law_1419 (by decide) ?_
    refine r_lald E ho2 (by decide) (by decide) dL_law_1420 ?_
    refine r_iload E dL_law_1421 rfl ?_
    refine r_i2l E dL_law_1423 ?_
    refine r_lcmp E dL_law_1424 ?_
    refine r_if_eq (tgt := 1430) E dL_law_1425 (by decide) (fun _ => ?_) (fun c2 => absurd (lcmp_0.mpr (hans hc0)) c2)
    refine r_goto (tgt := 1916) E dL_law_1430 (by decide) ?_
    refine fmW.few (L' := [some (.ref b), some (.ref x), some (.ref m), some (.ref o), some (.ref od), some (.int (nI i)), none, some (.int (aAns (aStrokes S.N (xs (i + 1)) (xs (i + 2)) (rK S.N)))), none, none]) (fmFew_n (L := [some (.ref b), some (.ref x), some (.ref m), some (.ref o), some (.ref od), some (.int (nI i)), some (.int (nI (kf 1 2 9 (aStrokes S.N (xs (i + 1)) (xs (i + 2)) (rK S.N)).1))), some (.int (aAns (aStrokes S.N (xs (i + 1)) (xs (i + 2)) (rK S.N)))), none, none]) 6) ?_
    refine fmW.few (L' := [some (.ref b), some (.ref x), some (.ref m), some (.ref o), some (.ref od), some (.int (nI i)), none, none, none, none]) (fmFew_n (L := [some (.ref b), some (.ref x), some (.ref m), some (.ref o), some (.ref od), some (.int (nI i)), none, some (.int (aAns (aStrokes S.N (xs (i + 1)) (xs (i + 2)) (rK S.N)))), none, none]) 7) ?_
    exact kk _ _ _ _ ⟨hL2, hS2⟩
set_option maxHeartbeats 4000000 in
theorem lc_20 (G : fmG) (hl : (fmLn G).stackTraces = false) {Γ : fmC} (E : fmE G Γ cL_law 10 "FlintMineLaw" "law" ret room_1 []) {h : fmHp} {x m o od b L : Nat} {xs : Nat → Int32} {a : DA} {S : DS} {M : MSt} (hI : LI G h x m o od b L xs a S M) (hL : L ≤ 96) {i : Nat} (hi : i + 4 ≤ L) {kc ks : Nat} (kk : ∀ (h' : fmHp) (a' : DA) (S' : DS) (M' : MSt), LI G h' x m o od b L xs a' S' M' → fmW G Γ h' kc ks 1916 [some (.ref b), some (.ref x), some (.ref m), some (.ref o), some (.ref od), some (.int (nI i)), none, none, none, none] []) : fmW G Γ h (kc + 4700) (ks + 34000) 1433 [some (.ref b), some (.ref x), some (.ref m), some (.ref o), some (.ref od), some (.int (nI i)), none, none, none, none] [] := by
  obtain ⟨e350, eK8, e351, eP6, eN, hk8⟩ := hI.k
  have hkB := hI.kB
  obtain ⟨hLH, hSR⟩ := hI
  obtain ⟨hC, hD, hm, hdis, ⟨f0, ho⟩, ⟨g0, hod⟩, hb⟩ := id hLH
  obtain ⟨-, s4, -, -, s7, s6b, s8, s12, s60, s14, sch, ⟨fo, hfo, hfo31⟩, sf, s5, s6, ⟨qa, s13⟩, ⟨qw, s15⟩, ⟨qp, s16⟩⟩ := id hSR
  skip
  refine r_aload_n E dL_law_1433 rfl ?_
  refine r_aload_n E dL_law_1434 rfl ?_
  refine r_iload E dL_law_1435 rfl ?_
  refine r_iconst E (nI 1) dL_law_1437 (by decide) ?_
  refine r_iaddN E dL_law_1438 ?_
  refine r_iald E hb (by omega) (by omega) dL_law_1439 ?_
  refine r_aload_n E dL_law_1440 rfl ?_
  refine r_callSH E (w_number G hl h hC hD hk8 o f0 ho (xs (i + 1))) mX0_number q77 q1325 q1326 rfl rfl (Nat.le_of_ble_eq_true rfl) (Nat.le_of_ble_eq_true rfl) (Nat.le_of_ble_eq_true rfl) dL_law_1441 kc ks (show kc + 2 ≤ kc + 4700 by omega) (show ks + 7 ≤ ks + 34000 by omega) (fun v' h1 q => ?_) (fun _ _ _ q => q.elim)
  obtain ⟨rfl, hOP⟩ := q
  obtain ⟨a1, hL1, f1, ho1, hans⟩ := hLH.w hOP
  refine r_istore E [some (.ref b), some (.ref x), some (.ref m), some (.ref o), some (.ref od), some (.int (nI i)), some (.int (nI (kf 1 2 9 (aNumber S.N (xs (i + 1)) (rK S.N) (rP S.N) S.kp S.len).1))), none, none, none] dL_law_1444 rfl rfl ?_
  refine r_hp (h' := mdl m M h1) hL1.2.2.1.symm ?_
  refine r_aload_n E dL_law_1446 rfl ?_
  refine r_aload_n E dL_law_1447 rfl ?_
  refine r_iload E dL_law_1448 rfl ?_
  refine r_iconst E (nI 1) dL_law_1450 (by decide) ?_
  refine r_iaddN E dL_law_1451 ?_
  refine r_iald E (hL1.m M).1.2.2.2.2.2.2 (by omega) (by omega) dL_law_1452 ?_
  refine r_callV1 (v1 := .int (aAns (aNumber (M.2 1) (xs (i + 1)) (rK (M.2 1)) (rP (M.2 1)) S.kp S.len))) E (ct_X4_number G hl m M h1 (xs (i + 1)) (rK (M.2 1)) e350 eK8 (rP (M.2 1)) e351 eP6 S.kp s4 S.len s12) mX4_number q2188 q2189 q2190 (fun H a1 => fm_rc (ci := 0) (C := RX4) (T := TX4) (N := 21) a1 rfl E.v mdl_o) rfl rfl (Nat.le_of_ble_eq_true rfl) (Nat.le_of_ble_eq_true rfl) (Nat.le_of_ble_eq_true rfl) dL_law_1453 kc ks (Nat.le_refl _) (Nat.le_refl _) ?_
  rw [eN]
  obtain ⟨hS2, hth⟩ := hSR.q (r := aNumber S.N (xs (i + 1)) (rK S.N) (rP S.N) S.kp S.len) (C1.two cd_number)
  obtain ⟨M2, hM2⟩ : ∃ M2 : MSt, M2 = qSt M (aNumber S.N (xs (i + 1)) (rK S.N) (rP S.N) S.kp S.len) := ⟨_, rfl⟩
  rw [← hM2] at hS2 hth ⊢
  have hL2 := (hL1.m M2).1
  have ho2 := hL1.o ho1 M2
  refine r_istore E [some (.ref b), some (.ref x), some (.ref m), some (.ref o), some (.ref od), some (.int (nI i)), some (.int (nI (kf 1 2 9 (aNumber S.N (xs (i + 1)) (rK S.N) (rP S.N) S.kp S.len).1))), some (.int (aAns (aNumber S.N (xs (i + 1)) (rK S.N) (rP S.N) S.kp S.len))), none, none] dL_law_1456 rfl rfl ?_
  refine r_aload_n E dL_law_1458 rfl ?_
  refine r_callV1 (v1 := .int (M2.1 0)) E (ct_X4_thrown G hl m M2 h1) mX4_thrown q1951 q1952 q1953 (fun H a1 => fm_rc (ci := 0) (C := RX4) (T := TX4) (N := 21) a1 rfl E.v mdl_o) rfl rfl (Nat.le_of_ble_eq_true rfl) (Nat.le_of_ble_eq_true rfl) (Nat.le_of_ble_eq_true rfl) dL_law_1459 kc ks (Nat.le_refl _) (Nat.le_refl _) ?_
  refine r_top (v' := .int (nI (kf 1 2 9 (aNumber S.N (xs (i + 1)) (rK S.N) (rP S.N) S.kp S.len).1))) (congrArg Value.int hth) ?_
  refine r_iload E dL_law_1462 rfl ?_
  refine r_icmp_eq (tgt := 1469) E dL_law_1464 (by decide) (fun _ => ?_) (fun c => absurd rfl c)
  refine r_iload E dL_law_1469 rfl ?_
  refine r_if_ne (tgt := 1486) E dL_law_1471 (by decide) (fun c => ?_) (fun c => ?_)
  · refine r_goto (tgt := 1916) E dL_law_1486 (by decide) ?_
    refine fmW.few (L' := [some (.ref b), some (.ref x), some (.ref m), some (.ref o), some (.ref od), some (.int (nI i)), none, some (.int (aAns (aNumber S.N (xs (i + 1)) (rK S.N) (rP S.N) S.kp S.len))), none, none]) (fmFew_n (L := [some (.ref b), some (.ref x), some (.ref m), some (.ref o), some (.ref od), some (.int (nI i)), some (.int (nI (kf 1 2 9 (aNumber S.N (xs (i + 1)) (rK S.N) (rP S.N) S.kp S.len).1))), some (.int (aAns (aNumber S.N (xs (i + 1)) (rK S.N) (rP S.N) S.kp S.len))), none, none]) 6) ?_
    refine fmW.few (L' := [some (.ref b), some (.ref x), some (.ref m), some (.ref o), some (.ref od), some (.int (nI i)), none, none, none, none]) (fmFew_n (L := [some (.ref b), some (.ref x), some (.ref m), some (.ref o), some (.ref od), some (.int (nI i)), none, some (.int (aAns (aNumber S.N (xs (i + 1)) (rK S.N) (rP S.N) S.kp S.len))), none, none]) 7) ?_
    exact kk _ _ _ _ ⟨hL2, hS2⟩
  · have hc0 := kf_0 (by decide) (by decide) (by decide) c
    refine r_aload_n E dL_law_1474 rfl ?_
    refine r_iconst E (nI 0) dL_law_1475 (by decide) ?_
    refine r_lald E ho2 (by decide) (by decide) dL_law_1476 ?_
    refine r_iload E dL_law_1477 rfl ?_
    refine r_i2l E dL_law_1479 ?_
    refine r_lcmp E dL_law_1480 ?_
    refine r_if_eq (tgt := 1486) E dL_law_1481 (by decide) (fun _ => ?_) (fun c2 => absurd (lcmp_0.mpr (hans hc0)) c2)
    refine r_goto (tgt := 1916) E dL_law_1486 (by decide) ?_
    refine fmW.few (L' := [some (.ref b), some (.ref x), some (.ref m), some (.ref o), some (.ref od), some (.int (nI i)), none, some (.int (aAns (aNumber S.N (xs (i + 1)) (rK S.N) (rP S.N) S.kp S.len))), none, none]) (fmFew_n (L := [some (.ref b), some (.ref x), some (.ref m), some (.ref o), some (.ref od), some (.int (nI i)), some (.int (nI (kf 1 2 9 (aNumber S.N (xs (i + 1)) (rK S.N) (rP S.N) S.kp S.len).1))), some (.int (aAns (aNumber S.N (xs (i + 1)) (rK S.N) (rP S.N) S.kp S.len))), none, none]) 6) ?_
    refine fmW.few (L' := [some (.ref b), some (.ref x), some (.ref m), some (.ref o), some (.ref od), some (.int (nI i)), none, none, none, none]) (fmFew_n (L := [some (.ref b), some (.ref x), some (.ref m), some (.ref o), some (.ref od), some (.int (nI i)), none, some (.int (aAns (aNumber S.N (xs (i + 1)) (rK S.N) (rP S.N) S.kp S.len))), none, none]) 7) ?_
    exact kk _ _ _ _ ⟨hL2, hS2⟩
set_option maxHeartbeats 4000000 in
theorem lc_21 (G : fmG) (hl : (fmLn G).stackTraces = false) {Γ : fmC} (E : fmE G Γ cL_law 10 "FlintMineLaw" "law" ret room_1 []) {h : fmHp} {x m o od b L : Nat} {xs : Nat → Int32} {a : DA} {S : DS} {M : MSt} (hI : LI G h x m o od b L xs a S M) (hL : L ≤ 96) {i : Nat} (hi : i + 4 ≤ L) {kc ks : Nat} (kk : ∀ (h' : fmHp) (a' : DA) (S' : DS) (M' : MSt), LI G h' x m o od b L xs a' S' M' → fmW G Γ h' kc ks 1916 [some (.ref b), some (.ref x), some (.ref m), some (.ref o), some (.ref od), some (.int (nI i)), none, none, none, none] []) : fmW G Γ h (kc + 4700) (ks + 34000) 1489 [some (.ref b), some (.ref x), some (.ref m), some (.ref o), some (.ref od), some (.int (nI i)), none, none, none, none] [] := by
  obtain ⟨e350, eK8, e351, eP6, eN, hk8⟩ := hI.k
  have hkB := hI.kB
  obtain ⟨hLH, hSR⟩ := hI
  obtain ⟨hC, hD, hm, hdis, ⟨f0, ho⟩, ⟨g0, hod⟩, hb⟩ := id hLH
  obtain ⟨-, s4, -, -, s7, s6b, s8, s12, s60, s14, sch, ⟨fo, hfo, hfo31⟩, sf, s5, s6, ⟨qa, s13⟩, ⟨qw, s15⟩, ⟨qp, s16⟩⟩ := id hSR
  refine r_aload_n E dL_law_1489 rfl ?_
  refine r_aload E dL_law_1490 rfl ?_
  refine r_callSH E (w_perStroke G hl h hC hD hk8 od g0 hod ) mX0_perStroke q77 q1359 q1360 rfl rfl (Nat.le_of_ble_eq_true rfl) (Nat.le_of_ble_eq_true rfl) (Nat.le_of_ble_eq_true rfl) dL_law_1492 kc ks (show kc + 1 ≤ kc + 4700 by omega) (show ks + 6 ≤ ks + 34000 by omega) (fun v' h1 q => ?_) (fun _ _ _ q => q.elim)
  obtain ⟨hq, v1, f1, hD1, hfr1, ho1, hv1⟩ := q
  obtain ⟨k1, k2, k3, k4, k5, k6, k7⟩ := hLH.out
  have hL1 := hLH.fr hD1 (fun q y hq h1 _ h2 => hfr1 q y hq h1 h2) ⟨f0, hfr1 _ _ ho k2 k5⟩ ⟨f1, ho1⟩
  rcases hq with ⟨rfl, hn⟩ | ⟨rfl, hn⟩
  · refine r_top (v' := .int (nI 0)) rfl ?_
    refine r_istore E [some (.ref b), some (.ref x), some (.ref m), some (.ref o), some (.ref od), some (.int (nI i)), some (.int (nI 0)), none, none, none] dL_law_1495 rfl rfl ?_
    refine r_hp (h' := mdl m M h1) hL1.2.2.1.symm ?_
    refine r_aload_n E dL_law_1497 rfl ?_
    refine r_callV1 (v1 := .double (if M.2 1 354 = 0 then 0 else FP.ddiv (FP.i2d (sWon (M.2 1) (rK (M.2 1)))) (FP.i2d (M.2 1 354)))) E (ct_X4_perStroke G hl m M h1 (rK (M.2 1)) e350 eK8) mX4_perStroke q2204 q2205 q2206 (fun H a1 => fm_rc (ci := 0) (C := RX4) (T := TX4) (N := 21) a1 rfl E.v mdl_o) rfl rfl (Nat.le_of_ble_eq_true rfl) (Nat.le_of_ble_eq_true rfl) (Nat.le_of_ble_eq_true rfl) dL_law_1498 kc ks (Nat.le_refl _) (Nat.le_refl _) ?_
    rw [eN, if_neg hn, if_neg hn]
    have hS2 : SR S (upd M.1 0 (nI 0), M.2) := hSR.up0 _
    have hth : (upd M.1 0 (nI 0)) 0 = nI 0 := rfl
    obtain ⟨M2, hM2⟩ : ∃ M2 : MSt, M2 = (upd M.1 0 (nI 0), M.2) := ⟨_, rfl⟩
    change (upd M.1 0 (nI 0), M.2).1 0 = _ at hth
    rw [← hM2] at hS2 hth ⊢
    have hL2 := (hL1.m M2).1
    have ho2 := hL1.od ho1 M2
    refine r_dstore E [some (.ref b), some (.ref x), some (.ref m), some (.ref o), some (.ref od), some (.int (nI i)), some (.int (nI 0)), some (.double (FP.ddiv (FP.i2d (sWon S.N (rK S.N))) (FP.i2d (S.N 354)))), none, none] dL_law_1501 rfl rfl ?_
    refine r_aload_n E dL_law_1503 rfl ?_
    refine r_callV1 (v1 := .int (M2.1 0)) E (ct_X4_thrown G hl m M2 h1) mX4_thrown q1951 q1952 q1953 (fun H a1 => fm_rc (ci := 0) (C := RX4) (T := TX4) (N := 21) a1 rfl E.v mdl_o) rfl rfl (Nat.le_of_ble_eq_true rfl) (Nat.le_of_ble_eq_true rfl) (Nat.le_of_ble_eq_true rfl) dL_law_1504 kc ks (Nat.le_refl _) (Nat.le_refl _) ?_
    refine r_top (v' := .int (nI 0)) (congrArg Value.int hth) ?_
    refine r_iload E dL_law_1507 rfl ?_
    refine r_icmp_eq (tgt := 1514) E dL_law_1509 (by decide) (fun _ => ?_) (fun c => absurd rfl c)
    refine r_iload E dL_law_1514 rfl ?_
    refine r_if_ne (tgt := 1551) E dL_law_1516 (by decide) (fun c => absurd rfl c) (fun _ => ?_)
    have hv1 := hv1 hn
    refine r_aload E dL_law_1519 rfl ?_
    refine r_iconst E (nI 0) dL_law_1521 (by decide) ?_
    refine r_dald E ho2 (by decide) (by decide) dL_law_1522 ?_
    refine r_top (v' := .double (FP.ddiv (FP.i2d (sWon S.N (rK S.N))) (FP.i2d (S.N 354)))) (congrArg Value.double hv1) ?_
    refine r_dload E dL_law_1523 rfl ?_
    refine r_dcmpl E dL_law_1525 ?_
    refine r_if_eq (tgt := 1551) E dL_law_1526 (by decide) (fun _ => ?_) (fun c1 => ?_)
    · refine r_goto (tgt := 1916) E dL_law_1551 (by decide) ?_
      refine fmW.few (L' := [some (.ref b), some (.ref x), some (.ref m), some (.ref o), some (.ref od), some (.int (nI i)), none, some (.double (FP.ddiv (FP.i2d (sWon S.N (rK S.N))) (FP.i2d (S.N 354)))), none, none]) (fmFew_n (L := [some (.ref b), some (.ref x), some (.ref m), some (.ref o), some (.ref od), some (.int (nI i)), some (.int (nI 0)), some (.double (FP.ddiv (FP.i2d (sWon S.N (rK S.N))) (FP.i2d (S.N 354)))), none, none]) 6) ?_
      refine fmW.few (L' := [some (.ref b), some (.ref x), some (.ref m), some (.ref o), some (.ref od), some (.int (nI i)), none, none, none, none]) (fmFew_n (L := [some (.ref b), some (.ref x), some (.ref m), some (.ref o), some (.ref od), some (.int (nI i)), none, some (.double (FP.ddiv (FP.i2d (sWon S.N (rK S.N))) (FP.i2d (S.N 354)))), none, none]) 7) ?_
      exact kk _ _ _ _ ⟨hL2, hS2⟩
    · refine r_aload E dL_law_1529 rfl ?_
      refine r_iconst E (nI 0) dL_law_1531 (by decide) ?_
      refine r_dald E ho2 (by decide) (by decide) dL_law_1532 ?_
      refine r_top (v' := .double (FP.ddiv (FP.i2d (sWon S.N (rK S.N))) (FP.i2d (S.N 354)))) (congrArg Value.double hv1) ?_
      refine r_aload E dL_law_1533 rfl ?_
      refine r_iconst E (nI 0) dL_law_1535 (by decide) ?_
      refine r_dald E ho2 (by decide) (by decide) dL_law_1536 ?_
      refine r_top (v' := .double (FP.ddiv (FP.i2d (sWon S.N (rK S.N))) (FP.i2d (S.N 354)))) (congrArg Value.double hv1) ?_
      refine r_dcmpl E dL_law_1537 ?_
      refine r_if_eq (tgt := 1549) E dL_law_1538 (by decide) (fun c2 => absurd c2 c1) (fun _ => ?_)
      refine r_dload E dL_law_1541 rfl ?_
      refine r_dload E dL_law_1543 rfl ?_
      refine r_dcmpl E dL_law_1545 ?_
      refine r_if_ne (tgt := 1551) E dL_law_1546 (by decide) (fun _ => ?_) (fun c2 => absurd c2 c1)
      refine r_goto (tgt := 1916) E dL_law_1551 (by decide) ?_
      refine fmW.few (L' := [some (.ref b), some (.ref x), some (.ref m), some (.ref o), some (.ref od), some (.int (nI i)), none, some (.double (FP.ddiv (FP.i2d (sWon S.N (rK S.N))) (FP.i2d (S.N 354)))), none, none]) (fmFew_n (L := [some (.ref b), some (.ref x), some (.ref m), some (.ref o), some (.ref od), some (.int (nI i)), some (.int (nI 0)), some (.double (FP.ddiv (FP.i2d (sWon S.N (rK S.N))) (FP.i2d (S.N 354)))), none, none]) 6) ?_
      refine fmW.few (L' := [some (.ref b), some (.ref x), some (.ref m), some (.ref o), some (.ref od), some (.int (nI i)), none, none, none, none]) (fmFew_n (L := [some (.ref b), some (.ref x), some (.ref m), some (.ref o), some (.ref od), some (.int (nI i)), none, some (.double (FP.ddiv (FP.i2d (sWon S.N (rK S.N))) (FP.i2d (S.N 354)))), none, none]) 7) ?_
      exact kk _ _ _ _ ⟨hL2, hS2⟩
  · refine r_top (v' := .int (nI 1)) rfl ?_
    refine r_istore E [some (.ref b), some (.ref x), some (.ref m), some (.ref o), some (.ref od), some (.int (nI i)), some (.int (nI 1)), none, none, none] dL_law_1495 rfl rfl ?_
    refine r_hp (h' := mdl m M h1) hL1.2.2.1.symm ?_
    refine r_aload_n E dL_law_1497 rfl ?_
    refine r_callV1 (v1 := .double (if M.2 1 354 = 0 then 0 else FP.ddiv (FP.i2d (sWon (M.2 1) (rK (M.2 1)))) (FP.i2d (M.2 1 354)))) E (ct_X4_perStroke G hl m M h1 (rK (M.2 1)) e350 eK8) mX4_perStroke q2204 q2205 q2206 (fun H a1 => fm_rc (ci := 0) (C := RX4) (T := TX4) (N := 21) a1 rfl E.v mdl_o) rfl rfl (Nat.le_of_ble_eq_true rfl) (Nat.le_of_ble_eq_true rfl) (Nat.le_of_ble_eq_true rfl) dL_law_1498 kc ks (Nat.le_refl _) (Nat.le_refl _) ?_
    rw [eN, if_pos hn, if_pos hn]
    have hS2 : SR S (upd M.1 0 (nI 1), M.2) := hSR.up0 _
    have hth : (upd M.1 0 (nI 1)) 0 = nI 1 := rfl
    obtain ⟨M2, hM2⟩ : ∃ M2 : MSt, M2 = (upd M.1 0 (nI 1), M.2) := ⟨_, rfl⟩
    change (upd M.1 0 (nI 1), M.2).1 0 = _ at hth
    rw [← hM2] at hS2 hth ⊢
    have hL2 := (hL1.m M2).1
    have ho2 := hL1.od ho1 M2
    refine r_dstore E [some (.ref b), some (.ref x), some (.ref m), some (.ref o), some (.ref od), some (.int (nI i)), some (.int (nI 1)), some (.double 0), none, none] dL_law_1501 rfl rfl ?_
    refine r_aload_n E dL_law_1503 rfl ?_
    refine r_callV1 (v1 := .int (M2.1 0)) E (ct_X4_thrown G hl m M2 h1) mX4_thrown q1951 q1952 q1953 (fun H a1 => fm_rc (ci := 0) (C := RX4) (T := TX4) (N := 21) a1 rfl E.v mdl_o) rfl rfl (Nat.le_of_ble_eq_true rfl) (Nat.le_of_ble_eq_true rfl) (Nat.le_of_ble_eq_true rfl) dL_law_1504 kc ks (Nat.le_refl _) (Nat.le_refl _) ?_
    refine r_top (v' := .int (nI 1)) (congrArg Value.int hth) ?_
    refine r_iload E dL_law_1507 rfl ?_
    refine r_icmp_eq (tgt := 1514) E dL_law_1509 (by decide) (fun _ => ?_) (fun c => absurd rfl c)
    refine r_iload E dL_law_1514 rfl ?_
    refine r_if_ne (tgt := 1551) E dL_law_1516 (by decide) (fun _ => ?_) (fun c => absurd c (by decide))
    refine r_goto (tgt := 1916) E dL_law_1551 (by decide) ?_
    refine fmW.few (L' := [some (.ref b), some (.ref x), some (.ref m), some (.ref o), some (.ref od), some (.int (nI i)), none, some (.double 0), none, none]) (fmFew_n (L := [some (.ref b), some (.ref x), some (.ref m), some (.ref o), some (.ref od), some (.int (nI i)), some (.int (nI 1)), some (.double 0), none, none]) 6) ?_
    refine fmW.few (L' := [some (.ref b), some (.ref x), some (.ref m), some (.ref o), some (.ref od), some (.int (nI i)), none, none, none, none]) (fmFew_n (L := [some (.ref b), some (.ref x), some (.ref m), some (.ref o), some (.ref od), some (.int (nI i)), none, some (.double 0), none, none]) 7) ?_
    exact kk _ _ _ _ ⟨hL2, hS2⟩
set_option maxHeartbeats 4000000 in
theorem lc_22 (G : fmG) (hl : (fmLn G).stackTraces = false) {Γ : fmC} (E : fmE G Γ cL_law 10 "FlintMineLaw" "law" ret room_1 []) {h : fmHp} {x m o od b L : Nat} {xs : Nat → Int32} {a : DA} {S : DS} {M : MSt} (hI : LI G h x m o od b L xs a S M) (hL : L ≤ 96) {i : Nat} (hi : i + 4 ≤ L) {kc ks : Nat} (kk : ∀ (h' : fmHp) (a' : DA) (S' : DS) (M' : MSt), LI G h' x m o od b L xs a' S' M' → fmW G Γ h' kc ks 1916 [some (.ref b), some (.ref x), some (.ref m), some (.ref o), some (.ref od), some (.int (nI i)), none, none, none, none] []) : fmW G Γ h (kc + 4700) (ks + 34000) 1554 [some (.ref b), some (.ref x), some (.ref m), some (.ref o), some (.ref od), some (.int (nI i)), none, none, none, none] [] := by
  obtain ⟨e350, eK8, e351, eP6, eN, hk8⟩ := hI.k
  have hkB := hI.kB
  obtain ⟨hLH, hSR⟩ := hI
  obtain ⟨hC, hD, hm, hdis, ⟨f0, ho⟩, ⟨g0, hod⟩, hb⟩ := id hLH
  obtain ⟨-, s4, -, -, s7, s6b, s8, s12, s60, s14, sch, ⟨fo, hfo, hfo31⟩, sf, s5, s6, ⟨qa, s13⟩, ⟨qw, s15⟩, ⟨qp, s16⟩⟩ := id hSR
  refine r_aload_n E dL_law_1554 rfl ?_
  obtain ⟨d0, dh0, w0, pm0, X0, W0, hx0, -⟩ := id hD
  have hn9 : vf_n64 (FP.f2d (FP.fdiv (FP.i2f (nI (sSt S.N (nI 0)))) 1115684864)) := (vf_chalk ⟨sSt S.N (nI 0), Nat.lt_succ_of_le (sCount_le _ 64)⟩).2
  refine r_callV1 (v1 := .float (FP.fdiv (FP.i2f (nI (sSt S.N (nI 0)))) 1115684864)) E (jn_chalk G hl h hC hD hk8) mX1_chalk q344 q345 q346 (fun H a1 => fm_rc (ci := 1) (C := RX1) (T := TX1) (N := 9) a1 rfl E.v hx0) rfl rfl (Nat.le_of_ble_eq_true rfl) (Nat.le_of_ble_eq_true rfl) (Nat.le_of_ble_eq_true rfl) dL_law_1555 kc ks (show kc + 0 ≤ kc + 4700 by omega) (show ks + 0 ≤ ks + 34000 by omega) ?_
  refine r_f2d E hn9 dL_law_1558 ?_
  refine r_dstore E [some (.ref b), some (.ref x), some (.ref m), some (.ref o), some (.ref od), some (.int (nI i)), some (.double (FP.f2d (FP.fdiv (FP.i2f (nI (sSt S.N (nI 0)))) 1115684864))), none, none, none] dL_law_1559 rfl rfl ?_
  refine r_hp (h' := mdl m M h) hm.symm ?_
  refine r_aload_n E dL_law_1561 rfl ?_
  refine r_callV1 (v1 := .float (FP.fdiv (FP.i2f (nI (sSt (M.2 1) (nI 0)))) 1115684864)) E (ct_X4_chalk G hl m M h) mX4_chalk q2208 q2209 q2210 (fun H a1 => fm_rc (ci := 0) (C := RX4) (T := TX4) (N := 21) a1 rfl E.v mdl_o) rfl rfl (Nat.le_of_ble_eq_true rfl) (Nat.le_of_ble_eq_true rfl) (Nat.le_of_ble_eq_true rfl) dL_law_1562 kc ks (Nat.le_refl _) (Nat.le_refl _) ?_
  rw [eN]
  refine r_f2d E hn9 dL_law_1565 ?_
  refine r_dstore E [some (.ref b), some (.ref x), some (.ref m), some (.ref o), some (.ref od), some (.int (nI i)), some (.double (FP.f2d (FP.fdiv (FP.i2f (nI (sSt S.N (nI 0)))) 1115684864))), none, some (.double (FP.f2d (FP.fdiv (FP.i2f (nI (sSt S.N (nI 0)))) 1115684864))), none] dL_law_1566 rfl rfl ?_
  refine r_dload E dL_law_1568 rfl ?_
  refine r_dload E dL_law_1570 rfl ?_
  refine r_dcmpl E dL_law_1572 ?_
  refine r_if_eq (tgt := 1594) E dL_law_1573 (by decide) (fun _ => ?_) (fun c1 => ?_)
  · refine r_goto (tgt := 1916) E dL_law_1594 (by decide) ?_
    refine fmW.few (L' := [some (.ref b), some (.ref x), some (.ref m), some (.ref o), some (.ref od), some (.int (nI i)), none, none, some (.double (FP.f2d (FP.fdiv (FP.i2f (nI (sSt S.N (nI 0)))) 1115684864))), none]) (fmFew_n (L := [some (.ref b), some (.ref x), some (.ref m), some (.ref o), some (.ref od), some (.int (nI i)), some (.double (FP.f2d (FP.fdiv (FP.i2f (nI (sSt S.N (nI 0)))) 1115684864))), none, some (.double (FP.f2d (FP.fdiv (FP.i2f (nI (sSt S.N (nI 0)))) 1115684864))), none]) 6) ?_
    refine fmW.few (L' := [some (.ref b), some (.ref x), some (.ref m), some (.ref o), some (.ref od), some (.int (nI i)), none, none, none, none]) (fmFew_n (L := [some (.ref b), some (.ref x), some (.ref m), some (.ref o), some (.ref od), some (.int (nI i)), none, none, some (.double (FP.f2d (FP.fdiv (FP.i2f (nI (sSt S.N (nI 0)))) 1115684864))), none]) 8) ?_
    exact kk _ _ _ _ ⟨(hLH.m _).1, hSR.up0 _⟩
  · refine r_dload E dL_law_1576 rfl ?_
    refine r_dload E dL_law_1578 rfl ?_
    refine r_dcmpl E dL_law_1580 ?_
    refine r_if_eq (tgt := 1592) E dL_law_1581 (by decide) (fun c2 => absurd c2 c1) (fun _ => ?_)
    refine r_dload E dL_law_1584 rfl ?_
    refine r_dload E dL_law_1586 rfl ?_
    refine r_dcmpl E dL_law_1588 ?_
    refine r_if_ne (tgt := 1594) E dL_law_1589 (by decide) (fun _ => ?_) (fun c2 => absurd c2 c1)
    refine r_goto (tgt := 1916) E dL_law_1594 (by decide) ?_
    refine fmW.few (L' := [some (.ref b), some (.ref x), some (.ref m), some (.ref o), some (.ref od), some (.int (nI i)), none, none, some (.double (FP.f2d (FP.fdiv (FP.i2f (nI (sSt S.N (nI 0)))) 1115684864))), none]) (fmFew_n (L := [some (.ref b), some (.ref x), some (.ref m), some (.ref o), some (.ref od), some (.int (nI i)), some (.double (FP.f2d (FP.fdiv (FP.i2f (nI (sSt S.N (nI 0)))) 1115684864))), none, some (.double (FP.f2d (FP.fdiv (FP.i2f (nI (sSt S.N (nI 0)))) 1115684864))), none]) 6) ?_
    refine fmW.few (L' := [some (.ref b), some (.ref x), some (.ref m), some (.ref o), some (.ref od), some (.int (nI i)), none, none, none, none]) (fmFew_n (L := [some (.ref b), some (.ref x), some (.ref m), some (.ref o), some (.ref od), some (.int (nI i)), none, none, some (.double (FP.f2d (FP.fdiv (FP.i2f (nI (sSt S.N (nI 0)))) 1115684864))), none]) 8) ?_
    exact kk _ _ _ _ ⟨(hLH.m _).1, hSR.up0 _⟩
set_option maxHeartbeats 4000000 in
theorem lc_23 (G : fmG) (hl : (fmLn G).stackTraces = false) {Γ : fmC} (E : fmE G Γ cL_law 10 "FlintMineLaw" "law" ret room_1 []) {h : fmHp} {x m o od b L : Nat} {xs : Nat → Int32} {a : DA} {S : DS} {M : MSt} (hI : LI G h x m o od b L xs a S M) (hL : L ≤ 96) {i : Nat} (hi : i + 4 ≤ L) {kc ks : Nat} (kk : ∀ (h' : fmHp) (a' : DA) (S' : DS) (M' : MSt), LI G h' x m o od b L xs a' S' M' → fmW G Γ h' kc ks 1916 [some (.ref b), some (.ref x), some (.ref m), some (.ref o), some (.ref od), some (.int (nI i)), none, none, none, none] []) : fmW G Γ h (kc + 4700) (ks + 34000) 1597 [some (.ref b), some (.ref x), some (.ref m), some (.ref o), some (.ref od), some (.int (nI i)), none, none, none, none] [] := by
  obtain ⟨e350, eK8, e351, eP6, eN, hk8⟩ := hI.k
  have hkB := hI.kB
  obtain ⟨hLH, hSR⟩ := hI
  obtain ⟨hC, hD, hm, hdis, ⟨f0, ho⟩, ⟨g0, hod⟩, hb⟩ := id hLH
  obtain ⟨-, s4, -, -, s7, s6b, s8, s12, s60, s14, sch, ⟨fo, hfo, hfo31⟩, sf, s5, s6, ⟨qa, s13⟩, ⟨qw, s15⟩, ⟨qp, s16⟩⟩ := id hSR
  skip
  refine r_aload_n E dL_law_1597 rfl ?_
  refine r_aload_n E dL_law_1598 rfl ?_
  refine r_iload E dL_law_1599 rfl ?_
  refine r_iconst E (nI 1) dL_law_1601 (by decide) ?_
  refine r_iaddN E dL_law_1602 ?_
  refine r_iald E hb (by omega) (by omega) dL_law_1603 ?_
  refine r_i2c E dL_law_1604 ?_
  obtain ⟨k0, hk0, hkc⟩ : ∃ k0, k0 < 65536 ∧ ((xs (i + 1)).toUInt32 % 65536).toInt32 = nI k0 := ⟨_, Nat.mod_lt _ (by decide), pk_char _⟩
  refine r_top (v' := .int (nI k0)) (congrArg Value.int hkc) ?_
  refine r_aload_n E dL_law_1605 rfl ?_
  refine r_callSH E (w_feed G hl h hC hD hk8 o f0 ho s60 k0 hk0) mX0_feed q77 q1385 q1386 rfl rfl (Nat.le_of_ble_eq_true rfl) (Nat.le_of_ble_eq_true rfl) (Nat.le_of_ble_eq_true rfl) dL_law_1606 kc ks (show kc + 2 ≤ kc + 4700 by omega) (show ks + 1000 ≤ ks + 34000 by omega) (fun v' h1 q => ?_) (fun _ _ _ q => q.elim)
  obtain ⟨rfl, hOP⟩ := q
  obtain ⟨a1, hL1, f1, ho1, hans⟩ := hLH.w hOP
  refine r_istore E [some (.ref b), some (.ref x), some (.ref m), some (.ref o), some (.ref od), some (.int (nI i)), some (.int (nI (kf 1 2 9 (if S.len < 60 then 0 else 1)))), none, none, none] dL_law_1609 rfl rfl ?_
  refine r_hp (h' := mdl m M h1) hL1.2.2.1.symm ?_
  refine r_aload_n E dL_law_1611 rfl ?_
  refine r_aload_n E dL_law_1612 rfl ?_
  refine r_iload E dL_law_1613 rfl ?_
  refine r_iconst E (nI 1) dL_law_1615 (by decide) ?_
  refine r_iaddN E dL_law_1616 ?_
  refine r_iald E (hL1.m M).1.2.2.2.2.2.2 (by omega) (by omega) dL_law_1617 ?_
  refine r_i2c E dL_law_1618 ?_
  refine r_top (v' := .int (nI k0)) (congrArg Value.int hkc) ?_
  refine r_callV1 (v1 := .int (if S.len = 60 then nI 0 else nI (S.len + 1))) E (ct_X4_feed G hl m M h1 S.len s12 s60 (nI k0)) mX4_feed q2213 q2214 q2215 (fun H a1 => fm_rc (ci := 0) (C := RX4) (T := TX4) (N := 21) a1 rfl E.v mdl_o) rfl rfl (Nat.le_of_ble_eq_true rfl) (Nat.le_of_ble_eq_true rfl) (Nat.le_of_ble_eq_true rfl) dL_law_1619 kc ks (Nat.le_refl _) (Nat.le_refl _) ?_
  obtain ⟨hS2, hth, hbv⟩ := hSR.feed (ch := nI k0) hk0 (by rw [pk_char, pk_tn (by omega), Nat.mod_eq_of_lt hk0])
  obtain ⟨M2, hM2⟩ : ∃ M2 : MSt, M2 = uFeed M S.len (nI k0) := ⟨_, rfl⟩
  rw [← hM2] at hS2 hth ⊢
  have hL2 := (hL1.m M2).1
  have ho2 := hL1.o ho1 M2
  refine r_istore E [some (.ref b), some (.ref x), some (.ref m), some (.ref o), some (.ref od), some (.int (nI i)), some (.int (nI (kf 1 2 9 (if S.len < 60 then 0 else 1)))), some (.int (if S.len = 60 then nI 0 else nI (S.len + 1))), none, none] dL_law_1622 rfl rfl ?_
  refine r_aload_n E dL_law_1624 rfl ?_
  refine r_callV1 (v1 := .int (M2.1 0)) E (ct_X4_thrown G hl m M2 h1) mX4_thrown q1951 q1952 q1953 (fun H a1 => fm_rc (ci := 0) (C := RX4) (T := TX4) (N := 21) a1 rfl E.v mdl_o) rfl rfl (Nat.le_of_ble_eq_true rfl) (Nat.le_of_ble_eq_true rfl) (Nat.le_of_ble_eq_true rfl) dL_law_1625 kc ks (Nat.le_refl _) (Nat.le_refl _) ?_
  refine r_top (v' := .int (nI (kf 1 2 9 (if S.len < 60 then 0 else 1)))) (congrArg Value.int hth) ?_
  refine r_iload E dL_law_1628 rfl ?_
  refine r_icmp_eq (tgt := 1635) E dL_law_1630 (by decide) (fun _ => ?_) (fun c => absurd rfl c)
  refine r_iload E dL_law_1635 rfl ?_
  refine r_if_ne (tgt := 1652) E dL_law_1637 (by decide) (fun c => ?_) (fun c => ?_)
  · refine r_goto (tgt := 1916) E dL_law_1652 (by decide) ?_
    refine fmW.few (L' := [some (.ref b), some (.ref x), some (.ref m), some (.ref o), some (.ref od), some (.int (nI i)), none, some (.int (if S.len = 60 then nI 0 else nI (S.len + 1))), none, none]) (fmFew_n (L := [some (.ref b), some (.ref x), some (.ref m), some (.ref o), some (.ref od), some (.int (nI i)), some (.int (nI (kf 1 2 9 (if S.len < 60 then 0 else 1)))), some (.int (if S.len = 60 then nI 0 else nI (S.len + 1))), none, none]) 6) ?_
    refine fmW.few (L' := [some (.ref b), some (.ref x), some (.ref m), some (.ref o), some (.ref od), some (.int (nI i)), none, none, none, none]) (fmFew_n (L := [some (.ref b), some (.ref x), some (.ref m), some (.ref o), some (.ref od), some (.int (nI i)), none, some (.int (if S.len = 60 then nI 0 else nI (S.len + 1))), none, none]) 7) ?_
    exact kk _ _ _ _ ⟨hL2, hS2⟩
  · have hc0 := kf_0 (by decide) (by decide) (by decide) c
    refine r_aload_n E dL_law_1640 rfl ?_
    refine r_iconst E (nI 0) dL_law_1641 (by decide) ?_
    refine r_lald E ho2 (by decide) (by decide) dL_law_1642 ?_
    refine r_iload E dL_law_1643 rfl ?_
    refine r_i2l E dL_law_1645 ?_
    refine r_lcmp E dL_law_1646 ?_
    refine r_if_eq (tgt := 1652) E dL_law_1647 (by decide) (fun _ => ?_) (fun c2 => absurd (lcmp_0.mpr ((hans hc0).trans (congrArg Int32.toInt64 (hbv hc0).symm))) c2)
    refine r_goto (tgt := 1916) E dL_law_1652 (by decide) ?_
    refine fmW.few (L' := [some (.ref b), some (.ref x), some (.ref m), some (.ref o), some (.ref od), some (.int (nI i)), none, some (.int (if S.len = 60 then nI 0 else nI (S.len + 1))), none, none]) (fmFew_n (L := [some (.ref b), some (.ref x), some (.ref m), some (.ref o), some (.ref od), some (.int (nI i)), some (.int (nI (kf 1 2 9 (if S.len < 60 then 0 else 1)))), some (.int (if S.len = 60 then nI 0 else nI (S.len + 1))), none, none]) 6) ?_
    refine fmW.few (L' := [some (.ref b), some (.ref x), some (.ref m), some (.ref o), some (.ref od), some (.int (nI i)), none, none, none, none]) (fmFew_n (L := [some (.ref b), some (.ref x), some (.ref m), some (.ref o), some (.ref od), some (.int (nI i)), none, some (.int (if S.len = 60 then nI 0 else nI (S.len + 1))), none, none]) 7) ?_
    exact kk _ _ _ _ ⟨hL2, hS2⟩
set_option maxHeartbeats 4000000 in
theorem lc_24 (G : fmG) (hl : (fmLn G).stackTraces = false) {Γ : fmC} (E : fmE G Γ cL_law 10 "FlintMineLaw" "law" ret room_1 []) {h : fmHp} {x m o od b L : Nat} {xs : Nat → Int32} {a : DA} {S : DS} {M : MSt} (hI : LI G h x m o od b L xs a S M) (hL : L ≤ 96) {i : Nat} (hi : i + 4 ≤ L) {kc ks : Nat} (kk : ∀ (h' : fmHp) (a' : DA) (S' : DS) (M' : MSt), LI G h' x m o od b L xs a' S' M' → fmW G Γ h' kc ks 1916 [some (.ref b), some (.ref x), some (.ref m), some (.ref o), some (.ref od), some (.int (nI i)), none, none, none, none] []) : fmW G Γ h (kc + 4700) (ks + 34000) 1655 [some (.ref b), some (.ref x), some (.ref m), some (.ref o), some (.ref od), some (.int (nI i)), none, none, none, none] [] := by
  obtain ⟨e350, eK8, e351, eP6, eN, hk8⟩ := hI.k
  have hkB := hI.kB
  obtain ⟨hLH, hSR⟩ := hI
  obtain ⟨hC, hD, hm, hdis, ⟨f0, ho⟩, ⟨g0, hod⟩, hb⟩ := id hLH
  obtain ⟨-, s4, -, -, s7, s6b, s8, s12, s60, s14, sch, ⟨fo, hfo, hfo31⟩, sf, s5, s6, ⟨qa, s13⟩, ⟨qw, s15⟩, ⟨qp, s16⟩⟩ := id hSR
  skip
  refine r_aload_n E dL_law_1655 rfl ?_
  refine r_aload_n E dL_law_1656 rfl ?_
  refine r_callSH E (w_read G hl h hC hD hk8 o f0 ho s60 sch) mX0_read q77 q1470 q1471 rfl rfl (Nat.le_of_ble_eq_true rfl) (Nat.le_of_ble_eq_true rfl) (Nat.le_of_ble_eq_true rfl) dL_law_1657 kc ks (show kc + 4600 ≤ kc + 4700 by omega) (show ks + 33000 ≤ ks + 34000 by omega) (fun v' h1 q => ?_) (fun _ _ _ q => q.elim)
  obtain ⟨rfl, hOP⟩ := q
  obtain ⟨a1, hL1, f1, ho1, hans⟩ := hLH.w hOP
  refine r_istore E [some (.ref b), some (.ref x), some (.ref m), some (.ref o), some (.ref od), some (.int (nI i)), some (.int (nI (kf 9 1 2 (rdC S)))), none, none, none] dL_law_1660 rfl rfl ?_
  refine r_hp (h' := mdl m M h1) hL1.2.2.1.symm ?_
  refine r_aload_n E dL_law_1662 rfl ?_
  refine r_hp (h' := mdl m (pSt M.1 qa qw qp (M.1 17) (M.1 18) (M.1 19), M.2) h1) (by rw [pSt_id s13 s15 s16]) ?_
  refine r_callV E (ct_X4_read G hl m M.2 h1 M.1 qa qw qp (M.1 17) (M.1 18) (M.1 19) S.len s12 s60 S.kp s4 hk8 s8 (fun j hj => by rw [s14]; obtain ⟨k, hk, hT⟩ := sch j hj; rw [hT]; exact pk_charN hk) (RI_of e350 eK8 e351 eP6).1) mX4_read q2217 q2218 q2219 (fun H a1 => fm_rc (ci := 0) (C := RX4) (T := TX4) (N := 21) a1 rfl E.v mdl_o) rfl rfl (Nat.le_of_ble_eq_true rfl) (Nat.le_of_ble_eq_true rfl) (Nat.le_of_ble_eq_true rfl) dL_law_1663 kc ks (Nat.le_refl _) (Nat.le_refl _) (fun v' h2 q => ?_) (fun _ _ _ q => q.elim)
  obtain ⟨s', A', rfl, hO⟩ := q
  obtain ⟨hS2, hth, bv, rfl, hbv⟩ := hSR.read hO
  obtain ⟨M2, hM2⟩ : ∃ M2 : MSt, M2 = (s', A') := ⟨_, rfl⟩
  change (s', A').1 0 = _ at hth
  rw [← hM2] at hS2 hth ⊢
  have hL2 := (hL1.m M2).1
  have ho2 := hL1.o ho1 M2
  refine r_istore E [some (.ref b), some (.ref x), some (.ref m), some (.ref o), some (.ref od), some (.int (nI i)), some (.int (nI (kf 9 1 2 (rdC S)))), some (.int bv), none, none] dL_law_1666 rfl rfl ?_
  refine r_aload_n E dL_law_1668 rfl ?_
  refine r_callV1 (v1 := .int (M2.1 0)) E (ct_X4_thrown G hl m M2 h1) mX4_thrown q1951 q1952 q1953 (fun H a1 => fm_rc (ci := 0) (C := RX4) (T := TX4) (N := 21) a1 rfl E.v mdl_o) rfl rfl (Nat.le_of_ble_eq_true rfl) (Nat.le_of_ble_eq_true rfl) (Nat.le_of_ble_eq_true rfl) dL_law_1669 kc ks (Nat.le_refl _) (Nat.le_refl _) ?_
  refine r_top (v' := .int (nI (kf 9 1 2 (rdC S)))) (congrArg Value.int hth) ?_
  refine r_iload E dL_law_1672 rfl ?_
  refine r_icmp_eq (tgt := 1679) E dL_law_1674 (by decide) (fun _ => ?_) (fun c => absurd rfl c)
  refine r_iload E dL_law_1679 rfl ?_
  refine r_if_ne (tgt := 1696) E dL_law_1681 (by decide) (fun c => ?_) (fun c => ?_)
  · refine r_goto (tgt := 1916) E dL_law_1696 (by decide) ?_
    refine fmW.few (L' := [some (.ref b), some (.ref x), some (.ref m), some (.ref o), some (.ref od), some (.int (nI i)), none, some (.int bv), none, none]) (fmFew_n (L := [some (.ref b), some (.ref x), some (.ref m), some (.ref o), some (.ref od), some (.int (nI i)), some (.int (nI (kf 9 1 2 (rdC S)))), some (.int bv), none, none]) 6) ?_
    refine fmW.few (L' := [some (.ref b), some (.ref x), some (.ref m), some (.ref o), some (.ref od), some (.int (nI i)), none, none, none, none]) (fmFew_n (L := [some (.ref b), some (.ref x), some (.ref m), some (.ref o), some (.ref od), some (.int (nI i)), none, some (.int bv), none, none]) 7) ?_
    exact kk _ _ _ _ ⟨hL2, hS2⟩
  · have hc0 := kf_0 (by decide) (by decide) (by decide) c
    refine r_aload_n E dL_law_1684 rfl ?_
    refine r_iconst E (nI 0) dL_law_1685 (by decide) ?_
    refine r_lald E ho2 (by decide) (by decide) dL_law_1686 ?_
    refine r_iload E dL_law_1687 rfl ?_
    refine r_i2l E dL_law_1689 ?_
    refine r_lcmp E dL_law_1690 ?_
    refine r_if_eq (tgt := 1696) E dL_law_1691 (by decide) (fun _ => ?_) (fun c2 => absurd (lcmp_0.mpr ((hans hc0).trans (congrArg Int32.toInt64 (hbv hc0).symm))) c2)
    refine r_goto (tgt := 1916) E dL_law_1696 (by decide) ?_
    refine fmW.few (L' := [some (.ref b), some (.ref x), some (.ref m), some (.ref o), some (.ref od), some (.int (nI i)), none, some (.int bv), none, none]) (fmFew_n (L := [some (.ref b), some (.ref x), some (.ref m), some (.ref o), some (.ref od), some (.int (nI i)), some (.int (nI (kf 9 1 2 (rdC S)))), some (.int bv), none, none]) 6) ?_
    refine fmW.few (L' := [some (.ref b), some (.ref x), some (.ref m), some (.ref o), some (.ref od), some (.int (nI i)), none, none, none, none]) (fmFew_n (L := [some (.ref b), some (.ref x), some (.ref m), some (.ref o), some (.ref od), some (.int (nI i)), none, some (.int bv), none, none]) 7) ?_
    exact kk _ _ _ _ ⟨hL2, hS2⟩
set_option maxHeartbeats 4000000 in
theorem lc_25 (G : fmG) (hl : (fmLn G).stackTraces = false) {Γ : fmC} (E : fmE G Γ cL_law 10 "FlintMineLaw" "law" ret room_1 []) {h : fmHp} {x m o od b L : Nat} {xs : Nat → Int32} {a : DA} {S : DS} {M : MSt} (hI : LI G h x m o od b L xs a S M) (hL : L ≤ 96) {i : Nat} (hi : i + 4 ≤ L) {kc ks : Nat} (kk : ∀ (h' : fmHp) (a' : DA) (S' : DS) (M' : MSt), LI G h' x m o od b L xs a' S' M' → fmW G Γ h' kc ks 1916 [some (.ref b), some (.ref x), some (.ref m), some (.ref o), some (.ref od), some (.int (nI i)), none, none, none, none] []) : fmW G Γ h (kc + 4700) (ks + 34000) 1699 [some (.ref b), some (.ref x), some (.ref m), some (.ref o), some (.ref od), some (.int (nI i)), none, none, none, none] [] := by
  obtain ⟨e350, eK8, e351, eP6, eN, hk8⟩ := hI.k
  have hkB := hI.kB
  obtain ⟨hLH, hSR⟩ := hI
  obtain ⟨hC, hD, hm, hdis, ⟨f0, ho⟩, ⟨g0, hod⟩, hb⟩ := id hLH
  obtain ⟨-, s4, -, -, s7, s6b, s8, s12, s60, s14, sch, ⟨fo, hfo, hfo31⟩, sf, s5, s6, ⟨qa, s13⟩, ⟨qw, s15⟩, ⟨qp, s16⟩⟩ := id hSR
  skip
  refine r_aload_n E dL_law_1699 rfl ?_
  refine r_aload_n E dL_law_1700 rfl ?_
  refine r_callSH E (w_faultPosition G hl h hC hD hk8 o f0 ho fo hfo hfo31) mX0_faultPosition q77 q1824 q1825 rfl rfl (Nat.le_of_ble_eq_true rfl) (Nat.le_of_ble_eq_true rfl) (Nat.le_of_ble_eq_true rfl) dL_law_1701 kc ks (show kc + 1 ≤ kc + 4700 by omega) (show ks + 6 ≤ ks + 34000 by omega) (fun v' h1 q => ?_) (fun _ _ _ q => q.elim)
  obtain ⟨rfl, hOP⟩ := q
  obtain ⟨a1, hL1, f1, ho1, hans⟩ := hLH.w hOP
  refine r_istore E [some (.ref b), some (.ref x), some (.ref m), some (.ref o), some (.ref od), some (.int (nI i)), some (.int (nI (kf 1 2 9 (aFl fo).1))), none, none, none] dL_law_1704 rfl rfl ?_
  refine r_hp (h' := mdl m M h1) hL1.2.2.1.symm ?_
  refine r_aload_n E dL_law_1706 rfl ?_
  refine r_callV1 (v1 := .int (aAns (aFault M fo))) E (ct_X4_faultPosition G hl m M h1 fo (sf.trans hfo) hfo31) mX4_faultPosition q2252 q2253 q2254 (fun H a1 => fm_rc (ci := 0) (C := RX4) (T := TX4) (N := 21) a1 rfl E.v mdl_o) rfl rfl (Nat.le_of_ble_eq_true rfl) (Nat.le_of_ble_eq_true rfl) (Nat.le_of_ble_eq_true rfl) dL_law_1707 kc ks (Nat.le_refl _) (Nat.le_refl _) ?_
  have hrr := aFault_fl M fo
  obtain ⟨hS2, hth⟩ := hSR.q (r := aFault M fo) (by rw [hrr.1]; exact C1.two cd_fl)
  rw [hrr.1] at hth
  obtain ⟨M2, hM2⟩ : ∃ M2 : MSt, M2 = qSt M (aFault M fo) := ⟨_, rfl⟩
  rw [← hM2] at hS2 hth ⊢
  have hL2 := (hL1.m M2).1
  have ho2 := hL1.o ho1 M2
  refine r_istore E [some (.ref b), some (.ref x), some (.ref m), some (.ref o), some (.ref od), some (.int (nI i)), some (.int (nI (kf 1 2 9 (aFl fo).1))), some (.int (aAns (aFault M fo))), none, none] dL_law_1710 rfl rfl ?_
  refine r_aload_n E dL_law_1712 rfl ?_
  refine r_callV1 (v1 := .int (M2.1 0)) E (ct_X4_thrown G hl m M2 h1) mX4_thrown q1951 q1952 q1953 (fun H a1 => fm_rc (ci := 0) (C := RX4) (T := TX4) (N := 21) a1 rfl E.v mdl_o) rfl rfl (Nat.le_of_ble_eq_true rfl) (Nat.le_of_ble_eq_true rfl) (Nat.le_of_ble_eq_true rfl) dL_law_1713 kc ks (Nat.le_refl _) (Nat.le_refl _) ?_
  refine r_top (v' := .int (nI (kf 1 2 9 (aFl fo).1))) (congrArg Value.int hth) ?_
  refine r_iload E dL_law_1716 rfl ?_
  refine r_icmp_eq (tgt := 1723) E dL_law_1718 (by decide) (fun _ => ?_) (fun c => absurd rfl c)
  refine r_iload E dL_law_1723 rfl ?_
  refine r_if_ne (tgt := 1740) E dL_law_1725 (by decide) (fun c => ?_) (fun c => ?_)
  · refine r_goto (tgt := 1916) E dL_law_1740 (by decide) ?_
    refine fmW.few (L' := [some (.ref b), some (.ref x), some (.ref m), some (.ref o), some (.ref od), some (.int (nI i)), none, some (.int (aAns (aFault M fo))), none, none]) (fmFew_n (L := [some (.ref b), some (.ref x), some (.ref m), some (.ref o), some (.ref od), some (.int (nI i)), some (.int (nI (kf 1 2 9 (aFl fo).1))), some (.int (aAns (aFault M fo))), none, none]) 6) ?_
    refine fmW.few (L' := [some (.ref b), some (.ref x), some (.ref m), some (.ref o), some (.ref od), some (.int (nI i)), none, none, none, none]) (fmFew_n (L := [some (.ref b), some (.ref x), some (.ref m), some (.ref o), some (.ref od), some (.int (nI i)), none, some (.int (aAns (aFault M fo))), none, none]) 7) ?_
    exact kk _ _ _ _ ⟨hL2, hS2⟩
  · have hc0 := kf_0 (by decide) (by decide) (by decide) c
    refine r_aload_n E dL_law_1728 rfl ?_
    refine r_iconst E (nI 0) dL_law_1729 (by decide) ?_
    refine r_lald E ho2 (by decide) (by decide) dL_law_1730 ?_
    refine r_iload E dL_law_1731 rfl ?_
    refine r_i2l E dL_law_1733 ?_
    refine r_lcmp E dL_law_1734 ?_
    refine r_if_eq (tgt := 1740) E dL_law_1735 (by decide) (fun _ => ?_) (fun c2 => absurd (lcmp_0.mpr ((hans hc0).trans (congrArg Int32.toInt64 hrr.2.symm))) c2)
    refine r_goto (tgt := 1916) E dL_law_1740 (by decide) ?_
    refine fmW.few (L' := [some (.ref b), some (.ref x), some (.ref m), some (.ref o), some (.ref od), some (.int (nI i)), none, some (.int (aAns (aFault M fo))), none, none]) (fmFew_n (L := [some (.ref b), some (.ref x), some (.ref m), some (.ref o), some (.ref od), some (.int (nI i)), some (.int (nI (kf 1 2 9 (aFl fo).1))), some (.int (aAns (aFault M fo))), none, none]) 6) ?_
    refine fmW.few (L' := [some (.ref b), some (.ref x), some (.ref m), some (.ref o), some (.ref od), some (.int (nI i)), none, none, none, none]) (fmFew_n (L := [some (.ref b), some (.ref x), some (.ref m), some (.ref o), some (.ref od), some (.int (nI i)), none, some (.int (aAns (aFault M fo))), none, none]) 7) ?_
    exact kk _ _ _ _ ⟨hL2, hS2⟩
set_option maxHeartbeats 4000000 in
theorem lc_26 (G : fmG) (hl : (fmLn G).stackTraces = false) {Γ : fmC} (E : fmE G Γ cL_law 10 "FlintMineLaw" "law" ret room_1 []) {h : fmHp} {x m o od b L : Nat} {xs : Nat → Int32} {a : DA} {S : DS} {M : MSt} (hI : LI G h x m o od b L xs a S M) (hL : L ≤ 96) {i : Nat} (hi : i + 4 ≤ L) {kc ks : Nat} (kk : ∀ (h' : fmHp) (a' : DA) (S' : DS) (M' : MSt), LI G h' x m o od b L xs a' S' M' → fmW G Γ h' kc ks 1916 [some (.ref b), some (.ref x), some (.ref m), some (.ref o), some (.ref od), some (.int (nI i)), none, none, none, none] []) : fmW G Γ h (kc + 4700) (ks + 34000) 1743 [some (.ref b), some (.ref x), some (.ref m), some (.ref o), some (.ref od), some (.int (nI i)), none, none, none, none] [] := by
  obtain ⟨e350, eK8, e351, eP6, eN, hk8⟩ := hI.k
  have hkB := hI.kB
  obtain ⟨hLH, hSR⟩ := hI
  obtain ⟨hC, hD, hm, hdis, ⟨f0, ho⟩, ⟨g0, hod⟩, hb⟩ := id hLH
  obtain ⟨-, s4, -, -, s7, s6b, s8, s12, s60, s14, sch, ⟨fo, hfo, hfo31⟩, sf, s5, s6, ⟨qa, s13⟩, ⟨qw, s15⟩, ⟨qp, s16⟩⟩ := id hSR
  skip
  refine r_aload_n E dL_law_1743 rfl ?_
  refine r_aload_n E dL_law_1744 rfl ?_
  refine r_iload E dL_law_1745 rfl ?_
  refine r_iconst E (nI 1) dL_law_1747 (by decide) ?_
  refine r_iaddN E dL_law_1748 ?_
  refine r_iald E hb (by omega) (by omega) dL_law_1749 ?_
  refine r_if_eq (tgt := 1757) E dL_law_1750 (by decide) (fun c1 => ?_) (fun c1 => ?_)
  · refine r_iconst E (nI 0) dL_law_1757 (by decide) ?_
    refine r_top (v' := .int (bI false)) rfl ?_
    refine r_aload_n E dL_law_1758 rfl ?_
    refine r_callSH E (w_refusal G hl h hC hD hk8 o f0 ho false) mX0_refusal q77 q1831 q1832 rfl rfl (Nat.le_of_ble_eq_true rfl) (Nat.le_of_ble_eq_true rfl) (Nat.le_of_ble_eq_true rfl) dL_law_1759 kc ks (show kc + 1 ≤ kc + 4700 by omega) (show ks + 6 ≤ ks + 34000 by omega) (fun v' h1 q => ?_) (fun _ _ _ q => q.elim)
    obtain ⟨rfl, hOP⟩ := q
    obtain ⟨a1, hL1, f1, ho1, hans⟩ := hLH.w hOP
    refine r_istore E [some (.ref b), some (.ref x), some (.ref m), some (.ref o), some (.ref od), some (.int (nI i)), some (.int (nI (kf 1 2 9 (aRl S.re S.de false).1))), none, none, none] dL_law_1762 rfl rfl ?_
    refine r_hp (h' := mdl m M h1) hL1.2.2.1.symm ?_
    refine r_aload_n E dL_law_1764 rfl ?_
    refine r_aload_n E dL_law_1765 rfl ?_
    refine r_iload E dL_law_1766 rfl ?_
    refine r_iconst E (nI 1) dL_law_1768 (by decide) ?_
    refine r_iaddN E dL_law_1769 ?_
    refine r_iald E (hL1.m M).1.2.2.2.2.2.2 (by omega) (by omega) dL_law_1770 ?_
    refine r_if_eq (tgt := 1778) E dL_law_1771 (by decide) (fun _ => ?_) (fun c9 => absurd c1 c9)
    refine r_iconst E (nI 0) dL_law_1778 (by decide) ?_
    refine r_top (v' := .int (bI false)) rfl ?_
    refine r_callV1 (v1 := .int (aAns (aRefusal M false))) E (ct_X4_refusal G hl m M h1 false) mX4_refusal q2256 q2257 q2258 (fun H a1 => fm_rc (ci := 0) (C := RX4) (T := TX4) (N := 21) a1 rfl E.v mdl_o) rfl rfl (Nat.le_of_ble_eq_true rfl) (Nat.le_of_ble_eq_true rfl) (Nat.le_of_ble_eq_true rfl) dL_law_1779 kc ks (Nat.le_refl _) (Nat.le_refl _) ?_
    have hrr := aRefusal_rl (b := false) s5 s6
    obtain ⟨hS2, hth⟩ := hSR.q (r := aRefusal M false) (by rw [hrr.1]; exact C1.two cd_rl)
    rw [hrr.1] at hth
    obtain ⟨M2, hM2⟩ : ∃ M2 : MSt, M2 = qSt M (aRefusal M false) := ⟨_, rfl⟩
    rw [← hM2] at hS2 hth ⊢
    have hL2 := (hL1.m M2).1
    have ho2 := hL1.o ho1 M2
    refine r_istore E [some (.ref b), some (.ref x), some (.ref m), some (.ref o), some (.ref od), some (.int (nI i)), some (.int (nI (kf 1 2 9 (aRl S.re S.de false).1))), some (.int (aAns (aRefusal M false))), none, none] dL_law_1782 rfl rfl ?_
    refine r_aload_n E dL_law_1784 rfl ?_
    refine r_callV1 (v1 := .int (M2.1 0)) E (ct_X4_thrown G hl m M2 h1) mX4_thrown q1951 q1952 q1953 (fun H a1 => fm_rc (ci := 0) (C := RX4) (T := TX4) (N := 21) a1 rfl E.v mdl_o) rfl rfl (Nat.le_of_ble_eq_true rfl) (Nat.le_of_ble_eq_true rfl) (Nat.le_of_ble_eq_true rfl) dL_law_1785 kc ks (Nat.le_refl _) (Nat.le_refl _) ?_
    refine r_top (v' := .int (nI (kf 1 2 9 (aRl S.re S.de false).1))) (congrArg Value.int hth) ?_
    refine r_iload E dL_law_1788 rfl ?_
    refine r_icmp_eq (tgt := 1795) E dL_law_1790 (by decide) (fun _ => ?_) (fun c => absurd rfl c)
    refine r_iload E dL_law_1795 rfl ?_
    refine r_if_ne (tgt := 1812) E dL_law_1797 (by decide) (fun c => ?_) (fun c => ?_)
    · refine r_goto (tgt := 1916) E dL_law_1812 (by decide) ?_
      refine fmW.few (L' := [some (.ref b), some (.ref x), some (.ref m), some (.ref o), some (.ref od), some (.int (nI i)), none, some (.int (aAns (aRefusal M false))), none, none]) (fmFew_n (L := [some (.ref b), some (.ref x), some (.ref m), some (.ref o), some (.ref od), some (.int (nI i)), some (.int (nI (kf 1 2 9 (aRl S.re S.de false).1))), some (.int (aAns (aRefusal M false))), none, none]) 6) ?_
      refine fmW.few (L' := [some (.ref b), some (.ref x), some (.ref m), some (.ref o), some (.ref od), some (.int (nI i)), none, none, none, none]) (fmFew_n (L := [some (.ref b), some (.ref x), some (.ref m), some (.ref o), some (.ref od), some (.int (nI i)), none, some (.int (aAns (aRefusal M false))), none, none]) 7) ?_
      exact kk _ _ _ _ ⟨hL2, hS2⟩
    · have hc0 := kf_0 (by decide) (by decide) (by decide) c
      refine r_aload_n E dL_law_1800 rfl ?_
      refine r_iconst E (nI 0) dL_law_1801 (by decide) ?_
      refine r_lald E ho2 (by decide) (by decide) dL_law_1802 ?_
      refine r_iload E dL_law_1803 rfl ?_
      refine r_i2l E dL_law_1805 ?_
      refine r_lcmp E dL_law_1806 ?_
      refine r_if_eq (tgt := 1812) E dL_law_1807 (by decide) (fun _ => ?_) (fun c2 => absurd (lcmp_0.mpr ((hans hc0).trans (congrArg Int32.toInt64 hrr.2.symm))) c2)
      refine r_goto (tgt := 1916) E dL_law_1812 (by decide) ?_
      refine fmW.few (L' := [some (.ref b), some (.ref x), some (.ref m), some (.ref o), some (.ref od), some (.int (nI i)), none, some (.int (aAns (aRefusal M false))), none, none]) (fmFew_n (L := [some (.ref b), some (.ref x), some (.ref m), some (.ref o), some (.ref od), some (.int (nI i)), some (.int (nI (kf 1 2 9 (aRl S.re S.de false).1))), some (.int (aAns (aRefusal M false))), none, none]) 6) ?_
      refine fmW.few (L' := [some (.ref b), some (.ref x), some (.ref m), some (.ref o), some (.ref od), some (.int (nI i)), none, none, none, none]) (fmFew_n (L := [some (.ref b), some (.ref x), some (.ref m), some (.ref o), some (.ref od), some (.int (nI i)), none, some (.int (aAns (aRefusal M false))), none, none]) 7) ?_
      exact kk _ _ _ _ ⟨hL2, hS2⟩
  · refine r_iconst E (nI 1) dL_law_1753 (by decide) ?_
    refine r_top (v' := .int (bI true)) rfl ?_
    refine r_goto (tgt := 1758) E dL_law_1754 (by decide) ?_
    refine r_aload_n E dL_law_1758 rfl ?_
    refine r_callSH E (w_refusal G hl h hC hD hk8 o f0 ho true) mX0_refusal q77 q1831 q1832 rfl rfl (Nat.le_of_ble_eq_true rfl) (Nat.le_of_ble_eq_true rfl) (Nat.le_of_ble_eq_true rfl) dL_law_1759 kc ks (show kc + 1 ≤ kc + 4700 by omega) (show ks + 6 ≤ ks + 34000 by omega) (fun v' h1 q => ?_) (fun _ _ _ q => q.elim)
    obtain ⟨rfl, hOP⟩ := q
    obtain ⟨a1, hL1, f1, ho1, hans⟩ := hLH.w hOP
    refine r_istore E [some (.ref b), some (.ref x), some (.ref m), some (.ref o), some (.ref od), some (.int (nI i)), some (.int (nI (kf 1 2 9 (aRl S.re S.de true).1))), none, none, none] dL_law_1762 rfl rfl ?_
    refine r_hp (h' := mdl m M h1) hL1.2.2.1.symm ?_
    refine r_aload_n E dL_law_1764 rfl ?_
    refine r_aload_n E dL_law_1765 rfl ?_
    refine r_iload E dL_law_1766 rfl ?_
    refine r_iconst E (nI 1) dL_law_1768 (by decide) ?_
    refine r_iaddN E dL_law_1769 ?_
    refine r_iald E (hL1.m M).1.2.2.2.2.2.2 (by omega) (by omega) dL_law_1770 ?_
    refine r_if_eq (tgt := 1778) E dL_law_1771 (by decide) (fun c9 => absurd c9 c1) (fun _ => ?_)
    refine r_iconst E (nI 1) dL_law_1774 (by decide) ?_
    refine r_top (v' := .int (bI true)) rfl ?_
    refine r_goto (tgt := 1779) E dL_law_1775 (by decide) ?_
    refine r_callV1 (v1 := .int (aAns (aRefusal M true))) E (ct_X4_refusal G hl m M h1 true) mX4_refusal q2256 q2257 q2258 (fun H a1 => fm_rc (ci := 0) (C := RX4) (T := TX4) (N := 21) a1 rfl E.v mdl_o) rfl rfl (Nat.le_of_ble_eq_true rfl) (Nat.le_of_ble_eq_true rfl) (Nat.le_of_ble_eq_true rfl) dL_law_1779 kc ks (Nat.le_refl _) (Nat.le_refl _) ?_
    have hrr := aRefusal_rl (b := true) s5 s6
    obtain ⟨hS2, hth⟩ := hSR.q (r := aRefusal M true) (by rw [hrr.1]; exact C1.two cd_rl)
    rw [hrr.1] at hth
    obtain ⟨M2, hM2⟩ : ∃ M2 : MSt, M2 = qSt M (aRefusal M true) := ⟨_, rfl⟩
    rw [← hM2] at hS2 hth ⊢
    have hL2 := (hL1.m M2).1
    have ho2 := hL1.o ho1 M2
    refine r_istore E [some (.ref b), some (.ref x), some (.ref m), some (.ref o), some (.ref od), some (.int (nI i)), some (.int (nI (kf 1 2 9 (aRl S.re S.de true).1))), some (.int (aAns (aRefusal M true))), none, none] dL_law_1782 rfl rfl ?_
    refine r_aload_n E dL_law_1784 rfl ?_
    refine r_callV1 (v1 := .int (M2.1 0)) E (ct_X4_thrown G hl m M2 h1) mX4_thrown q1951 q1952 q1953 (fun H a1 => fm_rc (ci := 0) (C := RX4) (T := TX4) (N := 21) a1 rfl E.v mdl_o) rfl rfl (Nat.le_of_ble_eq_true rfl) (Nat.le_of_ble_eq_true rfl) (Nat.le_of_ble_eq_true rfl) dL_law_1785 kc ks (Nat.le_refl _) (Nat.le_refl _) ?_
    refine r_top (v' := .int (nI (kf 1 2 9 (aRl S.re S.de true).1))) (congrArg Value.int hth) ?_
    refine r_iload E dL_law_1788 rfl ?_
    refine r_icmp_eq (tgt := 1795) E dL_law_1790 (by decide) (fun _ => ?_) (fun c => absurd rfl c)
    refine r_iload E dL_law_1795 rfl ?_
    refine r_if_ne (tgt := 1812) E dL_law_1797 (by decide) (fun c => ?_) (fun c => ?_)
    · refine r_goto (tgt := 1916) E dL_law_1812 (by decide) ?_
      refine fmW.few (L' := [some (.ref b), some (.ref x), some (.ref m), some (.ref o), some (.ref od), some (.int (nI i)), none, some (.int (aAns (aRefusal M true))), none, none]) (fmFew_n (L := [some (.ref b), some (.ref x), some (.ref m), some (.ref o), some (.ref od), some (.int (nI i)), some (.int (nI (kf 1 2 9 (aRl S.re S.de true).1))), some (.int (aAns (aRefusal M true))), none, none]) 6) ?_
      refine fmW.few (L' := [some (.ref b), some (.ref x), some (.ref m), some (.ref o), some (.ref od), some (.int (nI i)), none, none, none, none]) (fmFew_n (L := [some (.ref b), some (.ref x), some (.ref m), some (.ref o), some (.ref od), some (.int (nI i)), none, some (.int (aAns (aRefusal M true))), none, none]) 7) ?_
      exact kk _ _ _ _ ⟨hL2, hS2⟩
    · have hc0 := kf_0 (by decide) (by decide) (by decide) c
      refine r_aload_n E dL_law_1800 rfl ?_
      refine r_iconst E (nI 0) dL_law_1801 (by decide) ?_
      refine r_lald E ho2 (by decide) (by decide) dL_law_1802 ?_
      refine r_iload E dL_law_1803 rfl ?_
      refine r_i2l E dL_law_1805 ?_
      refine r_lcmp E dL_law_1806 ?_
      refine r_if_eq (tgt := 1812) E dL_law_1807 (by decide) (fun _ => ?_) (fun c2 => absurd (lcmp_0.mpr ((hans hc0).trans (congrArg Int32.toInt64 hrr.2.symm))) c2)
      refine r_goto (tgt := 1916) E dL_law_1812 (by decide) ?_
      refine fmW.few (L' := [some (.ref b), some (.ref x), some (.ref m), some (.ref o), some (.ref od), some (.int (nI i)), none, some (.int (aAns (aRefusal M true))), none, none]) (fmFew_n (L := [some (.ref b), some (.ref x), some (.ref m), some (.ref o), some (.ref od), some (.int (nI i)), some (.int (nI (kf 1 2 9 (aRl S.re S.de true).1))), some (.int (aAns (aRefusal M true))), none, none]) 6) ?_
      refine fmW.few (L' := [some (.ref b), some (.ref x), some (.ref m), some (.ref o), some (.ref od), some (.int (nI i)), none, none, none, none]) (fmFew_n (L := [some (.ref b), some (.ref x), some (.ref m), some (.ref o), some (.ref od), some (.int (nI i)), none, some (.int (aAns (aRefusal M true))), none, none]) 7) ?_
      exact kk _ _ _ _ ⟨hL2, hS2⟩
set_option maxHeartbeats 4000000 in
theorem lc_27 (G : fmG) (hl : (fmLn G).stackTraces = false) {Γ : fmC} (E : fmE G Γ cL_law 10 "FlintMineLaw" "law" ret room_1 []) {h : fmHp} {x m o od b L : Nat} {xs : Nat → Int32} {a : DA} {S : DS} {M : MSt} (hI : LI G h x m o od b L xs a S M) (hL : L ≤ 96) {i : Nat} (hi : i + 4 ≤ L) {kc ks : Nat} (kk : ∀ (h' : fmHp) (a' : DA) (S' : DS) (M' : MSt), LI G h' x m o od b L xs a' S' M' → fmW G Γ h' kc ks 1916 [some (.ref b), some (.ref x), some (.ref m), some (.ref o), some (.ref od), some (.int (nI i)), none, none, none, none] []) : fmW G Γ h (kc + 4700) (ks + 34000) 1815 [some (.ref b), some (.ref x), some (.ref m), some (.ref o), some (.ref od), some (.int (nI i)), none, none, none, none] [] := by
  obtain ⟨e350, eK8, e351, eP6, eN, hk8⟩ := hI.k
  have hkB := hI.kB
  obtain ⟨hLH, hSR⟩ := hI
  obtain ⟨hC, hD, hm, hdis, ⟨f0, ho⟩, ⟨g0, hod⟩, hb⟩ := id hLH
  obtain ⟨-, s4, -, -, s7, s6b, s8, s12, s60, s14, sch, ⟨fo, hfo, hfo31⟩, sf, s5, s6, ⟨qa, s13⟩, ⟨qw, s15⟩, ⟨qp, s16⟩⟩ := id hSR
  skip
  refine r_aload_n E dL_law_1815 rfl ?_
  refine r_aload_n E dL_law_1816 rfl ?_
  refine r_callSH E (w_undo G hl h hC hD hk8 o f0 ho ) mX0_undo q77 q1838 q1839 rfl rfl (Nat.le_of_ble_eq_true rfl) (Nat.le_of_ble_eq_true rfl) (Nat.le_of_ble_eq_true rfl) dL_law_1817 kc ks (show kc + 1 ≤ kc + 4700 by omega) (show ks + 6 ≤ ks + 34000 by omega) (fun v' h1 q => ?_) (fun _ _ _ q => q.elim)
  obtain ⟨rfl, hOP⟩ := q
  obtain ⟨a1, hL1, f1, ho1, hans⟩ := hLH.w hOP
  refine r_istore E [some (.ref b), some (.ref x), some (.ref m), some (.ref o), some (.ref od), some (.int (nI i)), some (.int (nI (kf 1 2 9 (if S.kp = 0 then 1 else 0)))), none, none, none] dL_law_1820 rfl rfl ?_
  refine r_hp (h' := mdl m M h1) hL1.2.2.1.symm ?_
  refine r_aload_n E dL_law_1822 rfl ?_
  refine r_callV1 (v1 := .int (if S.kp = 0 then nI 0 else nI (S.kp - 1))) E (ct_X4_undo G hl m M h1 S.kp s4 hk8) mX4_undo q2260 q2261 q2262 (fun H a1 => fm_rc (ci := 0) (C := RX4) (T := TX4) (N := 21) a1 rfl E.v mdl_o) rfl rfl (Nat.le_of_ble_eq_true rfl) (Nat.le_of_ble_eq_true rfl) (Nat.le_of_ble_eq_true rfl) dL_law_1823 kc ks (Nat.le_refl _) (Nat.le_refl _) ?_
  obtain ⟨hS2, hth, hbv⟩ := hSR.undo
  obtain ⟨M2, hM2⟩ : ∃ M2 : MSt, M2 = uUndo M S.kp := ⟨_, rfl⟩
  rw [← hM2] at hS2 hth ⊢
  have hL2 := (hL1.m M2).1
  have ho2 := hL1.o ho1 M2
  refine r_istore E [some (.ref b), some (.ref x), some (.ref m), some (.ref o), some (.ref od), some (.int (nI i)), some (.int (nI (kf 1 2 9 (if S.kp = 0 then 1 else 0)))), some (.int (if S.kp = 0 then nI 0 else nI (S.kp - 1))), none, none] dL_law_1826 rfl rfl ?_
  refine r_aload_n E dL_law_1828 rfl ?_
  refine r_callV1 (v1 := .int (M2.1 0)) E (ct_X4_thrown G hl m M2 h1) mX4_thrown q1951 q1952 q1953 (fun H a1 => fm_rc (ci := 0) (C := RX4) (T := TX4) (N := 21) a1 rfl E.v mdl_o) rfl rfl (Nat.le_of_ble_eq_true rfl) (Nat.le_of_ble_eq_true rfl) (Nat.le_of_ble_eq_true rfl) dL_law_1829 kc ks (Nat.le_refl _) (Nat.le_refl _) ?_
  refine r_top (v' := .int (nI (kf 1 2 9 (if S.kp = 0 then 1 else 0)))) (congrArg Value.int hth) ?_
  refine r_iload E dL_law_1832 rfl ?_
  refine r_icmp_eq (tgt := 1839) E dL_law_1834 (by decide) (fun _ => ?_) (fun c => absurd rfl c)
  refine r_iload E dL_law_1839 rfl ?_
  refine r_if_ne (tgt := 1856) E dL_law_1841 (by decide) (fun c => ?_) (fun c => ?_)
  · refine r_goto (tgt := 1916) E dL_law_1856 (by decide) ?_
    refine fmW.few (L' := [some (.ref b), some (.ref x), some (.ref m), some (.ref o), some (.ref od), some (.int (nI i)), none, some (.int (if S.kp = 0 then nI 0 else nI (S.kp - 1))), none, none]) (fmFew_n (L := [some (.ref b), some (.ref x), some (.ref m), some (.ref o), some (.ref od), some (.int (nI i)), some (.int (nI (kf 1 2 9 (if S.kp = 0 then 1 else 0)))), some (.int (if S.kp = 0 then nI 0 else nI (S.kp - 1))), none, none]) 6) ?_
    refine fmW.few (L' := [some (.ref b), some (.ref x), some (.ref m), some (.ref o), some (.ref od), some (.int (nI i)), none, none, none, none]) (fmFew_n (L := [some (.ref b), some (.ref x), some (.ref m), some (.ref o), some (.ref od), some (.int (nI i)), none, some (.int (if S.kp = 0 then nI 0 else nI (S.kp - 1))), none, none]) 7) ?_
    exact kk _ _ _ _ ⟨hL2, hS2⟩
  · have hc0 := kf_0 (by decide) (by decide) (by decide) c
    refine r_aload_n E dL_law_1844 rfl ?_
    refine r_iconst E (nI 0) dL_law_1845 (by decide) ?_
    refine r_lald E ho2 (by decide) (by decide) dL_law_1846 ?_
    refine r_iload E dL_law_1847 rfl ?_
    refine r_i2l E dL_law_1849 ?_
    refine r_lcmp E dL_law_1850 ?_
    refine r_if_eq (tgt := 1856) E dL_law_1851 (by decide) (fun _ => ?_) (fun c2 => absurd (lcmp_0.mpr ((hans hc0).trans (congrArg Int32.toInt64 (hbv hc0).symm))) c2)
    refine r_goto (tgt := 1916) E dL_law_1856 (by decide) ?_
    refine fmW.few (L' := [some (.ref b), some (.ref x), some (.ref m), some (.ref o), some (.ref od), some (.int (nI i)), none, some (.int (if S.kp = 0 then nI 0 else nI (S.kp - 1))), none, none]) (fmFew_n (L := [some (.ref b), some (.ref x), some (.ref m), some (.ref o), some (.ref od), some (.int (nI i)), some (.int (nI (kf 1 2 9 (if S.kp = 0 then 1 else 0)))), some (.int (if S.kp = 0 then nI 0 else nI (S.kp - 1))), none, none]) 6) ?_
    refine fmW.few (L' := [some (.ref b), some (.ref x), some (.ref m), some (.ref o), some (.ref od), some (.int (nI i)), none, none, none, none]) (fmFew_n (L := [some (.ref b), some (.ref x), some (.ref m), some (.ref o), some (.ref od), some (.int (nI i)), none, some (.int (if S.kp = 0 then nI 0 else nI (S.kp - 1))), none, none]) 7) ?_
    exact kk _ _ _ _ ⟨hL2, hS2⟩
set_option maxHeartbeats 4000000 in
theorem lc_28 (G : fmG) (hl : (fmLn G).stackTraces = false) {Γ : fmC} (E : fmE G Γ cL_law 10 "FlintMineLaw" "law" ret room_1 []) {h : fmHp} {x m o od b L : Nat} {xs : Nat → Int32} {a : DA} {S : DS} {M : MSt} (hI : LI G h x m o od b L xs a S M) (hL : L ≤ 96) {i : Nat} (hi : i + 4 ≤ L) {kc ks : Nat} (kk : ∀ (h' : fmHp) (a' : DA) (S' : DS) (M' : MSt), LI G h' x m o od b L xs a' S' M' → fmW G Γ h' kc ks 1916 [some (.ref b), some (.ref x), some (.ref m), some (.ref o), some (.ref od), some (.int (nI i)), none, none, none, none] []) : fmW G Γ h (kc + 4700) (ks + 34000) 1859 [some (.ref b), some (.ref x), some (.ref m), some (.ref o), some (.ref od), some (.int (nI i)), none, none, none, none] [] := by
  obtain ⟨e350, eK8, e351, eP6, eN, hk8⟩ := hI.k
  have hkB := hI.kB
  obtain ⟨hLH, hSR⟩ := hI
  obtain ⟨hC, hD, hm, hdis, ⟨f0, ho⟩, ⟨g0, hod⟩, hb⟩ := id hLH
  obtain ⟨-, s4, -, -, s7, s6b, s8, s12, s60, s14, sch, ⟨fo, hfo, hfo31⟩, sf, s5, s6, ⟨qa, s13⟩, ⟨qw, s15⟩, ⟨qp, s16⟩⟩ := id hSR
  refine r_aload_n E dL_law_1859 rfl ?_
  obtain ⟨d0, dh0, w0, pm0, X0, W0, hx0, -⟩ := id hD
  refine r_callV E (jn_saveSnapshot G hl h hC hD hk8) mX1_saveSnapshot q358 q359 q360 (fun H a1 => fm_rc (ci := 1) (C := RX1) (T := TX1) (N := 9) a1 rfl E.v hx0) rfl rfl (Nat.le_of_ble_eq_true rfl) (Nat.le_of_ble_eq_true rfl) (Nat.le_of_ble_eq_true rfl) dL_law_1860 kc ks (show kc + 21 ≤ kc + 4700 by omega) (show ks + 2987 ≤ ks + 34000 by omega) (fun v' h1 q => ?_) (fun _ _ _ q => q.elim)
  obtain ⟨-, rfl, hJ⟩ := q
  obtain ⟨a1, hL1⟩ := hLH.jp hJ
  refine r_hp (h' := mdl m M h1) hL1.2.2.1.symm ?_
  refine r_aload_n E dL_law_1863 rfl ?_
  refine r_callV1 (v1 := .int (nI (rK (M.2 1)))) E (ct_X4_saveSnapshot G hl m M h1 (rK (M.2 1)) e350 eK8) mX4_saveSnapshot q2264 q2265 q2266 (fun H a1 => fm_rc (ci := 0) (C := RX4) (T := TX4) (N := 21) a1 rfl E.v mdl_o) rfl rfl (Nat.le_of_ble_eq_true rfl) (Nat.le_of_ble_eq_true rfl) (Nat.le_of_ble_eq_true rfl) dL_law_1864 kc ks (Nat.le_refl _) (Nat.le_refl _) ?_
  refine r_icmp_eq (tgt := 1916) E dL_law_1867 (by decide) (fun _ => ?_) (fun c => absurd (by rw [eN]) c)
  exact kk _ _ _ _ ⟨(hL1.m _).1, hSR.save⟩
set_option maxHeartbeats 4000000 in
theorem lc_29 (G : fmG) (hl : (fmLn G).stackTraces = false) {Γ : fmC} (E : fmE G Γ cL_law 10 "FlintMineLaw" "law" ret room_1 []) {h : fmHp} {x m o od b L : Nat} {xs : Nat → Int32} {a : DA} {S : DS} {M : MSt} (hI : LI G h x m o od b L xs a S M) (hL : L ≤ 96) {i : Nat} (hi : i + 4 ≤ L) {kc ks : Nat} (kk : ∀ (h' : fmHp) (a' : DA) (S' : DS) (M' : MSt), LI G h' x m o od b L xs a' S' M' → fmW G Γ h' kc ks 1916 [some (.ref b), some (.ref x), some (.ref m), some (.ref o), some (.ref od), some (.int (nI i)), none, none, none, none] []) : fmW G Γ h (kc + 4700) (ks + 34000) 1872 [some (.ref b), some (.ref x), some (.ref m), some (.ref o), some (.ref od), some (.int (nI i)), none, none, none, none] [] := by
  obtain ⟨e350, eK8, e351, eP6, eN, hk8⟩ := hI.k
  have hkB := hI.kB
  obtain ⟨hLH, hSR⟩ := hI
  obtain ⟨hC, hD, hm, hdis, ⟨f0, ho⟩, ⟨g0, hod⟩, hb⟩ := id hLH
  obtain ⟨-, s4, -, -, s7, s6b, s8, s12, s60, s14, sch, ⟨fo, hfo, hfo31⟩, sf, s5, s6, ⟨qa, s13⟩, ⟨qw, s15⟩, ⟨qp, s16⟩⟩ := id hSR
  skip
  refine r_aload_n E dL_law_1872 rfl ?_
  refine r_aload_n E dL_law_1873 rfl ?_
  refine r_callSH E (w_restoreSnapshot G hl h hC hD hk8 o f0 ho ) mX0_restoreSnapshot q77 q1864 q1865 rfl rfl (Nat.le_of_ble_eq_true rfl) (Nat.le_of_ble_eq_true rfl) (Nat.le_of_ble_eq_true rfl) dL_law_1874 kc ks (show kc + 21 ≤ kc + 4700 by omega) (show ks + 2987 ≤ ks + 34000 by omega) (fun v' h1 q => ?_) (fun _ _ _ q => q.elim)
  obtain ⟨rfl, hOP⟩ := q
  obtain ⟨a1, hL1, f1, ho1, hans⟩ := hLH.w hOP
  refine r_istore E [some (.ref b), some (.ref x), some (.ref m), some (.ref o), some (.ref od), some (.int (nI i)), some (.int (nI (kf 1 2 9 (if S.sv = true then 0 else 1)))), none, none, none] dL_law_1877 rfl rfl ?_
  refine r_hp (h' := mdl m M h1) hL1.2.2.1.symm ?_
  refine r_aload_n E dL_law_1879 rfl ?_
  refine r_callV1 (v1 := .int (if S.sv = true then M.2 2 350 else nI 0)) E (ct_X4_restoreSnapshot G hl m M h1 S.sv s7) mX4_restoreSnapshot q2268 q2269 q2270 (fun H a1 => fm_rc (ci := 0) (C := RX4) (T := TX4) (N := 21) a1 rfl E.v mdl_o) rfl rfl (Nat.le_of_ble_eq_true rfl) (Nat.le_of_ble_eq_true rfl) (Nat.le_of_ble_eq_true rfl) dL_law_1880 kc ks (Nat.le_refl _) (Nat.le_refl _) ?_
  obtain ⟨hS2, hth⟩ := hSR.back
  obtain ⟨M2, hM2⟩ : ∃ M2 : MSt, M2 = uBack M S.sv := ⟨_, rfl⟩
  rw [← hM2] at hS2 hth ⊢
  have hL2 := (hL1.m M2).1
  have ho2 := hL1.o ho1 M2
  refine r_istore E [some (.ref b), some (.ref x), some (.ref m), some (.ref o), some (.ref od), some (.int (nI i)), some (.int (nI (kf 1 2 9 (if S.sv = true then 0 else 1)))), some (.int (if S.sv = true then M.2 2 350 else nI 0)), none, none] dL_law_1883 rfl rfl ?_
  refine r_aload_n E dL_law_1885 rfl ?_
  refine r_callV1 (v1 := .int (M2.1 0)) E (ct_X4_thrown G hl m M2 h1) mX4_thrown q1951 q1952 q1953 (fun H a1 => fm_rc (ci := 0) (C := RX4) (T := TX4) (N := 21) a1 rfl E.v mdl_o) rfl rfl (Nat.le_of_ble_eq_true rfl) (Nat.le_of_ble_eq_true rfl) (Nat.le_of_ble_eq_true rfl) dL_law_1886 kc ks (Nat.le_refl _) (Nat.le_refl _) ?_
  refine r_top (v' := .int (nI (kf 1 2 9 (if S.sv = true then 0 else 1)))) (congrArg Value.int hth) ?_
  refine r_iload E dL_law_1889 rfl ?_
  refine r_icmp_eq (tgt := 1896) E dL_law_1891 (by decide) (fun _ => ?_) (fun c => absurd rfl c)
  refine r_iload E dL_law_1896 rfl ?_
  refine r_if_ne (tgt := 1913) E dL_law_1898 (by decide) (fun c => ?_) (fun c => ?_)
  · refine r_goto (tgt := 1916) E dL_law_1913 (by decide) ?_
    refine fmW.few (L' := [some (.ref b), some (.ref x), some (.ref m), some (.ref o), some (.ref od), some (.int (nI i)), none, some (.int (if S.sv = true then M.2 2 350 else nI 0)), none, none]) (fmFew_n (L := [some (.ref b), some (.ref x), some (.ref m), some (.ref o), some (.ref od), some (.int (nI i)), some (.int (nI (kf 1 2 9 (if S.sv = true then 0 else 1)))), some (.int (if S.sv = true then M.2 2 350 else nI 0)), none, none]) 6) ?_
    refine fmW.few (L' := [some (.ref b), some (.ref x), some (.ref m), some (.ref o), some (.ref od), some (.int (nI i)), none, none, none, none]) (fmFew_n (L := [some (.ref b), some (.ref x), some (.ref m), some (.ref o), some (.ref od), some (.int (nI i)), none, some (.int (if S.sv = true then M.2 2 350 else nI 0)), none, none]) 7) ?_
    exact kk _ _ _ _ ⟨hL2, hS2⟩
  · have hc0 := kf_0 (by decide) (by decide) (by decide) c
    refine r_aload_n E dL_law_1901 rfl ?_
    refine r_iconst E (nI 0) dL_law_1902 (by decide) ?_
    refine r_lald E ho2 (by decide) (by decide) dL_law_1903 ?_
    refine r_iload E dL_law_1904 rfl ?_
    refine r_i2l E dL_law_1906 ?_
    refine r_lcmp E dL_law_1907 ?_
    refine r_if_eq (tgt := 1913) E dL_law_1908 (by decide) (fun _ => ?_) (fun c2 => absurd (lcmp_0.mpr ((hans hc0).trans (congrArg Int32.toInt64 (hkB (by by_cases q9 : S.sv = true; exact q9; rw [if_neg q9] at hc0; cases hc0)).symm))) c2)
    refine r_goto (tgt := 1916) E dL_law_1913 (by decide) ?_
    refine fmW.few (L' := [some (.ref b), some (.ref x), some (.ref m), some (.ref o), some (.ref od), some (.int (nI i)), none, some (.int (if S.sv = true then M.2 2 350 else nI 0)), none, none]) (fmFew_n (L := [some (.ref b), some (.ref x), some (.ref m), some (.ref o), some (.ref od), some (.int (nI i)), some (.int (nI (kf 1 2 9 (if S.sv = true then 0 else 1)))), some (.int (if S.sv = true then M.2 2 350 else nI 0)), none, none]) 6) ?_
    refine fmW.few (L' := [some (.ref b), some (.ref x), some (.ref m), some (.ref o), some (.ref od), some (.int (nI i)), none, none, none, none]) (fmFew_n (L := [some (.ref b), some (.ref x), some (.ref m), some (.ref o), some (.ref od), some (.int (nI i)), none, some (.int (if S.sv = true then M.2 2 350 else nI 0)), none, none]) 7) ?_
    exact kk _ _ _ _ ⟨hL2, hS2⟩
