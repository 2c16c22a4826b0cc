/-! THE LAW's loop and start -/
set_option maxHeartbeats 4000000 in
theorem law_loop (G : fmG) (hl : (fmLn G).stackTraces = false) {Γ : fmC} (E : fmE G Γ cL_law 10 "FlintMineLaw" "law" ret room_1 []) (hret : ∀ (h : fmHp) (L' : List (Option Value)), fmW G Γ h 0 0 1923 L' [.int (nI 1)]) {x m o od b L : Nat} {xs : Nat → Int32} (hL : L ≤ 96) : ∀ (n i : Nat) (h : fmHp) (a : DA) (S : DS) (M : MSt), LI G h x m o od b L xs a S M → i ≤ 96 → L ≤ i + 4 * n → fmW G Γ h (4700 * n) (34000 * n) 28 [some (.ref b), some (.ref x), some (.ref m), some (.ref o), some (.ref od), some (.int (nI i)), none, none, none, none] [] := by
  intro n
  induction n with
  | zero =>
    intro i h a S M hI hi hn
    have hb := hI.1.2.2.2.2.2.2
    refine r_iload E dL_law_28 rfl ?_
    refine r_aload_n E dL_law_30 rfl ?_
    refine r_alen E hb rfl dL_law_31 ?_
    refine r_iconst E (nI 4) dL_law_32 (by decide) ?_
    refine r_isub E dL_law_33 ?_
    refine r_icmp_gt (tgt := 1922) E dL_law_34 (by decide) (fun _ => ?_) (fun c => ?_)
    · refine r_iconst E (nI 1) dL_law_1922 (by decide) ?_
      exact fmW.less (Nat.zero_le _) (Nat.zero_le _) (hret _ _)
    · exfalso; have := lw_go (by omega) hL c; omega
  | succ n ih =>
    intro i h a S M hI hi hn
    have hb := hI.1.2.2.2.2.2.2
    refine r_iload E dL_law_28 rfl ?_
    refine r_aload_n E dL_law_30 rfl ?_
    refine r_alen E hb rfl dL_law_31 ?_
    refine r_iconst E (nI 4) dL_law_32 (by decide) ?_
    refine r_isub E dL_law_33 ?_
    refine r_icmp_gt (tgt := 1922) E dL_law_34 (by decide) (fun _ => ?_) (fun c => ?_)
    · refine r_iconst E (nI 1) dL_law_1922 (by decide) ?_
      exact fmW.less (Nat.zero_le _) (Nat.zero_le _) (hret _ _)
    · have hi4 := lw_go (by omega) hL c
      have kk : ∀ (h' : fmHp) (a' : DA) (S' : DS) (M' : MSt), LI G h' x m o od b L xs a' S' M' → fmW G Γ h' (4700 * n) (34000 * n) 1916 [some (.ref b), some (.ref x), some (.ref m), some (.ref o), some (.ref od), some (.int (nI i)), none, none, none, none] [] := by
        intro h' a' S' M' hI'
        refine r_iinc E (nI (i + 4)) [some (.ref b), some (.ref x), some (.ref m), some (.ref o), some (.ref od), some (.int (nI (i + 4))), none, none, none, none] dL_law_1916 rfl (nI_add i 4) rfl rfl ?_
        refine r_goto (tgt := 28) E dL_law_1919 (by decide) ?_
        exact ih (i + 4) h' a' S' M' hI' (by omega) (by omega)
      refine r_aload_n E dL_law_37 rfl ?_
      refine r_iload E dL_law_38 rfl ?_
      refine r_iald E hb (by omega) (by omega) dL_law_40 ?_
      refine r_bipush E (nI 31) dL_law_41 (by decide) ?_
      refine r_iand E dL_law_43 ?_
      obtain ⟨k9, hk9, hs9⟩ := lw_sel (xs i)
      refine r_top (v' := .int (nI k9)) (congrArg Value.int hs9) ?_
      rcases (show k9 = 0 ∨ k9 = 1 ∨ k9 = 2 ∨ k9 = 3 ∨ k9 = 4 ∨ k9 = 5 ∨ k9 = 6 ∨ k9 = 7 ∨ k9 = 8 ∨ k9 = 9 ∨ k9 = 10 ∨ k9 = 11 ∨ k9 = 12 ∨ k9 = 13 ∨ k9 = 14 ∨ k9 = 15 ∨ k9 = 16 ∨ k9 = 17 ∨ k9 = 18 ∨ k9 = 19 ∨ k9 = 20 ∨ k9 = 21 ∨ k9 = 22 ∨ k9 = 23 ∨ k9 = 24 ∨ k9 = 25 ∨ k9 = 26 ∨ k9 = 27 ∨ k9 = 28 ∨ k9 = 29 ∨ k9 = 30 ∨ k9 = 31 by omega) with rfl | rfl | rfl | rfl | rfl | rfl | rfl | rfl | rfl | rfl | rfl | rfl | rfl | rfl | rfl | rfl | rfl | rfl | rfl | rfl | rfl | rfl | rfl | rfl | rfl | rfl | rfl | rfl | rfl | rfl | rfl | rfl
      · refine r_tableIn (tgt := 180) E dL_law_44 (by decide) (by decide) rfl (by decide) ?_
        exact lc_0 G hl E hI hL hi4 kk
      · refine r_tableIn (tgt := 260) E dL_law_44 (by decide) (by decide) rfl (by decide) ?_
        exact lc_1 G hl E hI hL hi4 kk
      · refine r_tableIn (tgt := 316) E dL_law_44 (by decide) (by decide) rfl (by decide) ?_
        exact lc_2 G hl E hI hL hi4 kk
      · refine r_tableIn (tgt := 372) E dL_law_44 (by decide) (by decide) rfl (by decide) ?_
        exact lc_3 G hl E hI hL hi4 kk
      · refine r_tableIn (tgt := 428) E dL_law_44 (by decide) (by decide) rfl (by decide) ?_
        exact lc_4 G hl E hI hL hi4 kk
      · refine r_tableIn (tgt := 484) E dL_law_44 (by decide) (by decide) rfl (by decide) ?_
        exact lc_5 G hl E hI hL hi4 kk
      · refine r_tableIn (tgt := 552) E dL_law_44 (by decide) (by decide) rfl (by decide) ?_
        exact lc_6 G hl E hI hL hi4 kk
      · refine r_tableIn (tgt := 636) E dL_law_44 (by decide) (by decide) rfl (by decide) ?_
        exact lc_7 G hl E hI hL hi4 kk
      · refine r_tableIn (tgt := 649) E dL_law_44 (by decide) (by decide) rfl (by decide) ?_
        exact lc_8 G hl E hI hL hi4 kk
      · refine r_tableIn (tgt := 705) E dL_law_44 (by decide) (by decide) rfl (by decide) ?_
        exact lc_9 G hl E hI hL hi4 kk
      · refine r_tableIn (tgt := 761) E dL_law_44 (by decide) (by decide) rfl (by decide) ?_
        exact lc_10 G hl E hI hL hi4 kk
      · refine r_tableIn (tgt := 857) E dL_law_44 (by decide) (by decide) rfl (by decide) ?_
        exact lc_11 G hl E hI hL hi4 kk
      · refine r_tableIn (tgt := 913) E dL_law_44 (by decide) (by decide) rfl (by decide) ?_
        exact lc_12 G hl E hI hL hi4 kk
      · refine r_tableIn (tgt := 969) E dL_law_44 (by decide) (by decide) rfl (by decide) ?_
        exact lc_13 G hl E hI hL hi4 kk
      · refine r_tableIn (tgt := 1025) E dL_law_44 (by decide) (by decide) rfl (by decide) ?_
        exact lc_14 G hl E hI hL hi4 kk
      · refine r_tableIn (tgt := 1093) E dL_law_44 (by decide) (by decide) rfl (by decide) ?_
        exact lc_15 G hl E hI hL hi4 kk
      · refine r_tableIn (tgt := 1149) E dL_law_44 (by decide) (by decide) rfl (by decide) ?_
        exact lc_16 G hl E hI hL hi4 kk
      · refine r_tableIn (tgt := 1217) E dL_law_44 (by decide) (by decide) rfl (by decide) ?_
        exact lc_17 G hl E hI hL hi4 kk
      · refine r_tableIn (tgt := 1285) E dL_law_44 (by decide) (by decide) rfl (by decide) ?_
        exact lc_18 G hl E hI hL hi4 kk
      · refine r_tableIn (tgt := 1365) E dL_law_44 (by decide) (by decide) rfl (by decide) ?_
        exact lc_19 G hl E hI hL hi4 kk
      · refine r_tableIn (tgt := 1433) E dL_law_44 (by decide) (by decide) rfl (by decide) ?_
        exact lc_20 G hl E hI hL hi4 kk
      · refine r_tableIn (tgt := 1489) E dL_law_44 (by decide) (by decide) rfl (by decide) ?_
        exact lc_21 G hl E hI hL hi4 kk
      · refine r_tableIn (tgt := 1554) E dL_law_44 (by decide) (by decide) rfl (by decide) ?_
        exact lc_22 G hl E hI hL hi4 kk
      · refine r_tableIn (tgt := 1597) E dL_law_44 (by decide) (by decide) rfl (by decide) ?_
        exact lc_23 G hl E hI hL hi4 kk
      · refine r_tableIn (tgt := 1655) E dL_law_44 (by decide) (by decide) rfl (by decide) ?_
        exact lc_24 G hl E hI hL hi4 kk
      · refine r_tableIn (tgt := 1699) E dL_law_44 (by decide) (by decide) rfl (by decide) ?_
        exact lc_25 G hl E hI hL hi4 kk
      · refine r_tableIn (tgt := 1743) E dL_law_44 (by decide) (by decide) rfl (by decide) ?_
        exact lc_26 G hl E hI hL hi4 kk
      · refine r_tableIn (tgt := 1815) E dL_law_44 (by decide) (by decide) rfl (by decide) ?_
        exact lc_27 G hl E hI hL hi4 kk
      · refine r_tableIn (tgt := 1859) E dL_law_44 (by decide) (by decide) rfl (by decide) ?_
        exact lc_28 G hl E hI hL hi4 kk
      · refine r_tableIn (tgt := 1872) E dL_law_44 (by decide) (by decide) rfl (by decide) ?_
        exact lc_29 G hl E hI hL hi4 kk
      · refine r_tableOut (tgt := 1916) E dL_law_44 (by decide) (by decide) ?_
        exact fmW.less (by omega) (by omega) (kk _ _ _ _ hI)
      · refine r_tableOut (tgt := 1916) E dL_law_44 (by decide) (by decide) ?_
        exact fmW.less (by omega) (by omega) (kk _ _ _ _ hI)
theorem fmZ.out {G : fmG} {Γ : fmC} {h : fmHp} {z kc ks pc : Nat} {L : List (Option Value)} {st : List Value} (k : (∀ q, z ≤ q → h q = none) → fmZ G Γ h z kc ks pc L st) : fmZ G Γ h z kc ks pc L st := fun H lo c s ls a1 a2 => k (fun q hq => by
  cases e : h q with
  | none => rfl
  | some y => exact absurd ((a1.1 q y.1 y.2 e).1.lt) (Nat.not_lt.mpr (by rw [a2]; exact hq))) H lo c s ls a1 a2
theorem SR.ini : SR DS0 mIni := ⟨rfl, rfl, Nat.zero_le 8, fun i hi => absurd hi (Nat.not_lt_zero i), rfl, fun z => (by cases z), rfl, rfl, Nat.zero_le 60, rfl, fun i hi => absurd hi (Nat.not_lt_zero i), ⟨none, rfl, fun y hy => by cases hy⟩, rfl, rfl, rfl, ⟨0, rfl⟩, ⟨false, rfl⟩, ⟨false, rfl⟩⟩
set_option maxHeartbeats 4000000 in
theorem law_start (G : fmG) (hl : (fmLn G).stackTraces = false) {Γ : fmC} (E : fmE G Γ cL_law 10 "FlintMineLaw" "law" ret room_1 []) (hret : ∀ (h : fmHp) (L' : List (Option Value)), fmW G Γ h 0 0 1923 L' [.int (nI 1)]) {h : fmHp} (hC : CC G h) {b L : Nat} {xs : Nat → Int32} (hL : L ≤ 96) (hb : h b = some (false, .inl (0, L, .inl xs))) : fmW G Γ h 113000 821000 0 [some (.ref b), none, none, none, none, none, none, none, none, none] [] := by
  refine r_new E cl_X1 [.null, .null, .null, .null, .null, .int 0, .int 0, .int 0, .null] q123 q124 q78 (by decide) 112999 820991 (Nat.le_of_ble_eq_true rfl) (Nat.le_of_ble_eq_true rfl) dL_law_0 (fun x hx kx => ?_)
  refine r_dup E dL_law_3 rfl ?_
  refine r_callI E (ct_X1_init G hl (fmUp h x (true, .inr (.inl (1, [.null, .null, .null, .null, .null, .int 0, .int 0, .int 0, .null])))) (hC.kp (Kp.up hx)) x fmUp_s) mX1_init rfl q125 q126 rfl rfl (Nat.le_of_ble_eq_true rfl) (Nat.le_of_ble_eq_true rfl) (Nat.le_of_ble_eq_true rfl) dL_law_4 112979 820591 (Nat.le_of_ble_eq_true rfl) (Nat.le_of_ble_eq_true rfl) (fun v' h2 q => ?_) (fun _ _ _ q => q.elim)
  obtain ⟨rfl, a, hD2, hfr2, -⟩ := q
  have k2 : Kp h h2 := fun q y hq => hfr2 q y ((Kp.up hx) q y hq) (fun z => by rw [z, hx] at hq; cases hq)
  refine r_astore_n E [some (.ref b), some (.ref x), none, none, none, none, none, none, none, none] dL_law_7 rfl rfl ?_
  refine r_newZ E cl_X4 mNew q1878 q1879 q89 (by decide) 112978 820570 (Nat.le_of_ble_eq_true rfl) (Nat.le_of_ble_eq_true rfl) dL_law_8 (fun m hm km => ?_)
  refine fmZ.out (fun hz => ?_)
  have hz2 : ∀ q, m ≤ q → h2 q = none := fun q hq => by
    by_cases e : q = m
    · rw [e]; exact hm
    · have := hz q (by omega); rwa [fmUp_n e] at this
  refine z_dup E dL_law_11 rfl ?_
  refine z_callI E (ctz_X4_init G hl m h2) mX4_init rfl q1880 q1881 rfl rfl (Nat.le_of_ble_eq_true rfl) (Nat.le_of_ble_eq_true rfl) (Nat.le_of_ble_eq_true rfl) dL_law_12 112963 816458 (Nat.le_of_ble_eq_true rfl) (Nat.le_of_ble_eq_true rfl) (fun v' h3 q => ?_) (fun _ _ _ q => q.elim)
  obtain ⟨rfl, rfl⟩ := q
  have k3 : Kp h2 (mdl m mIni h2) := fun q y hq => by
    rw [mdl_out (fun z => by rw [hz2 q z.1] at hq; cases hq)]
    exact hq
  have hm3 : mdl m mIni (mdl m mIni h2) = mdl m mIni h2 := mdl_mdl m mIni mIni h2
  generalize hH3 : mdl m mIni h2 = h3 at *
  refine r_astore_n E [some (.ref b), some (.ref x), some (.ref m), none, none, none, none, none, none, none] dL_law_15 rfl rfl ?_
  refine r_iconst E (nI 1) dL_law_16 (by decide) ?_
  refine r_newa (at_ := .long) E 1 (.inr (.inl (fun _ => 0))) rfl (fun _ => rfl) q2272 (fun e => e) (Nat.le_of_ble_eq_true rfl) (Nat.le_of_ble_eq_true rfl) 112962 816457 (Nat.le_of_ble_eq_true rfl) (Nat.le_of_ble_eq_true rfl) dL_law_17 (fun o hno ko => ?_)
  refine r_astore_n E [some (.ref b), some (.ref x), some (.ref m), some (.ref o), none, none, none, none, none, none] dL_law_19 rfl rfl ?_
  refine r_iconst E (nI 1) dL_law_20 (by decide) ?_
  refine r_newa (at_ := .double) E 2 (.inr (.inr (.inr (.inl (fun _ => 0))))) rfl (fun _ => rfl) q2273 (fun e => e) (Nat.le_of_ble_eq_true rfl) (Nat.le_of_ble_eq_true rfl) 112961 816456 (Nat.le_of_ble_eq_true rfl) (Nat.le_of_ble_eq_true rfl) dL_law_21 (fun od hnd kd => ?_)
  have k4 : Kp h3 (fmUp (fmUp h3 o (oLn (fun _ => 0))) od (oDb (fun _ => 0))) := (Kp.up hno).trans (Kp.up hnd)
  have ho4 : (fmUp (fmUp h3 o (oLn (fun _ => 0))) od (oDb (fun _ => 0))) o = some (oLn (fun _ => 0)) := fmUp_of fmUp_s hnd
  have hod4 : (fmUp (fmUp h3 o (oLn (fun _ => 0))) od (oDb (fun _ => 0))) od = some (oDb (fun _ => 0)) := fmUp_s
  generalize hH4 : fmUp (fmUp h3 o (oLn (fun _ => 0))) od (oDb (fun _ => 0)) = h4 at *
  refine r_astore E [some (.ref b), some (.ref x), some (.ref m), some (.ref o), some (.ref od), none, none, none, none, none] dL_law_23 rfl rfl ?_
  refine r_iconst E (nI 0) dL_law_25 (by decide) ?_
  refine r_istore E [some (.ref b), some (.ref x), some (.ref m), some (.ref o), some (.ref od), some (.int (nI 0)), none, none, none, none] dL_law_26 rfl rfl ?_
  have hfar : ∀ q y, h2 q = some y → ¬ (m ≤ q ∧ q < m + 16) := fun q y hq z => by rw [hz2 q z.1] at hq; cases hq
  have hLI : LI G h4 x m o od b L xs a DS0 mIni := by
    have hD2b := hD2
    obtain ⟨d9, dh9, w9, pm9, X9, W9, -, g2, g3, -⟩ := hD2b
    exact ⟨⟨hC.kp (k2.trans (k3.trans k4)), (hD2.kp k3).kp k4, mdl_of hm3 (fun q _ y hq => k4 q y hq), ⟨hfar _ _ g2, hfar _ _ g3⟩, ⟨_, ho4⟩, ⟨_, hod4⟩, k4 _ _ (k3 _ _ (k2 _ _ hb))⟩, SR.ini⟩
  exact fmW.less (by decide) (by decide) (law_loop G hl E hret hL 24 0 h4 a DS0 mIni hLI (by omega) (by omega))
