set_option maxHeartbeats 4000000 in
theorem ct_J17_copyOf_2 (G : fmG) (hl : (fmLn G).stackTraces = false) (h : fmHp) (e cap m : Nat) (fe : Bool) (f : Nat → Option Nat) (he1 : h e = some (fe, .inl (6, cap, .inr (.inr (.inr (.inr f)))))) (hcap : cap ≤ m) (hm : m < 2 ^ 20) (el : ∀ i, i < cap → ∀ y, f i = some y → ∃ (ci : Nat) (C : String) (T : u_T) (N : Nat) (b : Bool) (fs : List Value), vwCl[ci]? = some (C, T, N) ∧ h y = some (b, .inr (.inl (ci, fs))) ∧ Cond.castable C "java/lang/Object" ∈ lw_tbl)  : Ct G yJ17_copyOf_2 (ws_ yJ17_copyOf_2 cJ17_copyOf_2 4 (some (.array (.object "java/lang/Object")))) { frames := 1, cells := 1, slots := m, locals := 60 } [.ref e, .int (nI m), .ref (fmAd G 13)] h (fun v h' => ∃ a, h a = none ∧ (fmK0 G).size ≤ a ∧ v = some (.ref a) ∧ h' = fmUp h a (true, .inl (6, m, .inr (.inr (.inr (.inr (va_cpy f (fun _ => none) 0 0 cap))))))) fmNo := by
  refine Ct.of hl (by decide +kernel) (Nat.le_of_ble_eq_true rfl) (fun Γ E P => ?_)
  refine r_aload_n E dJ17_copyOf_2_0 rfl ?_
  refine r_ldcM E q566 dJ17_copyOf_2_1 ?_
  refine r_acmp_ne (tgt := 13) E dJ17_copyOf_2_3 (by decide) (fun q => absurd rfl q) (fun _ => ?_)
  refine r_iload_n E dJ17_copyOf_2_6 rfl ?_
  refine r_anew E 6 rfl q567 q225 (by omega) 0 0 (Nat.le_of_ble_eq_true rfl) (Nat.le_of_eq (Nat.zero_add _)) dJ17_copyOf_2_7 (fun a ha ha0 => ?_)
  have hea : e ≠ a := fun q => by rw [q, ha] at he1; cases he1
  refine r_goto (tgt := 24) E dJ17_copyOf_2_10 (by decide) ?_
  refine r_astore_n E [some (.ref e), some (.int (nI m)), some (.ref (fmAd G 13)), some (.ref a)] dJ17_copyOf_2_24 rfl rfl ?_
  refine r_aload_n E dJ17_copyOf_2_25 rfl ?_
  refine r_iconst E (nI 0) dJ17_copyOf_2_26 (by decide) ?_
  refine r_aload_n E dJ17_copyOf_2_27 rfl ?_
  refine r_iconst E (nI 0) dJ17_copyOf_2_28 (by decide) ?_
  refine r_aload_n E dJ17_copyOf_2_29 rfl ?_
  refine r_alen E ((fmUp_n hea).trans he1) rfl dJ17_copyOf_2_30 ?_
  refine r_iload_n E dJ17_copyOf_2_31 rfl ?_
  refine r_min E (by omega) (by omega) q568 q569 q101 q570 (Nat.le_of_ble_eq_true rfl) (Nat.le_of_ble_eq_true rfl) dJ17_copyOf_2_32 ?_
  refine r_top (v' := .int (nI cap)) (congrArg (fun z => Value.int (nI z)) (Nat.min_eq_left hcap)) ?_
  refine r_copyQ E (E1 := "java/lang/Object") (sp := 0) (dp := 0) (n := cap) (t0 := 6) (t1 := 6) (E0 := "java/lang/Object") rfl rfl ((fmUp_n hea).trans he1) fmUp_s (by omega) (by omega) (by omega) (by omega) (fun H a1 i hi y hy => ?_) q571 q366 q367 q97 (Nat.le_of_ble_eq_true rfl) (Nat.le_of_ble_eq_true rfl) dJ17_copyOf_2_35 ?_
  · rw [Nat.zero_add] at hy
    obtain ⟨ci, C, T, N, b, fs, k1, k2, k3⟩ := el i hi y hy
    obtain ⟨cell, g1, g2, g3⟩ := fm_rc a1 k1 E.v (fmUp_of k2 ha)
    exact ⟨C, cell, k3, g1, g2, g3⟩
  refine r_aload_n E dJ17_copyOf_2_38 rfl ?_
  exact r_areturn E P rfl (Or.inr ⟨_, rfl⟩) dJ17_copyOf_2_39 ⟨a, ha, ha0, rfl, fmUp_uu _ _ _ _⟩

set_option maxHeartbeats 4000000 in
theorem ct_J17_copyOf (G : fmG) (hl : (fmLn G).stackTraces = false) (h : fmHp) (e cap m : Nat) (fe : Bool) (f : Nat → Option Nat) (he1 : h e = some (fe, .inl (6, cap, .inr (.inr (.inr (.inr f)))))) (hcap : cap ≤ m) (hm : m < 2 ^ 20) (el : ∀ i, i < cap → ∀ y, f i = some y → ∃ (ci : Nat) (C : String) (T : u_T) (N : Nat) (b : Bool) (fs : List Value), vwCl[ci]? = some (C, T, N) ∧ h y = some (b, .inr (.inl (ci, fs))) ∧ Cond.castable C "java/lang/Object" ∈ lw_tbl)  : Ct G yJ17_copyOf (ws_ yJ17_copyOf cJ17_copyOf 2 (some (.array (.object "java/lang/Object")))) { frames := 2, cells := 1, slots := m, locals := 83 } [.ref e, .int (nI m)] h (fun v h' => ∃ a, h a = none ∧ (fmK0 G).size ≤ a ∧ v = some (.ref a) ∧ h' = fmUp h a (true, .inl (6, m, .inr (.inr (.inr (.inr (va_cpy f (fun _ => none) 0 0 cap))))))) fmNo := by
  refine Ct.of hl (by decide +kernel) (Nat.le_of_ble_eq_true rfl) (fun Γ E P => ?_)
  refine r_aload_n E dJ17_copyOf_0 rfl ?_
  refine r_iload_n E dJ17_copyOf_1 rfl ?_
  refine r_aload_n E dJ17_copyOf_2 rfl ?_
  refine r_getC E he1 q524 q2331 q2330 q525 q562 (Nat.le_of_ble_eq_true rfl) (Nat.le_of_ble_eq_true rfl) dJ17_copyOf_3 ?_
  refine r_callS E (ct_J17_copyOf_2 G hl h e cap m fe f he1 hcap hm el) mJ17_copyOf_2 q102 q563 q564 rfl rfl (Nat.le_of_ble_eq_true rfl) (Nat.le_of_ble_eq_true rfl) (Nat.le_of_ble_eq_true rfl) dJ17_copyOf_6 0 0 (Nat.le_of_ble_eq_true rfl) (Nat.le_of_eq (Nat.zero_add _)) (fun v' h' q => ?_) (fun _ _ _ q => q.elim)
  obtain ⟨a, ha, ha0, rfl, rfl⟩ := q
  exact r_areturn E P rfl (Or.inr ⟨_, rfl⟩) dJ17_copyOf_9 ⟨a, ha, ha0, rfl, rfl⟩

set_option maxHeartbeats 4000000 in
theorem ct_J2_grow_2 (G : fmG) (hl : (fmLn G).stackTraces = false) (h : fmHp) (l e n : Nat) (mc : Int32) (hl1 : h l = some (true, .inr (.inl (12, [.int mc, .ref e, .int (nI n)])))) (fe : Bool) (f : Nat → Option Nat) (he1 : h e = some (fe, .inl (6, n, .inr (.inr (.inr (.inr f)))))) (hn : n ≤ 100) (h0 : n = 0 → e = fmAd G 10) (el : ∀ i, i < n → ∀ y, f i = some y → ∃ (ci : Nat) (C : String) (T : u_T) (N : Nat) (b : Bool) (fs : List Value), vwCl[ci]? = some (C, T, N) ∧ h y = some (b, .inr (.inl (ci, fs))) ∧ Cond.castable C "java/lang/Object" ∈ lw_tbl)  : Ct G yJ2_grow_2 (ws_ yJ2_grow_2 cJ2_grow_2 4 (some (.array (.object "java/lang/Object")))) { frames := 3, cells := 1, slots := 200, locals := 104 } [.ref l, .int (nI (n + 1))] h (fun v h' => ∃ (a cap : Nat) (g : Nat → Option Nat), h a = none ∧ (fmK0 G).size ≤ a ∧ v = some (.ref a) ∧ n < cap ∧ cap ≤ 200 ∧ (∀ i, i < n → g i = f i) ∧ (∀ i, n ≤ i → g i = none) ∧ h' = fmUp (fmUp h a (true, .inl (6, cap, .inr (.inr (.inr (.inr g)))))) l (true, .inr (.inl (12, [.int mc, .ref a, .int (nI n)])))) fmNo := by
  refine Ct.of hl (by decide +kernel) (Nat.le_of_ble_eq_true rfl) (fun Γ E P => ?_)
  refine r_aload_n E dJ2_grow_2_0 rfl ?_
  refine r_getf E cl_J2 1 (by decide) q152 hl1 rfl dJ2_grow_2_1 ?_
  refine r_alen E he1 rfl dJ2_grow_2_4 ?_
  refine r_istore_n E [some (.ref l), some (.int (nI (n + 1))), some (.int (nI n)), none] dJ2_grow_2_5 rfl rfl ?_
  refine r_iload_n E dJ2_grow_2_6 rfl ?_
  by_cases hz : n = 0
  · refine r_if_gt (tgt := 20) E dJ2_grow_2_7 (by decide) (fun q => absurd q (by rw [hz]; decide)) (fun _ => ?_)
    refine r_aload_n E dJ2_grow_2_10 rfl ?_
    refine r_getf E cl_J2 1 (by decide) q152 hl1 rfl dJ2_grow_2_11 ?_
    refine r_gets E 10 rfl q150 dJ2_grow_2_14 ?_
    refine r_acmp_eq (tgt := 45) E dJ2_grow_2_17 (by decide) (fun _ => ?_) (fun q => absurd (h0 hz) q)
    refine r_aload_n E dJ2_grow_2_45 rfl ?_
    refine r_bipush E (nI 10) dJ2_grow_2_46 (by decide) ?_
    refine r_iload_n E dJ2_grow_2_48 rfl ?_
    refine r_max E (by omega) (by omega) q572 q342 q101 q343 (Nat.le_of_ble_eq_true rfl) (Nat.le_of_ble_eq_true rfl) dJ2_grow_2_49 ?_
    refine r_top (v' := .int (nI 10)) (congrArg (fun z => Value.int (nI z)) (by omega)) ?_
    refine r_anew E 6 rfl q573 q225 (by decide) 0 190 (Nat.le_of_ble_eq_true rfl) (Nat.le_of_ble_eq_true rfl) dJ2_grow_2_52 (fun a ha ha0 => ?_)
    have hla : l ≠ a := fun q => by rw [q, ha] at hl1; cases hl1
    refine r_dup_x1 E dJ2_grow_2_55 rfl rfl ?_
    refine r_putf E cl_J2 1 (by decide) rfl q152 (fun _ z => z) ((fmUp_n hla).trans hl1) (Nat.le_of_ble_eq_true rfl) rfl rfl dJ2_grow_2_56 ?_
    refine r_hp (h' := fmUp (fmUp h a (true, .inl (6, 10, .inr (.inr (.inr (.inr (fun _ => none))))))) l (true, .inr (.inl (12, [.int mc, .ref a, .int (nI n)])))) (rfl) ?_
    exact r_areturn E P rfl (Or.inr ⟨_, rfl⟩) dJ2_grow_2_59 ⟨a, 10, _, ha, ha0, rfl, by omega, by omega, fun i hi => by omega, fun _ _ => rfl, rfl⟩
  · have hp : 0 < n := by omega
    refine r_if_gt (tgt := 20) E dJ2_grow_2_7 (by decide) (fun _ => ?_) (fun q => absurd (by rw [← nI_0]; exact nI_lt hp (by omega)) q)
    refine r_iload_n E dJ2_grow_2_20 rfl ?_
    refine r_iload_n E dJ2_grow_2_21 rfl ?_
    refine r_iload_n E dJ2_grow_2_22 rfl ?_
    refine r_isubN E dJ2_grow_2_23 (by omega) ?_
    refine r_iload_n E dJ2_grow_2_24 rfl ?_
    refine r_iconst E (nI 1) dJ2_grow_2_25 (by decide) ?_
    refine r_ishr E dJ2_grow_2_26 ?_
    refine r_top (v' := .int (nI (n / 2))) (congrArg Value.int (shr1 (by omega))) ?_
    refine r_callS1 (v1 := .int (nI (n + max (n + 1 - n) (n / 2)))) E (ct_J15_newLength G hl (h) n (n + 1 - n) (n / 2) (by omega) (by omega) (by omega) (by omega)) mJ15_newLength q100 q513 q514 rfl rfl (Nat.le_of_ble_eq_true rfl) (Nat.le_of_ble_eq_true rfl) (Nat.le_of_ble_eq_true rfl) dJ2_grow_2_27 1 200 (Nat.le_of_ble_eq_true rfl) (Nat.le_of_ble_eq_true rfl) ?_
    refine r_istore_n E [some (.ref l), some (.int (nI (n + 1))), some (.int (nI n)), some (.int (nI (n + max (n + 1 - n) (n / 2))))] dJ2_grow_2_30 rfl rfl ?_
    refine r_aload_n E dJ2_grow_2_31 rfl ?_
    refine r_aload_n E dJ2_grow_2_32 rfl ?_
    refine r_getf E cl_J2 1 (by decide) q152 hl1 rfl dJ2_grow_2_33 ?_
    refine r_iload_n E dJ2_grow_2_36 rfl ?_
    have hs200 : 0 + (n + max (n + 1 - n) (n / 2)) ≤ 200 := by omega
    refine r_callS E (ct_J17_copyOf G hl h e n (n + max (n + 1 - n) (n / 2)) fe f he1 (by omega) (by omega) el) mJ17_copyOf q102 q521 q522 rfl rfl (Nat.le_of_ble_eq_true rfl) (Nat.le_of_ble_eq_true rfl) (Nat.le_of_ble_eq_true rfl) dJ2_grow_2_37 0 0 (Nat.le_of_ble_eq_true rfl) hs200 (fun v' h' q => ?_) (fun _ _ _ q => q.elim)
    obtain ⟨a, ha, ha0, rfl, rfl⟩ := q
    have hla : l ≠ a := fun q => by rw [q, ha] at hl1; cases hl1
    refine r_dup_x1 E dJ2_grow_2_40 rfl rfl ?_
    refine r_putf E cl_J2 1 (by decide) rfl q152 (fun _ z => z) ((fmUp_n hla).trans hl1) (Nat.le_of_ble_eq_true rfl) rfl rfl dJ2_grow_2_41 ?_
    refine r_hp (h' := fmUp (fmUp h a (true, .inl (6, n + max (n + 1 - n) (n / 2), .inr (.inr (.inr (.inr (va_cpy f (fun _ => none) 0 0 n))))))) l (true, .inr (.inl (12, [.int mc, .ref a, .int (nI n)])))) (rfl) ?_
    exact r_areturn E P rfl (Or.inr ⟨_, rfl⟩) dJ2_grow_2_44 ⟨a, _, _, ha, ha0, rfl, by omega, by omega, fun i hi => va_cpy_0 hi, fun i hi => va_cpy_9 hi, rfl⟩

set_option maxHeartbeats 4000000 in
theorem ct_J2_grow (G : fmG) (hl : (fmLn G).stackTraces = false) (h : fmHp) (l e n : Nat) (mc : Int32) (hl1 : h l = some (true, .inr (.inl (12, [.int mc, .ref e, .int (nI n)])))) (fe : Bool) (f : Nat → Option Nat) (he1 : h e = some (fe, .inl (6, n, .inr (.inr (.inr (.inr f)))))) (hn : n ≤ 100) (h0 : n = 0 → e = fmAd G 10) (el : ∀ i, i < n → ∀ y, f i = some y → ∃ (ci : Nat) (C : String) (T : u_T) (N : Nat) (b : Bool) (fs : List Value), vwCl[ci]? = some (C, T, N) ∧ h y = some (b, .inr (.inl (ci, fs))) ∧ Cond.castable C "java/lang/Object" ∈ lw_tbl)  : Ct G yJ2_grow (ws_ yJ2_grow cJ2_grow 1 (some (.array (.object "java/lang/Object")))) { frames := 4, cells := 1, slots := 200, locals := 127 } [.ref l] h (fun v h' => ∃ (a cap : Nat) (g : Nat → Option Nat), h a = none ∧ (fmK0 G).size ≤ a ∧ v = some (.ref a) ∧ n < cap ∧ cap ≤ 200 ∧ (∀ i, i < n → g i = f i) ∧ (∀ i, n ≤ i → g i = none) ∧ h' = fmUp (fmUp h a (true, .inl (6, cap, .inr (.inr (.inr (.inr g)))))) l (true, .inr (.inl (12, [.int mc, .ref a, .int (nI n)])))) fmNo := by
  refine Ct.of hl (by decide +kernel) (Nat.le_of_ble_eq_true rfl) (fun Γ E P => ?_)
  refine r_aload_n E dJ2_grow_0 rfl ?_
  refine r_aload_n E dJ2_grow_1 rfl ?_
  refine r_getf E cl_J2 2 (by decide) q155 hl1 rfl dJ2_grow_2 ?_
  refine r_iconst E (nI 1) dJ2_grow_5 (by decide) ?_
  refine r_iaddN E dJ2_grow_6 ?_
  refine r_callV E (ct_J2_grow_2 G hl h l e n mc hl1 fe f he1 hn h0 el) mJ2_grow_2 q509 q511 qs5 (fun H a1 => fm_rc (ci := 12) (C := RJ2) (T := TJ2) (N := 3) a1 rfl E.v hl1) rfl rfl (Nat.le_of_ble_eq_true rfl) (Nat.le_of_ble_eq_true rfl) (Nat.le_of_ble_eq_true rfl) dJ2_grow_7 0 0 (Nat.le_of_ble_eq_true rfl) (Nat.le_of_ble_eq_true rfl) (fun v' h' q => ?_) (fun _ _ _ q => q.elim)
  have q2 := q; obtain ⟨a, cap, g, ha, ha0, rfl, r1⟩ := q
  exact r_areturn E P rfl (Or.inr ⟨_, rfl⟩) dJ2_grow_10 q2

set_option maxHeartbeats 4000000 in
theorem ct_J2_add_2 (G : fmG) (hl : (fmLn G).stackTraces = false) (h : fmHp) (l e n cap : Nat) (mc : Int32) (hl1 : h l = some (true, .inr (.inl (12, [.int mc, .ref e, .int (nI n)])))) (fe : Bool) (f : Nat → Option Nat) (he1 : h e = some (fe, .inl (6, cap, .inr (.inr (.inr (.inr f)))))) (hn : n ≤ cap) (hn1 : n ≤ 100) (hcap : cap ≤ 200) (h0 : cap = 0 → e = fmAd G 10) (hfe : 0 < cap → fe = true) (hnone : ∀ i, n ≤ i → i < cap → f i = none) (el : ∀ i, i < n → ∀ y, f i = some y → isO h y) (v : Nat) (hv : isO h v)  : Ct G yJ2_add_2 (ws_ yJ2_add_2 cJ2_add_2 4 none) { frames := 5, cells := 1, slots := 200, locals := 147 } [.ref l, .ref v, .ref e, .int (nI n)] h (fun v0 h' => ∃ (e' cap' : Nat) (g : Nat → Option Nat), v0 = none ∧ ((e' = e ∧ 0 < cap) ∨ h e' = none ∧ (fmK0 G).size ≤ e') ∧ n < cap' ∧ cap' ≤ 200 ∧ (∀ i, i < n → g i = f i) ∧ g n = some v ∧ (∀ i, n < i → i < cap' → g i = none) ∧ h' l = some (true, .inr (.inl (12, [.int mc, .ref e', .int (nI (n + 1))]))) ∧ h' e' = some (true, .inl (6, cap', .inr (.inr (.inr (.inr g))))) ∧ (∀ q x, h q = some x → q ≠ l → (q ≠ e ∨ x.1 = false) → h' q = some x)) fmNo := by
  refine Ct.of hl (by decide +kernel) (Nat.le_of_ble_eq_true rfl) (fun Γ E P => ?_)
  have hle : l ≠ e := fun q => by rw [q, he1] at hl1; cases hl1
  obtain ⟨vci, vC, vT, vN, vb, vfs, vk1, vk2, vk3⟩ := hv
  refine r_iload_n E dJ2_add_2_0 rfl ?_
  refine r_aload_n E dJ2_add_2_1 rfl ?_
  refine r_alen E he1 rfl dJ2_add_2_2 ?_
  refine r_icmpN_ne (tgt := 11) E dJ2_add_2_3 (by decide) (by omega) (by omega) (fun c1 => ?_) (fun c1 => ?_)
  · have hft := hfe (by omega)
    subst hft
    refine r_aload_n E dJ2_add_2_11 rfl ?_
    refine r_iload_n E dJ2_add_2_12 rfl ?_
    refine r_aload_n E dJ2_add_2_13 rfl ?_
    refine r_aast E (t := 6) (Ev := "java/lang/Object") rfl (fun H a1 => fm_rc a1 vk1 E.v vk2) vk3 he1 (by omega) (by omega) dJ2_add_2_14 ?_
    refine r_hp (h' := fmUp h e (true, .inl (6, cap, .inr (.inr (.inr (.inr (va_up f n (some v)))))))) (rfl) ?_
    refine r_aload_n E dJ2_add_2_15 rfl ?_
    refine r_iload_n E dJ2_add_2_16 rfl ?_
    refine r_iconst E (nI 1) dJ2_add_2_17 (by decide) ?_
    refine r_iaddN E dJ2_add_2_18 ?_
    refine r_putf E cl_J2 2 (by decide) rfl q155 (fun _ z => z) ((fmUp_n hle).trans hl1) (Nat.le_of_ble_eq_true rfl) rfl rfl dJ2_add_2_19 ?_
    refine r_hp (h' := fmUp (fmUp h e (true, .inl (6, cap, .inr (.inr (.inr (.inr (va_up f n (some v)))))))) l (true, .inr (.inl (12, [.int mc, .ref e, .int (nI (n + 1))])))) (rfl) ?_
    exact r_return E P rfl dJ2_add_2_22 ⟨e, cap, va_up f n (some v), rfl, Or.inl ⟨rfl, by omega⟩, by omega, hcap, fun i hi => va_up_ne _ _ (by omega), va_up_self _ _ _, fun i h1 h2 => (va_up_ne _ _ (by omega)).trans (hnone i (by omega) h2), fmUp_s, (fmUp_n (Ne.symm hle)).trans fmUp_s, fun q x h1 h2 h3 => by
      have hqe : q ≠ e := fun q2 => by rw [q2, he1] at h1; cases h1; exact h3.elim (fun z => z q2) (fun z => Bool.noConfusion z)
      rw [fmUp_n h2, fmUp_n hqe]; exact h1⟩
  · have hcn : cap = n := by omega
    subst hcn
    refine r_aload_n E dJ2_add_2_6 rfl ?_
    refine r_callV E (ct_J2_grow G hl h l e cap mc hl1 fe f he1 (by omega) h0 el) mJ2_grow q505 q507 qs4 (fun H a1 => fm_rc (ci := 12) (C := RJ2) (T := TJ2) (N := 3) a1 rfl E.v hl1) rfl rfl (Nat.le_of_ble_eq_true rfl) (Nat.le_of_ble_eq_true rfl) (Nat.le_of_ble_eq_true rfl) dJ2_add_2_7 0 0 (Nat.le_of_ble_eq_true rfl) (Nat.le_of_ble_eq_true rfl) (fun v' h' q => ?_) (fun _ _ _ q => q.elim)
    obtain ⟨a, cap2, g, ha, ha0, rfl, r1, r2, r3, r4, rfl⟩ := q
    have hla : l ≠ a := fun q => by rw [q, ha] at hl1; cases hl1
    have hcv : v ≠ a := fun q => by rw [q, ha] at vk2; cases vk2
    have hv2 : ∃ (b : Bool) (fs : List Value), (fmUp (fmUp h a (true, .inl (6, cap2, .inr (.inr (.inr (.inr g)))))) l (true, .inr (.inl (12, [.int mc, .ref a, .int (nI cap)])))) v = some (b, .inr (.inl (vci, fs))) := by
      by_cases hvl : v = l
      · subst hvl; rw [hl1] at vk2; cases vk2; exact ⟨_, _, fmUp_s⟩
      · exact ⟨_, _, by rw [fmUp_n hvl, fmUp_n hcv]; exact vk2⟩
    obtain ⟨vb2, vfs2, vk4⟩ := hv2
    refine r_astore_n E [some (.ref l), some (.ref v), some (.ref a), some (.int (nI cap))] dJ2_add_2_10 rfl rfl ?_
    refine r_aload_n E dJ2_add_2_11 rfl ?_
    refine r_iload_n E dJ2_add_2_12 rfl ?_
    refine r_aload_n E dJ2_add_2_13 rfl ?_
    refine r_aast E (t := 6) (Ev := "java/lang/Object") rfl (fun H a1 => fm_rc a1 vk1 E.v vk4) vk3 ((fmUp_n (Ne.symm hla)).trans fmUp_s) (by omega) (by omega) dJ2_add_2_14 ?_
    refine r_hp (h' := fmUp (fmUp (fmUp h a (true, .inl (6, cap2, .inr (.inr (.inr (.inr g)))))) l (true, .inr (.inl (12, [.int mc, .ref a, .int (nI cap)])))) a (true, .inl (6, cap2, .inr (.inr (.inr (.inr (va_up g cap (some v)))))))) (rfl) ?_
    refine r_aload_n E dJ2_add_2_15 rfl ?_
    refine r_iload_n E dJ2_add_2_16 rfl ?_
    refine r_iconst E (nI 1) dJ2_add_2_17 (by decide) ?_
    refine r_iaddN E dJ2_add_2_18 ?_
    refine r_putf E cl_J2 2 (by decide) rfl q155 (fun _ z => z) ((fmUp_n hla).trans fmUp_s) (Nat.le_of_ble_eq_true rfl) rfl rfl dJ2_add_2_19 ?_
    refine r_hp (h' := fmUp (fmUp (fmUp (fmUp h a (true, .inl (6, cap2, .inr (.inr (.inr (.inr g)))))) l (true, .inr (.inl (12, [.int mc, .ref a, .int (nI cap)])))) a (true, .inl (6, cap2, .inr (.inr (.inr (.inr (va_up g cap (some v)))))))) l (true, .inr (.inl (12, [.int mc, .ref a, .int (nI (cap + 1))])))) (rfl) ?_
    exact r_return E P rfl dJ2_add_2_22 ⟨a, cap2, va_up g cap (some v), rfl, Or.inr ⟨ha, ha0⟩, by omega, by omega, fun i hi => (va_up_ne _ _ (by omega)).trans (r3 i hi), va_up_self _ _ _, fun i h1 h2 => (va_up_ne _ _ (by omega)).trans (r4 i (by omega)), fmUp_s, (fmUp_n (Ne.symm hla)).trans fmUp_s, fun q x h1 h2 h3 => by
      have hqa : q ≠ a := fun q2 => by rw [q2, ha] at h1; cases h1
      rw [fmUp_n h2, fmUp_n hqa, fmUp_n h2, fmUp_n hqa]; exact h1⟩

