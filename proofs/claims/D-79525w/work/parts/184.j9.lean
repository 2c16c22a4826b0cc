set_option maxHeartbeats 4000000 in
theorem ct_J17_copyOf_3 (G : fmG) (hl : (fmLn G).stackTraces = false) (h : fmHp) (v cap : Nat) (bf : Nat → Int32) (hv : h v = some (true, .inl (3, cap, .inl bf))) (hcap : cap ≤ 500) (n : Nat) (hn : cap < n) (hn2 : n ≤ 500) (hfit : sb_Fit bf) : Ct G yJ17_copyOf_3 (ws_ yJ17_copyOf_3 cJ17_copyOf_3 3 (some (.array .byte))) { frames := 1, cells := 1, slots := 500, locals := 80 } [.ref v, .int (nI n)] h (fun v0 h' => ∃ a, h a = none ∧ (fmK0 G).size ≤ a ∧ v0 = some (.ref a) ∧ h' = fmUp h a (true, .inl (3, n, .inl (va_cpy bf (fun _ => 0) 0 0 cap)))) fmNo := by
  refine Ct.of hl (by decide +kernel) (Nat.le_of_ble_eq_true rfl) (fun Γ E P => ?_)
  refine r_iload_n E dJ17_copyOf_3_0 rfl ?_
  refine r_aload_n E dJ17_copyOf_3_1 rfl ?_
  refine r_alen E hv rfl dJ17_copyOf_3_2 ?_
  refine r_icmpN_ne (tgt := 14) E dJ17_copyOf_3_3 (by decide) (by omega) (by omega) (fun c1 => ?_) (fun c1 => ?_)
  · refine r_iload_n E dJ17_copyOf_3_14 rfl ?_
    refine r_newa E 3 (.inl (fun _ => 0)) rfl (z_aB n) q269 (fun e => e) (by omega) (by show n * 1 ≤ 536870912; omega) 0 0 (Nat.le_of_ble_eq_true rfl) (show 0 + n ≤ 500 by omega) dJ17_copyOf_3_15 (fun a ha ka => ?_)
    refine r_astore_n E [some (.ref v), some (.int (nI n)), some (.ref a)] dJ17_copyOf_3_17 rfl rfl ?_
    refine r_aload_n E dJ17_copyOf_3_18 rfl ?_
    refine r_iconst E (nI 0) dJ17_copyOf_3_19 (by decide) ?_
    refine r_aload_n E dJ17_copyOf_3_20 rfl ?_
    refine r_iconst E (nI 0) dJ17_copyOf_3_21 (by decide) ?_
    refine r_aload_n E dJ17_copyOf_3_22 rfl ?_
    refine r_alen E (fmUp_of hv ha) rfl dJ17_copyOf_3_23 ?_
    refine r_iload_n E dJ17_copyOf_3_24 rfl ?_
    refine r_min E (by omega) (by omega) q568 q569 q101 q570 (Nat.le_of_ble_eq_true rfl) (Nat.le_of_ble_eq_true rfl) dJ17_copyOf_3_25 ?_
    refine r_top (v' := .int (nI cap)) (congrArg (fun z => Value.int (nI z)) (Nat.min_eq_left (by omega))) ?_
    refine r_copyI E (sp := 0) (dp := 0) (n := cap) (t := 3) rfl rfl (fmUp_of hv ha) fmUp_s (by omega) (by omega) (by omega) (by omega) (fun i hi => hfit _) q571 q366 q367 q97 (Nat.le_of_ble_eq_true rfl) (Nat.le_of_ble_eq_true rfl) dJ17_copyOf_3_28 ?_
    refine r_aload_n E dJ17_copyOf_3_31 rfl ?_
    exact r_areturn E P rfl (Or.inr ⟨_, rfl⟩) dJ17_copyOf_3_32 ⟨a, ha, ka, rfl, fmUp_uu _ _ _ _⟩
  · omega

set_option maxHeartbeats 4000000 in
theorem ct_J4_newCapacity (G : fmG) (hl : (fmLn G).stackTraces = false) (h : fmHp) (sb v len cap : Nat) (u ml : Bool) (bf : Nat → Int32) (hsb : h sb = some (true, .inr (.inl (15, [.ref v, .int (bI u), .int (bI ml), .int (nI len)])))) (hv : h v = some (true, .inl (3, cap, .inl bf))) (m : Nat) (hm : m ≤ 61) (hcap : cap ≤ 200) (hlt : (if u = true then 2 * m else m) > cap) : Ct G yJ4_newCapacity (ws_ yJ4_newCapacity cJ4_newCapacity 6 (some .int)) { frames := 2, cells := 0, slots := 0, locals := 47 } [.ref sb, .int (nI m)] h (fmRet (some (.int (nI (if u = true then (cap + max (2 * m - cap) (cap + 4)) / 2 else cap + max (m - cap) (cap + 2))))) h) fmNo := by
  refine Ct.of hl (by decide +kernel) (Nat.le_of_ble_eq_true rfl) (fun Γ E P => ?_)
  have hne : sb ≠ v := fun z => by rw [z, hv] at hsb; cases hsb
  cases u with
  | false =>
    simp only [Bool.false_eq_true, if_false] at hlt
    refine r_aload_n E dJ4_newCapacity_0 rfl ?_
    refine r_getf E cl_J5 0 (by decide) q255 hsb rfl dJ4_newCapacity_1 ?_
    refine r_alen E hv rfl dJ4_newCapacity_4 ?_
    refine r_istore_n E [some (.ref sb), some (.int (nI m)), some (.int (nI cap)), none, none, none] dJ4_newCapacity_5 rfl rfl ?_
    refine r_iload_n E dJ4_newCapacity_6 rfl ?_
    refine r_aload_n E dJ4_newCapacity_7 rfl ?_
    refine r_getf E cl_J5 1 (by decide) q256 hsb rfl dJ4_newCapacity_8 ?_
    refine r_ishl E dJ4_newCapacity_11 ?_
    refine r_top (v' := .int (nI m)) (congrArg Value.int (sb_shl0 _)) ?_
    refine r_istore_n E [some (.ref sb), some (.int (nI m)), some (.int (nI cap)), some (.int (nI m)), none, none] dJ4_newCapacity_12 rfl rfl ?_
    refine r_iload_n E dJ4_newCapacity_13 rfl ?_
    refine r_iload_n E dJ4_newCapacity_14 rfl ?_
    refine r_isubN E dJ4_newCapacity_15 (by omega) ?_
    refine r_istore E [some (.ref sb), some (.int (nI m)), some (.int (nI cap)), some (.int (nI m)), some (.int (nI (m - cap))), none] dJ4_newCapacity_16 rfl rfl ?_
    refine r_iload_n E dJ4_newCapacity_18 rfl ?_
    refine r_iload E dJ4_newCapacity_19 rfl ?_
    refine r_iload_n E dJ4_newCapacity_21 rfl ?_
    refine r_iconst E (nI 2) dJ4_newCapacity_22 (by decide) ?_
    refine r_aload_n E dJ4_newCapacity_23 rfl ?_
    refine r_getf E cl_J5 1 (by decide) q256 hsb rfl dJ4_newCapacity_24 ?_
    refine r_ishl E dJ4_newCapacity_27 ?_
    refine r_top (v' := .int (nI 2)) (by decide) ?_
    refine r_iaddN E dJ4_newCapacity_28 ?_
    refine r_callS1 (v1 := .int (nI (cap + max (m - cap) (cap + 2)))) E (ct_J15_newLength G hl (h) cap (m - cap) (cap + 2) (by omega) (by omega) (by omega) (by omega)) mJ15_newLength q100 q1407 q514 rfl rfl (Nat.le_of_ble_eq_true rfl) (Nat.le_of_ble_eq_true rfl) (Nat.le_of_ble_eq_true rfl) dJ4_newCapacity_29 0 0 (Nat.le_of_ble_eq_true rfl) (Nat.le_of_ble_eq_true rfl) ?_
    refine r_istore E [some (.ref sb), some (.int (nI m)), some (.int (nI cap)), some (.int (nI m)), some (.int (nI (m - cap))), some (.int (nI (cap + max (m - cap) (cap + 2))))] dJ4_newCapacity_32 rfl rfl ?_
    refine r_iload E dJ4_newCapacity_34 rfl ?_
    refine r_ldc E q1408 dJ4_newCapacity_36 ?_
    refine r_top (v' := .int (nI 2147483647)) rfl ?_
    refine r_icmpN_ne (tgt := 51) E dJ4_newCapacity_38 (by decide) (by omega) (by omega) (fun c1 => ?_) (fun c1 => ?_)
    · refine r_iload E dJ4_newCapacity_51 rfl ?_
      refine r_aload_n E dJ4_newCapacity_53 rfl ?_
      refine r_getf E cl_J5 1 (by decide) q256 hsb rfl dJ4_newCapacity_54 ?_
      refine r_ishr E dJ4_newCapacity_57 ?_
      refine r_top (v' := .int (nI (cap + max (m - cap) (cap + 2)))) (congrArg Value.int (sshr0 _)) ?_
      refine r_top (v' := .int (nI (if false = true then (cap + max (2 * m - cap) (cap + 4)) / 2 else cap + max (m - cap) (cap + 2)))) (congrArg (fun z => Value.int (nI z)) (by simp)) ?_
      exact r_ireturn E P rfl dJ4_newCapacity_58 ⟨rfl, rfl⟩
    · exfalso; omega
  | true =>
    simp only [if_true] at hlt
    refine r_aload_n E dJ4_newCapacity_0 rfl ?_
    refine r_getf E cl_J5 0 (by decide) q255 hsb rfl dJ4_newCapacity_1 ?_
    refine r_alen E hv rfl dJ4_newCapacity_4 ?_
    refine r_istore_n E [some (.ref sb), some (.int (nI m)), some (.int (nI cap)), none, none, none] dJ4_newCapacity_5 rfl rfl ?_
    refine r_iload_n E dJ4_newCapacity_6 rfl ?_
    refine r_aload_n E dJ4_newCapacity_7 rfl ?_
    refine r_getf E cl_J5 1 (by decide) q256 hsb rfl dJ4_newCapacity_8 ?_
    refine r_ishl E dJ4_newCapacity_11 ?_
    refine r_top (v' := .int (nI (2 * m))) (congrArg Value.int (shl1 (by omega))) ?_
    refine r_istore_n E [some (.ref sb), some (.int (nI m)), some (.int (nI cap)), some (.int (nI (2 * m))), none, none] dJ4_newCapacity_12 rfl rfl ?_
    refine r_iload_n E dJ4_newCapacity_13 rfl ?_
    refine r_iload_n E dJ4_newCapacity_14 rfl ?_
    refine r_isubN E dJ4_newCapacity_15 (by omega) ?_
    refine r_istore E [some (.ref sb), some (.int (nI m)), some (.int (nI cap)), some (.int (nI (2 * m))), some (.int (nI ((2 * m) - cap))), none] dJ4_newCapacity_16 rfl rfl ?_
    refine r_iload_n E dJ4_newCapacity_18 rfl ?_
    refine r_iload E dJ4_newCapacity_19 rfl ?_
    refine r_iload_n E dJ4_newCapacity_21 rfl ?_
    refine r_iconst E (nI 2) dJ4_newCapacity_22 (by decide) ?_
    refine r_aload_n E dJ4_newCapacity_23 rfl ?_
    refine r_getf E cl_J5 1 (by decide) q256 hsb rfl dJ4_newCapacity_24 ?_
    refine r_ishl E dJ4_newCapacity_27 ?_
    refine r_top (v' := .int (nI 4)) (by decide) ?_
    refine r_iaddN E dJ4_newCapacity_28 ?_
    refine r_callS1 (v1 := .int (nI (cap + max ((2 * m) - cap) (cap + 4)))) E (ct_J15_newLength G hl (h) cap ((2 * m) - cap) (cap + 4) (by omega) (by omega) (by omega) (by omega)) mJ15_newLength q100 q1407 q514 rfl rfl (Nat.le_of_ble_eq_true rfl) (Nat.le_of_ble_eq_true rfl) (Nat.le_of_ble_eq_true rfl) dJ4_newCapacity_29 0 0 (Nat.le_of_ble_eq_true rfl) (Nat.le_of_ble_eq_true rfl) ?_
    refine r_istore E [some (.ref sb), some (.int (nI m)), some (.int (nI cap)), some (.int (nI (2 * m))), some (.int (nI ((2 * m) - cap))), some (.int (nI (cap + max ((2 * m) - cap) (cap + 4))))] dJ4_newCapacity_32 rfl rfl ?_
    refine r_iload E dJ4_newCapacity_34 rfl ?_
    refine r_ldc E q1408 dJ4_newCapacity_36 ?_
    refine r_top (v' := .int (nI 2147483647)) rfl ?_
    refine r_icmpN_ne (tgt := 51) E dJ4_newCapacity_38 (by decide) (by omega) (by omega) (fun c1 => ?_) (fun c1 => ?_)
    · refine r_iload E dJ4_newCapacity_51 rfl ?_
      refine r_aload_n E dJ4_newCapacity_53 rfl ?_
      refine r_getf E cl_J5 1 (by decide) q256 hsb rfl dJ4_newCapacity_54 ?_
      refine r_ishr E dJ4_newCapacity_57 ?_
      refine r_top (v' := .int (nI ((cap + max ((2 * m) - cap) (cap + 4)) / 2))) (congrArg Value.int (shr1 (by omega))) ?_
      refine r_top (v' := .int (nI (if true = true then (cap + max (2 * m - cap) (cap + 4)) / 2 else cap + max (m - cap) (cap + 2)))) (congrArg (fun z => Value.int (nI z)) (by simp)) ?_
      exact r_ireturn E P rfl dJ4_newCapacity_58 ⟨rfl, rfl⟩
    · exfalso; omega

set_option maxHeartbeats 4000000 in
theorem ct_J4_ensureCapacityInternal (G : fmG) (hl : (fmLn G).stackTraces = false) (h : fmHp) (sb v len cap : Nat) (u ml : Bool) (bf : Nat → Int32) (hsb : h sb = some (true, .inr (.inl (15, [.ref v, .int (bI u), .int (bI ml), .int (nI len)])))) (hv : h v = some (true, .inl (3, cap, .inl bf))) (hcap : cap ≤ (if u = true then 500 else 250)) (m : Nat) (hm : m ≤ 61) (hfit : sb_Fit bf) : Ct G yJ4_ensureCapacityInternal (ws_ yJ4_ensureCapacityInternal cJ4_ensureCapacityInternal 3 none) { frames := 3, cells := 1, slots := 500, locals := 102 } [.ref sb, .int (nI m)] h (fun v0 h' => v0 = none ∧ ∃ (v' cap' : Nat) (bf' : Nat → Int32), h' sb = some (true, .inr (.inl (15, [.ref v', .int (bI u), .int (bI ml), .int (nI len)]))) ∧ h' v' = some (true, .inl (3, cap', .inl bf')) ∧ sb_Fit bf' ∧ (∀ i, i < cap → bf' i = bf i) ∧ cap ≤ cap' ∧ (if u = true then 2 * m else m) ≤ cap' ∧ cap' ≤ max cap 250 ∧ (∀ q x, h q = some x → q ≠ sb → h' q = some x) ∧ (v' = v ∨ h v' = none)) fmNo := by
  refine Ct.of hl (by decide +kernel) (Nat.le_of_ble_eq_true rfl) (fun Γ E P => ?_)
  have hne : sb ≠ v := fun z => by rw [z, hv] at hsb; cases hsb
  cases u with
  | false =>
    simp only [Bool.false_eq_true, if_false] at hcap
    refine r_aload_n E dJ4_ensureCapacityInternal_0 rfl ?_
    refine r_getf E cl_J5 0 (by decide) q255 hsb rfl dJ4_ensureCapacityInternal_1 ?_
    refine r_alen E hv rfl dJ4_ensureCapacityInternal_4 ?_
    refine r_aload_n E dJ4_ensureCapacityInternal_5 rfl ?_
    refine r_getf E cl_J5 1 (by decide) q256 hsb rfl dJ4_ensureCapacityInternal_6 ?_
    refine r_ishr E dJ4_ensureCapacityInternal_9 ?_
    refine r_top (v' := .int (nI cap)) (congrArg Value.int (sshr0 _)) ?_
    refine r_istore_n E [some (.ref sb), some (.int (nI m)), some (.int (nI cap))] dJ4_ensureCapacityInternal_10 rfl rfl ?_
    refine r_iload_n E dJ4_ensureCapacityInternal_11 rfl ?_
    refine r_iload_n E dJ4_ensureCapacityInternal_12 rfl ?_
    by_cases hg : m ≤ cap
    · refine r_isub E dJ4_ensureCapacityInternal_13 ?_
      refine r_if_le (tgt := 38) E dJ4_ensureCapacityInternal_14 (by decide) (fun _ => ?_) (fun q => absurd (sub_le0 hg (by omega)) q)
      exact r_return E P rfl dJ4_ensureCapacityInternal_38 ⟨rfl, v, cap, bf, hsb, hv, hfit, fun _ _ => rfl, Nat.le_refl _, by simp only [Bool.false_eq_true, if_false]; omega, by omega, fun q x hq _ => hq, Or.inl rfl⟩
    · refine r_isubN E dJ4_ensureCapacityInternal_13 (by omega) ?_
      refine r_ifN_le (tgt := 38) E dJ4_ensureCapacityInternal_14 (by decide) (by omega) (fun c1 => ?_) (fun c1 => ?_)
      · exfalso; omega
      · refine r_aload_n E dJ4_ensureCapacityInternal_17 rfl ?_
        refine r_aload_n E dJ4_ensureCapacityInternal_18 rfl ?_
        refine r_getf E cl_J5 0 (by decide) q255 hsb rfl dJ4_ensureCapacityInternal_19 ?_
        refine r_aload_n E dJ4_ensureCapacityInternal_22 rfl ?_
        refine r_iload_n E dJ4_ensureCapacityInternal_23 rfl ?_
        refine r_callP E (ct_J4_newCapacity G hl h sb v len cap false ml bf hsb hv m hm (by omega) (by simp only [Bool.false_eq_true, if_false]; omega)) mJ4_newCapacity q1403 q1405 q1404 q1422 rfl (ci := 15) rfl hsb rfl rfl (Nat.le_of_ble_eq_true rfl) (Nat.le_of_ble_eq_true rfl) (Nat.le_of_ble_eq_true rfl) dJ4_ensureCapacityInternal_24 1 500 (Nat.le_of_ble_eq_true rfl) (Nat.le_of_ble_eq_true rfl) (fun v' h' q => ?_) (fun _ _ _ q => q.elim)
        obtain ⟨rfl, hq9⟩ := q
        rw [hq9]
        refine r_top (v' := .int (nI (cap + max (m - cap) (cap + 2)))) (by simp) ?_
        refine r_aload_n E dJ4_ensureCapacityInternal_27 rfl ?_
        refine r_getf E cl_J5 1 (by decide) q256 hsb rfl dJ4_ensureCapacityInternal_28 ?_
        refine r_ishl E dJ4_ensureCapacityInternal_31 ?_
        refine r_top (v' := .int (nI (cap + max (m - cap) (cap + 2)))) (congrArg Value.int (sb_shl0 _)) ?_
        have hnn : cap < (cap + max (m - cap) (cap + 2)) := by omega
        refine r_callS E (ct_J17_copyOf_3 G hl h v cap bf hv (by omega) ((cap + max (m - cap) (cap + 2))) hnn (by omega) hfit) mJ17_copyOf_3 q102 q1409 q1410 rfl rfl (Nat.le_of_ble_eq_true rfl) (Nat.le_of_ble_eq_true rfl) (Nat.le_of_ble_eq_true rfl) dJ4_ensureCapacityInternal_32 0 0 (Nat.le_of_ble_eq_true rfl) (Nat.le_of_ble_eq_true rfl) (fun v' h1 q => ?_) (fun _ _ _ q => q.elim)
        obtain ⟨a, ha, ka, rfl, rfl⟩ := q
        have hsa : a ≠ sb := fun z => by rw [z, hsb] at ha; cases ha
        refine r_putf E cl_J5 0 (by decide) rfl q255 (fun _ z => z) (fmUp_of hsb ha) (Nat.le_of_ble_eq_true rfl) rfl rfl dJ4_ensureCapacityInternal_35 ?_
        refine r_hp (h' := fmUp (fmUp h a (true, .inl (3, (cap + max (m - cap) (cap + 2)), .inl (va_cpy bf (fun _ => 0) 0 0 cap)))) sb (true, .inr (.inl (15, [.ref a, .int (bI false), .int (bI ml), .int (nI len)])))) (rfl) ?_
        exact r_return E P rfl dJ4_ensureCapacityInternal_38 ⟨rfl, a, _, _, fmUp_s, (fmUp_n hsa).trans fmUp_s, sb_fitC hfit sb_fit0, fun i hi => sb_cpy0 hi, by omega, by simp only [Bool.false_eq_true, if_false]; omega, by omega, fun q x hq h1 => by rw [fmUp_n h1]; exact fmUp_of hq ha, Or.inr ha⟩
  | true =>
    simp only [if_true] at hcap
    refine r_aload_n E dJ4_ensureCapacityInternal_0 rfl ?_
    refine r_getf E cl_J5 0 (by decide) q255 hsb rfl dJ4_ensureCapacityInternal_1 ?_
    refine r_alen E hv rfl dJ4_ensureCapacityInternal_4 ?_
    refine r_aload_n E dJ4_ensureCapacityInternal_5 rfl ?_
    refine r_getf E cl_J5 1 (by decide) q256 hsb rfl dJ4_ensureCapacityInternal_6 ?_
    refine r_ishr E dJ4_ensureCapacityInternal_9 ?_
    refine r_top (v' := .int (nI (cap / 2))) (congrArg Value.int (shr1 (by omega))) ?_
    refine r_istore_n E [some (.ref sb), some (.int (nI m)), some (.int (nI (cap / 2)))] dJ4_ensureCapacityInternal_10 rfl rfl ?_
    refine r_iload_n E dJ4_ensureCapacityInternal_11 rfl ?_
    refine r_iload_n E dJ4_ensureCapacityInternal_12 rfl ?_
    by_cases hg : m ≤ (cap / 2)
    · refine r_isub E dJ4_ensureCapacityInternal_13 ?_
      refine r_if_le (tgt := 38) E dJ4_ensureCapacityInternal_14 (by decide) (fun _ => ?_) (fun q => absurd (sub_le0 hg (by omega)) q)
      exact r_return E P rfl dJ4_ensureCapacityInternal_38 ⟨rfl, v, cap, bf, hsb, hv, hfit, fun _ _ => rfl, Nat.le_refl _, by simp only [if_true]; omega, by omega, fun q x hq _ => hq, Or.inl rfl⟩
    · refine r_isubN E dJ4_ensureCapacityInternal_13 (by omega) ?_
      refine r_ifN_le (tgt := 38) E dJ4_ensureCapacityInternal_14 (by decide) (by omega) (fun c1 => ?_) (fun c1 => ?_)
      · exfalso; omega
      · refine r_aload_n E dJ4_ensureCapacityInternal_17 rfl ?_
        refine r_aload_n E dJ4_ensureCapacityInternal_18 rfl ?_
        refine r_getf E cl_J5 0 (by decide) q255 hsb rfl dJ4_ensureCapacityInternal_19 ?_
        refine r_aload_n E dJ4_ensureCapacityInternal_22 rfl ?_
        refine r_iload_n E dJ4_ensureCapacityInternal_23 rfl ?_
        refine r_callP E (ct_J4_newCapacity G hl h sb v len cap true ml bf hsb hv m hm (by omega) (by simp only [if_true]; omega)) mJ4_newCapacity q1403 q1405 q1404 q1422 rfl (ci := 15) rfl hsb rfl rfl (Nat.le_of_ble_eq_true rfl) (Nat.le_of_ble_eq_true rfl) (Nat.le_of_ble_eq_true rfl) dJ4_ensureCapacityInternal_24 1 500 (Nat.le_of_ble_eq_true rfl) (Nat.le_of_ble_eq_true rfl) (fun v' h' q => ?_) (fun _ _ _ q => q.elim)
        obtain ⟨rfl, hq9⟩ := q
        rw [hq9]
        refine r_top (v' := .int (nI ((cap + max (2 * m - cap) (cap + 4)) / 2))) (by simp) ?_
        refine r_aload_n E dJ4_ensureCapacityInternal_27 rfl ?_
        refine r_getf E cl_J5 1 (by decide) q256 hsb rfl dJ4_ensureCapacityInternal_28 ?_
        refine r_ishl E dJ4_ensureCapacityInternal_31 ?_
        refine r_top (v' := .int (nI (2 * ((cap + max (2 * m - cap) (cap + 4)) / 2)))) (congrArg Value.int (shl1 (by omega))) ?_
        have hnn : cap < 2 * ((cap + max (2 * m - cap) (cap + 4)) / 2) := by omega
        refine r_callS E (ct_J17_copyOf_3 G hl h v cap bf hv (by omega) (2 * ((cap + max (2 * m - cap) (cap + 4)) / 2)) hnn (by omega) hfit) mJ17_copyOf_3 q102 q1409 q1410 rfl rfl (Nat.le_of_ble_eq_true rfl) (Nat.le_of_ble_eq_true rfl) (Nat.le_of_ble_eq_true rfl) dJ4_ensureCapacityInternal_32 0 0 (Nat.le_of_ble_eq_true rfl) (Nat.le_of_ble_eq_true rfl) (fun v' h1 q => ?_) (fun _ _ _ q => q.elim)
        obtain ⟨a, ha, ka, rfl, rfl⟩ := q
        have hsa : a ≠ sb := fun z => by rw [z, hsb] at ha; cases ha
        refine r_putf E cl_J5 0 (by decide) rfl q255 (fun _ z => z) (fmUp_of hsb ha) (Nat.le_of_ble_eq_true rfl) rfl rfl dJ4_ensureCapacityInternal_35 ?_
        refine r_hp (h' := fmUp (fmUp h a (true, .inl (3, 2 * ((cap + max (2 * m - cap) (cap + 4)) / 2), .inl (va_cpy bf (fun _ => 0) 0 0 cap)))) sb (true, .inr (.inl (15, [.ref a, .int (bI true), .int (bI ml), .int (nI len)])))) (rfl) ?_
        exact r_return E P rfl dJ4_ensureCapacityInternal_38 ⟨rfl, a, _, _, fmUp_s, (fmUp_n hsa).trans fmUp_s, sb_fitC hfit sb_fit0, fun i hi => sb_cpy0 hi, by omega, by simp only [if_true]; omega, by omega, fun q x hq h1 => by rw [fmUp_n h1]; exact fmUp_of hq ha, Or.inr ha⟩

