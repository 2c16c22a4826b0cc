set_option maxHeartbeats 4000000 in
theorem ct_J22_checkFromIndexSize (G : fmG) (hl : (fmLn G).stackTraces = false) (h : fmHp) (hC : CC G h) (n m : Nat) (hn : n ≤ m) (hm : m < 1024) : Ct G yJ22_checkFromIndexSize (ws_ yJ22_checkFromIndexSize cJ22_checkFromIndexSize 4 (some .int)) { frames := 0, cells := 0, slots := 0, locals := 0 } [.int (nI 0), .int (nI n), .int (nI m), (fmSv G)] h (fmRet (some (.int (nI 0))) h) fmNo := by
  have hsv := hC.2.2.2.2.2.2.2
  generalize fmSv G = sv at hsv ⊢
  rcases hsv with rfl | ⟨t, rfl⟩
  · refine Ct.of hl (by decide +kernel) (Nat.le_of_ble_eq_true rfl) (fun Γ E P => ?_)
    refine r_iload_n E dJ22_checkFromIndexSize_0 rfl ?_
    refine r_iload_n E dJ22_checkFromIndexSize_1 rfl ?_
    refine r_ior E dJ22_checkFromIndexSize_2 ?_
    refine r_iload_n E dJ22_checkFromIndexSize_3 rfl ?_
    refine r_ior E dJ22_checkFromIndexSize_4 ?_
    refine r_top (v' := .int (nI (m ||| 0 ||| n))) (by rw [nx_or, nx_or]) ?_
    refine r_if_lt (tgt := 15) E dJ22_checkFromIndexSize_5 (by decide) (fun q => absurd q (nI_pos (Nat.lt_of_lt_of_le (or3 hm (Nat.lt_of_le_of_lt hn hm)) (by decide)))) (fun _ => ?_)
    refine r_iload_n E dJ22_checkFromIndexSize_8 rfl ?_
    refine r_iload_n E dJ22_checkFromIndexSize_9 rfl ?_
    refine r_iload_n E dJ22_checkFromIndexSize_10 rfl ?_
    refine r_isubN E dJ22_checkFromIndexSize_11 (by omega) ?_
    refine r_icmpN_le (tgt := 23) E dJ22_checkFromIndexSize_12 (by decide) (by omega) (by omega) (fun _ => ?_) (fun q => absurd (show n ≤ m - 0 by omega) q)
    refine r_iload_n E dJ22_checkFromIndexSize_23 rfl ?_
    exact r_ireturn E P rfl dJ22_checkFromIndexSize_24 ⟨rfl, rfl⟩
  · refine Ct.of hl (by decide +kernel) (Nat.le_of_ble_eq_true rfl) (fun Γ E P => ?_)
    refine r_iload_n E dJ22_checkFromIndexSize_0 rfl ?_
    refine r_iload_n E dJ22_checkFromIndexSize_1 rfl ?_
    refine r_ior E dJ22_checkFromIndexSize_2 ?_
    refine r_iload_n E dJ22_checkFromIndexSize_3 rfl ?_
    refine r_ior E dJ22_checkFromIndexSize_4 ?_
    refine r_top (v' := .int (nI (m ||| 0 ||| n))) (by rw [nx_or, nx_or]) ?_
    refine r_if_lt (tgt := 15) E dJ22_checkFromIndexSize_5 (by decide) (fun q => absurd q (nI_pos (Nat.lt_of_lt_of_le (or3 hm (Nat.lt_of_le_of_lt hn hm)) (by decide)))) (fun _ => ?_)
    refine r_iload_n E dJ22_checkFromIndexSize_8 rfl ?_
    refine r_iload_n E dJ22_checkFromIndexSize_9 rfl ?_
    refine r_iload_n E dJ22_checkFromIndexSize_10 rfl ?_
    refine r_isubN E dJ22_checkFromIndexSize_11 (by omega) ?_
    refine r_icmpN_le (tgt := 23) E dJ22_checkFromIndexSize_12 (by decide) (by omega) (by omega) (fun _ => ?_) (fun q => absurd (show n ≤ m - 0 by omega) q)
    refine r_iload_n E dJ22_checkFromIndexSize_23 rfl ?_
    exact r_ireturn E P rfl dJ22_checkFromIndexSize_24 ⟨rfl, rfl⟩

set_option maxHeartbeats 4000000 in
theorem ct_J6_checkBoundsOffCount (G : fmG) (hl : (fmLn G).stackTraces = false) (h : fmHp) (hC : CC G h) (n m : Nat) (hn : n ≤ m) (hm : m < 1024) : Ct G yJ6_checkBoundsOffCount (ws_ yJ6_checkBoundsOffCount cJ6_checkBoundsOffCount 3 (some .int)) { frames := 1, cells := 0, slots := 0, locals := 23 } [.int (nI 0), .int (nI n), .int (nI m)] h (fmRet (some (.int (nI 0))) h) fmNo := by
  refine Ct.of hl (by decide +kernel) (Nat.le_of_ble_eq_true rfl) (fun Γ E P => ?_)
  refine r_iload_n E dJ6_checkBoundsOffCount_0 rfl ?_
  refine r_iload_n E dJ6_checkBoundsOffCount_1 rfl ?_
  refine r_iload_n E dJ6_checkBoundsOffCount_2 rfl ?_
  refine r_gets E 17 rfl q1446 dJ6_checkBoundsOffCount_3 ?_
  refine r_callS1 (v1 := .int (nI 0)) E (ct_J22_checkFromIndexSize G hl h hC n m hn hm) mJ22_checkFromIndexSize q110 q1448 q1449 rfl rfl (Nat.le_of_ble_eq_true rfl) (Nat.le_of_ble_eq_true rfl) (Nat.le_of_ble_eq_true rfl) dJ6_checkBoundsOffCount_6 0 0 (Nat.le_of_ble_eq_true rfl) (Nat.le_of_ble_eq_true rfl) ?_
  exact r_ireturn E P rfl dJ6_checkBoundsOffCount_9 ⟨rfl, rfl⟩

set_option maxHeartbeats 4000000 in
theorem ct_J7_checkBoundsOffCount (G : fmG) (hl : (fmLn G).stackTraces = false) (h : fmHp) (v cap : Nat) (bf : Nat → Int32) (hv : h v = some (true, .inl (3, cap, .inl bf))) (hcap : cap ≤ 500) (hC : CC G h) (n : Nat) (hn : n ≤ cap / 2) : Ct G yJ7_checkBoundsOffCount (ws_ yJ7_checkBoundsOffCount cJ7_checkBoundsOffCount 3 none) { frames := 2, cells := 0, slots := 0, locals := 45 } [.int (nI 0), .int (nI n), .ref v] h (fmRet none h) fmNo := by
  refine Ct.of hl (by decide +kernel) (Nat.le_of_ble_eq_true rfl) (fun Γ E P => ?_)
  refine r_iload_n E dJ7_checkBoundsOffCount_0 rfl ?_
  refine r_iload_n E dJ7_checkBoundsOffCount_1 rfl ?_
  refine r_aload_n E dJ7_checkBoundsOffCount_2 rfl ?_
  refine r_callS1 (v1 := .int (nI (cap / 2))) E (ct_J7_length G hl (h) v cap bf hv (by omega)) mJ7_length q88 q1440 q1441 rfl rfl (Nat.le_of_ble_eq_true rfl) (Nat.le_of_ble_eq_true rfl) (Nat.le_of_ble_eq_true rfl) dJ7_checkBoundsOffCount_3 0 0 (Nat.le_of_ble_eq_true rfl) (Nat.le_of_ble_eq_true rfl) ?_
  refine r_callS1 (v1 := .int (nI 0)) E (ct_J6_checkBoundsOffCount G hl h hC n (cap / 2) hn (by omega)) mJ6_checkBoundsOffCount q87 q1443 q1444 rfl rfl (Nat.le_of_ble_eq_true rfl) (Nat.le_of_ble_eq_true rfl) (Nat.le_of_ble_eq_true rfl) dJ7_checkBoundsOffCount_6 0 0 (Nat.le_of_ble_eq_true rfl) (Nat.le_of_ble_eq_true rfl) ?_
  refine r_pop E dJ7_checkBoundsOffCount_9 rfl ?_
  exact r_return E P rfl dJ7_checkBoundsOffCount_10 ⟨rfl, rfl⟩

set_option maxHeartbeats 4000000 in
theorem ct_J7_inflate (G : fmG) (hl : (fmLn G).stackTraces = false) (h : fmHp) (v cap : Nat) (bf : Nat → Int32) (hv : h v = some (true, .inl (3, cap, .inl bf))) (hcap : cap ≤ 250) (a : Nat) (ha : h a = some (true, .inl (3, 2 * cap, .inl (fun _ => 0)))) (hva : v ≠ a) (len : Nat) (hlen : len ≤ cap) (hC : CC G h)  : Ct G yJ7_inflate (ws_ yJ7_inflate cJ7_inflate 6 none) { frames := 3, cells := 0, slots := 0, locals := 67 } [.ref v, .int (nI 0), .ref a, .int (nI 0), .int (nI len)] h (fmRet none (fmUp h a (true, .inl (3, 2 * cap, .inl (infl bf len))))) fmNo := by
  refine Ct.of hl (by decide +kernel) (Nat.le_of_ble_eq_true rfl) (fun Γ E P => ?_)
  refine r_iload_n E dJ7_inflate_0 rfl ?_
  refine r_iload E dJ7_inflate_1 rfl ?_
  refine r_aload_n E dJ7_inflate_3 rfl ?_
  refine r_callS0 E (ct_J7_checkBoundsOffCount G hl h a (2 * cap) (fun _ => 0) ha (by omega) hC len (by omega)) mJ7_checkBoundsOffCount q88 q1437 q1438 rfl rfl (Nat.le_of_ble_eq_true rfl) (Nat.le_of_ble_eq_true rfl) (Nat.le_of_ble_eq_true rfl) dJ7_inflate_4 0 0 (Nat.le_of_ble_eq_true rfl) (Nat.le_of_ble_eq_true rfl) ?_
  refine r_iconst E (nI 0) dJ7_inflate_7 (by decide) ?_
  refine r_istore E [some (.ref v), some (.int (nI 0)), some (.ref a), some (.int (nI 0)), some (.int (nI len)), some (.int (nI 0))] dJ7_inflate_8 rfl rfl ?_
  have lp : ∀ (n i : Nat), i + n = len → fmW G Γ (fmUp h a (true, .inl (3, 2 * cap, .inl (infl bf i)))) 0 0 10 [some (.ref v), some (.int (nI i)), some (.ref a), some (.int (nI i)), some (.int (nI len)), some (.int (nI i))] [] := by
    intro n
    induction n with
    | zero =>
      intro i hi
      refine r_iload E dJ7_inflate_10 rfl ?_
      refine r_iload E dJ7_inflate_12 rfl ?_
      refine r_icmpN_ge (tgt := 41) E dJ7_inflate_14 (by decide) (by omega) (by omega) (fun c1 => ?_) (fun c1 => ?_)
      · obtain rfl : i = len := by omega
        exact r_return E P rfl dJ7_inflate_41 ⟨rfl, rfl⟩
      · exfalso; omega
    | succ n ih =>
      intro i hi
      refine r_iload E dJ7_inflate_10 rfl ?_
      refine r_iload E dJ7_inflate_12 rfl ?_
      refine r_icmpN_ge (tgt := 41) E dJ7_inflate_14 (by decide) (by omega) (by omega) (fun c1 => ?_) (fun c1 => ?_)
      · exfalso; omega
      · refine r_aload_n E dJ7_inflate_17 rfl ?_
        refine r_iload_n E dJ7_inflate_18 rfl ?_
        refine r_iinc E (nI (i + 1)) [some (.ref v), some (.int (nI i)), some (.ref a), some (.int (nI (i + 1))), some (.int (nI len)), some (.int (nI i))] dJ7_inflate_19 rfl (nI_1 i) rfl rfl ?_
        refine r_aload_n E dJ7_inflate_22 rfl ?_
        refine r_iload_n E dJ7_inflate_23 rfl ?_
        refine r_iinc E (nI (i + 1)) [some (.ref v), some (.int (nI (i + 1))), some (.ref a), some (.int (nI (i + 1))), some (.int (nI len)), some (.int (nI i))] dJ7_inflate_24 rfl (nI_1 i) rfl rfl ?_
        refine r_bald E ((fmUp_n hva).trans hv) (by omega) (by omega) dJ7_inflate_27 ?_
        refine r_sipush E (nI 255) dJ7_inflate_28 (by decide) ?_
        refine r_iand E dJ7_inflate_31 ?_
        refine r_callS0 E (ct_J7_putChar G hl (fmUp h a (true, .inl (3, 2 * cap, .inl (infl bf i)))) a (2 * cap) (infl bf i) fmUp_s (by omega) i ((bf i) &&& (nI 255)) (by omega)) mJ7_putChar q88 q1451 q1452 rfl rfl (Nat.le_of_ble_eq_true rfl) (Nat.le_of_ble_eq_true rfl) (Nat.le_of_ble_eq_true rfl) dJ7_inflate_32 0 0 (Nat.le_of_ble_eq_true rfl) (Nat.le_of_ble_eq_true rfl) ?_
        refine r_iinc E (nI (i + 1)) [some (.ref v), some (.int (nI (i + 1))), some (.ref a), some (.int (nI (i + 1))), some (.int (nI len)), some (.int (nI (i + 1)))] dJ7_inflate_35 rfl (nI_1 i) rfl rfl ?_
        refine r_goto (tgt := 10) E dJ7_inflate_38 (by decide) ?_
        refine r_hp (h' := fmUp h a (true, .inl (3, 2 * cap, .inl (infl bf (i + 1))))) (by rw [fmUp_uu]; rfl) ?_
        exact ih (i + 1) (by omega)
  refine r_hp (h' := fmUp h a (true, .inl (3, 2 * cap, .inl (infl bf 0)))) (fmUp_id ha).symm ?_
  exact lp len 0 (by omega)

set_option maxHeartbeats 4000000 in
theorem ct_J26_inflate (G : fmG) (hl : (fmLn G).stackTraces = false) (h : fmHp) (v cap : Nat) (bf : Nat → Int32) (hv : h v = some (true, .inl (3, cap, .inl bf))) (hcap : cap ≤ 250) (a : Nat) (ha : h a = some (true, .inl (3, 2 * cap, .inl (fun _ => 0)))) (hva : v ≠ a) (len : Nat) (hlen : len ≤ cap) (hC : CC G h)  : Ct G yJ26_inflate (ws_ yJ26_inflate cJ26_inflate 5 none) { frames := 4, cells := 0, slots := 0, locals := 92 } [.ref v, .int (nI 0), .ref a, .int (nI 0), .int (nI len)] h (fmRet none (fmUp h a (true, .inl (3, 2 * cap, .inl (infl bf len))))) fmNo := by
  refine Ct.of hl (by decide +kernel) (Nat.le_of_ble_eq_true rfl) (fun Γ E P => ?_)
  refine r_aload_n E dJ26_inflate_0 rfl ?_
  refine r_iload_n E dJ26_inflate_1 rfl ?_
  refine r_aload_n E dJ26_inflate_2 rfl ?_
  refine r_iload_n E dJ26_inflate_3 rfl ?_
  refine r_iload E dJ26_inflate_4 rfl ?_
  refine r_callS0 E (ct_J7_inflate G hl h v cap bf hv hcap a ha hva len hlen hC) mJ7_inflate q88 q1434 q1435 rfl rfl (Nat.le_of_ble_eq_true rfl) (Nat.le_of_ble_eq_true rfl) (Nat.le_of_ble_eq_true rfl) dJ26_inflate_6 0 0 (Nat.le_of_ble_eq_true rfl) (Nat.le_of_ble_eq_true rfl) ?_
  exact r_return E P rfl dJ26_inflate_9 ⟨rfl, rfl⟩

set_option maxHeartbeats 4000000 in
theorem ct_J4_inflate (G : fmG) (hl : (fmLn G).stackTraces = false) (h : fmHp) (sb v len cap : Nat) (ml : Bool) (bf : Nat → Int32) (hsb : h sb = some (true, .inr (.inl (15, [.ref v, .int (bI false), .int (bI ml), .int (nI len)])))) (hv : h v = some (true, .inl (3, cap, .inl bf))) (hcap : cap ≤ 250) (hlen : len ≤ cap) (hC : CC G h) : Ct G yJ4_inflate (ws_ yJ4_inflate cJ4_inflate 2 none) { frames := 5, cells := 1, slots := 500, locals := 116 } [.ref sb] h (fun v0 h' => v0 = none ∧ ∃ a, h a = none ∧ h' = fmUp (fmUp h a (true, .inl (3, 2 * cap, .inl (infl bf len)))) sb (true, .inr (.inl (15, [.ref a, .int (bI true), .int (bI ml), .int (nI len)])))) fmNo := by
  refine Ct.of hl (by decide +kernel) (Nat.le_of_ble_eq_true rfl) (fun Γ E P => ?_)
  refine r_aload_n E dJ4_inflate_0 rfl ?_
  refine r_callV1 (v1 := .int (bI true)) E (ct_J4_isLatin1 G hl (h) sb v len 0 false ml (fun _ => 0) hsb) mJ4_isLatin1 q1419 q1420 q1422 (fun H a1 => fm_rc (ci := 15) (C := RJ5) (T := TJ5) (N := 4) a1 rfl E.v hsb) rfl rfl (Nat.le_of_ble_eq_true rfl) (Nat.le_of_ble_eq_true rfl) (Nat.le_of_ble_eq_true rfl) dJ4_inflate_1 1 500 (Nat.le_of_ble_eq_true rfl) (Nat.le_of_ble_eq_true rfl) ?_
  refine r_ifB_ne (b := true) (tgt := 8) E dJ4_inflate_4 (by decide) (fun _ => ?_) (fun c => absurd c (by decide))
  refine r_aload_n E dJ4_inflate_8 rfl ?_
  refine r_getf E cl_J5 0 (by decide) q255 hsb rfl dJ4_inflate_9 ?_
  refine r_alen E hv rfl dJ4_inflate_12 ?_
  refine r_callS E (ct_J7_newBytesFor G hl h cap hcap) mJ7_newBytesFor q88 q248 q249 rfl rfl (Nat.le_of_ble_eq_true rfl) (Nat.le_of_ble_eq_true rfl) (Nat.le_of_ble_eq_true rfl) dJ4_inflate_13 0 0 (Nat.le_of_ble_eq_true rfl) (Nat.le_of_ble_eq_true rfl) (fun v' h1 q => ?_) (fun _ _ _ q => q.elim)
  obtain ⟨a, ha, ka, rfl, rfl⟩ := q
  have hva : v ≠ a := fun z => by rw [z, ha] at hv; cases hv
  have hsa : sb ≠ a := fun z => by rw [z, ha] at hsb; cases hsb
  refine r_astore_n E [some (.ref sb), some (.ref a)] dJ4_inflate_16 rfl rfl ?_
  refine r_aload_n E dJ4_inflate_17 rfl ?_
  refine r_getf E cl_J5 0 (by decide) q255 (fmUp_of hsb ha) rfl dJ4_inflate_18 ?_
  refine r_iconst E (nI 0) dJ4_inflate_21 (by decide) ?_
  refine r_aload_n E dJ4_inflate_22 rfl ?_
  refine r_iconst E (nI 0) dJ4_inflate_23 (by decide) ?_
  refine r_aload_n E dJ4_inflate_24 rfl ?_
  refine r_getf E cl_J5 3 (by decide) q259 (fmUp_of hsb ha) rfl dJ4_inflate_25 ?_
  refine r_callS0 E (ct_J26_inflate G hl _ v cap bf (fmUp_of hv ha) hcap a fmUp_s hva len hlen (hC.kp (Kp.up ha))) mJ26_inflate q117 q1431 q1432 rfl rfl (Nat.le_of_ble_eq_true rfl) (Nat.le_of_ble_eq_true rfl) (Nat.le_of_ble_eq_true rfl) dJ4_inflate_28 0 0 (Nat.le_of_ble_eq_true rfl) (Nat.le_of_ble_eq_true rfl) ?_
  refine r_hp (h' := fmUp h a (true, .inl (3, 2 * cap, .inl (infl bf len)))) (fmUp_uu _ _ _ _) ?_
  refine r_aload_n E dJ4_inflate_31 rfl ?_
  refine r_aload_n E dJ4_inflate_32 rfl ?_
  refine r_putf E cl_J5 0 (by decide) rfl q255 (fun _ z => z) ((fmUp_n hsa).trans hsb) (Nat.le_of_ble_eq_true rfl) rfl rfl dJ4_inflate_33 ?_
  refine r_hp (h' := fmUp (fmUp h a (true, .inl (3, 2 * cap, .inl (infl bf len)))) sb (true, .inr (.inl (15, [.ref a, .int (bI false), .int (bI ml), .int (nI len)])))) (rfl) ?_
  refine r_aload_n E dJ4_inflate_36 rfl ?_
  refine r_iconst E (nI 1) dJ4_inflate_37 (by decide) ?_
  refine r_putf E cl_J5 1 (by decide) rfl q256 (fun _ z => z) fmUp_s (Nat.le_of_ble_eq_true rfl) rfl rfl dJ4_inflate_38 ?_
  refine r_hp (h' := fmUp (fmUp (fmUp h a (true, .inl (3, 2 * cap, .inl (infl bf len)))) sb (true, .inr (.inl (15, [.ref a, .int (bI false), .int (bI ml), .int (nI len)])))) sb (true, .inr (.inl (15, [.ref a, .int (nI 1), .int (bI ml), .int (nI len)])))) (rfl) ?_
  exact r_return E P rfl dJ4_inflate_41 ⟨rfl, a, ha, by rw [fmUp_uu]; rfl⟩

