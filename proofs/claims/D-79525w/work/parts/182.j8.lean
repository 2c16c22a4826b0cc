set_option maxHeartbeats 4000000 in
theorem ct_J4_length (G : fmG) (hl : (fmLn G).stackTraces = false) (h : fmHp) (sb v len cap : Nat) (u ml : Bool) (bf : Nat → Int32) (hsb : h sb = some (true, .inr (.inl (15, [.ref v, .int (bI u), .int (bI ml), .int (nI len)]))))  : Ct G yJ4_length (ws_ yJ4_length cJ4_length 1 (some .int)) { frames := 0, cells := 0, slots := 0, locals := 0 } [.ref sb] h (fmRet (some (.int (nI len))) h) fmNo := by
  refine Ct.of hl (by decide +kernel) (Nat.le_of_ble_eq_true rfl) (fun Γ E P => ?_)
  refine r_aload_n E dJ4_length_0 rfl ?_
  refine r_getf E cl_J5 3 (by decide) q259 hsb rfl dJ4_length_1 ?_
  exact r_ireturn E P rfl dJ4_length_4 ⟨rfl, rfl⟩

set_option maxHeartbeats 4000000 in
theorem ct_J5_length (G : fmG) (hl : (fmLn G).stackTraces = false) (h : fmHp) (sb v len cap : Nat) (u ml : Bool) (bf : Nat → Int32) (hsb : h sb = some (true, .inr (.inl (15, [.ref v, .int (bI u), .int (bI ml), .int (nI len)]))))  : Ct G yJ5_length (ws_ yJ5_length cJ5_length 1 (some .int)) { frames := 1, cells := 0, slots := 0, locals := 20 } [.ref sb] h (fmRet (some (.int (nI len))) h) fmNo := by
  refine Ct.of hl (by decide +kernel) (Nat.le_of_ble_eq_true rfl) (fun Γ E P => ?_)
  refine r_aload_n E dJ5_length_0 rfl ?_
  refine r_callU E (ct_J4_length G hl (h) sb v len 0 u ml (fun _ => 0) hsb) mJ4_length (by decide +kernel) q1356 q1357 q2275 q268 (ci := 15) rfl hsb rfl rfl (Nat.le_of_ble_eq_true rfl) (Nat.le_of_ble_eq_true rfl) (Nat.le_of_ble_eq_true rfl) dJ5_length_1 0 0 (Nat.le_of_ble_eq_true rfl) (Nat.le_of_ble_eq_true rfl) (fun v' h' q => ?_) (fun _ _ _ q => q.elim)
  obtain ⟨rfl, hq9⟩ := q
  rw [hq9]
  exact r_ireturn E P rfl dJ5_length_4 ⟨rfl, rfl⟩

set_option maxHeartbeats 4000000 in
theorem ct_J4_isLatin1 (G : fmG) (hl : (fmLn G).stackTraces = false) (h : fmHp) (sb v len cap : Nat) (u ml : Bool) (bf : Nat → Int32) (hsb : h sb = some (true, .inr (.inl (15, [.ref v, .int (bI u), .int (bI ml), .int (nI len)]))))  : Ct G yJ4_isLatin1 (ws_ yJ4_isLatin1 cJ4_isLatin1 1 (some .boolean)) { frames := 0, cells := 0, slots := 0, locals := 0 } [.ref sb] h (fmRet (some (.int (bI (!u)))) h) fmNo := by
  refine Ct.of hl (by decide +kernel) (Nat.le_of_ble_eq_true rfl) (fun Γ E P => ?_)
  refine r_gets E 13 rfl q246 dJ4_isLatin1_0 ?_
  refine r_top (v' := .int (bI true)) rfl ?_
  refine r_ifB_eq (b := true) (tgt := 17) E dJ4_isLatin1_3 (by decide) (fun c => absurd c (by decide)) (fun _ => ?_)
  refine r_aload_n E dJ4_isLatin1_6 rfl ?_
  refine r_getf E cl_J5 1 (by decide) q256 hsb rfl dJ4_isLatin1_7 ?_
  refine r_ifB_ne (b := u) (tgt := 17) E dJ4_isLatin1_10 (by decide) (fun c2 => ?_) (fun c2 => ?_)
  · refine r_iconst E (nI 0) dJ4_isLatin1_17 (by decide) ?_
    refine r_top (v' := .int (bI (!u))) (by rw [c2]; rfl) ?_
    exact r_zreturn E P rfl dJ4_isLatin1_18 ⟨rfl, rfl⟩
  · refine r_iconst E (nI 1) dJ4_isLatin1_13 (by decide) ?_
    refine r_goto (tgt := 18) E dJ4_isLatin1_14 (by decide) ?_
    refine r_top (v' := .int (bI (!u))) (by rw [c2]; rfl) ?_
    exact r_zreturn E P rfl dJ4_isLatin1_18 ⟨rfl, rfl⟩

set_option maxHeartbeats 4000000 in
theorem ct_J26_canEncode (G : fmG) (hl : (fmLn G).stackTraces = false) (h : fmHp) (k : Nat) (hk : k < 65536) : Ct G yJ26_canEncode (ws_ yJ26_canEncode cJ26_canEncode 1 (some .boolean)) { frames := 0, cells := 0, slots := 0, locals := 0 } [.int (nI k)] h (fmRet (some (.int (bI (decide (k ≤ 255))))) h) fmNo := by
  refine Ct.of hl (by decide +kernel) (Nat.le_of_ble_eq_true rfl) (fun Γ E P => ?_)
  refine r_iload_n E dJ26_canEncode_0 rfl ?_
  refine r_sipush E (nI 255) dJ26_canEncode_1 (by decide) ?_
  refine r_icmpN_gt (tgt := 11) E dJ26_canEncode_4 (by decide) (by omega) (by omega) (fun c1 => ?_) (fun c1 => ?_)
  · refine r_iconst E (nI 0) dJ26_canEncode_11 (by decide) ?_
    refine r_top (v' := .int (bI (decide (k ≤ 255)))) (by rw [decide_eq_false (by omega)]; rfl) ?_
    exact r_zreturn E P rfl dJ26_canEncode_12 ⟨rfl, rfl⟩
  · refine r_iconst E (nI 1) dJ26_canEncode_7 (by decide) ?_
    refine r_goto (tgt := 12) E dJ26_canEncode_8 (by decide) ?_
    refine r_top (v' := .int (bI (decide (k ≤ 255)))) (by rw [decide_eq_true (by omega)]; rfl) ?_
    exact r_zreturn E P rfl dJ26_canEncode_12 ⟨rfl, rfl⟩

set_option maxHeartbeats 4000000 in
theorem ct_J7_newBytesLength (G : fmG) (hl : (fmLn G).stackTraces = false) (h : fmHp) (n : Nat) (hn : n ≤ 250) : Ct G yJ7_newBytesLength (ws_ yJ7_newBytesLength cJ7_newBytesLength 1 (some .int)) { frames := 0, cells := 0, slots := 0, locals := 0 } [.int (nI n)] h (fmRet (some (.int (nI (2 * n)))) h) fmNo := by
  refine Ct.of hl (by decide +kernel) (Nat.le_of_ble_eq_true rfl) (fun Γ E P => ?_)
  refine r_iload_n E dJ7_newBytesLength_0 rfl ?_
  refine r_if_ge (tgt := 12) E dJ7_newBytesLength_1 (by decide) (fun _ => ?_) (fun q => absurd (nI_pos' (by omega)) q)
  refine r_iload_n E dJ7_newBytesLength_12 rfl ?_
  refine r_ldc E q254 dJ7_newBytesLength_13 ?_
  refine r_top (v' := .int (nI 1073741823)) rfl ?_
  refine r_icmpN_lt (tgt := 55) E dJ7_newBytesLength_15 (by decide) (by omega) (by decide) (fun _ => ?_) (fun q => absurd (show n < 1073741823 by omega) q)
  refine r_iload_n E dJ7_newBytesLength_55 rfl ?_
  refine r_iconst E (nI 1) dJ7_newBytesLength_56 (by decide) ?_
  refine r_ishl E dJ7_newBytesLength_57 ?_
  refine r_top (v' := .int (nI (2 * n))) (congrArg Value.int (shl1 (by omega))) ?_
  exact r_ireturn E P rfl dJ7_newBytesLength_58 ⟨rfl, rfl⟩

set_option maxHeartbeats 4000000 in
theorem ct_J7_newBytesFor (G : fmG) (hl : (fmLn G).stackTraces = false) (h : fmHp) (n : Nat) (hn : n ≤ 250) : Ct G yJ7_newBytesFor (ws_ yJ7_newBytesFor cJ7_newBytesFor 1 (some (.array .byte))) { frames := 1, cells := 1, slots := 500, locals := 20 } [.int (nI n)] h (fun v0 h' => ∃ a, h a = none ∧ (fmK0 G).size ≤ a ∧ v0 = some (.ref a) ∧ h' = fmUp h a (true, .inl (3, 2 * n, .inl (fun _ => 0)))) fmNo := by
  refine Ct.of hl (by decide +kernel) (Nat.le_of_ble_eq_true rfl) (fun Γ E P => ?_)
  refine r_iload_n E dJ7_newBytesFor_0 rfl ?_
  refine r_callS1 (v1 := .int (nI (2 * n))) E (ct_J7_newBytesLength G hl (h) n (by omega)) mJ7_newBytesLength q88 q251 q252 rfl rfl (Nat.le_of_ble_eq_true rfl) (Nat.le_of_ble_eq_true rfl) (Nat.le_of_ble_eq_true rfl) dJ7_newBytesFor_1 1 500 (Nat.le_of_ble_eq_true rfl) (Nat.le_of_ble_eq_true rfl) ?_
  refine r_newa E 3 (.inl (fun _ => 0)) rfl (z_aB (2 * n)) q269 (fun e => e) (by omega) (by show 2 * n * 1 ≤ 536870912; omega) 0 0 (Nat.le_of_ble_eq_true rfl) (show 0 + 2 * n ≤ 500 by omega) dJ7_newBytesFor_4 (fun a ha ka => ?_)
  exact r_areturn E P rfl (Or.inr ⟨_, rfl⟩) dJ7_newBytesFor_6 ⟨a, ha, ka, rfl, rfl⟩

set_option maxHeartbeats 4000000 in
theorem ctS_J22_checkIndex (G : fmG) (hl : (fmLn G).stackTraces = false) (h : fmHp) (hC : CC G h) (i n : Nat) (hi : i < n) (hn : n < 2 ^ 31) : Ct G yJ22_checkIndex (ws_ yJ22_checkIndex cJ22_checkIndex 3 (some .int)) { frames := 0, cells := 0, slots := 0, locals := 0 } [.int (nI i), .int (nI n), (fmSv G)] h (fmRet (some (.int (nI i))) h) fmNo := by
  have hsv := hC.2.2.2.2.2.2.2
  generalize fmSv G = sv at hsv ⊢
  rcases hsv with rfl | ⟨t, rfl⟩
  · refine Ct.of hl (by decide +kernel) (Nat.le_of_ble_eq_true rfl) (fun Γ E P => ?_)
    refine r_iload_n E dJ22_checkIndex_0 rfl ?_
    refine r_if_lt (tgt := 9) E dJ22_checkIndex_1 (by decide) (fun c => absurd c (nI_pos (by omega))) (fun _ => ?_)
    refine r_iload_n E dJ22_checkIndex_4 rfl ?_
    refine r_iload_n E dJ22_checkIndex_5 rfl ?_
    refine r_icmpN_lt (tgt := 16) E dJ22_checkIndex_6 (by decide) (by omega) (by omega) (fun _ => ?_) (fun c => absurd c (by omega))
    refine r_iload_n E dJ22_checkIndex_16 rfl ?_
    exact r_ireturn E P rfl dJ22_checkIndex_17 ⟨rfl, rfl⟩
  · refine Ct.of hl (by decide +kernel) (Nat.le_of_ble_eq_true rfl) (fun Γ E P => ?_)
    refine r_iload_n E dJ22_checkIndex_0 rfl ?_
    refine r_if_lt (tgt := 9) E dJ22_checkIndex_1 (by decide) (fun c => absurd c (nI_pos (by omega))) (fun _ => ?_)
    refine r_iload_n E dJ22_checkIndex_4 rfl ?_
    refine r_iload_n E dJ22_checkIndex_5 rfl ?_
    refine r_icmpN_lt (tgt := 16) E dJ22_checkIndex_6 (by decide) (by omega) (by omega) (fun _ => ?_) (fun c => absurd c (by omega))
    refine r_iload_n E dJ22_checkIndex_16 rfl ?_
    exact r_ireturn E P rfl dJ22_checkIndex_17 ⟨rfl, rfl⟩

set_option maxHeartbeats 4000000 in
theorem ct_J6_checkIndex (G : fmG) (hl : (fmLn G).stackTraces = false) (h : fmHp) (hC : CC G h) (i n : Nat) (hi : i < n) (hn : n < 2 ^ 31) : Ct G yJ6_checkIndex (ws_ yJ6_checkIndex cJ6_checkIndex 2 none) { frames := 1, cells := 0, slots := 0, locals := 22 } [.int (nI i), .int (nI n)] h (fmRet none h) fmNo := by
  refine Ct.of hl (by decide +kernel) (Nat.le_of_ble_eq_true rfl) (fun Γ E P => ?_)
  refine r_iload_n E dJ6_checkIndex_0 rfl ?_
  refine r_iload_n E dJ6_checkIndex_1 rfl ?_
  refine r_gets E 17 rfl q1446 dJ6_checkIndex_2 ?_
  refine r_callS1 (v1 := .int (nI i)) E (ctS_J22_checkIndex G hl h hC i n hi hn) mJ22_checkIndex q110 q1469 q841 rfl rfl (Nat.le_of_ble_eq_true rfl) (Nat.le_of_ble_eq_true rfl) (Nat.le_of_ble_eq_true rfl) dJ6_checkIndex_5 0 0 (Nat.le_of_ble_eq_true rfl) (Nat.le_of_ble_eq_true rfl) ?_
  refine r_pop E dJ6_checkIndex_8 rfl ?_
  exact r_return E P rfl dJ6_checkIndex_9 ⟨rfl, rfl⟩

set_option maxHeartbeats 4000000 in
theorem ct_J7_length (G : fmG) (hl : (fmLn G).stackTraces = false) (h : fmHp) (v cap : Nat) (bf : Nat → Int32) (hv : h v = some (true, .inl (3, cap, .inl bf))) (hcap : cap ≤ 500)  : Ct G yJ7_length (ws_ yJ7_length cJ7_length 1 (some .int)) { frames := 0, cells := 0, slots := 0, locals := 0 } [.ref v] h (fmRet (some (.int (nI (cap / 2)))) h) fmNo := by
  refine Ct.of hl (by decide +kernel) (Nat.le_of_ble_eq_true rfl) (fun Γ E P => ?_)
  refine r_aload_n E dJ7_length_0 rfl ?_
  refine r_alen E hv rfl dJ7_length_1 ?_
  refine r_iconst E (nI 1) dJ7_length_2 (by decide) ?_
  refine r_ishr E dJ7_length_3 ?_
  refine r_top (v' := .int (nI (cap / 2))) (congrArg Value.int (shr1 (by omega))) ?_
  exact r_ireturn E P rfl dJ7_length_4 ⟨rfl, rfl⟩

set_option maxHeartbeats 4000000 in
theorem ct_J7_checkIndex (G : fmG) (hl : (fmLn G).stackTraces = false) (h : fmHp) (v cap : Nat) (bf : Nat → Int32) (hv : h v = some (true, .inl (3, cap, .inl bf))) (hcap : cap ≤ 500) (hC : CC G h) (i : Nat) (hi : 2 * i + 1 < cap) : Ct G yJ7_checkIndex (ws_ yJ7_checkIndex cJ7_checkIndex 2 none) { frames := 2, cells := 0, slots := 0, locals := 43 } [.int (nI i), .ref v] h (fmRet none h) fmNo := by
  refine Ct.of hl (by decide +kernel) (Nat.le_of_ble_eq_true rfl) (fun Γ E P => ?_)
  refine r_iload_n E dJ7_checkIndex_0 rfl ?_
  refine r_aload_n E dJ7_checkIndex_1 rfl ?_
  refine r_callS1 (v1 := .int (nI (cap / 2))) E (ct_J7_length G hl (h) v cap bf hv (by omega)) mJ7_length q88 q1440 q1441 rfl rfl (Nat.le_of_ble_eq_true rfl) (Nat.le_of_ble_eq_true rfl) (Nat.le_of_ble_eq_true rfl) dJ7_checkIndex_2 0 0 (Nat.le_of_ble_eq_true rfl) (Nat.le_of_ble_eq_true rfl) ?_
  refine r_callS0 E (ct_J6_checkIndex G hl (h) hC i (cap / 2) (by omega) (by omega)) mJ6_checkIndex q87 q1466 q1467 rfl rfl (Nat.le_of_ble_eq_true rfl) (Nat.le_of_ble_eq_true rfl) (Nat.le_of_ble_eq_true rfl) dJ7_checkIndex_5 0 0 (Nat.le_of_ble_eq_true rfl) (Nat.le_of_ble_eq_true rfl) ?_
  exact r_return E P rfl dJ7_checkIndex_8 ⟨rfl, rfl⟩

set_option maxHeartbeats 4000000 in
theorem ct_J7_putChar (G : fmG) (hl : (fmLn G).stackTraces = false) (h : fmHp) (v cap : Nat) (bf : Nat → Int32) (hv : h v = some (true, .inl (3, cap, .inl bf))) (hcap : cap ≤ 500) (i : Nat) (x : Int32) (hi : 2 * i + 1 < cap) : Ct G yJ7_putChar (ws_ yJ7_putChar cJ7_putChar 3 none) { frames := 0, cells := 0, slots := 0, locals := 0 } [.ref v, .int (nI i), .int x] h (fmRet none (fmUp h v (true, .inl (3, cap, .inl (upd (upd bf (2 * i) (x >>> ((0 : Int32) &&& 31)).toInt8.toInt32.toInt8.toInt32) (2 * i + 1) (x >>> ((8 : Int32) &&& 31)).toInt8.toInt32.toInt8.toInt32))))) fmNo := by
  refine Ct.of hl (by decide +kernel) (Nat.le_of_ble_eq_true rfl) (fun Γ E P => ?_)
  refine r_gets E 16 rfl q1454 dJ7_putChar_0 ?_
  refine r_top (v' := .int (bI true)) rfl ?_
  refine r_ifB_ne (b := true) (tgt := 28) E dJ7_putChar_3 (by decide) (fun _ => ?_) (fun c => absurd c (by decide))
  refine r_iload_n E dJ7_putChar_28 rfl ?_
  refine r_iconst E (nI 1) dJ7_putChar_29 (by decide) ?_
  refine r_ishl E dJ7_putChar_30 ?_
  refine r_top (v' := .int (nI (2 * i))) (congrArg Value.int (shl1 (by omega))) ?_
  refine r_istore_n E [some (.ref v), some (.int (nI (2 * i))), some (.int x)] dJ7_putChar_31 rfl rfl ?_
  refine r_aload_n E dJ7_putChar_32 rfl ?_
  refine r_iload_n E dJ7_putChar_33 rfl ?_
  refine r_iinc E (nI (2 * i + 1)) [some (.ref v), some (.int (nI (2 * i + 1))), some (.int x)] dJ7_putChar_34 rfl (nI_1 (2 * i)) rfl rfl ?_
  refine r_iload_n E dJ7_putChar_37 rfl ?_
  refine r_gets E 14 rfl q1456 dJ7_putChar_38 ?_
  refine r_top (v' := .int (nI 0)) rfl ?_
  refine r_ishr E dJ7_putChar_41 ?_
  refine r_i2b E dJ7_putChar_42 ?_
  refine r_top (v' := .int (x >>> ((0 : Int32) &&& 31)).toInt8.toInt32) rfl ?_
  refine r_bast E hv (by omega) (by omega) dJ7_putChar_43 ?_
  refine r_hp (h' := fmUp h v (true, .inl (3, cap, .inl (upd bf (2 * i) (x >>> ((0 : Int32) &&& 31)).toInt8.toInt32.toInt8.toInt32)))) (rfl) ?_
  refine r_aload_n E dJ7_putChar_44 rfl ?_
  refine r_iload_n E dJ7_putChar_45 rfl ?_
  refine r_iload_n E dJ7_putChar_46 rfl ?_
  refine r_gets E 15 rfl q1458 dJ7_putChar_47 ?_
  refine r_top (v' := .int (nI 8)) rfl ?_
  refine r_ishr E dJ7_putChar_50 ?_
  refine r_i2b E dJ7_putChar_51 ?_
  refine r_top (v' := .int (x >>> ((8 : Int32) &&& 31)).toInt8.toInt32) rfl ?_
  refine r_bast E fmUp_s (by omega) (by omega) dJ7_putChar_52 ?_
  refine r_hp (h' := fmUp (fmUp h v (true, .inl (3, cap, .inl (upd bf (2 * i) (x >>> ((0 : Int32) &&& 31)).toInt8.toInt32.toInt8.toInt32)))) v (true, .inl (3, cap, .inl (upd (upd bf (2 * i) (x >>> ((0 : Int32) &&& 31)).toInt8.toInt32.toInt8.toInt32) (2 * i + 1) (x >>> ((8 : Int32) &&& 31)).toInt8.toInt32.toInt8.toInt32)))) (rfl) ?_
  exact r_return E P rfl dJ7_putChar_53 ⟨rfl, by rw [fmUp_uu]⟩

set_option maxHeartbeats 4000000 in
theorem ct_J7_putCharSB (G : fmG) (hl : (fmLn G).stackTraces = false) (h : fmHp) (v cap : Nat) (bf : Nat → Int32) (hv : h v = some (true, .inl (3, cap, .inl bf))) (hcap : cap ≤ 500) (hC : CC G h) (i : Nat) (x : Int32) (hi : 2 * i + 1 < cap) : Ct G yJ7_putCharSB (ws_ yJ7_putCharSB cJ7_putCharSB 3 none) { frames := 3, cells := 0, slots := 0, locals := 64 } [.ref v, .int (nI i), .int x] h (fmRet none (fmUp h v (true, .inl (3, cap, .inl (upd (upd bf (2 * i) (x >>> ((0 : Int32) &&& 31)).toInt8.toInt32.toInt8.toInt32) (2 * i + 1) (x >>> ((8 : Int32) &&& 31)).toInt8.toInt32.toInt8.toInt32))))) fmNo := by
  refine Ct.of hl (by decide +kernel) (Nat.le_of_ble_eq_true rfl) (fun Γ E P => ?_)
  refine r_iload_n E dJ7_putCharSB_0 rfl ?_
  refine r_aload_n E dJ7_putCharSB_1 rfl ?_
  refine r_callS0 E (ct_J7_checkIndex G hl (h) v cap bf hv (by omega) hC i (by omega)) mJ7_checkIndex q88 q1463 q1464 rfl rfl (Nat.le_of_ble_eq_true rfl) (Nat.le_of_ble_eq_true rfl) (Nat.le_of_ble_eq_true rfl) dJ7_putCharSB_2 0 0 (Nat.le_of_ble_eq_true rfl) (Nat.le_of_ble_eq_true rfl) ?_
  refine r_aload_n E dJ7_putCharSB_5 rfl ?_
  refine r_iload_n E dJ7_putCharSB_6 rfl ?_
  refine r_iload_n E dJ7_putCharSB_7 rfl ?_
  refine r_callS0 E (ct_J7_putChar G hl (h) v cap bf hv (by omega) i x (by omega)) mJ7_putChar q88 q1451 q1452 rfl rfl (Nat.le_of_ble_eq_true rfl) (Nat.le_of_ble_eq_true rfl) (Nat.le_of_ble_eq_true rfl) dJ7_putCharSB_8 0 0 (Nat.le_of_ble_eq_true rfl) (Nat.le_of_ble_eq_true rfl) ?_
  exact r_return E P rfl dJ7_putCharSB_11 ⟨rfl, rfl⟩

set_option maxHeartbeats 4000000 in
theorem ct_J7_getChar (G : fmG) (hl : (fmLn G).stackTraces = false) (h : fmHp) (v cap : Nat) (bf : Nat → Int32) (hv : h v = some (true, .inl (3, cap, .inl bf))) (hcap : cap ≤ 500) (i k : Nat) (hi : 2 * i + 1 < cap) (hk : k < 65536) (h1 : bf (2 * i) &&& 255 = nI k &&& 255) (h2 : bf (2 * i + 1) &&& 255 = (nI k >>> ((8 : Int32) &&& 31)) &&& 255) : Ct G yJ7_getChar (ws_ yJ7_getChar cJ7_getChar 2 (some .char)) { frames := 0, cells := 0, slots := 0, locals := 0 } [.ref v, .int (nI i)] h (fmRet (some (.int (nI k))) h) fmNo := by
  refine Ct.of hl (by decide +kernel) (Nat.le_of_ble_eq_true rfl) (fun Γ E P => ?_)
  refine r_gets E 16 rfl q1454 dJ7_getChar_0 ?_
  refine r_top (v' := .int (bI true)) rfl ?_
  refine r_ifB_ne (b := true) (tgt := 28) E dJ7_getChar_3 (by decide) (fun _ => ?_) (fun c => absurd c (by decide))
  refine r_iload_n E dJ7_getChar_28 rfl ?_
  refine r_iconst E (nI 1) dJ7_getChar_29 (by decide) ?_
  refine r_ishl E dJ7_getChar_30 ?_
  refine r_top (v' := .int (nI (2 * i))) (congrArg Value.int (shl1 (by omega))) ?_
  refine r_istore_n E [some (.ref v), some (.int (nI (2 * i)))] dJ7_getChar_31 rfl rfl ?_
  refine r_aload_n E dJ7_getChar_32 rfl ?_
  refine r_iload_n E dJ7_getChar_33 rfl ?_
  refine r_iinc E (nI (2 * i + 1)) [some (.ref v), some (.int (nI (2 * i + 1)))] dJ7_getChar_34 rfl (nI_1 (2 * i)) rfl rfl ?_
  refine r_bald E hv (by omega) (by omega) dJ7_getChar_37 ?_
  refine r_sipush E (nI 255) dJ7_getChar_38 (by decide) ?_
  refine r_iand E dJ7_getChar_41 ?_
  refine r_gets E 14 rfl q1456 dJ7_getChar_42 ?_
  refine r_top (v' := .int (nI 0)) rfl ?_
  refine r_ishl E dJ7_getChar_45 ?_
  refine r_aload_n E dJ7_getChar_46 rfl ?_
  refine r_iload_n E dJ7_getChar_47 rfl ?_
  refine r_bald E hv (by omega) (by omega) dJ7_getChar_48 ?_
  refine r_sipush E (nI 255) dJ7_getChar_49 (by decide) ?_
  refine r_iand E dJ7_getChar_52 ?_
  refine r_gets E 15 rfl q1458 dJ7_getChar_53 ?_
  refine r_top (v' := .int (nI 8)) rfl ?_
  refine r_ishl E dJ7_getChar_56 ?_
  refine r_ior E dJ7_getChar_57 ?_
  refine r_i2c E dJ7_getChar_58 ?_
  refine r_top (v' := .int (nI k)) (congrArg Value.int (u16_join hk h1 h2)) ?_
  exact r_greturn E P rfl (nar_c hk) dJ7_getChar_59 ⟨rfl, rfl⟩

