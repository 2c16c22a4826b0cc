set_option maxHeartbeats 4000000 in
theorem ct_J22_checkIndex (G : fmG) (hl : (fmLn G).stackTraces = false) (h : fmHp) (i n : Nat) (hi : i < n) (hn : n < 2 ^ 31) : Ct G yJ22_checkIndex (ws_ yJ22_checkIndex cJ22_checkIndex 3 (some .int)) { frames := 0, cells := 0, slots := 0, locals := 0 } [.int (nI i), .int (nI n), .null] h (fmRet (some (.int (nI i))) h) fmNo := by
  refine Ct.of hl (by decide +kernel) (Nat.le_of_ble_eq_true rfl) (fun Γ E P => ?_)
  refine r_iload_n E dJ22_checkIndex_0 rfl ?_
  refine r_if_lt (tgt := 9) E dJ22_checkIndex_1 (by decide) (fun c => absurd c (nI_pos (by omega))) (fun _ => ?_)
  refine r_iload_n E dJ22_checkIndex_4 rfl ?_
  refine r_iload_n E dJ22_checkIndex_5 rfl ?_
  refine r_icmpN_lt (tgt := 16) E dJ22_checkIndex_6 (by decide) (by omega) (by omega) (fun _ => ?_) (fun c => absurd c (by omega))
  refine r_iload_n E dJ22_checkIndex_16 rfl ?_
  exact r_ireturn E P rfl dJ22_checkIndex_17 ⟨rfl, rfl⟩

set_option maxHeartbeats 4000000 in
theorem ct_J21_checkIndex (G : fmG) (hl : (fmLn G).stackTraces = false) (h : fmHp) (i n : Nat) (hi : i < n) (hn : n < 2 ^ 31) : Ct G yJ21_checkIndex (ws_ yJ21_checkIndex cJ21_checkIndex 2 (some .int)) { frames := 1, cells := 0, slots := 0, locals := 22 } [.int (nI i), .int (nI n)] h (fmRet (some (.int (nI i))) h) fmNo := by
  refine Ct.of hl (by decide +kernel) (Nat.le_of_ble_eq_true rfl) (fun Γ E P => ?_)
  refine r_iload_n E dJ21_checkIndex_0 rfl ?_
  refine r_iload_n E dJ21_checkIndex_1 rfl ?_
  refine r_null E dJ21_checkIndex_2 ?_
  refine r_callS1 (v1 := .int (nI i)) E (ct_J22_checkIndex G hl (h) i n (by omega) (by omega)) mJ22_checkIndex q110 q840 q841 rfl rfl (Nat.le_of_ble_eq_true rfl) (Nat.le_of_ble_eq_true rfl) (Nat.le_of_ble_eq_true rfl) dJ21_checkIndex_3 0 0 (Nat.le_of_ble_eq_true rfl) (Nat.le_of_ble_eq_true rfl) ?_
  exact r_ireturn E P rfl dJ21_checkIndex_6 ⟨rfl, rfl⟩

set_option maxHeartbeats 4000000 in
theorem ct_J2_size (G : fmG) (hl : (fmLn G).stackTraces = false) (h : fmHp) (l e n : Nat) (fl : Bool) (mc : Int32) (hl1 : h l = some (fl, .inr (.inl (12, [.int mc, .ref e, .int (nI n)]))))  : Ct G yJ2_size (ws_ yJ2_size cJ2_size 1 (some .int)) { frames := 0, cells := 0, slots := 0, locals := 0 } [.ref l] h (fmRet (some (.int (nI n))) h) fmNo := by
  refine Ct.of hl (by decide +kernel) (Nat.le_of_ble_eq_true rfl) (fun Γ E P => ?_)
  refine r_aload_n E dJ2_size_0 rfl ?_
  refine r_getf E cl_J2 2 (by decide) q155 hl1 rfl dJ2_size_1 ?_
  exact r_ireturn E P rfl dJ2_size_4 ⟨rfl, rfl⟩

set_option maxHeartbeats 4000000 in
theorem ct_J2_elementData (G : fmG) (hl : (fmLn G).stackTraces = false) (h : fmHp) (l e n : Nat) (fl : Bool) (mc : Int32) (hl1 : h l = some (fl, .inr (.inl (12, [.int mc, .ref e, .int (nI n)])))) (cap : Nat) (fe : Bool) (f : Nat → Option Nat) (he1 : h e = some (fe, .inl (6, cap, .inr (.inr (.inr (.inr f)))))) (hcap : cap < 2 ^ 31) (i v : Nat) (hi : i < cap) (hv : f i = some v) : Ct G yJ2_elementData (ws_ yJ2_elementData cJ2_elementData 2 (some (.object "java/lang/Object"))) { frames := 0, cells := 0, slots := 0, locals := 0 } [.ref l, .int (nI i)] h (fmRet (some (.ref v)) h) fmNo := by
  refine Ct.of hl (by decide +kernel) (Nat.le_of_ble_eq_true rfl) (fun Γ E P => ?_)
  refine r_aload_n E dJ2_elementData_0 rfl ?_
  refine r_getf E cl_J2 1 (by decide) q152 hl1 rfl dJ2_elementData_1 ?_
  refine r_iload_n E dJ2_elementData_4 rfl ?_
  refine r_aald E he1 rfl rfl (by omega) (by omega) dJ2_elementData_5 ?_
  refine r_top (v' := .ref v) (by rw [hv]; rfl) ?_
  exact r_areturn E P rfl (Or.inl ⟨_, rfl⟩) dJ2_elementData_6 ⟨rfl, rfl⟩

set_option maxHeartbeats 4000000 in
theorem ct_J2_get (G : fmG) (hl : (fmLn G).stackTraces = false) (h : fmHp) (l e n : Nat) (fl : Bool) (mc : Int32) (hl1 : h l = some (fl, .inr (.inl (12, [.int mc, .ref e, .int (nI n)])))) (cap : Nat) (fe : Bool) (f : Nat → Option Nat) (he1 : h e = some (fe, .inl (6, cap, .inr (.inr (.inr (.inr f)))))) (hcap : cap < 2 ^ 31) (i v : Nat) (hi : i < n) (hn : n ≤ cap) (hv : f i = some v) : Ct G yJ2_get (ws_ yJ2_get cJ2_get 2 (some (.object "java/lang/Object"))) { frames := 2, cells := 0, slots := 0, locals := 43 } [.ref l, .int (nI i)] h (fmRet (some (.ref v)) h) fmNo := by
  refine Ct.of hl (by decide +kernel) (Nat.le_of_ble_eq_true rfl) (fun Γ E P => ?_)
  refine r_iload_n E dJ2_get_0 rfl ?_
  refine r_aload_n E dJ2_get_1 rfl ?_
  refine r_getf E cl_J2 2 (by decide) q155 hl1 rfl dJ2_get_2 ?_
  refine r_callS1 (v1 := .int (nI i)) E (ct_J21_checkIndex G hl (h) i n (by omega) (by omega)) mJ21_checkIndex q109 q837 q838 rfl rfl (Nat.le_of_ble_eq_true rfl) (Nat.le_of_ble_eq_true rfl) (Nat.le_of_ble_eq_true rfl) dJ2_get_5 0 0 (Nat.le_of_ble_eq_true rfl) (Nat.le_of_ble_eq_true rfl) ?_
  refine r_pop E dJ2_get_8 rfl ?_
  refine r_aload_n E dJ2_get_9 rfl ?_
  refine r_iload_n E dJ2_get_10 rfl ?_
  refine r_callV1 (v1 := .ref v) E (ct_J2_elementData G hl (h) l e n fl mc hl1 cap fe f he1 (by omega) i v (by omega) hv) mJ2_elementData q843 q844 q845 (fun H a1 => fm_rc (ci := 12) (C := RJ2) (T := TJ2) (N := 3) a1 rfl E.v hl1) rfl rfl (Nat.le_of_ble_eq_true rfl) (Nat.le_of_ble_eq_true rfl) (Nat.le_of_ble_eq_true rfl) dJ2_get_11 0 0 (Nat.le_of_ble_eq_true rfl) (Nat.le_of_ble_eq_true rfl) ?_
  exact r_areturn E P rfl (Or.inl ⟨_, rfl⟩) dJ2_get_14 ⟨rfl, rfl⟩

set_option maxHeartbeats 4000000 in
theorem ct_J20_intValue (G : fmG) (hl : (fmLn G).stackTraces = false) (h : fmHp) (o : Nat) (fl : Bool) (x : Int32) (ho : h o = some (fl, .inr (.inl (17, [.int x])))) : Ct G yJ20_intValue (ws_ yJ20_intValue cJ20_intValue 1 (some .int)) { frames := 0, cells := 0, slots := 0, locals := 0 } [.ref o] h (fmRet (some (.int x)) h) fmNo := by
  refine Ct.of hl (by decide +kernel) (Nat.le_of_ble_eq_true rfl) (fun Γ E P => ?_)
  refine r_aload_n E dJ20_intValue_0 rfl ?_
  refine r_getf E cl_J20 0 (by decide) q775 ho rfl dJ20_intValue_1 ?_
  exact r_ireturn E P rfl dJ20_intValue_4 ⟨rfl, rfl⟩

set_option maxHeartbeats 4000000 in
theorem ct_J15_newLength (G : fmG) (hl : (fmLn G).stackTraces = false) (h : fmHp) (a b c : Nat) (ha : a < 2 ^ 20) (hb : b < 2 ^ 20) (hc : c < 2 ^ 20) (h1 : 1 ≤ b) : Ct G yJ15_newLength (ws_ yJ15_newLength cJ15_newLength 4 (some .int)) { frames := 1, cells := 0, slots := 0, locals := 24 } [.int (nI a), .int (nI b), .int (nI c)] h (fmRet (some (.int (nI (a + max b c)))) h) fmNo := by
  refine Ct.of hl (by decide +kernel) (Nat.le_of_ble_eq_true rfl) (fun Γ E P => ?_)
  refine r_iload_n E dJ15_newLength_0 rfl ?_
  refine r_iload_n E dJ15_newLength_1 rfl ?_
  refine r_iload_n E dJ15_newLength_2 rfl ?_
  refine r_max E (by omega) (by omega) q516 q342 q101 q343 (Nat.le_of_ble_eq_true rfl) (Nat.le_of_ble_eq_true rfl) dJ15_newLength_3 ?_
  refine r_iaddN E dJ15_newLength_6 ?_
  refine r_istore_n E [some (.int (nI a)), some (.int (nI b)), some (.int (nI c)), some (.int (nI (a + (max b c))))] dJ15_newLength_7 rfl rfl ?_
  refine r_iconst E (nI 0) dJ15_newLength_8 (by decide) ?_
  refine r_iload_n E dJ15_newLength_9 rfl ?_
  refine r_icmpN_ge (tgt := 21) E dJ15_newLength_10 (by decide) (by omega) (by omega) (fun c => absurd c (by omega)) (fun _ => ?_)
  refine r_iload_n E dJ15_newLength_13 rfl ?_
  refine r_ldc E q517 dJ15_newLength_14 ?_
  refine r_icmp_gt (tgt := 21) E dJ15_newLength_16 (by decide) (fun cq => absurd cq (by have h3 := nI_le (a := a + max b c) (b := 2147483639) (by omega) (by decide); exact Int32.not_lt.mpr h3)) (fun _ => ?_)
  refine r_iload_n E dJ15_newLength_19 rfl ?_
  exact r_ireturn E P rfl dJ15_newLength_20 ⟨rfl, rfl⟩

