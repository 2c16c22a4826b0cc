set_option maxHeartbeats 4000000 in
theorem ct_J26_canEncode_2 (G : fmG) (hl : (fmLn G).stackTraces = false) (h : fmHp) (k : Nat) (hk : k < 65536) : Ct G yJ26_canEncode_2 (ws_ yJ26_canEncode_2 cJ26_canEncode_2 1 (some .boolean)) { frames := 0, cells := 0, slots := 0, locals := 0 } [.int (nI k)] h (fmRet (some (.int (bI (decide (k ≤ 255))))) h) fmNo := by
  refine Ct.of hl (by decide +kernel) (Nat.le_of_ble_eq_true rfl) (fun Γ E P => ?_)
  refine r_iload_n E dJ26_canEncode_2_0 rfl ?_
  refine r_if_lt (tgt := 15) E dJ26_canEncode_2_1 (by decide) (fun q => absurd q (nI_pos (by omega))) (fun _ => ?_)
  refine r_iload_n E dJ26_canEncode_2_4 rfl ?_
  refine r_sipush E (nI 255) dJ26_canEncode_2_5 (by decide) ?_
  refine r_icmpN_gt (tgt := 15) E dJ26_canEncode_2_8 (by decide) (by omega) (by omega) (fun c1 => ?_) (fun c1 => ?_)
  · refine r_iconst E (nI 0) dJ26_canEncode_2_15 (by decide) ?_
    refine r_top (v' := .int (bI (decide (k ≤ 255)))) (by rw [decide_eq_false (by omega)]; rfl) ?_
    exact r_zreturn E P rfl dJ26_canEncode_2_16 ⟨rfl, rfl⟩
  · refine r_iconst E (nI 1) dJ26_canEncode_2_11 (by decide) ?_
    refine r_goto (tgt := 16) E dJ26_canEncode_2_12 (by decide) ?_
    refine r_top (v' := .int (bI (decide (k ≤ 255)))) (by rw [decide_eq_true (by omega)]; rfl) ?_
    exact r_zreturn E P rfl dJ26_canEncode_2_16 ⟨rfl, rfl⟩

set_option maxHeartbeats 4000000 in
theorem ct_J6_isLatin1 (G : fmG) (hl : (fmLn G).stackTraces = false) (h : fmHp) (hC : CC G h) (k : Nat) (hk : k < 65536) : Ct G yJ6_isLatin1 (ws_ yJ6_isLatin1 cJ6_isLatin1 1 (some .boolean)) { frames := 0, cells := 0, slots := 0, locals := 0 } [.ref (fmAd G 12)] h (fmRet (some (.int (bI true))) h) fmNo := by
  refine Ct.of hl (by decide +kernel) (Nat.le_of_ble_eq_true rfl) (fun Γ E P => ?_)
  obtain ⟨-, -, -, -, -, ⟨v1, v2, hS12⟩, hA14, -⟩ := id hC
  refine r_gets E 13 rfl q1535 dJ6_isLatin1_0 ?_
  refine r_top (v' := .int (bI true)) rfl ?_
  refine r_ifB_eq (b := true) (tgt := 17) E dJ6_isLatin1_3 (by decide) (fun c => absurd c (by decide)) (fun _ => ?_)
  refine r_aload_n E dJ6_isLatin1_6 rfl ?_
  refine r_getf E cl_J6 1 (by decide) q1769 hS12 rfl dJ6_isLatin1_7 ?_
  refine r_top (v' := .int (bI false)) rfl ?_
  refine r_ifB_ne (b := false) (tgt := 17) E dJ6_isLatin1_10 (by decide) (fun c => absurd c (by decide)) (fun _ => ?_)
  refine r_iconst E (nI 1) dJ6_isLatin1_13 (by decide) ?_
  refine r_goto (tgt := 18) E dJ6_isLatin1_14 (by decide) ?_
  refine r_top (v' := .int (bI true)) rfl ?_
  exact r_zreturn E P rfl dJ6_isLatin1_18 ⟨rfl, rfl⟩

set_option maxHeartbeats 4000000 in
theorem ct_J6_coder (G : fmG) (hl : (fmLn G).stackTraces = false) (h : fmHp) (hC : CC G h) (k : Nat) (hk : k < 65536) : Ct G yJ6_coder (ws_ yJ6_coder cJ6_coder 1 (some .byte)) { frames := 0, cells := 0, slots := 0, locals := 0 } [.ref (fmAd G 12)] h (fmRet (some (.int (nI 0))) h) fmNo := by
  refine Ct.of hl (by decide +kernel) (Nat.le_of_ble_eq_true rfl) (fun Γ E P => ?_)
  obtain ⟨-, -, -, -, -, ⟨v1, v2, hS12⟩, hA14, -⟩ := id hC
  refine r_gets E 13 rfl q1535 dJ6_coder_0 ?_
  refine r_top (v' := .int (bI true)) rfl ?_
  refine r_ifB_eq (b := true) (tgt := 13) E dJ6_coder_3 (by decide) (fun c => absurd c (by decide)) (fun _ => ?_)
  refine r_aload_n E dJ6_coder_6 rfl ?_
  refine r_getf E cl_J6 1 (by decide) q1769 hS12 rfl dJ6_coder_7 ?_
  refine r_goto (tgt := 14) E dJ6_coder_10 (by decide) ?_
  exact r_greturn E P rfl rfl dJ6_coder_14 ⟨rfl, rfl⟩

set_option maxHeartbeats 4000000 in
theorem ct_J6_length (G : fmG) (hl : (fmLn G).stackTraces = false) (h : fmHp) (hC : CC G h) (k : Nat) (hk : k < 65536) : Ct G yJ6_length (ws_ yJ6_length cJ6_length 1 (some .int)) { frames := 1, cells := 0, slots := 0, locals := 20 } [.ref (fmAd G 12)] h (fmRet (some (.int (nI 7))) h) fmNo := by
  refine Ct.of hl (by decide +kernel) (Nat.le_of_ble_eq_true rfl) (fun Γ E P => ?_)
  obtain ⟨-, -, -, -, -, ⟨v1, v2, hS12⟩, hA14, -⟩ := id hC
  refine r_aload_n E dJ6_length_0 rfl ?_
  refine r_getf E cl_J6 0 (by decide) q1768 hS12 rfl dJ6_length_1 ?_
  refine r_alen E hA14 rfl dJ6_length_4 ?_
  refine r_aload_n E dJ6_length_5 rfl ?_
  refine r_callV1 (v1 := .int (nI 0)) E (ct_J6_coder G hl (h) hC k hk) mJ6_coder q1540 q1541 q1542 (fun H a1 => fm_rc (ci := 16) (C := RJ6) (T := TJ6) (N := 4) a1 rfl E.v hS12) rfl rfl (Nat.le_of_ble_eq_true rfl) (Nat.le_of_ble_eq_true rfl) (Nat.le_of_ble_eq_true rfl) dJ6_length_6 0 0 (Nat.le_of_ble_eq_true rfl) (Nat.le_of_ble_eq_true rfl) ?_
  refine r_ishr E dJ6_length_9 ?_
  refine r_top (v' := .int (nI 7)) rfl ?_
  exact r_ireturn E P rfl dJ6_length_10 ⟨rfl, rfl⟩

set_option maxHeartbeats 4000000 in
theorem ct_J26_indexOfChar (G : fmG) (hl : (fmLn G).stackTraces = false) (h : fmHp) (hC : CC G h) (k : Nat) (hk : k < 65536)(hk8 : k ≤ 255) : Ct G yJ26_indexOfChar (ws_ yJ26_indexOfChar cJ26_indexOfChar 6 (some .int)) { frames := 0, cells := 0, slots := 0, locals := 0 } [.ref (fmAd G 14), .int (nI k), .int (nI 0), .int (nI 7)] h (fmRet (some (.int (sdpI k))) h) fmNo := by
  refine Ct.of hl (by decide +kernel) (Nat.le_of_ble_eq_true rfl) (fun Γ E P => ?_)
  obtain ⟨-, -, -, -, -, ⟨v1, v2, hS12⟩, hA14, -⟩ := id hC
  refine r_iload_n E dJ26_indexOfChar_0 rfl ?_
  refine r_i2b E dJ26_indexOfChar_1 ?_
  refine r_top (v' := .int (nI k).toInt8.toInt32) rfl ?_
  refine r_istore E [some (.ref (fmAd G 14)), some (.int (nI k)), some (.int (nI 0)), some (.int (nI 7)), some (.int ((nI k).toInt8.toInt32)), none] dJ26_indexOfChar_2 rfl rfl ?_
  refine r_iload_n E dJ26_indexOfChar_4 rfl ?_
  refine r_istore E [some (.ref (fmAd G 14)), some (.int (nI k)), some (.int (nI 0)), some (.int (nI 7)), some (.int ((nI k).toInt8.toInt32)), some (.int (nI 0))] dJ26_indexOfChar_5 rfl rfl ?_
  refine r_iload E dJ26_indexOfChar_7 rfl ?_
  refine r_iload_n E dJ26_indexOfChar_9 rfl ?_
  refine r_icmpN_ge (tgt := 31) E dJ26_indexOfChar_10 (by decide) (by decide) (by decide) (fun c => absurd c (by decide)) (fun _ => ?_)
  refine r_aload_n E dJ26_indexOfChar_13 rfl ?_
  refine r_iload E dJ26_indexOfChar_14 rfl ?_
  refine r_bald E hA14 (by omega) (by omega) dJ26_indexOfChar_16 ?_
  refine r_iload E dJ26_indexOfChar_17 rfl ?_
  by_cases n0 : k = 115
  · refine r_icmp_ne (tgt := 25) E dJ26_indexOfChar_19 (by decide) (fun c => absurd ((sdp_eq k (by omega) 0 (by decide)).mpr n0) c) (fun _ => ?_)
    refine r_iload E dJ26_indexOfChar_22 rfl ?_
    refine r_top (v' := .int (sdpI k)) (by rw [n0]; rfl) ?_
    exact r_ireturn E P rfl dJ26_indexOfChar_24 ⟨rfl, rfl⟩
  refine r_icmp_ne (tgt := 25) E dJ26_indexOfChar_19 (by decide) (fun _ => ?_) (fun c => absurd ((sdp_eq k (by omega) 0 (by decide)).mp c) n0)
  refine r_iinc E (nI 1) [some (.ref (fmAd G 14)), some (.int (nI k)), some (.int (nI 0)), some (.int (nI 7)), some (.int ((nI k).toInt8.toInt32)), some (.int (nI 1))] dJ26_indexOfChar_25 rfl (nI_1 0) rfl rfl ?_
  refine r_goto (tgt := 7) E dJ26_indexOfChar_28 (by decide) ?_
  refine r_iload E dJ26_indexOfChar_7 rfl ?_
  refine r_iload_n E dJ26_indexOfChar_9 rfl ?_
  refine r_icmpN_ge (tgt := 31) E dJ26_indexOfChar_10 (by decide) (by decide) (by decide) (fun c => absurd c (by decide)) (fun _ => ?_)
  refine r_aload_n E dJ26_indexOfChar_13 rfl ?_
  refine r_iload E dJ26_indexOfChar_14 rfl ?_
  refine r_bald E hA14 (by omega) (by omega) dJ26_indexOfChar_16 ?_
  refine r_iload E dJ26_indexOfChar_17 rfl ?_
  by_cases n1 : k = 100
  · refine r_icmp_ne (tgt := 25) E dJ26_indexOfChar_19 (by decide) (fun c => absurd ((sdp_eq k (by omega) 1 (by decide)).mpr n1) c) (fun _ => ?_)
    refine r_iload E dJ26_indexOfChar_22 rfl ?_
    refine r_top (v' := .int (sdpI k)) (by rw [n1]; rfl) ?_
    exact r_ireturn E P rfl dJ26_indexOfChar_24 ⟨rfl, rfl⟩
  refine r_icmp_ne (tgt := 25) E dJ26_indexOfChar_19 (by decide) (fun _ => ?_) (fun c => absurd ((sdp_eq k (by omega) 1 (by decide)).mp c) n1)
  refine r_iinc E (nI 2) [some (.ref (fmAd G 14)), some (.int (nI k)), some (.int (nI 0)), some (.int (nI 7)), some (.int ((nI k).toInt8.toInt32)), some (.int (nI 2))] dJ26_indexOfChar_25 rfl (nI_1 1) rfl rfl ?_
  refine r_goto (tgt := 7) E dJ26_indexOfChar_28 (by decide) ?_
  refine r_iload E dJ26_indexOfChar_7 rfl ?_
  refine r_iload_n E dJ26_indexOfChar_9 rfl ?_
  refine r_icmpN_ge (tgt := 31) E dJ26_indexOfChar_10 (by decide) (by decide) (by decide) (fun c => absurd c (by decide)) (fun _ => ?_)
  refine r_aload_n E dJ26_indexOfChar_13 rfl ?_
  refine r_iload E dJ26_indexOfChar_14 rfl ?_
  refine r_bald E hA14 (by omega) (by omega) dJ26_indexOfChar_16 ?_
  refine r_iload E dJ26_indexOfChar_17 rfl ?_
  by_cases n2 : k = 112
  · refine r_icmp_ne (tgt := 25) E dJ26_indexOfChar_19 (by decide) (fun c => absurd ((sdp_eq k (by omega) 2 (by decide)).mpr n2) c) (fun _ => ?_)
    refine r_iload E dJ26_indexOfChar_22 rfl ?_
    refine r_top (v' := .int (sdpI k)) (by rw [n2]; rfl) ?_
    exact r_ireturn E P rfl dJ26_indexOfChar_24 ⟨rfl, rfl⟩
  refine r_icmp_ne (tgt := 25) E dJ26_indexOfChar_19 (by decide) (fun _ => ?_) (fun c => absurd ((sdp_eq k (by omega) 2 (by decide)).mp c) n2)
  refine r_iinc E (nI 3) [some (.ref (fmAd G 14)), some (.int (nI k)), some (.int (nI 0)), some (.int (nI 7)), some (.int ((nI k).toInt8.toInt32)), some (.int (nI 3))] dJ26_indexOfChar_25 rfl (nI_1 2) rfl rfl ?_
  refine r_goto (tgt := 7) E dJ26_indexOfChar_28 (by decide) ?_
  refine r_iload E dJ26_indexOfChar_7 rfl ?_
  refine r_iload_n E dJ26_indexOfChar_9 rfl ?_
  refine r_icmpN_ge (tgt := 31) E dJ26_indexOfChar_10 (by decide) (by decide) (by decide) (fun c => absurd c (by decide)) (fun _ => ?_)
  refine r_aload_n E dJ26_indexOfChar_13 rfl ?_
  refine r_iload E dJ26_indexOfChar_14 rfl ?_
  refine r_bald E hA14 (by omega) (by omega) dJ26_indexOfChar_16 ?_
  refine r_iload E dJ26_indexOfChar_17 rfl ?_
  by_cases n3 : k = 117
  · refine r_icmp_ne (tgt := 25) E dJ26_indexOfChar_19 (by decide) (fun c => absurd ((sdp_eq k (by omega) 3 (by decide)).mpr n3) c) (fun _ => ?_)
    refine r_iload E dJ26_indexOfChar_22 rfl ?_
    refine r_top (v' := .int (sdpI k)) (by rw [n3]; rfl) ?_
    exact r_ireturn E P rfl dJ26_indexOfChar_24 ⟨rfl, rfl⟩
  refine r_icmp_ne (tgt := 25) E dJ26_indexOfChar_19 (by decide) (fun _ => ?_) (fun c => absurd ((sdp_eq k (by omega) 3 (by decide)).mp c) n3)
  refine r_iinc E (nI 4) [some (.ref (fmAd G 14)), some (.int (nI k)), some (.int (nI 0)), some (.int (nI 7)), some (.int ((nI k).toInt8.toInt32)), some (.int (nI 4))] dJ26_indexOfChar_25 rfl (nI_1 3) rfl rfl ?_
  refine r_goto (tgt := 7) E dJ26_indexOfChar_28 (by decide) ?_
  refine r_iload E dJ26_indexOfChar_7 rfl ?_
  refine r_iload_n E dJ26_indexOfChar_9 rfl ?_
  refine r_icmpN_ge (tgt := 31) E dJ26_indexOfChar_10 (by decide) (by decide) (by decide) (fun c => absurd c (by decide)) (fun _ => ?_)
  refine r_aload_n E dJ26_indexOfChar_13 rfl ?_
  refine r_iload E dJ26_indexOfChar_14 rfl ?_
  refine r_bald E hA14 (by omega) (by omega) dJ26_indexOfChar_16 ?_
  refine r_iload E dJ26_indexOfChar_17 rfl ?_
  by_cases n4 : k = 99
  · refine r_icmp_ne (tgt := 25) E dJ26_indexOfChar_19 (by decide) (fun c => absurd ((sdp_eq k (by omega) 4 (by decide)).mpr n4) c) (fun _ => ?_)
    refine r_iload E dJ26_indexOfChar_22 rfl ?_
    refine r_top (v' := .int (sdpI k)) (by rw [n4]; rfl) ?_
    exact r_ireturn E P rfl dJ26_indexOfChar_24 ⟨rfl, rfl⟩
  refine r_icmp_ne (tgt := 25) E dJ26_indexOfChar_19 (by decide) (fun _ => ?_) (fun c => absurd ((sdp_eq k (by omega) 4 (by decide)).mp c) n4)
  refine r_iinc E (nI 5) [some (.ref (fmAd G 14)), some (.int (nI k)), some (.int (nI 0)), some (.int (nI 7)), some (.int ((nI k).toInt8.toInt32)), some (.int (nI 5))] dJ26_indexOfChar_25 rfl (nI_1 4) rfl rfl ?_
  refine r_goto (tgt := 7) E dJ26_indexOfChar_28 (by decide) ?_
  refine r_iload E dJ26_indexOfChar_7 rfl ?_
  refine r_iload_n E dJ26_indexOfChar_9 rfl ?_
  refine r_icmpN_ge (tgt := 31) E dJ26_indexOfChar_10 (by decide) (by decide) (by decide) (fun c => absurd c (by decide)) (fun _ => ?_)
  refine r_aload_n E dJ26_indexOfChar_13 rfl ?_
  refine r_iload E dJ26_indexOfChar_14 rfl ?_
  refine r_bald E hA14 (by omega) (by omega) dJ26_indexOfChar_16 ?_
  refine r_iload E dJ26_indexOfChar_17 rfl ?_
  by_cases n5 : k = 116
  · refine r_icmp_ne (tgt := 25) E dJ26_indexOfChar_19 (by decide) (fun c => absurd ((sdp_eq k (by omega) 5 (by decide)).mpr n5) c) (fun _ => ?_)
    refine r_iload E dJ26_indexOfChar_22 rfl ?_
    refine r_top (v' := .int (sdpI k)) (by rw [n5]; rfl) ?_
    exact r_ireturn E P rfl dJ26_indexOfChar_24 ⟨rfl, rfl⟩
  refine r_icmp_ne (tgt := 25) E dJ26_indexOfChar_19 (by decide) (fun _ => ?_) (fun c => absurd ((sdp_eq k (by omega) 5 (by decide)).mp c) n5)
  refine r_iinc E (nI 6) [some (.ref (fmAd G 14)), some (.int (nI k)), some (.int (nI 0)), some (.int (nI 7)), some (.int ((nI k).toInt8.toInt32)), some (.int (nI 6))] dJ26_indexOfChar_25 rfl (nI_1 5) rfl rfl ?_
  refine r_goto (tgt := 7) E dJ26_indexOfChar_28 (by decide) ?_
  refine r_iload E dJ26_indexOfChar_7 rfl ?_
  refine r_iload_n E dJ26_indexOfChar_9 rfl ?_
  refine r_icmpN_ge (tgt := 31) E dJ26_indexOfChar_10 (by decide) (by decide) (by decide) (fun c => absurd c (by decide)) (fun _ => ?_)
  refine r_aload_n E dJ26_indexOfChar_13 rfl ?_
  refine r_iload E dJ26_indexOfChar_14 rfl ?_
  refine r_bald E hA14 (by omega) (by omega) dJ26_indexOfChar_16 ?_
  refine r_iload E dJ26_indexOfChar_17 rfl ?_
  by_cases n6 : k = 110
  · refine r_icmp_ne (tgt := 25) E dJ26_indexOfChar_19 (by decide) (fun c => absurd ((sdp_eq k (by omega) 6 (by decide)).mpr n6) c) (fun _ => ?_)
    refine r_iload E dJ26_indexOfChar_22 rfl ?_
    refine r_top (v' := .int (sdpI k)) (by rw [n6]; rfl) ?_
    exact r_ireturn E P rfl dJ26_indexOfChar_24 ⟨rfl, rfl⟩
  refine r_icmp_ne (tgt := 25) E dJ26_indexOfChar_19 (by decide) (fun _ => ?_) (fun c => absurd ((sdp_eq k (by omega) 6 (by decide)).mp c) n6)
  refine r_iinc E (nI 7) [some (.ref (fmAd G 14)), some (.int (nI k)), some (.int (nI 0)), some (.int (nI 7)), some (.int ((nI k).toInt8.toInt32)), some (.int (nI 7))] dJ26_indexOfChar_25 rfl (nI_1 6) rfl rfl ?_
  refine r_goto (tgt := 7) E dJ26_indexOfChar_28 (by decide) ?_
  refine r_iload E dJ26_indexOfChar_7 rfl ?_
  refine r_iload_n E dJ26_indexOfChar_9 rfl ?_
  refine r_icmpN_ge (tgt := 31) E dJ26_indexOfChar_10 (by decide) (by decide) (by decide) (fun _ => ?_) (fun c => absurd c (by decide))
  refine r_iconst E (-1) dJ26_indexOfChar_31 (by decide) ?_
  refine r_top (v' := .int (sdpI k)) (congrArg Value.int (by unfold sdpI; rw [if_neg n0, if_neg n1, if_neg n2, if_neg n3, if_neg n4, if_neg n5, if_neg n6])) ?_
  exact r_ireturn E P rfl dJ26_indexOfChar_32 ⟨rfl, rfl⟩

set_option maxHeartbeats 4000000 in
theorem ct_J26_indexOf (G : fmG) (hl : (fmLn G).stackTraces = false) (h : fmHp) (hC : CC G h) (k : Nat) (hk : k < 65536) : Ct G yJ26_indexOf (ws_ yJ26_indexOf cJ26_indexOf 4 (some .int)) { frames := 1, cells := 0, slots := 0, locals := 30 } [.ref (fmAd G 14), .int (nI k), .int (nI 0), .int (nI 7)] h (fmRet (some (.int (sdpI k))) h) fmNo := by
  refine Ct.of hl (by decide +kernel) (Nat.le_of_ble_eq_true rfl) (fun Γ E P => ?_)
  obtain ⟨-, -, -, -, -, ⟨v1, v2, hS12⟩, hA14, -⟩ := id hC
  refine r_iload_n E dJ26_indexOf_0 rfl ?_
  refine r_callS1 (v1 := .int (bI (decide (k ≤ 255)))) E (ct_J26_canEncode_2 G hl (h) k (by omega)) mJ26_canEncode_2 q117 q1547 q1548 rfl rfl (Nat.le_of_ble_eq_true rfl) (Nat.le_of_ble_eq_true rfl) (Nat.le_of_ble_eq_true rfl) dJ26_indexOf_1 0 0 (Nat.le_of_ble_eq_true rfl) (Nat.le_of_ble_eq_true rfl) ?_
  refine r_ifB_ne (b := decide (k ≤ 255)) (tgt := 9) E dJ26_indexOf_4 (by decide) (fun c1 => ?_) (fun c1 => ?_)
  · have hk8 : k ≤ 255 := of_decide_eq_true c1
    refine r_iload_n E dJ26_indexOf_9 rfl ?_
    refine r_iconst E (nI 0) dJ26_indexOf_10 (by decide) ?_
    refine r_max E (by omega) (by omega) q1550 q342 q101 q343 (Nat.le_of_ble_eq_true rfl) (Nat.le_of_ble_eq_true rfl) dJ26_indexOf_11 ?_
    refine r_top (v' := .int (nI 0)) rfl ?_
    refine r_istore_n E [some (.ref (fmAd G 14)), some (.int (nI k)), some (.int (nI 0)), some (.int (nI 7))] dJ26_indexOf_14 rfl rfl ?_
    refine r_iload_n E dJ26_indexOf_15 rfl ?_
    refine r_aload_n E dJ26_indexOf_16 rfl ?_
    refine r_alen E hA14 rfl dJ26_indexOf_17 ?_
    refine r_min E (by omega) (by omega) q1551 q569 q101 q570 (Nat.le_of_ble_eq_true rfl) (Nat.le_of_ble_eq_true rfl) dJ26_indexOf_18 ?_
    refine r_top (v' := .int (nI 7)) rfl ?_
    refine r_istore_n E [some (.ref (fmAd G 14)), some (.int (nI k)), some (.int (nI 0)), some (.int (nI 7))] dJ26_indexOf_21 rfl rfl ?_
    refine r_iload_n E dJ26_indexOf_22 rfl ?_
    refine r_iload_n E dJ26_indexOf_23 rfl ?_
    refine r_icmpN_lt (tgt := 29) E dJ26_indexOf_24 (by decide) (by decide) (by decide) (fun _ => ?_) (fun c => absurd c (by decide))
    refine r_aload_n E dJ26_indexOf_29 rfl ?_
    refine r_iload_n E dJ26_indexOf_30 rfl ?_
    refine r_iload_n E dJ26_indexOf_31 rfl ?_
    refine r_iload_n E dJ26_indexOf_32 rfl ?_
    refine r_callS1 (v1 := .int (sdpI k)) E (ct_J26_indexOfChar G hl (h) hC k hk hk8) mJ26_indexOfChar q117 q1552 q1553 rfl rfl (Nat.le_of_ble_eq_true rfl) (Nat.le_of_ble_eq_true rfl) (Nat.le_of_ble_eq_true rfl) dJ26_indexOf_33 0 0 (Nat.le_of_ble_eq_true rfl) (Nat.le_of_ble_eq_true rfl) ?_
    exact r_ireturn E P rfl dJ26_indexOf_36 ⟨rfl, rfl⟩
  · have hk8 : ¬ k ≤ 255 := of_decide_eq_false c1
    refine r_iconst E (-1) dJ26_indexOf_7 (by decide) ?_
    refine r_top (v' := .int (sdpI k)) (congrArg Value.int (sdpI_big hk8).symm) ?_
    exact r_ireturn E P rfl dJ26_indexOf_8 ⟨rfl, rfl⟩

set_option maxHeartbeats 4000000 in
theorem ct_J6_indexOf_2 (G : fmG) (hl : (fmLn G).stackTraces = false) (h : fmHp) (hC : CC G h) (k : Nat) (hk : k < 65536) : Ct G yJ6_indexOf_2 (ws_ yJ6_indexOf_2 cJ6_indexOf_2 3 (some .int)) { frames := 2, cells := 0, slots := 0, locals := 53 } [.ref (fmAd G 12), .int (nI k), .int (nI 0)] h (fmRet (some (.int (sdpI k))) h) fmNo := by
  refine Ct.of hl (by decide +kernel) (Nat.le_of_ble_eq_true rfl) (fun Γ E P => ?_)
  obtain ⟨-, -, -, -, -, ⟨v1, v2, hS12⟩, hA14, -⟩ := id hC
  refine r_aload_n E dJ6_indexOf_2_0 rfl ?_
  refine r_callV1 (v1 := .int (bI true)) E (ct_J6_isLatin1 G hl (h) hC k hk) mJ6_isLatin1 q1531 q1532 q1533 (fun H a1 => fm_rc (ci := 16) (C := RJ6) (T := TJ6) (N := 4) a1 rfl E.v hS12) rfl rfl (Nat.le_of_ble_eq_true rfl) (Nat.le_of_ble_eq_true rfl) (Nat.le_of_ble_eq_true rfl) dJ6_indexOf_2_1 0 0 (Nat.le_of_ble_eq_true rfl) (Nat.le_of_ble_eq_true rfl) ?_
  refine r_ifB_eq (b := true) (tgt := 23) E dJ6_indexOf_2_4 (by decide) (fun c => absurd c (by decide)) (fun _ => ?_)
  refine r_aload_n E dJ6_indexOf_2_7 rfl ?_
  refine r_getf E cl_J6 0 (by decide) q1768 hS12 rfl dJ6_indexOf_2_8 ?_
  refine r_iload_n E dJ6_indexOf_2_11 rfl ?_
  refine r_iload_n E dJ6_indexOf_2_12 rfl ?_
  refine r_aload_n E dJ6_indexOf_2_13 rfl ?_
  refine r_callV1 (v1 := .int (nI 7)) E (ct_J6_length G hl (h) hC k hk) mJ6_length q1536 q1537 q1538 (fun H a1 => fm_rc (ci := 16) (C := RJ6) (T := TJ6) (N := 4) a1 rfl E.v hS12) rfl rfl (Nat.le_of_ble_eq_true rfl) (Nat.le_of_ble_eq_true rfl) (Nat.le_of_ble_eq_true rfl) dJ6_indexOf_2_14 0 0 (Nat.le_of_ble_eq_true rfl) (Nat.le_of_ble_eq_true rfl) ?_
  refine r_callS1 (v1 := .int (sdpI k)) E (ct_J26_indexOf G hl (h) hC k hk) mJ26_indexOf q117 q1544 q1545 rfl rfl (Nat.le_of_ble_eq_true rfl) (Nat.le_of_ble_eq_true rfl) (Nat.le_of_ble_eq_true rfl) dJ6_indexOf_2_17 0 0 (Nat.le_of_ble_eq_true rfl) (Nat.le_of_ble_eq_true rfl) ?_
  refine r_goto (tgt := 36) E dJ6_indexOf_2_20 (by decide) ?_
  exact r_ireturn E P rfl dJ6_indexOf_2_36 ⟨rfl, rfl⟩

set_option maxHeartbeats 4000000 in
theorem ct_J6_indexOf (G : fmG) (hl : (fmLn G).stackTraces = false) (h : fmHp) (hC : CC G h) (k : Nat) (hk : k < 65536) : Ct G yJ6_indexOf (ws_ yJ6_indexOf cJ6_indexOf 2 (some .int)) { frames := 3, cells := 0, slots := 0, locals := 75 } [.ref (fmAd G 12), .int (nI k)] h (fmRet (some (.int (sdpI k))) h) fmNo := by
  refine Ct.of hl (by decide +kernel) (Nat.le_of_ble_eq_true rfl) (fun Γ E P => ?_)
  obtain ⟨-, -, -, -, -, ⟨v1, v2, hS12⟩, hA14, -⟩ := id hC
  refine r_aload_n E dJ6_indexOf_0 rfl ?_
  refine r_iload_n E dJ6_indexOf_1 rfl ?_
  refine r_iconst E (nI 0) dJ6_indexOf_2 (by decide) ?_
  refine r_callV1 (v1 := .int (sdpI k)) E (ct_J6_indexOf_2 G hl (h) hC k hk) mJ6_indexOf_2 q1527 q1528 q1529 (fun H a1 => fm_rc (ci := 16) (C := RJ6) (T := TJ6) (N := 4) a1 rfl E.v hS12) rfl rfl (Nat.le_of_ble_eq_true rfl) (Nat.le_of_ble_eq_true rfl) (Nat.le_of_ble_eq_true rfl) dJ6_indexOf_3 0 0 (Nat.le_of_ble_eq_true rfl) (Nat.le_of_ble_eq_true rfl) ?_
  exact r_ireturn E P rfl dJ6_indexOf_6 ⟨rfl, rfl⟩

