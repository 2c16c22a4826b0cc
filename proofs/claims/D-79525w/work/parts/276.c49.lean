set_option maxHeartbeats 4000000 in
theorem w_rock (G : fmG) (hl : (fmLn G).stackTraces = false) (h : fmHp) {x : Nat} {a : DA} {S : DS} (hC : CC G h) (hD : DK G h x a S) (hk8 : S.kp ≤ 8) (o : Nat) (f0 : Nat → Int64) (ho : h o = some (oLn f0)) (v t1 t2 : Int32) : Ct G yX0_rock (wsW_ yX0_rock cX0_rock 6 (some .int) [(0, 12, 15, 13), (0, 12, 19, 15), (0, 12, 23, 17)]) { frames := 10, cells := 28, slots := 3011, locals := 262 } [.ref x, .int v, .int t1, .int t2, .ref o] h (fun v0 h' => v0 = some (.int (nI (kf 1 2 3 (aRock S.N v t1 t2).1))) ∧ OP G h x a o (aRock S.N v t1 t2).1 (aAns (aRock S.N v t1 t2)) (cS S (aRock S.N v t1 t2)) h') fmNo := by
  refine Ct.ofH hl (by decide +kernel) (Nat.le_of_ble_eq_true rfl) (fun Γ E P => ?_)
  obtain ⟨d0, dh0, w0, pm0, X0, W0, hx0, -⟩ := id hD
  refine r_aload E dX0_rock_0 rfl ?_
  refine r_iconst E (nI 0) dX0_rock_2 (by decide) ?_
  refine r_aload_n E dX0_rock_3 rfl ?_
  refine r_iload_n E dX0_rock_4 rfl ?_
  refine r_iload_n E dX0_rock_5 rfl ?_
  refine r_iload_n E dX0_rock_6 rfl ?_
  refine r_callV E (jn_rock G hl h hC hD hk8 v t1 t2) mX1_rock q621 q622 q623 (fun H a1 => fm_rc (ci := 1) (C := RX1) (T := TX1) (N := 9) a1 rfl E.v hx0) rfl rfl (Nat.le_of_ble_eq_true rfl) (Nat.le_of_ble_eq_true rfl) (Nat.le_of_ble_eq_true rfl) dX0_rock_7 0 0 (Nat.le_of_ble_eq_true rfl) (Nat.le_of_ble_eq_true rfl) (fun v' h1 q => ?_) (fun q Ex h1 hx1 => ?_)
  · obtain ⟨hc, rfl, hJ⟩ := q
    have ho1 := JP.ho hD hJ ho
    refine r_i2l E dX0_rock_10 ?_
    refine r_last E ho1 (by decide) (by decide) dX0_rock_11 ?_
    refine r_goto (tgt := 27) E dX0_rock_12 (by decide) ?_
    refine r_iconst E (nI 0) dX0_rock_27 (by decide) ?_
    exact r_ireturn E P rfl dX0_rock_28 ⟨by rw [hc]; rfl, OP.yes hD ho hJ (if_pos rfl)⟩
  · obtain ⟨hc, hE, hJ⟩ := hx1
    rcases (cd_rock : (aRock S.N v t1 t2).1 = 0 ∨ (aRock S.N v t1 t2).1 = 1 ∨ (aRock S.N v t1 t2).1 = 2 ∨ (aRock S.N v t1 t2).1 = 3) with z | z | z | z
    · exact absurd z hc
    · obtain rfl : Ex = "java/lang/IndexOutOfBoundsException" := by rw [hE, z]; rfl
      refine r_xcatchS E [] ⟨0, 12, 15, 13⟩ [⟨0, 12, 19, 15⟩, ⟨0, 12, 23, 17⟩] rfl (fun z hz => by cases hz) (by decide) (by decide) q587 (classAt_of (E.ts _ q635)) ?_
      refine r_astore E [some (.ref x), some (.int v), some (.int t1), some (.int t2), some (.ref o), some (.ref q)] dX0_rock_15 rfl rfl ?_
      refine r_iconst E (nI 1) dX0_rock_17 (by decide) ?_
      exact r_ireturn E P rfl dX0_rock_18 ⟨by rw [z]; rfl, OP.no hD ho hJ hc⟩
    · obtain rfl : Ex = "java/lang/IllegalArgumentException" := by rw [hE, z]; rfl
      refine r_xcatchS E [⟨0, 12, 15, 13⟩] ⟨0, 12, 19, 15⟩ [⟨0, 12, 23, 17⟩] rfl (fun z hz => by rcases List.mem_singleton.mp hz with rfl; exact Or.inr ⟨by decide, "java/lang/IndexOutOfBoundsException", q587, by decide +kernel⟩) (by decide) (by decide) q619 (classAt_of (E.ts _ q667)) ?_
      refine r_astore E [some (.ref x), some (.int v), some (.int t1), some (.int t2), some (.ref o), some (.ref q)] dX0_rock_19 rfl rfl ?_
      refine r_iconst E (nI 2) dX0_rock_21 (by decide) ?_
      exact r_ireturn E P rfl dX0_rock_22 ⟨by rw [z]; rfl, OP.no hD ho hJ hc⟩
    · obtain rfl : Ex = "java/lang/UnsupportedOperationException" := by rw [hE, z]; rfl
      refine r_xcatchS E [⟨0, 12, 15, 13⟩, ⟨0, 12, 19, 15⟩] ⟨0, 12, 23, 17⟩ [] rfl (fun z hz => by rcases List.mem_cons.mp hz with rfl | hz; (exact Or.inr ⟨by decide, "java/lang/IndexOutOfBoundsException", q587, by decide +kernel⟩); rcases List.mem_singleton.mp hz with rfl; exact Or.inr ⟨by decide, "java/lang/IllegalArgumentException", q619, by decide +kernel⟩) (by decide) (by decide) q620 (classAt_of (E.ts _ q1043)) ?_
      refine r_astore E [some (.ref x), some (.int v), some (.int t1), some (.int t2), some (.ref o), some (.ref q)] dX0_rock_23 rfl rfl ?_
      refine r_iconst E (nI 3) dX0_rock_25 (by decide) ?_
      exact r_ireturn E P rfl dX0_rock_26 ⟨by rw [z]; rfl, OP.no hD ho hJ hc⟩

set_option maxHeartbeats 4000000 in
theorem w_roof (G : fmG) (hl : (fmLn G).stackTraces = false) (h : fmHp) {x : Nat} {a : DA} {S : DS} (hC : CC G h) (hD : DK G h x a S) (hk8 : S.kp ≤ 8) (o : Nat) (f0 : Nat → Int64) (ho : h o = some (oLn f0)) (v : Int32) : Ct G yX0_roof (wsW_ yX0_roof cX0_roof 4 (some .int) [(0, 9, 12, 15), (0, 9, 15, 17)]) { frames := 10, cells := 25, slots := 3003, locals := 259 } [.ref x, .int v, .ref o] h (fun v0 h' => v0 = some (.int (nI (kf 9 1 2 (aRoof S.N v).1))) ∧ OP G h x a o (aRoof S.N v).1 (aAns (aRoof S.N v)) (cS S (aRoof S.N v)) h') fmNo := by
  refine Ct.ofH hl (by decide +kernel) (Nat.le_of_ble_eq_true rfl) (fun Γ E P => ?_)
  obtain ⟨d0, dh0, w0, pm0, X0, W0, hx0, -⟩ := id hD
  refine r_aload_n E dX0_roof_0 rfl ?_
  refine r_iconst E (nI 0) dX0_roof_1 (by decide) ?_
  refine r_aload_n E dX0_roof_2 rfl ?_
  refine r_iload_n E dX0_roof_3 rfl ?_
  refine r_callV E (jn_roof G hl h hC hD hk8 v) mX1_roof q1060 q1061 q1062 (fun H a1 => fm_rc (ci := 1) (C := RX1) (T := TX1) (N := 9) a1 rfl E.v hx0) rfl rfl (Nat.le_of_ble_eq_true rfl) (Nat.le_of_ble_eq_true rfl) (Nat.le_of_ble_eq_true rfl) dX0_roof_4 0 0 (Nat.le_of_ble_eq_true rfl) (Nat.le_of_ble_eq_true rfl) (fun v' h1 q => ?_) (fun q Ex h1 hx1 => ?_)
  · obtain ⟨hc, rfl, hJ⟩ := q
    have ho1 := JP.ho hD hJ ho
    refine r_i2l E dX0_roof_7 ?_
    refine r_last E ho1 (by decide) (by decide) dX0_roof_8 ?_
    refine r_goto (tgt := 18) E dX0_roof_9 (by decide) ?_
    refine r_iconst E (nI 0) dX0_roof_18 (by decide) ?_
    exact r_ireturn E P rfl dX0_roof_19 ⟨by rw [hc]; rfl, OP.yes hD ho hJ (if_pos rfl)⟩
  · obtain ⟨hc, hE, hJ⟩ := hx1
    rcases (cd_roof : (aRoof S.N v).1 = 0 ∨ (aRoof S.N v).1 = 2 ∨ (aRoof S.N v).1 = 3) with z | z | z
    · exact absurd z hc
    · obtain rfl : Ex = "java/lang/IllegalArgumentException" := by rw [hE, z]; rfl
      refine r_xcatchS E [] ⟨0, 9, 12, 15⟩ [⟨0, 9, 15, 17⟩] rfl (fun z hz => by cases hz) (by decide) (by decide) q619 (classAt_of (E.ts _ q667)) ?_
      refine r_astore_n E [some (.ref x), some (.int v), some (.ref o), some (.ref q)] dX0_roof_12 rfl rfl ?_
      refine r_iconst E (nI 1) dX0_roof_13 (by decide) ?_
      exact r_ireturn E P rfl dX0_roof_14 ⟨by rw [z]; rfl, OP.no hD ho hJ hc⟩
    · obtain rfl : Ex = "java/lang/UnsupportedOperationException" := by rw [hE, z]; rfl
      refine r_xcatchS E [⟨0, 9, 12, 15⟩] ⟨0, 9, 15, 17⟩ [] rfl (fun z hz => by rcases List.mem_singleton.mp hz with rfl; exact Or.inr ⟨by decide, "java/lang/IllegalArgumentException", q619, by decide +kernel⟩) (by decide) (by decide) q620 (classAt_of (E.ts _ q1043)) ?_
      refine r_astore_n E [some (.ref x), some (.int v), some (.ref o), some (.ref q)] dX0_roof_15 rfl rfl ?_
      refine r_iconst E (nI 2) dX0_roof_16 (by decide) ?_
      exact r_ireturn E P rfl dX0_roof_17 ⟨by rw [z]; rfl, OP.no hD ho hJ hc⟩

set_option maxHeartbeats 4000000 in
theorem w_props (G : fmG) (hl : (fmLn G).stackTraces = false) (h : fmHp) {x : Nat} {a : DA} {S : DS} (hC : CC G h) (hD : DK G h x a S) (hk8 : S.kp ≤ 8) (o : Nat) (f0 : Nat → Int64) (ho : h o = some (oLn f0)) (v : Int32) : Ct G yX0_props (wsW_ yX0_props cX0_props 4 (some .int) [(0, 9, 12, 15)]) { frames := 10, cells := 25, slots := 3003, locals := 259 } [.ref x, .int v, .ref o] h (fun v0 h' => v0 = some (.int (nI (kf 9 1 9 (aProps S.N v).1))) ∧ OP G h x a o (aProps S.N v).1 (aAns (aProps S.N v)) (cS S (aProps S.N v)) h') fmNo := by
  refine Ct.ofH hl (by decide +kernel) (Nat.le_of_ble_eq_true rfl) (fun Γ E P => ?_)
  obtain ⟨d0, dh0, w0, pm0, X0, W0, hx0, -⟩ := id hD
  refine r_aload_n E dX0_props_0 rfl ?_
  refine r_iconst E (nI 0) dX0_props_1 (by decide) ?_
  refine r_aload_n E dX0_props_2 rfl ?_
  refine r_iload_n E dX0_props_3 rfl ?_
  refine r_callV E (jn_props G hl h hC hD hk8 v) mX1_props q1069 q1070 q1071 (fun H a1 => fm_rc (ci := 1) (C := RX1) (T := TX1) (N := 9) a1 rfl E.v hx0) rfl rfl (Nat.le_of_ble_eq_true rfl) (Nat.le_of_ble_eq_true rfl) (Nat.le_of_ble_eq_true rfl) dX0_props_4 0 0 (Nat.le_of_ble_eq_true rfl) (Nat.le_of_ble_eq_true rfl) (fun v' h1 q => ?_) (fun q Ex h1 hx1 => ?_)
  · obtain ⟨hc, rfl, hJ⟩ := q
    have ho1 := JP.ho hD hJ ho
    refine r_i2l E dX0_props_7 ?_
    refine r_last E ho1 (by decide) (by decide) dX0_props_8 ?_
    refine r_goto (tgt := 15) E dX0_props_9 (by decide) ?_
    refine r_iconst E (nI 0) dX0_props_15 (by decide) ?_
    exact r_ireturn E P rfl dX0_props_16 ⟨by rw [hc]; rfl, OP.yes hD ho hJ (if_pos rfl)⟩
  · obtain ⟨hc, hE, hJ⟩ := hx1
    rcases (cd_props : (aProps S.N v).1 = 0 ∨ (aProps S.N v).1 = 2) with z | z
    · exact absurd z hc
    · obtain rfl : Ex = "java/lang/IllegalArgumentException" := by rw [hE, z]; rfl
      refine r_xcatchS E [] ⟨0, 9, 12, 15⟩ [] rfl (fun z hz => by cases hz) (by decide) (by decide) q619 (classAt_of (E.ts _ q667)) ?_
      refine r_astore_n E [some (.ref x), some (.int v), some (.ref o), some (.ref q)] dX0_props_12 rfl rfl ?_
      refine r_iconst E (nI 1) dX0_props_13 (by decide) ?_
      exact r_ireturn E P rfl dX0_props_14 ⟨by rw [z]; rfl, OP.no hD ho hJ hc⟩

set_option maxHeartbeats 4000000 in
theorem w_pick (G : fmG) (hl : (fmLn G).stackTraces = false) (h : fmHp) {x : Nat} {a : DA} {S : DS} (hC : CC G h) (hD : DK G h x a S) (hk8 : S.kp ≤ 8) (o : Nat) (f0 : Nat → Int64) (ho : h o = some (oLn f0)) (v : Int32) : Ct G yX0_pick (wsW_ yX0_pick cX0_pick 4 (some .int) [(0, 9, 12, 15), (0, 9, 15, 17)]) { frames := 11, cells := 25, slots := 3195, locals := 279 } [.ref x, .int v, .ref o] h (fun v0 h' => v0 = some (.int (nI (kf 9 1 2 (aPick S.N v (rP S.N)).1))) ∧ OP G h x a o (aPick S.N v (rP S.N)).1 (aAns (aPick S.N v (rP S.N))) (cS S (aPick S.N v (rP S.N))) h') fmNo := by
  refine Ct.ofH hl (by decide +kernel) (Nat.le_of_ble_eq_true rfl) (fun Γ E P => ?_)
  obtain ⟨d0, dh0, w0, pm0, X0, W0, hx0, -⟩ := id hD
  refine r_aload_n E dX0_pick_0 rfl ?_
  refine r_iconst E (nI 0) dX0_pick_1 (by decide) ?_
  refine r_aload_n E dX0_pick_2 rfl ?_
  refine r_iload_n E dX0_pick_3 rfl ?_
  refine r_callV E (jn_pick G hl h hC hD hk8 v) mX1_pick q1078 q1079 q1080 (fun H a1 => fm_rc (ci := 1) (C := RX1) (T := TX1) (N := 9) a1 rfl E.v hx0) rfl rfl (Nat.le_of_ble_eq_true rfl) (Nat.le_of_ble_eq_true rfl) (Nat.le_of_ble_eq_true rfl) dX0_pick_4 0 0 (Nat.le_of_ble_eq_true rfl) (Nat.le_of_ble_eq_true rfl) (fun v' h1 q => ?_) (fun q Ex h1 hx1 => ?_)
  · obtain ⟨hc, rfl, hJ⟩ := q
    have ho1 := JP.ho hD hJ ho
    refine r_i2l E dX0_pick_7 ?_
    refine r_last E ho1 (by decide) (by decide) dX0_pick_8 ?_
    refine r_goto (tgt := 18) E dX0_pick_9 (by decide) ?_
    refine r_iconst E (nI 0) dX0_pick_18 (by decide) ?_
    exact r_ireturn E P rfl dX0_pick_19 ⟨by rw [hc]; rfl, OP.yes hD ho hJ (if_pos rfl)⟩
  · obtain ⟨hc, hE, hJ⟩ := hx1
    rcases (cd_pick : (aPick S.N v (rP S.N)).1 = 0 ∨ (aPick S.N v (rP S.N)).1 = 2 ∨ (aPick S.N v (rP S.N)).1 = 3) with z | z | z
    · exact absurd z hc
    · obtain rfl : Ex = "java/lang/IllegalArgumentException" := by rw [hE, z]; rfl
      refine r_xcatchS E [] ⟨0, 9, 12, 15⟩ [⟨0, 9, 15, 17⟩] rfl (fun z hz => by cases hz) (by decide) (by decide) q619 (classAt_of (E.ts _ q667)) ?_
      refine r_astore_n E [some (.ref x), some (.int v), some (.ref o), some (.ref q)] dX0_pick_12 rfl rfl ?_
      refine r_iconst E (nI 1) dX0_pick_13 (by decide) ?_
      exact r_ireturn E P rfl dX0_pick_14 ⟨by rw [z]; rfl, OP.no hD ho hJ hc⟩
    · obtain rfl : Ex = "java/lang/UnsupportedOperationException" := by rw [hE, z]; rfl
      refine r_xcatchS E [⟨0, 9, 12, 15⟩] ⟨0, 9, 15, 17⟩ [] rfl (fun z hz => by rcases List.mem_singleton.mp hz with rfl; exact Or.inr ⟨by decide, "java/lang/IllegalArgumentException", q619, by decide +kernel⟩) (by decide) (by decide) q620 (classAt_of (E.ts _ q1043)) ?_
      refine r_astore_n E [some (.ref x), some (.int v), some (.ref o), some (.ref q)] dX0_pick_15 rfl rfl ?_
      refine r_iconst E (nI 2) dX0_pick_16 (by decide) ?_
      exact r_ireturn E P rfl dX0_pick_17 ⟨by rw [z]; rfl, OP.no hD ho hJ hc⟩

set_option maxHeartbeats 4000000 in
theorem w_sink (G : fmG) (hl : (fmLn G).stackTraces = false) (h : fmHp) {x : Nat} {a : DA} {S : DS} (hC : CC G h) (hD : DK G h x a S) (hk8 : S.kp ≤ 8) (o : Nat) (f0 : Nat → Int64) (ho : h o = some (oLn f0)) (v : Int32) : Ct G yX0_sink (wsW_ yX0_sink cX0_sink 4 (some .int) [(0, 9, 12, 13), (0, 9, 15, 17)]) { frames := 11, cells := 26, slots := 3199, locals := 281 } [.ref x, .int v, .ref o] h (fun v0 h' => v0 = some (.int (nI (kf 1 9 2 (aSink S.N v (rK S.N) (rP S.N)).1))) ∧ OP G h x a o (aSink S.N v (rK S.N) (rP S.N)).1 (aAns (aSink S.N v (rK S.N) (rP S.N))) (cS S (aSink S.N v (rK S.N) (rP S.N))) h') fmNo := by
  refine Ct.ofH hl (by decide +kernel) (Nat.le_of_ble_eq_true rfl) (fun Γ E P => ?_)
  obtain ⟨d0, dh0, w0, pm0, X0, W0, hx0, -⟩ := id hD
  refine r_aload_n E dX0_sink_0 rfl ?_
  refine r_iconst E (nI 0) dX0_sink_1 (by decide) ?_
  refine r_aload_n E dX0_sink_2 rfl ?_
  refine r_iload_n E dX0_sink_3 rfl ?_
  refine r_callV E (jn_sink G hl h hC hD hk8 v) mX1_sink q1159 q1160 q1161 (fun H a1 => fm_rc (ci := 1) (C := RX1) (T := TX1) (N := 9) a1 rfl E.v hx0) rfl rfl (Nat.le_of_ble_eq_true rfl) (Nat.le_of_ble_eq_true rfl) (Nat.le_of_ble_eq_true rfl) dX0_sink_4 0 0 (Nat.le_of_ble_eq_true rfl) (Nat.le_of_ble_eq_true rfl) (fun v' h1 q => ?_) (fun q Ex h1 hx1 => ?_)
  · obtain ⟨hc, rfl, hJ⟩ := q
    have ho1 := JP.ho hD hJ ho
    refine r_i2l E dX0_sink_7 ?_
    refine r_last E ho1 (by decide) (by decide) dX0_sink_8 ?_
    refine r_goto (tgt := 18) E dX0_sink_9 (by decide) ?_
    refine r_iconst E (nI 0) dX0_sink_18 (by decide) ?_
    exact r_ireturn E P rfl dX0_sink_19 ⟨by rw [hc]; rfl, OP.yes hD ho hJ (if_pos rfl)⟩
  · obtain ⟨hc, hE, hJ⟩ := hx1
    rcases (cd_sink : (aSink S.N v (rK S.N) (rP S.N)).1 = 0 ∨ (aSink S.N v (rK S.N) (rP S.N)).1 = 1 ∨ (aSink S.N v (rK S.N) (rP S.N)).1 = 3) with z | z | z
    · exact absurd z hc
    · obtain rfl : Ex = "java/lang/IndexOutOfBoundsException" := by rw [hE, z]; rfl
      refine r_xcatchS E [] ⟨0, 9, 12, 13⟩ [⟨0, 9, 15, 17⟩] rfl (fun z hz => by cases hz) (by decide) (by decide) q587 (classAt_of (E.ts _ q635)) ?_
      refine r_astore_n E [some (.ref x), some (.int v), some (.ref o), some (.ref q)] dX0_sink_12 rfl rfl ?_
      refine r_iconst E (nI 1) dX0_sink_13 (by decide) ?_
      exact r_ireturn E P rfl dX0_sink_14 ⟨by rw [z]; rfl, OP.no hD ho hJ hc⟩
    · obtain rfl : Ex = "java/lang/UnsupportedOperationException" := by rw [hE, z]; rfl
      refine r_xcatchS E [⟨0, 9, 12, 13⟩] ⟨0, 9, 15, 17⟩ [] rfl (fun z hz => by rcases List.mem_singleton.mp hz with rfl; exact Or.inr ⟨by decide, "java/lang/IndexOutOfBoundsException", q587, by decide +kernel⟩) (by decide) (by decide) q620 (classAt_of (E.ts _ q1043)) ?_
      refine r_astore_n E [some (.ref x), some (.int v), some (.ref o), some (.ref q)] dX0_sink_15 rfl rfl ?_
      refine r_iconst E (nI 2) dX0_sink_16 (by decide) ?_
      exact r_ireturn E P rfl dX0_sink_17 ⟨by rw [z]; rfl, OP.no hD ho hJ hc⟩

set_option maxHeartbeats 4000000 in
theorem w_dig (G : fmG) (hl : (fmLn G).stackTraces = false) (h : fmHp) {x : Nat} {a : DA} {S : DS} (hC : CC G h) (hD : DK G h x a S) (hk8 : S.kp ≤ 8) (o : Nat) (f0 : Nat → Int64) (ho : h o = some (oLn f0)) (s v : Int32) (p : Bool) : Ct G yX0_dig (wsW_ yX0_dig cX0_dig 6 (some .int) [(0, 12, 15, 13), (0, 12, 19, 17)]) { frames := 12, cells := 28, slots := 3212, locals := 261 } [.ref x, .int s, .int v, .int (bI p), .ref o] h (fun v0 h' => v0 = some (.int (nI (kf 1 9 2 (aDig S.N s v p (rK S.N) (rP S.N)).1))) ∧ OP G h x a o (aDig S.N s v p (rK S.N) (rP S.N)).1 (aAns (aDig S.N s v p (rK S.N) (rP S.N))) (cS S (aDig S.N s v p (rK S.N) (rP S.N))) h') fmNo := by
  refine Ct.ofH hl (by decide +kernel) (Nat.le_of_ble_eq_true rfl) (fun Γ E P => ?_)
  obtain ⟨d0, dh0, w0, pm0, X0, W0, hx0, -⟩ := id hD
  refine r_aload E dX0_dig_0 rfl ?_
  refine r_iconst E (nI 0) dX0_dig_2 (by decide) ?_
  refine r_aload_n E dX0_dig_3 rfl ?_
  refine r_iload_n E dX0_dig_4 rfl ?_
  refine r_iload_n E dX0_dig_5 rfl ?_
  refine r_iload_n E dX0_dig_6 rfl ?_
  refine r_callV E (jn_dig G hl h hC hD hk8 s v p) mX1_dig q1168 q1169 q1170 (fun H a1 => fm_rc (ci := 1) (C := RX1) (T := TX1) (N := 9) a1 rfl E.v hx0) rfl rfl (Nat.le_of_ble_eq_true rfl) (Nat.le_of_ble_eq_true rfl) (Nat.le_of_ble_eq_true rfl) dX0_dig_7 0 0 (Nat.le_of_ble_eq_true rfl) (Nat.le_of_ble_eq_true rfl) (fun v' h1 q => ?_) (fun q Ex h1 hx1 => ?_)
  · obtain ⟨hc, rfl, hJ⟩ := q
    have ho1 := JP.ho hD hJ ho
    refine r_i2l E dX0_dig_10 ?_
    refine r_last E ho1 (by decide) (by decide) dX0_dig_11 ?_
    refine r_goto (tgt := 23) E dX0_dig_12 (by decide) ?_
    refine r_iconst E (nI 0) dX0_dig_23 (by decide) ?_
    exact r_ireturn E P rfl dX0_dig_24 ⟨by rw [hc]; rfl, OP.yes hD ho hJ (if_pos rfl)⟩
  · obtain ⟨hc, hE, hJ⟩ := hx1
    rcases (cd_dig : (aDig S.N s v p (rK S.N) (rP S.N)).1 = 0 ∨ (aDig S.N s v p (rK S.N) (rP S.N)).1 = 1 ∨ (aDig S.N s v p (rK S.N) (rP S.N)).1 = 3) with z | z | z
    · exact absurd z hc
    · obtain rfl : Ex = "java/lang/IndexOutOfBoundsException" := by rw [hE, z]; rfl
      refine r_xcatchS E [] ⟨0, 12, 15, 13⟩ [⟨0, 12, 19, 17⟩] rfl (fun z hz => by cases hz) (by decide) (by decide) q587 (classAt_of (E.ts _ q635)) ?_
      refine r_astore E [some (.ref x), some (.int s), some (.int v), some (.int (bI p)), some (.ref o), some (.ref q)] dX0_dig_15 rfl rfl ?_
      refine r_iconst E (nI 1) dX0_dig_17 (by decide) ?_
      exact r_ireturn E P rfl dX0_dig_18 ⟨by rw [z]; rfl, OP.no hD ho hJ hc⟩
    · obtain rfl : Ex = "java/lang/UnsupportedOperationException" := by rw [hE, z]; rfl
      refine r_xcatchS E [⟨0, 12, 15, 13⟩] ⟨0, 12, 19, 17⟩ [] rfl (fun z hz => by rcases List.mem_singleton.mp hz with rfl; exact Or.inr ⟨by decide, "java/lang/IndexOutOfBoundsException", q587, by decide +kernel⟩) (by decide) (by decide) q620 (classAt_of (E.ts _ q1043)) ?_
      refine r_astore E [some (.ref x), some (.int s), some (.int v), some (.int (bI p)), some (.ref o), some (.ref q)] dX0_dig_19 rfl rfl ?_
      refine r_iconst E (nI 2) dX0_dig_21 (by decide) ?_
      exact r_ireturn E P rfl dX0_dig_22 ⟨by rw [z]; rfl, OP.no hD ho hJ hc⟩

set_option maxHeartbeats 4000000 in
theorem w_prop (G : fmG) (hl : (fmLn G).stackTraces = false) (h : fmHp) {x : Nat} {a : DA} {S : DS} (hC : CC G h) (hD : DK G h x a S) (hk8 : S.kp ≤ 8) (o : Nat) (f0 : Nat → Int64) (ho : h o = some (oLn f0)) (v : Int32) : Ct G yX0_prop (wsW_ yX0_prop cX0_prop 4 (some .int) [(0, 9, 12, 13), (0, 9, 15, 17)]) { frames := 11, cells := 24, slots := 3002, locals := 259 } [.ref x, .int v, .ref o] h (fun v0 h' => v0 = some (.int (nI (kf 1 9 2 (aProp S.N v).1))) ∧ OP G h x a o (aProp S.N v).1 (aAns (aProp S.N v)) (cS S (aProp S.N v)) h') fmNo := by
  refine Ct.ofH hl (by decide +kernel) (Nat.le_of_ble_eq_true rfl) (fun Γ E P => ?_)
  obtain ⟨d0, dh0, w0, pm0, X0, W0, hx0, -⟩ := id hD
  refine r_aload_n E dX0_prop_0 rfl ?_
  refine r_iconst E (nI 0) dX0_prop_1 (by decide) ?_
  refine r_aload_n E dX0_prop_2 rfl ?_
  refine r_iload_n E dX0_prop_3 rfl ?_
  refine r_callV E (jn_prop G hl h hC hD hk8 v) mX1_prop q1177 q1178 q1179 (fun H a1 => fm_rc (ci := 1) (C := RX1) (T := TX1) (N := 9) a1 rfl E.v hx0) rfl rfl (Nat.le_of_ble_eq_true rfl) (Nat.le_of_ble_eq_true rfl) (Nat.le_of_ble_eq_true rfl) dX0_prop_4 0 0 (Nat.le_of_ble_eq_true rfl) (Nat.le_of_ble_eq_true rfl) (fun v' h1 q => ?_) (fun q Ex h1 hx1 => ?_)
  · obtain ⟨hc, rfl, hJ⟩ := q
    have ho1 := JP.ho hD hJ ho
    refine r_i2l E dX0_prop_7 ?_
    refine r_last E ho1 (by decide) (by decide) dX0_prop_8 ?_
    refine r_goto (tgt := 18) E dX0_prop_9 (by decide) ?_
    refine r_iconst E (nI 0) dX0_prop_18 (by decide) ?_
    exact r_ireturn E P rfl dX0_prop_19 ⟨by rw [hc]; rfl, OP.yes hD ho hJ (if_pos rfl)⟩
  · obtain ⟨hc, hE, hJ⟩ := hx1
    rcases (cd_prop : (aProp S.N v).1 = 0 ∨ (aProp S.N v).1 = 1 ∨ (aProp S.N v).1 = 3) with z | z | z
    · exact absurd z hc
    · obtain rfl : Ex = "java/lang/IndexOutOfBoundsException" := by rw [hE, z]; rfl
      refine r_xcatchS E [] ⟨0, 9, 12, 13⟩ [⟨0, 9, 15, 17⟩] rfl (fun z hz => by cases hz) (by decide) (by decide) q587 (classAt_of (E.ts _ q635)) ?_
      refine r_astore_n E [some (.ref x), some (.int v), some (.ref o), some (.ref q)] dX0_prop_12 rfl rfl ?_
      refine r_iconst E (nI 1) dX0_prop_13 (by decide) ?_
      exact r_ireturn E P rfl dX0_prop_14 ⟨by rw [z]; rfl, OP.no hD ho hJ hc⟩
    · obtain rfl : Ex = "java/lang/UnsupportedOperationException" := by rw [hE, z]; rfl
      refine r_xcatchS E [⟨0, 9, 12, 13⟩] ⟨0, 9, 15, 17⟩ [] rfl (fun z hz => by rcases List.mem_singleton.mp hz with rfl; exact Or.inr ⟨by decide, "java/lang/IndexOutOfBoundsException", q587, by decide +kernel⟩) (by decide) (by decide) q620 (classAt_of (E.ts _ q1043)) ?_
      refine r_astore_n E [some (.ref x), some (.int v), some (.ref o), some (.ref q)] dX0_prop_15 rfl rfl ?_
      refine r_iconst E (nI 2) dX0_prop_16 (by decide) ?_
      exact r_ireturn E P rfl dX0_prop_17 ⟨by rw [z]; rfl, OP.no hD ho hJ hc⟩

set_option maxHeartbeats 4000000 in
theorem w_unprop (G : fmG) (hl : (fmLn G).stackTraces = false) (h : fmHp) {x : Nat} {a : DA} {S : DS} (hC : CC G h) (hD : DK G h x a S) (hk8 : S.kp ≤ 8) (o : Nat) (f0 : Nat → Int64) (ho : h o = some (oLn f0)) (v : Int32) : Ct G yX0_unprop (wsW_ yX0_unprop cX0_unprop 4 (some .int) [(0, 9, 12, 13), (0, 9, 15, 17)]) { frames := 11, cells := 24, slots := 3002, locals := 259 } [.ref x, .int v, .ref o] h (fun v0 h' => v0 = some (.int (nI (kf 1 9 2 (aUnprop S.N v).1))) ∧ OP G h x a o (aUnprop S.N v).1 (aAns (aUnprop S.N v)) (cS S (aUnprop S.N v)) h') fmNo := by
  refine Ct.ofH hl (by decide +kernel) (Nat.le_of_ble_eq_true rfl) (fun Γ E P => ?_)
  obtain ⟨d0, dh0, w0, pm0, X0, W0, hx0, -⟩ := id hD
  refine r_aload_n E dX0_unprop_0 rfl ?_
  refine r_iconst E (nI 0) dX0_unprop_1 (by decide) ?_
  refine r_aload_n E dX0_unprop_2 rfl ?_
  refine r_iload_n E dX0_unprop_3 rfl ?_
  refine r_callV E (jn_unprop G hl h hC hD hk8 v) mX1_unprop q1186 q1187 q1188 (fun H a1 => fm_rc (ci := 1) (C := RX1) (T := TX1) (N := 9) a1 rfl E.v hx0) rfl rfl (Nat.le_of_ble_eq_true rfl) (Nat.le_of_ble_eq_true rfl) (Nat.le_of_ble_eq_true rfl) dX0_unprop_4 0 0 (Nat.le_of_ble_eq_true rfl) (Nat.le_of_ble_eq_true rfl) (fun v' h1 q => ?_) (fun q Ex h1 hx1 => ?_)
  · obtain ⟨hc, rfl, hJ⟩ := q
    have ho1 := JP.ho hD hJ ho
    refine r_i2l E dX0_unprop_7 ?_
    refine r_last E ho1 (by decide) (by decide) dX0_unprop_8 ?_
    refine r_goto (tgt := 18) E dX0_unprop_9 (by decide) ?_
    refine r_iconst E (nI 0) dX0_unprop_18 (by decide) ?_
    exact r_ireturn E P rfl dX0_unprop_19 ⟨by rw [hc]; rfl, OP.yes hD ho hJ (if_pos rfl)⟩
  · obtain ⟨hc, hE, hJ⟩ := hx1
    rcases (cd_unprop : (aUnprop S.N v).1 = 0 ∨ (aUnprop S.N v).1 = 1 ∨ (aUnprop S.N v).1 = 3) with z | z | z
    · exact absurd z hc
    · obtain rfl : Ex = "java/lang/IndexOutOfBoundsException" := by rw [hE, z]; rfl
      refine r_xcatchS E [] ⟨0, 9, 12, 13⟩ [⟨0, 9, 15, 17⟩] rfl (fun z hz => by cases hz) (by decide) (by decide) q587 (classAt_of (E.ts _ q635)) ?_
      refine r_astore_n E [some (.ref x), some (.int v), some (.ref o), some (.ref q)] dX0_unprop_12 rfl rfl ?_
      refine r_iconst E (nI 1) dX0_unprop_13 (by decide) ?_
      exact r_ireturn E P rfl dX0_unprop_14 ⟨by rw [z]; rfl, OP.no hD ho hJ hc⟩
    · obtain rfl : Ex = "java/lang/UnsupportedOperationException" := by rw [hE, z]; rfl
      refine r_xcatchS E [⟨0, 9, 12, 13⟩] ⟨0, 9, 15, 17⟩ [] rfl (fun z hz => by rcases List.mem_singleton.mp hz with rfl; exact Or.inr ⟨by decide, "java/lang/IndexOutOfBoundsException", q587, by decide +kernel⟩) (by decide) (by decide) q620 (classAt_of (E.ts _ q1043)) ?_
      refine r_astore_n E [some (.ref x), some (.int v), some (.ref o), some (.ref q)] dX0_unprop_15 rfl rfl ?_
      refine r_iconst E (nI 2) dX0_unprop_16 (by decide) ?_
      exact r_ireturn E P rfl dX0_unprop_17 ⟨by rw [z]; rfl, OP.no hD ho hJ hc⟩

set_option maxHeartbeats 4000000 in
theorem w_close (G : fmG) (hl : (fmLn G).stackTraces = false) (h : fmHp) {x : Nat} {a : DA} {S : DS} (hC : CC G h) (hD : DK G h x a S) (hk8 : S.kp ≤ 8) (o : Nat) (f0 : Nat → Int64) (ho : h o = some (oLn f0)) (v : Int32) : Ct G yX0_close (wsW_ yX0_close cX0_close 4 (some .int) [(0, 9, 12, 13), (0, 9, 15, 17)]) { frames := 12, cells := 88, slots := 3061, locals := 259 } [.ref x, .int v, .ref o] h (fun v0 h' => v0 = some (.int (nI (kf 1 9 2 (aClose S.N v (rK S.N)).1))) ∧ OP G h x a o (aClose S.N v (rK S.N)).1 (aAns (aClose S.N v (rK S.N))) (cS S (aClose S.N v (rK S.N))) h') fmNo := by
  refine Ct.ofH hl (by decide +kernel) (Nat.le_of_ble_eq_true rfl) (fun Γ E P => ?_)
  obtain ⟨d0, dh0, w0, pm0, X0, W0, hx0, -⟩ := id hD
  refine r_aload_n E dX0_close_0 rfl ?_
  refine r_iconst E (nI 0) dX0_close_1 (by decide) ?_
  refine r_aload_n E dX0_close_2 rfl ?_
  refine r_iload_n E dX0_close_3 rfl ?_
  refine r_callV E (jn_close G hl h hC hD hk8 v) mX1_close q1195 q1196 q1197 (fun H a1 => fm_rc (ci := 1) (C := RX1) (T := TX1) (N := 9) a1 rfl E.v hx0) rfl rfl (Nat.le_of_ble_eq_true rfl) (Nat.le_of_ble_eq_true rfl) (Nat.le_of_ble_eq_true rfl) dX0_close_4 0 0 (Nat.le_of_ble_eq_true rfl) (Nat.le_of_ble_eq_true rfl) (fun v' h1 q => ?_) (fun q Ex h1 hx1 => ?_)
  · obtain ⟨hc, rfl, hJ⟩ := q
    have ho1 := JP.ho hD hJ ho
    refine r_i2l E dX0_close_7 ?_
    refine r_last E ho1 (by decide) (by decide) dX0_close_8 ?_
    refine r_goto (tgt := 18) E dX0_close_9 (by decide) ?_
    refine r_iconst E (nI 0) dX0_close_18 (by decide) ?_
    exact r_ireturn E P rfl dX0_close_19 ⟨by rw [hc]; rfl, OP.yes hD ho hJ (if_pos rfl)⟩
  · obtain ⟨hc, hE, hJ⟩ := hx1
    rcases (cd_close : (aClose S.N v (rK S.N)).1 = 0 ∨ (aClose S.N v (rK S.N)).1 = 1 ∨ (aClose S.N v (rK S.N)).1 = 3) with z | z | z
    · exact absurd z hc
    · obtain rfl : Ex = "java/lang/IndexOutOfBoundsException" := by rw [hE, z]; rfl
      refine r_xcatchS E [] ⟨0, 9, 12, 13⟩ [⟨0, 9, 15, 17⟩] rfl (fun z hz => by cases hz) (by decide) (by decide) q587 (classAt_of (E.ts _ q635)) ?_
      refine r_astore_n E [some (.ref x), some (.int v), some (.ref o), some (.ref q)] dX0_close_12 rfl rfl ?_
      refine r_iconst E (nI 1) dX0_close_13 (by decide) ?_
      exact r_ireturn E P rfl dX0_close_14 ⟨by rw [z]; rfl, OP.no hD ho hJ hc⟩
    · obtain rfl : Ex = "java/lang/UnsupportedOperationException" := by rw [hE, z]; rfl
      refine r_xcatchS E [⟨0, 9, 12, 13⟩] ⟨0, 9, 15, 17⟩ [] rfl (fun z hz => by rcases List.mem_singleton.mp hz with rfl; exact Or.inr ⟨by decide, "java/lang/IndexOutOfBoundsException", q587, by decide +kernel⟩) (by decide) (by decide) q620 (classAt_of (E.ts _ q1043)) ?_
      refine r_astore_n E [some (.ref x), some (.int v), some (.ref o), some (.ref q)] dX0_close_15 rfl rfl ?_
      refine r_iconst E (nI 2) dX0_close_16 (by decide) ?_
      exact r_ireturn E P rfl dX0_close_17 ⟨by rw [z]; rfl, OP.no hD ho hJ hc⟩

set_option maxHeartbeats 4000000 in
theorem w_edge (G : fmG) (hl : (fmLn G).stackTraces = false) (h : fmHp) {x : Nat} {a : DA} {S : DS} (hC : CC G h) (hD : DK G h x a S) (hk8 : S.kp ≤ 8) (o : Nat) (f0 : Nat → Int64) (ho : h o = some (oLn f0)) (v : Int32) : Ct G yX0_edge (wsW_ yX0_edge cX0_edge 4 (some .int) [(0, 9, 12, 13)]) { frames := 8, cells := 1, slots := 6, locals := 141 } [.ref x, .int v, .ref o] h (fun v0 h' => v0 = some (.int (nI (kf 1 2 9 (aEdge S.N v (rP S.N)).1))) ∧ OP G h x a o (aEdge S.N v (rP S.N)).1 (aAns (aEdge S.N v (rP S.N))) S h') fmNo := by
  refine Ct.ofH hl (by decide +kernel) (Nat.le_of_ble_eq_true rfl) (fun Γ E P => ?_)
  obtain ⟨d0, dh0, w0, pm0, X0, W0, hx0, -⟩ := id hD
  refine r_aload_n E dX0_edge_0 rfl ?_
  refine r_iconst E (nI 0) dX0_edge_1 (by decide) ?_
  refine r_aload_n E dX0_edge_2 rfl ?_
  refine r_iload_n E dX0_edge_3 rfl ?_
  refine r_callV E (jn_edge G hl h hC hD hk8 v) mX1_edge q1087 q1088 q1089 (fun H a1 => fm_rc (ci := 1) (C := RX1) (T := TX1) (N := 9) a1 rfl E.v hx0) rfl rfl (Nat.le_of_ble_eq_true rfl) (Nat.le_of_ble_eq_true rfl) (Nat.le_of_ble_eq_true rfl) dX0_edge_4 0 0 (Nat.le_of_ble_eq_true rfl) (Nat.le_of_ble_eq_true rfl) (fun v' h1 q => ?_) (fun q Ex h1 hx1 => ?_)
  · obtain ⟨hc, rfl, hJ⟩ := q
    have ho1 := JP.ho hD hJ ho
    refine r_i2l E dX0_edge_7 ?_
    refine r_last E ho1 (by decide) (by decide) dX0_edge_8 ?_
    refine r_goto (tgt := 15) E dX0_edge_9 (by decide) ?_
    refine r_iconst E (nI 0) dX0_edge_15 (by decide) ?_
    exact r_ireturn E P rfl dX0_edge_16 ⟨by rw [hc]; rfl, OP.yes hD ho hJ (if_pos rfl)⟩
  · obtain ⟨hc, hE, hJ⟩ := hx1
    rcases (cd_edge : (aEdge S.N v (rP S.N)).1 = 0 ∨ (aEdge S.N v (rP S.N)).1 = 1) with z | z
    · exact absurd z hc
    · obtain rfl : Ex = "java/lang/IndexOutOfBoundsException" := by rw [hE, z]; rfl
      refine r_xcatchS E [] ⟨0, 9, 12, 13⟩ [] rfl (fun z hz => by cases hz) (by decide) (by decide) q587 (classAt_of (E.ts _ q635)) ?_
      refine r_astore_n E [some (.ref x), some (.int v), some (.ref o), some (.ref q)] dX0_edge_12 rfl rfl ?_
      refine r_iconst E (nI 1) dX0_edge_13 (by decide) ?_
      exact r_ireturn E P rfl dX0_edge_14 ⟨by rw [z]; rfl, OP.no hD ho hJ hc⟩

set_option maxHeartbeats 4000000 in
theorem w_cell (G : fmG) (hl : (fmLn G).stackTraces = false) (h : fmHp) {x : Nat} {a : DA} {S : DS} (hC : CC G h) (hD : DK G h x a S) (hk8 : S.kp ≤ 8) (o : Nat) (f0 : Nat → Int64) (ho : h o = some (oLn f0)) (v u : Int32) : Ct G yX0_cell (wsW_ yX0_cell cX0_cell 5 (some .int) [(0, 10, 13, 13), (0, 10, 17, 15)]) { frames := 9, cells := 3, slots := 16, locals := 169 } [.ref x, .int v, .int u, .ref o] h (fun v0 h' => v0 = some (.int (nI (kf 1 2 9 (aCell S.N v u).1))) ∧ OP G h x a o (aCell S.N v u).1 (aAns (aCell S.N v u)) S h') fmNo := by
  refine Ct.ofH hl (by decide +kernel) (Nat.le_of_ble_eq_true rfl) (fun Γ E P => ?_)
  obtain ⟨d0, dh0, w0, pm0, X0, W0, hx0, -⟩ := id hD
  refine r_aload_n E dX0_cell_0 rfl ?_
  refine r_iconst E (nI 0) dX0_cell_1 (by decide) ?_
  refine r_aload_n E dX0_cell_2 rfl ?_
  refine r_iload_n E dX0_cell_3 rfl ?_
  refine r_iload_n E dX0_cell_4 rfl ?_
  refine r_callV E (jn_cell G hl h hC hD hk8 v u) mX1_cell q1098 q1099 q1100 (fun H a1 => fm_rc (ci := 1) (C := RX1) (T := TX1) (N := 9) a1 rfl E.v hx0) rfl rfl (Nat.le_of_ble_eq_true rfl) (Nat.le_of_ble_eq_true rfl) (Nat.le_of_ble_eq_true rfl) dX0_cell_5 0 0 (Nat.le_of_ble_eq_true rfl) (Nat.le_of_ble_eq_true rfl) (fun v' h1 q => ?_) (fun q Ex h1 hx1 => ?_)
  · obtain ⟨hc, rfl, hJ⟩ := q
    have ho1 := JP.ho hD hJ ho
    refine r_i2l E dX0_cell_8 ?_
    refine r_last E ho1 (by decide) (by decide) dX0_cell_9 ?_
    refine r_goto (tgt := 21) E dX0_cell_10 (by decide) ?_
    refine r_iconst E (nI 0) dX0_cell_21 (by decide) ?_
    exact r_ireturn E P rfl dX0_cell_22 ⟨by rw [hc]; rfl, OP.yes hD ho hJ (if_pos rfl)⟩
  · obtain ⟨hc, hE, hJ⟩ := hx1
    rcases (cd_cell : (aCell S.N v u).1 = 0 ∨ (aCell S.N v u).1 = 1 ∨ (aCell S.N v u).1 = 2) with z | z | z
    · exact absurd z hc
    · obtain rfl : Ex = "java/lang/IndexOutOfBoundsException" := by rw [hE, z]; rfl
      refine r_xcatchS E [] ⟨0, 10, 13, 13⟩ [⟨0, 10, 17, 15⟩] rfl (fun z hz => by cases hz) (by decide) (by decide) q587 (classAt_of (E.ts _ q635)) ?_
      refine r_astore E [some (.ref x), some (.int v), some (.int u), some (.ref o), some (.ref q)] dX0_cell_13 rfl rfl ?_
      refine r_iconst E (nI 1) dX0_cell_15 (by decide) ?_
      exact r_ireturn E P rfl dX0_cell_16 ⟨by rw [z]; rfl, OP.no hD ho hJ hc⟩
    · obtain rfl : Ex = "java/lang/IllegalArgumentException" := by rw [hE, z]; rfl
      refine r_xcatchS E [⟨0, 10, 13, 13⟩] ⟨0, 10, 17, 15⟩ [] rfl (fun z hz => by rcases List.mem_singleton.mp hz with rfl; exact Or.inr ⟨by decide, "java/lang/IndexOutOfBoundsException", q587, by decide +kernel⟩) (by decide) (by decide) q619 (classAt_of (E.ts _ q667)) ?_
      refine r_astore E [some (.ref x), some (.int v), some (.int u), some (.ref o), some (.ref q)] dX0_cell_17 rfl rfl ?_
      refine r_iconst E (nI 2) dX0_cell_19 (by decide) ?_
      exact r_ireturn E P rfl dX0_cell_20 ⟨by rw [z]; rfl, OP.no hD ho hJ hc⟩

set_option maxHeartbeats 4000000 in
theorem w_span (G : fmG) (hl : (fmLn G).stackTraces = false) (h : fmHp) {x : Nat} {a : DA} {S : DS} (hC : CC G h) (hD : DK G h x a S) (hk8 : S.kp ≤ 8) (o : Nat) (f0 : Nat → Int64) (ho : h o = some (oLn f0)) (v : Int32) (b : Bool) : Ct G yX0_span (wsW_ yX0_span cX0_span 5 (some .int) [(0, 10, 13, 13)]) { frames := 9, cells := 2, slots := 8, locals := 166 } [.ref x, .int v, .int (bI b), .ref o] h (fun v0 h' => v0 = some (.int (nI (kf 1 2 9 (aSpan S.N v b).1))) ∧ OP G h x a o (aSpan S.N v b).1 (aAns (aSpan S.N v b)) S h') fmNo := by
  refine Ct.ofH hl (by decide +kernel) (Nat.le_of_ble_eq_true rfl) (fun Γ E P => ?_)
  obtain ⟨d0, dh0, w0, pm0, X0, W0, hx0, -⟩ := id hD
  refine r_aload_n E dX0_span_0 rfl ?_
  refine r_iconst E (nI 0) dX0_span_1 (by decide) ?_
  refine r_aload_n E dX0_span_2 rfl ?_
  refine r_iload_n E dX0_span_3 rfl ?_
  refine r_iload_n E dX0_span_4 rfl ?_
  refine r_callV E (jn_span G hl h hC hD hk8 v b) mX1_span q1133 q1134 q1135 (fun H a1 => fm_rc (ci := 1) (C := RX1) (T := TX1) (N := 9) a1 rfl E.v hx0) rfl rfl (Nat.le_of_ble_eq_true rfl) (Nat.le_of_ble_eq_true rfl) (Nat.le_of_ble_eq_true rfl) dX0_span_5 0 0 (Nat.le_of_ble_eq_true rfl) (Nat.le_of_ble_eq_true rfl) (fun v' h1 q => ?_) (fun q Ex h1 hx1 => ?_)
  · obtain ⟨hc, rfl, hJ⟩ := q
    have ho1 := JP.ho hD hJ ho
    refine r_i2l E dX0_span_8 ?_
    refine r_last E ho1 (by decide) (by decide) dX0_span_9 ?_
    refine r_goto (tgt := 17) E dX0_span_10 (by decide) ?_
    refine r_iconst E (nI 0) dX0_span_17 (by decide) ?_
    exact r_ireturn E P rfl dX0_span_18 ⟨by rw [hc]; rfl, OP.yes hD ho hJ (if_pos rfl)⟩
  · obtain ⟨hc, hE, hJ⟩ := hx1
    rcases (cd_span : (aSpan S.N v b).1 = 0 ∨ (aSpan S.N v b).1 = 1) with z | z
    · exact absurd z hc
    · obtain rfl : Ex = "java/lang/IndexOutOfBoundsException" := by rw [hE, z]; rfl
      refine r_xcatchS E [] ⟨0, 10, 13, 13⟩ [] rfl (fun z hz => by cases hz) (by decide) (by decide) q587 (classAt_of (E.ts _ q635)) ?_
      refine r_astore E [some (.ref x), some (.int v), some (.int (bI b)), some (.ref o), some (.ref q)] dX0_span_13 rfl rfl ?_
      refine r_iconst E (nI 1) dX0_span_15 (by decide) ?_
      exact r_ireturn E P rfl dX0_span_16 ⟨by rw [z]; rfl, OP.no hD ho hJ hc⟩

set_option maxHeartbeats 4000000 in
theorem w_knock (G : fmG) (hl : (fmLn G).stackTraces = false) (h : fmHp) {x : Nat} {a : DA} {S : DS} (hC : CC G h) (hD : DK G h x a S) (hk8 : S.kp ≤ 8) (o : Nat) (f0 : Nat → Int64) (ho : h o = some (oLn f0)) (v : Int32) : Ct G yX0_knock (wsW_ yX0_knock cX0_knock 4 (some .int) [(0, 9, 12, 13), (0, 9, 15, 43)]) { frames := 9, cells := 2, slots := 8, locals := 168 } [.ref x, .int v, .ref o] h (fun v0 h' => v0 = some (.int (nI (kf 1 2 9 (aKnock S.N v (rK S.N)).1))) ∧ OP G h x a o (aKnock S.N v (rK S.N)).1 (aAns (aKnock S.N v (rK S.N))) S h') fmNo := by
  refine Ct.ofH hl (by decide +kernel) (Nat.le_of_ble_eq_true rfl) (fun Γ E P => ?_)
  obtain ⟨d0, dh0, w0, pm0, X0, W0, hx0, -⟩ := id hD
  refine r_aload_n E dX0_knock_0 rfl ?_
  refine r_iconst E (nI 0) dX0_knock_1 (by decide) ?_
  refine r_aload_n E dX0_knock_2 rfl ?_
  refine r_iload_n E dX0_knock_3 rfl ?_
  refine r_callV E (jn_knock G hl h hC hD hk8 v) mX1_knock q1142 q1143 q1144 (fun H a1 => fm_rc (ci := 1) (C := RX1) (T := TX1) (N := 9) a1 rfl E.v hx0) rfl rfl (Nat.le_of_ble_eq_true rfl) (Nat.le_of_ble_eq_true rfl) (Nat.le_of_ble_eq_true rfl) dX0_knock_4 0 0 (Nat.le_of_ble_eq_true rfl) (Nat.le_of_ble_eq_true rfl) (fun v' h1 q => ?_) (fun q Ex h1 hx1 => ?_)
  · obtain ⟨hc, rfl, hJ⟩ := q
    have ho1 := JP.ho hD hJ ho
    refine r_i2l E dX0_knock_7 ?_
    refine r_last E ho1 (by decide) (by decide) dX0_knock_8 ?_
    refine r_goto (tgt := 18) E dX0_knock_9 (by decide) ?_
    refine r_iconst E (nI 0) dX0_knock_18 (by decide) ?_
    exact r_ireturn E P rfl dX0_knock_19 ⟨by rw [hc]; rfl, OP.yes hD ho hJ (if_pos rfl)⟩
  · obtain ⟨hc, hE, hJ⟩ := hx1
    rcases (cd_knock : (aKnock S.N v (rK S.N)).1 = 0 ∨ (aKnock S.N v (rK S.N)).1 = 1 ∨ (aKnock S.N v (rK S.N)).1 = 2) with z | z | z
    · exact absurd z hc
    · obtain rfl : Ex = "java/lang/IndexOutOfBoundsException" := by rw [hE, z]; rfl
      refine r_xcatchS E [] ⟨0, 9, 12, 13⟩ [⟨0, 9, 15, 43⟩] rfl (fun z hz => by cases hz) (by decide) (by decide) q587 (classAt_of (E.ts _ q635)) ?_
      refine r_astore_n E [some (.ref x), some (.int v), some (.ref o), some (.ref q)] dX0_knock_12 rfl rfl ?_
      refine r_iconst E (nI 1) dX0_knock_13 (by decide) ?_
      exact r_ireturn E P rfl dX0_knock_14 ⟨by rw [z]; rfl, OP.no hD ho hJ hc⟩
    · obtain rfl : Ex = "java/lang/IllegalStateException" := by rw [hE, z]; rfl
      refine r_xcatchS E [⟨0, 9, 12, 13⟩] ⟨0, 9, 15, 43⟩ [] rfl (fun z hz => by rcases List.mem_singleton.mp hz with rfl; exact Or.inr ⟨by decide, "java/lang/IndexOutOfBoundsException", q587, by decide +kernel⟩) (by decide) (by decide) q1141 (classAt_of (E.ts _ q1020)) ?_
      refine r_astore_n E [some (.ref x), some (.int v), some (.ref o), some (.ref q)] dX0_knock_15 rfl rfl ?_
      refine r_iconst E (nI 2) dX0_knock_16 (by decide) ?_
      exact r_ireturn E P rfl dX0_knock_17 ⟨by rw [z]; rfl, OP.no hD ho hJ hc⟩

set_option maxHeartbeats 4000000 in
theorem w_best (G : fmG) (hl : (fmLn G).stackTraces = false) (h : fmHp) {x : Nat} {a : DA} {S : DS} (hC : CC G h) (hD : DK G h x a S) (hk8 : S.kp ≤ 8) (o : Nat) (f0 : Nat → Int64) (ho : h o = some (oLn f0)) (s : Int32) : Ct G yX0_best (wsW_ yX0_best cX0_best 4 (some .int) [(0, 9, 12, 13), (0, 9, 15, 67)]) { frames := 9, cells := 1, slots := 6, locals := 165 } [.ref x, .int s, .ref o] h (fun v0 h' => v0 = some (.int (nI (kf 1 2 9 (aBest S.N s (rK S.N) (rP S.N)).1))) ∧ OP G h x a o (aBest S.N s (rK S.N) (rP S.N)).1 (aAns (aBest S.N s (rK S.N) (rP S.N))) S h') fmNo := by
  refine Ct.ofH hl (by decide +kernel) (Nat.le_of_ble_eq_true rfl) (fun Γ E P => ?_)
  obtain ⟨d0, dh0, w0, pm0, X0, W0, hx0, -⟩ := id hD
  refine r_aload_n E dX0_best_0 rfl ?_
  refine r_iconst E (nI 0) dX0_best_1 (by decide) ?_
  refine r_aload_n E dX0_best_2 rfl ?_
  refine r_iload_n E dX0_best_3 rfl ?_
  refine r_callV E (jn_best G hl h hC hD hk8 s) mX1_best q1260 q1261 q1262 (fun H a1 => fm_rc (ci := 1) (C := RX1) (T := TX1) (N := 9) a1 rfl E.v hx0) rfl rfl (Nat.le_of_ble_eq_true rfl) (Nat.le_of_ble_eq_true rfl) (Nat.le_of_ble_eq_true rfl) dX0_best_4 0 0 (Nat.le_of_ble_eq_true rfl) (Nat.le_of_ble_eq_true rfl) (fun v' h1 q => ?_) (fun q Ex h1 hx1 => ?_)
  · obtain ⟨hc, rfl, hJ⟩ := q
    have ho1 := JP.ho hD hJ ho
    refine r_i2l E dX0_best_7 ?_
    refine r_last E ho1 (by decide) (by decide) dX0_best_8 ?_
    refine r_goto (tgt := 18) E dX0_best_9 (by decide) ?_
    refine r_iconst E (nI 0) dX0_best_18 (by decide) ?_
    exact r_ireturn E P rfl dX0_best_19 ⟨by rw [hc]; rfl, OP.yes hD ho hJ (if_pos rfl)⟩
  · obtain ⟨hc, hE, hJ⟩ := hx1
    rcases (cd_best : (aBest S.N s (rK S.N) (rP S.N)).1 = 0 ∨ (aBest S.N s (rK S.N) (rP S.N)).1 = 1 ∨ (aBest S.N s (rK S.N) (rP S.N)).1 = 2) with z | z | z
    · exact absurd z hc
    · obtain rfl : Ex = "java/lang/IndexOutOfBoundsException" := by rw [hE, z]; rfl
      refine r_xcatchS E [] ⟨0, 9, 12, 13⟩ [⟨0, 9, 15, 67⟩] rfl (fun z hz => by cases hz) (by decide) (by decide) q587 (classAt_of (E.ts _ q635)) ?_
      refine r_astore_n E [some (.ref x), some (.int s), some (.ref o), some (.ref q)] dX0_best_12 rfl rfl ?_
      refine r_iconst E (nI 1) dX0_best_13 (by decide) ?_
      exact r_ireturn E P rfl dX0_best_14 ⟨by rw [z]; rfl, OP.no hD ho hJ hc⟩
    · obtain rfl : Ex = "java/util/NoSuchElementException" := by rw [hE, z]; rfl
      refine r_xcatchS E [⟨0, 9, 12, 13⟩] ⟨0, 9, 15, 67⟩ [] rfl (fun z hz => by rcases List.mem_singleton.mp hz with rfl; exact Or.inr ⟨by decide, "java/lang/IndexOutOfBoundsException", q587, by decide +kernel⟩) (by decide) (by decide) q1259 (classAt_of (E.ts _ q421)) ?_
      refine r_astore_n E [some (.ref x), some (.int s), some (.ref o), some (.ref q)] dX0_best_15 rfl rfl ?_
      refine r_iconst E (nI 2) dX0_best_16 (by decide) ?_
      exact r_ireturn E P rfl dX0_best_17 ⟨by rw [z]; rfl, OP.no hD ho hJ hc⟩

set_option maxHeartbeats 4000000 in
theorem w_wayAgain (G : fmG) (hl : (fmLn G).stackTraces = false) (h : fmHp) {x : Nat} {a : DA} {S : DS} (hC : CC G h) (hD : DK G h x a S) (hk8 : S.kp ≤ 8) (o : Nat) (f0 : Nat → Int64) (ho : h o = some (oLn f0)) (s v : Int32) : Ct G yX0_wayAgain (wsW_ yX0_wayAgain cX0_wayAgain 5 (some .int) [(0, 10, 13, 13), (0, 10, 17, 67)]) { frames := 9, cells := 2, slots := 8, locals := 173 } [.ref x, .int s, .int v, .ref o] h (fun v0 h' => v0 = some (.int (nI (kf 1 2 9 (aWay S.N s v (rK S.N)).1))) ∧ OP G h x a o (aWay S.N s v (rK S.N)).1 (aAns (aWay S.N s v (rK S.N))) S h') fmNo := by
  refine Ct.ofH hl (by decide +kernel) (Nat.le_of_ble_eq_true rfl) (fun Γ E P => ?_)
  obtain ⟨d0, dh0, w0, pm0, X0, W0, hx0, -⟩ := id hD
  refine r_aload_n E dX0_wayAgain_0 rfl ?_
  refine r_iconst E (nI 0) dX0_wayAgain_1 (by decide) ?_
  refine r_aload_n E dX0_wayAgain_2 rfl ?_
  refine r_iload_n E dX0_wayAgain_3 rfl ?_
  refine r_iload_n E dX0_wayAgain_4 rfl ?_
  refine r_callV E (jn_wayAgain G hl h hC hD hk8 s v) mX1_wayAgain q1292 q1293 q1294 (fun H a1 => fm_rc (ci := 1) (C := RX1) (T := TX1) (N := 9) a1 rfl E.v hx0) rfl rfl (Nat.le_of_ble_eq_true rfl) (Nat.le_of_ble_eq_true rfl) (Nat.le_of_ble_eq_true rfl) dX0_wayAgain_5 0 0 (Nat.le_of_ble_eq_true rfl) (Nat.le_of_ble_eq_true rfl) (fun v' h1 q => ?_) (fun q Ex h1 hx1 => ?_)
  · obtain ⟨hc, rfl, hJ⟩ := q
    have ho1 := JP.ho hD hJ ho
    refine r_i2l E dX0_wayAgain_8 ?_
    refine r_last E ho1 (by decide) (by decide) dX0_wayAgain_9 ?_
    refine r_goto (tgt := 21) E dX0_wayAgain_10 (by decide) ?_
    refine r_iconst E (nI 0) dX0_wayAgain_21 (by decide) ?_
    exact r_ireturn E P rfl dX0_wayAgain_22 ⟨by rw [hc]; rfl, OP.yes hD ho hJ (if_pos rfl)⟩
  · obtain ⟨hc, hE, hJ⟩ := hx1
    rcases (cd_way : (aWay S.N s v (rK S.N)).1 = 0 ∨ (aWay S.N s v (rK S.N)).1 = 1 ∨ (aWay S.N s v (rK S.N)).1 = 2) with z | z | z
    · exact absurd z hc
    · obtain rfl : Ex = "java/lang/IndexOutOfBoundsException" := by rw [hE, z]; rfl
      refine r_xcatchS E [] ⟨0, 10, 13, 13⟩ [⟨0, 10, 17, 67⟩] rfl (fun z hz => by cases hz) (by decide) (by decide) q587 (classAt_of (E.ts _ q635)) ?_
      refine r_astore E [some (.ref x), some (.int s), some (.int v), some (.ref o), some (.ref q)] dX0_wayAgain_13 rfl rfl ?_
      refine r_iconst E (nI 1) dX0_wayAgain_15 (by decide) ?_
      exact r_ireturn E P rfl dX0_wayAgain_16 ⟨by rw [z]; rfl, OP.no hD ho hJ hc⟩
    · obtain rfl : Ex = "java/util/NoSuchElementException" := by rw [hE, z]; rfl
      refine r_xcatchS E [⟨0, 10, 13, 13⟩] ⟨0, 10, 17, 67⟩ [] rfl (fun z hz => by rcases List.mem_singleton.mp hz with rfl; exact Or.inr ⟨by decide, "java/lang/IndexOutOfBoundsException", q587, by decide +kernel⟩) (by decide) (by decide) q1259 (classAt_of (E.ts _ q421)) ?_
      refine r_astore E [some (.ref x), some (.int s), some (.int v), some (.ref o), some (.ref q)] dX0_wayAgain_17 rfl rfl ?_
      refine r_iconst E (nI 2) dX0_wayAgain_19 (by decide) ?_
      exact r_ireturn E P rfl dX0_wayAgain_20 ⟨by rw [z]; rfl, OP.no hD ho hJ hc⟩

set_option maxHeartbeats 4000000 in
theorem w_way (G : fmG) (hl : (fmLn G).stackTraces = false) (h : fmHp) {x : Nat} {a : DA} {S : DS} (hC : CC G h) (hD : DK G h x a S) (hk8 : S.kp ≤ 8) (o : Nat) (f0 : Nat → Int64) (ho : h o = some (oLn f0)) (s v : Int32) : Ct G yX0_way (wsW_ yX0_way cX0_way 5 (some .int) [(0, 10, 13, 13), (0, 10, 17, 67)]) { frames := 73, cells := 68, slots := 220, locals := 2072 } [.ref x, .int s, .int v, .ref o] h (fun v0 h' => v0 = some (.int (nI (kf 1 2 9 (aWay S.N s v (rK S.N)).1))) ∧ OP G h x a o (aWay S.N s v (rK S.N)).1 (aAns (aWay S.N s v (rK S.N))) S h') fmNo := by
  refine Ct.ofH hl (by decide +kernel) (Nat.le_of_ble_eq_true rfl) (fun Γ E P => ?_)
  obtain ⟨d0, dh0, w0, pm0, X0, W0, hx0, -⟩ := id hD
  refine r_aload_n E dX0_way_0 rfl ?_
  refine r_iconst E (nI 0) dX0_way_1 (by decide) ?_
  refine r_aload_n E dX0_way_2 rfl ?_
  refine r_iload_n E dX0_way_3 rfl ?_
  refine r_iload_n E dX0_way_4 rfl ?_
  refine r_callV E (jn_way G hl h hC hD hk8 s v) mX1_way q1281 q1282 q1283 (fun H a1 => fm_rc (ci := 1) (C := RX1) (T := TX1) (N := 9) a1 rfl E.v hx0) rfl rfl (Nat.le_of_ble_eq_true rfl) (Nat.le_of_ble_eq_true rfl) (Nat.le_of_ble_eq_true rfl) dX0_way_5 0 0 (Nat.le_of_ble_eq_true rfl) (Nat.le_of_ble_eq_true rfl) (fun v' h1 q => ?_) (fun q Ex h1 hx1 => ?_)
  · obtain ⟨hc, rfl, hJ⟩ := q
    have ho1 := JP.ho hD hJ ho
    refine r_i2l E dX0_way_8 ?_
    refine r_last E ho1 (by decide) (by decide) dX0_way_9 ?_
    refine r_goto (tgt := 21) E dX0_way_10 (by decide) ?_
    refine r_iconst E (nI 0) dX0_way_21 (by decide) ?_
    exact r_ireturn E P rfl dX0_way_22 ⟨by rw [hc]; rfl, OP.yes hD ho hJ (if_pos rfl)⟩
  · obtain ⟨hc, hE, hJ⟩ := hx1
    rcases (cd_way : (aWay S.N s v (rK S.N)).1 = 0 ∨ (aWay S.N s v (rK S.N)).1 = 1 ∨ (aWay S.N s v (rK S.N)).1 = 2) with z | z | z
    · exact absurd z hc
    · obtain rfl : Ex = "java/lang/IndexOutOfBoundsException" := by rw [hE, z]; rfl
      refine r_xcatchS E [] ⟨0, 10, 13, 13⟩ [⟨0, 10, 17, 67⟩] rfl (fun z hz => by cases hz) (by decide) (by decide) q587 (classAt_of (E.ts _ q635)) ?_
      refine r_astore E [some (.ref x), some (.int s), some (.int v), some (.ref o), some (.ref q)] dX0_way_13 rfl rfl ?_
      refine r_iconst E (nI 1) dX0_way_15 (by decide) ?_
      exact r_ireturn E P rfl dX0_way_16 ⟨by rw [z]; rfl, OP.no hD ho hJ hc⟩
    · obtain rfl : Ex = "java/util/NoSuchElementException" := by rw [hE, z]; rfl
      refine r_xcatchS E [⟨0, 10, 13, 13⟩] ⟨0, 10, 17, 67⟩ [] rfl (fun z hz => by rcases List.mem_singleton.mp hz with rfl; exact Or.inr ⟨by decide, "java/lang/IndexOutOfBoundsException", q587, by decide +kernel⟩) (by decide) (by decide) q1259 (classAt_of (E.ts _ q421)) ?_
      refine r_astore E [some (.ref x), some (.int s), some (.int v), some (.ref o), some (.ref q)] dX0_way_17 rfl rfl ?_
      refine r_iconst E (nI 2) dX0_way_19 (by decide) ?_
      exact r_ireturn E P rfl dX0_way_20 ⟨by rw [z]; rfl, OP.no hD ho hJ hc⟩

set_option maxHeartbeats 4000000 in
theorem w_step (G : fmG) (hl : (fmLn G).stackTraces = false) (h : fmHp) {x : Nat} {a : DA} {S : DS} (hC : CC G h) (hD : DK G h x a S) (hk8 : S.kp ≤ 8) (o : Nat) (f0 : Nat → Int64) (ho : h o = some (oLn f0)) (s v i : Int32) : Ct G yX0_step (wsW_ yX0_step cX0_step 6 (some .int) [(0, 12, 15, 13), (0, 12, 19, 67)]) { frames := 76, cells := 68, slots := 220, locals := 2125 } [.ref x, .int s, .int v, .int i, .ref o] h (fun v0 h' => v0 = some (.int (nI (kf 1 2 9 (aStep S.N s v i (rK S.N)).1))) ∧ OP G h x a o (aStep S.N s v i (rK S.N)).1 (aAns (aStep S.N s v i (rK S.N))) S h') fmNo := by
  refine Ct.ofH hl (by decide +kernel) (Nat.le_of_ble_eq_true rfl) (fun Γ E P => ?_)
  obtain ⟨d0, dh0, w0, pm0, X0, W0, hx0, -⟩ := id hD
  refine r_aload E dX0_step_0 rfl ?_
  refine r_iconst E (nI 0) dX0_step_2 (by decide) ?_
  refine r_aload_n E dX0_step_3 rfl ?_
  refine r_iload_n E dX0_step_4 rfl ?_
  refine r_iload_n E dX0_step_5 rfl ?_
  refine r_iload_n E dX0_step_6 rfl ?_
  refine r_callV E (jn_step G hl h hC hD hk8 s v i) mX1_step q1303 q1304 q1305 (fun H a1 => fm_rc (ci := 1) (C := RX1) (T := TX1) (N := 9) a1 rfl E.v hx0) rfl rfl (Nat.le_of_ble_eq_true rfl) (Nat.le_of_ble_eq_true rfl) (Nat.le_of_ble_eq_true rfl) dX0_step_7 0 0 (Nat.le_of_ble_eq_true rfl) (Nat.le_of_ble_eq_true rfl) (fun v' h1 q => ?_) (fun q Ex h1 hx1 => ?_)
  · obtain ⟨hc, rfl, hJ⟩ := q
    have ho1 := JP.ho hD hJ ho
    refine r_i2l E dX0_step_10 ?_
    refine r_last E ho1 (by decide) (by decide) dX0_step_11 ?_
    refine r_goto (tgt := 23) E dX0_step_12 (by decide) ?_
    refine r_iconst E (nI 0) dX0_step_23 (by decide) ?_
    exact r_ireturn E P rfl dX0_step_24 ⟨by rw [hc]; rfl, OP.yes hD ho hJ (if_pos rfl)⟩
  · obtain ⟨hc, hE, hJ⟩ := hx1
    rcases (cd_step : (aStep S.N s v i (rK S.N)).1 = 0 ∨ (aStep S.N s v i (rK S.N)).1 = 1 ∨ (aStep S.N s v i (rK S.N)).1 = 2) with z | z | z
    · exact absurd z hc
    · obtain rfl : Ex = "java/lang/IndexOutOfBoundsException" := by rw [hE, z]; rfl
      refine r_xcatchS E [] ⟨0, 12, 15, 13⟩ [⟨0, 12, 19, 67⟩] rfl (fun z hz => by cases hz) (by decide) (by decide) q587 (classAt_of (E.ts _ q635)) ?_
      refine r_astore E [some (.ref x), some (.int s), some (.int v), some (.int i), some (.ref o), some (.ref q)] dX0_step_15 rfl rfl ?_
      refine r_iconst E (nI 1) dX0_step_17 (by decide) ?_
      exact r_ireturn E P rfl dX0_step_18 ⟨by rw [z]; rfl, OP.no hD ho hJ hc⟩
    · obtain rfl : Ex = "java/util/NoSuchElementException" := by rw [hE, z]; rfl
      refine r_xcatchS E [⟨0, 12, 15, 13⟩] ⟨0, 12, 19, 67⟩ [] rfl (fun z hz => by rcases List.mem_singleton.mp hz with rfl; exact Or.inr ⟨by decide, "java/lang/IndexOutOfBoundsException", q587, by decide +kernel⟩) (by decide) (by decide) q1259 (classAt_of (E.ts _ q421)) ?_
      refine r_astore E [some (.ref x), some (.int s), some (.int v), some (.int i), some (.ref o), some (.ref q)] dX0_step_19 rfl rfl ?_
      refine r_iconst E (nI 2) dX0_step_21 (by decide) ?_
      exact r_ireturn E P rfl dX0_step_22 ⟨by rw [z]; rfl, OP.no hD ho hJ hc⟩

set_option maxHeartbeats 4000000 in
theorem w_strokes (G : fmG) (hl : (fmLn G).stackTraces = false) (h : fmHp) {x : Nat} {a : DA} {S : DS} (hC : CC G h) (hD : DK G h x a S) (hk8 : S.kp ≤ 8) (o : Nat) (f0 : Nat → Int64) (ho : h o = some (oLn f0)) (s v : Int32) : Ct G yX0_strokes (wsW_ yX0_strokes cX0_strokes 5 (some .int) [(0, 10, 13, 13), (0, 10, 17, 67)]) { frames := 76, cells := 68, slots := 220, locals := 2123 } [.ref x, .int s, .int v, .ref o] h (fun v0 h' => v0 = some (.int (nI (kf 1 2 9 (aStrokes S.N s v (rK S.N)).1))) ∧ OP G h x a o (aStrokes S.N s v (rK S.N)).1 (aAns (aStrokes S.N s v (rK S.N))) S h') fmNo := by
  refine Ct.ofH hl (by decide +kernel) (Nat.le_of_ble_eq_true rfl) (fun Γ E P => ?_)
  obtain ⟨d0, dh0, w0, pm0, X0, W0, hx0, -⟩ := id hD
  refine r_aload_n E dX0_strokes_0 rfl ?_
  refine r_iconst E (nI 0) dX0_strokes_1 (by decide) ?_
  refine r_aload_n E dX0_strokes_2 rfl ?_
  refine r_iload_n E dX0_strokes_3 rfl ?_
  refine r_iload_n E dX0_strokes_4 rfl ?_
  refine r_callV E (jn_strokes G hl h hC hD hk8 s v) mX1_strokes q1315 q1316 q1317 (fun H a1 => fm_rc (ci := 1) (C := RX1) (T := TX1) (N := 9) a1 rfl E.v hx0) rfl rfl (Nat.le_of_ble_eq_true rfl) (Nat.le_of_ble_eq_true rfl) (Nat.le_of_ble_eq_true rfl) dX0_strokes_5 0 0 (Nat.le_of_ble_eq_true rfl) (Nat.le_of_ble_eq_true rfl) (fun v' h1 q => ?_) (fun q Ex h1 hx1 => ?_)
  · obtain ⟨hc, rfl, hJ⟩ := q
    have ho1 := JP.ho hD hJ ho
    refine r_i2l E dX0_strokes_8 ?_
    refine r_last E ho1 (by decide) (by decide) dX0_strokes_9 ?_
    refine r_goto (tgt := 21) E dX0_strokes_10 (by decide) ?_
    refine r_iconst E (nI 0) dX0_strokes_21 (by decide) ?_
    exact r_ireturn E P rfl dX0_strokes_22 ⟨by rw [hc]; rfl, OP.yes hD ho hJ (if_pos rfl)⟩
  · obtain ⟨hc, hE, hJ⟩ := hx1
    rcases (cd_strokes : (aStrokes S.N s v (rK S.N)).1 = 0 ∨ (aStrokes S.N s v (rK S.N)).1 = 1 ∨ (aStrokes S.N s v (rK S.N)).1 = 2) with z | z | z
    · exact absurd z hc
    · obtain rfl : Ex = "java/lang/IndexOutOfBoundsException" := by rw [hE, z]; rfl
      refine r_xcatchS E [] ⟨0, 10, 13, 13⟩ [⟨0, 10, 17, 67⟩] rfl (fun z hz => by cases hz) (by decide) (by decide) q587 (classAt_of (E.ts _ q635)) ?_
      refine r_astore E [some (.ref x), some (.int s), some (.int v), some (.ref o), some (.ref q)] dX0_strokes_13 rfl rfl ?_
      refine r_iconst E (nI 1) dX0_strokes_15 (by decide) ?_
      exact r_ireturn E P rfl dX0_strokes_16 ⟨by rw [z]; rfl, OP.no hD ho hJ hc⟩
    · obtain rfl : Ex = "java/util/NoSuchElementException" := by rw [hE, z]; rfl
      refine r_xcatchS E [⟨0, 10, 13, 13⟩] ⟨0, 10, 17, 67⟩ [] rfl (fun z hz => by rcases List.mem_singleton.mp hz with rfl; exact Or.inr ⟨by decide, "java/lang/IndexOutOfBoundsException", q587, by decide +kernel⟩) (by decide) (by decide) q1259 (classAt_of (E.ts _ q421)) ?_
      refine r_astore E [some (.ref x), some (.int s), some (.int v), some (.ref o), some (.ref q)] dX0_strokes_17 rfl rfl ?_
      refine r_iconst E (nI 2) dX0_strokes_19 (by decide) ?_
      exact r_ireturn E P rfl dX0_strokes_20 ⟨by rw [z]; rfl, OP.no hD ho hJ hc⟩

set_option maxHeartbeats 4000000 in
theorem w_shaft (G : fmG) (hl : (fmLn G).stackTraces = false) (h : fmHp) {x : Nat} {a : DA} {S : DS} (hC : CC G h) (hD : DK G h x a S) (hk8 : S.kp ≤ 8) (o : Nat) (f0 : Nat → Int64) (ho : h o = some (oLn f0)) (s u : Int32) : Ct G yX0_shaft (wsW_ yX0_shaft cX0_shaft 5 (some .int) [(0, 10, 13, 13), (0, 10, 17, 15)]) { frames := 73, cells := 4098, slots := 12300, locals := 2071 } [.ref x, .int s, .int u, .ref o] h (fun v0 h' => v0 = some (.int (nI (kf 1 2 9 (aShaft S.N s u (rK S.N)).1))) ∧ OP G h x a o (aShaft S.N s u (rK S.N)).1 (aAns (aShaft S.N s u (rK S.N))) S h') fmNo := by
  refine Ct.ofH hl (by decide +kernel) (Nat.le_of_ble_eq_true rfl) (fun Γ E P => ?_)
  obtain ⟨d0, dh0, w0, pm0, X0, W0, hx0, -⟩ := id hD
  refine r_aload_n E dX0_shaft_0 rfl ?_
  refine r_iconst E (nI 0) dX0_shaft_1 (by decide) ?_
  refine r_aload_n E dX0_shaft_2 rfl ?_
  refine r_iload_n E dX0_shaft_3 rfl ?_
  refine r_iload_n E dX0_shaft_4 rfl ?_
  refine r_callV E (jn_shaft G hl h hC hD hk8 s u) mX1_shaft q1204 q1205 q1206 (fun H a1 => fm_rc (ci := 1) (C := RX1) (T := TX1) (N := 9) a1 rfl E.v hx0) rfl rfl (Nat.le_of_ble_eq_true rfl) (Nat.le_of_ble_eq_true rfl) (Nat.le_of_ble_eq_true rfl) dX0_shaft_5 0 0 (Nat.le_of_ble_eq_true rfl) (Nat.le_of_ble_eq_true rfl) (fun v' h1 q => ?_) (fun q Ex h1 hx1 => ?_)
  · obtain ⟨hc, rfl, hJ⟩ := q
    have ho1 := JP.ho hD hJ ho
    refine r_i2l E dX0_shaft_8 ?_
    refine r_last E ho1 (by decide) (by decide) dX0_shaft_9 ?_
    refine r_goto (tgt := 21) E dX0_shaft_10 (by decide) ?_
    refine r_iconst E (nI 0) dX0_shaft_21 (by decide) ?_
    exact r_ireturn E P rfl dX0_shaft_22 ⟨by rw [hc]; rfl, OP.yes hD ho hJ (if_pos rfl)⟩
  · obtain ⟨hc, hE, hJ⟩ := hx1
    rcases (cd_shaft : (aShaft S.N s u (rK S.N)).1 = 0 ∨ (aShaft S.N s u (rK S.N)).1 = 1 ∨ (aShaft S.N s u (rK S.N)).1 = 2) with z | z | z
    · exact absurd z hc
    · obtain rfl : Ex = "java/lang/IndexOutOfBoundsException" := by rw [hE, z]; rfl
      refine r_xcatchS E [] ⟨0, 10, 13, 13⟩ [⟨0, 10, 17, 15⟩] rfl (fun z hz => by cases hz) (by decide) (by decide) q587 (classAt_of (E.ts _ q635)) ?_
      refine r_astore E [some (.ref x), some (.int s), some (.int u), some (.ref o), some (.ref q)] dX0_shaft_13 rfl rfl ?_
      refine r_iconst E (nI 1) dX0_shaft_15 (by decide) ?_
      exact r_ireturn E P rfl dX0_shaft_16 ⟨by rw [z]; rfl, OP.no hD ho hJ hc⟩
    · obtain rfl : Ex = "java/lang/IllegalArgumentException" := by rw [hE, z]; rfl
      refine r_xcatchS E [⟨0, 10, 13, 13⟩] ⟨0, 10, 17, 15⟩ [] rfl (fun z hz => by rcases List.mem_singleton.mp hz with rfl; exact Or.inr ⟨by decide, "java/lang/IndexOutOfBoundsException", q587, by decide +kernel⟩) (by decide) (by decide) q619 (classAt_of (E.ts _ q667)) ?_
      refine r_astore E [some (.ref x), some (.int s), some (.int u), some (.ref o), some (.ref q)] dX0_shaft_17 rfl rfl ?_
      refine r_iconst E (nI 2) dX0_shaft_19 (by decide) ?_
      exact r_ireturn E P rfl dX0_shaft_20 ⟨by rw [z]; rfl, OP.no hD ho hJ hc⟩

set_option maxHeartbeats 4000000 in
theorem w_number (G : fmG) (hl : (fmLn G).stackTraces = false) (h : fmHp) {x : Nat} {a : DA} {S : DS} (hC : CC G h) (hD : DK G h x a S) (hk8 : S.kp ≤ 8) (o : Nat) (f0 : Nat → Int64) (ho : h o = some (oLn f0)) (v : Int32) : Ct G yX0_number (wsW_ yX0_number cX0_number 4 (some .int) [(0, 9, 12, 15)]) { frames := 8, cells := 2, slots := 7, locals := 145 } [.ref x, .int v, .ref o] h (fun v0 h' => v0 = some (.int (nI (kf 1 2 9 (aNumber S.N v (rK S.N) (rP S.N) S.kp S.len).1))) ∧ OP G h x a o (aNumber S.N v (rK S.N) (rP S.N) S.kp S.len).1 (aAns (aNumber S.N v (rK S.N) (rP S.N) S.kp S.len)) S h') fmNo := by
  refine Ct.ofH hl (by decide +kernel) (Nat.le_of_ble_eq_true rfl) (fun Γ E P => ?_)
  obtain ⟨d0, dh0, w0, pm0, X0, W0, hx0, -⟩ := id hD
  refine r_aload_n E dX0_number_0 rfl ?_
  refine r_iconst E (nI 0) dX0_number_1 (by decide) ?_
  refine r_aload_n E dX0_number_2 rfl ?_
  refine r_iload_n E dX0_number_3 rfl ?_
  refine r_callV E (jn_number G hl h hC hD hk8 v) mX1_number q1328 q1329 q1330 (fun H a1 => fm_rc (ci := 1) (C := RX1) (T := TX1) (N := 9) a1 rfl E.v hx0) rfl rfl (Nat.le_of_ble_eq_true rfl) (Nat.le_of_ble_eq_true rfl) (Nat.le_of_ble_eq_true rfl) dX0_number_4 0 0 (Nat.le_of_ble_eq_true rfl) (Nat.le_of_ble_eq_true rfl) (fun v' h1 q => ?_) (fun q Ex h1 hx1 => ?_)
  · obtain ⟨hc, rfl, hJ⟩ := q
    have ho1 := JP.ho hD hJ ho
    refine r_i2l E dX0_number_7 ?_
    refine r_last E ho1 (by decide) (by decide) dX0_number_8 ?_
    refine r_goto (tgt := 15) E dX0_number_9 (by decide) ?_
    refine r_iconst E (nI 0) dX0_number_15 (by decide) ?_
    exact r_ireturn E P rfl dX0_number_16 ⟨by rw [hc]; rfl, OP.yes hD ho hJ (if_pos rfl)⟩
  · obtain ⟨hc, hE, hJ⟩ := hx1
    rcases (cd_number : (aNumber S.N v (rK S.N) (rP S.N) S.kp S.len).1 = 0 ∨ (aNumber S.N v (rK S.N) (rP S.N) S.kp S.len).1 = 1) with z | z
    · exact absurd z hc
    · obtain rfl : Ex = "java/lang/IllegalArgumentException" := by rw [hE, z]; rfl
      refine r_xcatchS E [] ⟨0, 9, 12, 15⟩ [] rfl (fun z hz => by cases hz) (by decide) (by decide) q619 (classAt_of (E.ts _ q667)) ?_
      refine r_astore_n E [some (.ref x), some (.int v), some (.ref o), some (.ref q)] dX0_number_12 rfl rfl ?_
      refine r_iconst E (nI 1) dX0_number_13 (by decide) ?_
      exact r_ireturn E P rfl dX0_number_14 ⟨by rw [z]; rfl, OP.no hD ho hJ hc⟩

set_option maxHeartbeats 4000000 in
theorem w_faultPosition (G : fmG) (hl : (fmLn G).stackTraces = false) (h : fmHp) {x : Nat} {a : DA} {S : DS} (hC : CC G h) (hD : DK G h x a S) (hk8 : S.kp ≤ 8) (o : Nat) (f0 : Nat → Int64) (ho : h o = some (oLn f0)) (fo : Option Nat) (hfo : S.fl = cI fo) (h31 : ∀ y, fo = some y → y < 2 ^ 31) : Ct G yX0_faultPosition (wsW_ yX0_faultPosition cX0_faultPosition 3 (some .int) [(0, 8, 11, 67)]) { frames := 8, cells := 1, slots := 6, locals := 140 } [.ref x, .ref o] h (fun v0 h' => v0 = some (.int (nI (kf 1 2 9 (aFl fo).1))) ∧ OP G h x a o (aFl fo).1 (aAns (aFl fo)) S h') fmNo := by
  refine Ct.ofH hl (by decide +kernel) (Nat.le_of_ble_eq_true rfl) (fun Γ E P => ?_)
  obtain ⟨d0, dh0, w0, pm0, X0, W0, hx0, -⟩ := id hD
  refine r_aload_n E dX0_faultPosition_0 rfl ?_
  refine r_iconst E (nI 0) dX0_faultPosition_1 (by decide) ?_
  refine r_aload_n E dX0_faultPosition_2 rfl ?_
  refine r_callV E (jn_faultPosition G hl h hC hD hk8 fo hfo h31) mX1_faultPosition q1827 q1828 q1829 (fun H a1 => fm_rc (ci := 1) (C := RX1) (T := TX1) (N := 9) a1 rfl E.v hx0) rfl rfl (Nat.le_of_ble_eq_true rfl) (Nat.le_of_ble_eq_true rfl) (Nat.le_of_ble_eq_true rfl) dX0_faultPosition_3 0 0 (Nat.le_of_ble_eq_true rfl) (Nat.le_of_ble_eq_true rfl) (fun v' h1 q => ?_) (fun q Ex h1 hx1 => ?_)
  · obtain ⟨hc, rfl, hJ⟩ := q
    have ho1 := JP.ho hD hJ ho
    refine r_i2l E dX0_faultPosition_6 ?_
    refine r_last E ho1 (by decide) (by decide) dX0_faultPosition_7 ?_
    refine r_goto (tgt := 14) E dX0_faultPosition_8 (by decide) ?_
    refine r_iconst E (nI 0) dX0_faultPosition_14 (by decide) ?_
    exact r_ireturn E P rfl dX0_faultPosition_15 ⟨by rw [hc]; rfl, OP.yes hD ho hJ (if_pos rfl)⟩
  · obtain ⟨hc, hE, hJ⟩ := hx1
    rcases (cd_fl : (aFl fo).1 = 0 ∨ (aFl fo).1 = 1) with z | z
    · exact absurd z hc
    · obtain rfl : Ex = "java/util/NoSuchElementException" := by rw [hE, z]; rfl
      refine r_xcatchS E [] ⟨0, 8, 11, 67⟩ [] rfl (fun z hz => by cases hz) (by decide) (by decide) q1259 (classAt_of (E.ts _ q421)) ?_
      refine r_astore_n E [some (.ref x), some (.ref o), some (.ref q)] dX0_faultPosition_11 rfl rfl ?_
      refine r_iconst E (nI 1) dX0_faultPosition_12 (by decide) ?_
      exact r_ireturn E P rfl dX0_faultPosition_13 ⟨by rw [z]; rfl, OP.no hD ho hJ hc⟩

set_option maxHeartbeats 4000000 in
theorem w_refusal (G : fmG) (hl : (fmLn G).stackTraces = false) (h : fmHp) {x : Nat} {a : DA} {S : DS} (hC : CC G h) (hD : DK G h x a S) (hk8 : S.kp ≤ 8) (o : Nat) (f0 : Nat → Int64) (ho : h o = some (oLn f0)) (b : Bool) : Ct G yX0_refusal (wsW_ yX0_refusal cX0_refusal 4 (some .int) [(0, 9, 12, 67)]) { frames := 8, cells := 1, slots := 6, locals := 141 } [.ref x, .int (bI b), .ref o] h (fun v0 h' => v0 = some (.int (nI (kf 1 2 9 (aRl S.re S.de b).1))) ∧ OP G h x a o (aRl S.re S.de b).1 (aAns (aRl S.re S.de b)) S h') fmNo := by
  refine Ct.ofH hl (by decide +kernel) (Nat.le_of_ble_eq_true rfl) (fun Γ E P => ?_)
  obtain ⟨d0, dh0, w0, pm0, X0, W0, hx0, -⟩ := id hD
  refine r_aload_n E dX0_refusal_0 rfl ?_
  refine r_iconst E (nI 0) dX0_refusal_1 (by decide) ?_
  refine r_aload_n E dX0_refusal_2 rfl ?_
  refine r_iload_n E dX0_refusal_3 rfl ?_
  refine r_callV E (jn_refusal G hl h hC hD hk8 b) mX1_refusal q1834 q1835 q1836 (fun H a1 => fm_rc (ci := 1) (C := RX1) (T := TX1) (N := 9) a1 rfl E.v hx0) rfl rfl (Nat.le_of_ble_eq_true rfl) (Nat.le_of_ble_eq_true rfl) (Nat.le_of_ble_eq_true rfl) dX0_refusal_4 0 0 (Nat.le_of_ble_eq_true rfl) (Nat.le_of_ble_eq_true rfl) (fun v' h1 q => ?_) (fun q Ex h1 hx1 => ?_)
  · obtain ⟨hc, rfl, hJ⟩ := q
    have ho1 := JP.ho hD hJ ho
    refine r_i2l E dX0_refusal_7 ?_
    refine r_last E ho1 (by decide) (by decide) dX0_refusal_8 ?_
    refine r_goto (tgt := 15) E dX0_refusal_9 (by decide) ?_
    refine r_iconst E (nI 0) dX0_refusal_15 (by decide) ?_
    exact r_ireturn E P rfl dX0_refusal_16 ⟨by rw [hc]; rfl, OP.yes hD ho hJ (if_pos rfl)⟩
  · obtain ⟨hc, hE, hJ⟩ := hx1
    rcases (cd_rl : (aRl S.re S.de b).1 = 0 ∨ (aRl S.re S.de b).1 = 1) with z | z
    · exact absurd z hc
    · obtain rfl : Ex = "java/util/NoSuchElementException" := by rw [hE, z]; rfl
      refine r_xcatchS E [] ⟨0, 9, 12, 67⟩ [] rfl (fun z hz => by cases hz) (by decide) (by decide) q1259 (classAt_of (E.ts _ q421)) ?_
      refine r_astore_n E [some (.ref x), some (.int (bI b)), some (.ref o), some (.ref q)] dX0_refusal_12 rfl rfl ?_
      refine r_iconst E (nI 1) dX0_refusal_13 (by decide) ?_
      exact r_ireturn E P rfl dX0_refusal_14 ⟨by rw [z]; rfl, OP.no hD ho hJ hc⟩

set_option maxHeartbeats 4000000 in
theorem w_feed (G : fmG) (hl : (fmLn G).stackTraces = false) (h : fmHp) {x : Nat} {a : DA} {S : DS} (hC : CC G h) (hD : DK G h x a S) (hk8 : S.kp ≤ 8) (o : Nat) (f0 : Nat → Int64) (ho : h o = some (oLn f0)) (hlen : S.len ≤ 60) (k : Nat) (hk : k < 65536) : Ct G yX0_feed (wsW_ yX0_feed cX0_feed 4 (some .int) [(0, 9, 12, 43)]) { frames := 9, cells := 2, slots := 1000, locals := 200 } [.ref x, .int (nI k), .ref o] h (fun v0 h' => v0 = some (.int (nI (kf 1 2 9 (if S.len < 60 then 0 else 1)))) ∧ OP G h x a o (if S.len < 60 then 0 else 1) (nI (S.len + 1)) (dsF S k) h') fmNo := by
  refine Ct.ofH hl (by decide +kernel) (Nat.le_of_ble_eq_true rfl) (fun Γ E P => ?_)
  obtain ⟨d0, dh0, w0, pm0, X0, W0, hx0, -⟩ := id hD
  refine r_aload_n E dX0_feed_0 rfl ?_
  refine r_iconst E (nI 0) dX0_feed_1 (by decide) ?_
  refine r_aload_n E dX0_feed_2 rfl ?_
  refine r_iload_n E dX0_feed_3 rfl ?_
  refine r_callV E (jn_feed G hl h hC hD hk8 hlen k hk) mX1_feed q1388 q1389 q1390 (fun H a1 => fm_rc (ci := 1) (C := RX1) (T := TX1) (N := 9) a1 rfl E.v hx0) rfl rfl (Nat.le_of_ble_eq_true rfl) (Nat.le_of_ble_eq_true rfl) (Nat.le_of_ble_eq_true rfl) dX0_feed_4 0 0 (Nat.le_of_ble_eq_true rfl) (Nat.le_of_ble_eq_true rfl) (fun v' h1 q => ?_) (fun q Ex h1 hx1 => ?_)
  · obtain ⟨hc, rfl, hJ⟩ := q
    have ho1 := JP.ho hD hJ ho
    refine r_i2l E dX0_feed_7 ?_
    refine r_last E ho1 (by decide) (by decide) dX0_feed_8 ?_
    refine r_goto (tgt := 15) E dX0_feed_9 (by decide) ?_
    refine r_iconst E (nI 0) dX0_feed_15 (by decide) ?_
    exact r_ireturn E P rfl dX0_feed_16 ⟨by rw [hc]; rfl, OP.yes hD ho hJ (if_pos rfl)⟩
  · obtain ⟨hc, hE, hJ⟩ := hx1
    rcases (cd_if : (if S.len < 60 then 0 else 1) = 0 ∨ (if S.len < 60 then 0 else 1) = 1) with z | z
    · exact absurd z hc
    · obtain rfl : Ex = "java/lang/IllegalStateException" := by rw [hE, z]; rfl
      refine r_xcatchS E [] ⟨0, 9, 12, 43⟩ [] rfl (fun z hz => by cases hz) (by decide) (by decide) q1141 (classAt_of (E.ts _ q1020)) ?_
      refine r_astore_n E [some (.ref x), some (.int (nI k)), some (.ref o), some (.ref q)] dX0_feed_12 rfl rfl ?_
      refine r_iconst E (nI 1) dX0_feed_13 (by decide) ?_
      exact r_ireturn E P rfl dX0_feed_14 ⟨by rw [z]; rfl, OP.no hD ho hJ hc⟩

set_option maxHeartbeats 4000000 in
theorem w_undo (G : fmG) (hl : (fmLn G).stackTraces = false) (h : fmHp) {x : Nat} {a : DA} {S : DS} (hC : CC G h) (hD : DK G h x a S) (hk8 : S.kp ≤ 8) (o : Nat) (f0 : Nat → Int64) (ho : h o = some (oLn f0))  : Ct G yX0_undo (wsW_ yX0_undo cX0_undo 3 (some .int) [(0, 8, 11, 43)]) { frames := 8, cells := 1, slots := 6, locals := 140 } [.ref x, .ref o] h (fun v0 h' => v0 = some (.int (nI (kf 1 2 9 (if S.kp = 0 then 1 else 0)))) ∧ OP G h x a o (if S.kp = 0 then 1 else 0) (nI (S.kp - 1)) (dsU S) h') fmNo := by
  refine Ct.ofH hl (by decide +kernel) (Nat.le_of_ble_eq_true rfl) (fun Γ E P => ?_)
  obtain ⟨d0, dh0, w0, pm0, X0, W0, hx0, -⟩ := id hD
  refine r_aload_n E dX0_undo_0 rfl ?_
  refine r_iconst E (nI 0) dX0_undo_1 (by decide) ?_
  refine r_aload_n E dX0_undo_2 rfl ?_
  refine r_callV E (jn_undo G hl h hC hD hk8 ) mX1_undo q1841 q1842 q1843 (fun H a1 => fm_rc (ci := 1) (C := RX1) (T := TX1) (N := 9) a1 rfl E.v hx0) rfl rfl (Nat.le_of_ble_eq_true rfl) (Nat.le_of_ble_eq_true rfl) (Nat.le_of_ble_eq_true rfl) dX0_undo_3 0 0 (Nat.le_of_ble_eq_true rfl) (Nat.le_of_ble_eq_true rfl) (fun v' h1 q => ?_) (fun q Ex h1 hx1 => ?_)
  · obtain ⟨hc, rfl, hJ⟩ := q
    have ho1 := JP.ho hD hJ ho
    refine r_i2l E dX0_undo_6 ?_
    refine r_last E ho1 (by decide) (by decide) dX0_undo_7 ?_
    refine r_goto (tgt := 14) E dX0_undo_8 (by decide) ?_
    refine r_iconst E (nI 0) dX0_undo_14 (by decide) ?_
    exact r_ireturn E P rfl dX0_undo_15 ⟨by rw [hc]; rfl, OP.yes hD ho hJ (if_pos rfl)⟩
  · obtain ⟨hc, hE, hJ⟩ := hx1
    rcases (cd_if' : (if S.kp = 0 then 1 else 0) = 0 ∨ (if S.kp = 0 then 1 else 0) = 1) with z | z
    · exact absurd z hc
    · obtain rfl : Ex = "java/lang/IllegalStateException" := by rw [hE, z]; rfl
      refine r_xcatchS E [] ⟨0, 8, 11, 43⟩ [] rfl (fun z hz => by cases hz) (by decide) (by decide) q1141 (classAt_of (E.ts _ q1020)) ?_
      refine r_astore_n E [some (.ref x), some (.ref o), some (.ref q)] dX0_undo_11 rfl rfl ?_
      refine r_iconst E (nI 1) dX0_undo_12 (by decide) ?_
      exact r_ireturn E P rfl dX0_undo_13 ⟨by rw [z]; rfl, OP.no hD ho hJ hc⟩

set_option maxHeartbeats 4000000 in
theorem w_read (G : fmG) (hl : (fmLn G).stackTraces = false) (h : fmHp) {x : Nat} {a : DA} {S : DS} (hC : CC G h) (hD : DK G h x a S) (hk8 : S.kp ≤ 8) (o : Nat) (f0 : Nat → Int64) (ho : h o = some (oLn f0)) (hlen : S.len ≤ 60) (hch : ∀ i, i < S.len → ∃ k, k < 65536 ∧ S.T i = nI k) : Ct G yX0_read (wsW_ yX0_read cX0_read 3 (some .int) [(0, 8, 11, 15), (0, 8, 14, 17)]) { frames := 19, cells := 4600, slots := 33000, locals := 668 } [.ref x, .ref o] h (fun v0 h' => v0 = some (.int (nI (kf 9 1 2 (rdC S)))) ∧ OP G h x a o (rdC S) (nI (pM S)) (rdS S) h') fmNo := by
  refine Ct.ofH hl (by decide +kernel) (Nat.le_of_ble_eq_true rfl) (fun Γ E P => ?_)
  obtain ⟨d0, dh0, w0, pm0, X0, W0, hx0, -⟩ := id hD
  refine r_aload_n E dX0_read_0 rfl ?_
  refine r_iconst E (nI 0) dX0_read_1 (by decide) ?_
  refine r_aload_n E dX0_read_2 rfl ?_
  refine r_callVH E (jn_read G hl h hC hD hk8 hlen hch) mX1_read q1473 q1474 q1475 (fun H a1 => fm_rc (ci := 1) (C := RX1) (T := TX1) (N := 9) a1 rfl E.v hx0) rfl rfl (Nat.le_of_ble_eq_true rfl) (Nat.le_of_ble_eq_true rfl) (Nat.le_of_ble_eq_true rfl) dX0_read_3 0 0 (Nat.le_of_ble_eq_true rfl) (Nat.le_of_ble_eq_true rfl) (fun v' h1 q => ?_) (fun q Ex h1 hx1 => ?_)
  · obtain ⟨hc, rfl, hJ⟩ := q
    have ho1 := JP.ho hD hJ ho
    refine r_i2l E dX0_read_6 ?_
    refine r_last E ho1 (by decide) (by decide) dX0_read_7 ?_
    refine r_goto (tgt := 17) E dX0_read_8 (by decide) ?_
    refine r_iconst E (nI 0) dX0_read_17 (by decide) ?_
    exact r_ireturn E P rfl dX0_read_18 ⟨by rw [hc]; rfl, OP.yes hD ho hJ (if_pos rfl)⟩
  · obtain ⟨hc, hE, hJ⟩ := hx1
    rcases (cd_read : (rdC S) = 0 ∨ (rdC S) = 2 ∨ (rdC S) = 3) with z | z | z
    · exact absurd z hc
    · obtain rfl : Ex = "java/lang/IllegalArgumentException" := by rw [hE, z]; rfl
      refine r_xcatchS E [] ⟨0, 8, 11, 15⟩ [⟨0, 8, 14, 17⟩] rfl (fun z hz => by cases hz) (by decide) (by decide) q619 (classAt_of (E.ts _ q667)) ?_
      refine r_astore_n E [some (.ref x), some (.ref o), some (.ref q)] dX0_read_11 rfl rfl ?_
      refine r_iconst E (nI 1) dX0_read_12 (by decide) ?_
      exact r_ireturn E P rfl dX0_read_13 ⟨by rw [z]; rfl, OP.no hD ho hJ hc⟩
    · obtain rfl : Ex = "java/lang/UnsupportedOperationException" := by rw [hE, z]; rfl
      refine r_xcatchS E [⟨0, 8, 11, 15⟩] ⟨0, 8, 14, 17⟩ [] rfl (fun z hz => by rcases List.mem_singleton.mp hz with rfl; exact Or.inr ⟨by decide, "java/lang/IllegalArgumentException", q619, by decide +kernel⟩) (by decide) (by decide) q620 (classAt_of (E.ts _ q1043)) ?_
      refine r_astore_n E [some (.ref x), some (.ref o), some (.ref q)] dX0_read_14 rfl rfl ?_
      refine r_iconst E (nI 2) dX0_read_15 (by decide) ?_
      exact r_ireturn E P rfl dX0_read_16 ⟨by rw [z]; rfl, OP.no hD ho hJ hc⟩

set_option maxHeartbeats 4000000 in
theorem w_restoreSnapshot (G : fmG) (hl : (fmLn G).stackTraces = false) (h : fmHp) {x : Nat} {a : DA} {S : DS} (hC : CC G h) (hD : DK G h x a S) (hk8 : S.kp ≤ 8) (o : Nat) (f0 : Nat → Int64) (ho : h o = some (oLn f0))  : Ct G yX0_restoreSnapshot (wsW_ yX0_restoreSnapshot cX0_restoreSnapshot 3 (some .int) [(0, 8, 11, 43)]) { frames := 9, cells := 21, slots := 2987, locals := 234 } [.ref x, .ref o] h (fun v0 h' => v0 = some (.int (nI (kf 1 2 9 (if S.sv = true then 0 else 1)))) ∧ OP G h x a o (if S.sv = true then 0 else 1) (nI (rK S.B)) (dsB S) h') fmNo := by
  refine Ct.ofH hl (by decide +kernel) (Nat.le_of_ble_eq_true rfl) (fun Γ E P => ?_)
  obtain ⟨d0, dh0, w0, pm0, X0, W0, hx0, -⟩ := id hD
  refine r_aload_n E dX0_restoreSnapshot_0 rfl ?_
  refine r_iconst E (nI 0) dX0_restoreSnapshot_1 (by decide) ?_
  refine r_aload_n E dX0_restoreSnapshot_2 rfl ?_
  cases hsv : S.sv with
  | true =>
    refine r_callV E (jnT_restoreSnapshot G hl h hC hD hk8 hsv) mX1_restoreSnapshot q1867 q1868 q1869 (fun H a1 => fm_rc (ci := 1) (C := RX1) (T := TX1) (N := 9) a1 rfl E.v hx0) rfl rfl (Nat.le_of_ble_eq_true rfl) (Nat.le_of_ble_eq_true rfl) (Nat.le_of_ble_eq_true rfl) dX0_restoreSnapshot_3 0 0 (Nat.le_of_ble_eq_true rfl) (Nat.le_of_ble_eq_true rfl) (fun v' h1 q => ?_) (fun q Ex h1 hx1 => ?_)
    · obtain ⟨hc, rfl, hJ⟩ := q
      have ho1 := JP.ho hD hJ ho
      refine r_i2l E dX0_restoreSnapshot_6 ?_
      refine r_last E ho1 (by decide) (by decide) dX0_restoreSnapshot_7 ?_
      refine r_goto (tgt := 14) E dX0_restoreSnapshot_8 (by decide) ?_
      refine r_iconst E (nI 0) dX0_restoreSnapshot_14 (by decide) ?_
      exact r_ireturn E P rfl dX0_restoreSnapshot_15 ⟨by rw [if_pos hsv]; rfl, OP.yes hD ho hJ (if_pos rfl)⟩
    · exact hx1.elim
  | false =>
    refine r_callV E (jnF_restoreSnapshot G hl h hC hD hk8 hsv) mX1_restoreSnapshot q1867 q1868 q1869 (fun H a1 => fm_rc (ci := 1) (C := RX1) (T := TX1) (N := 9) a1 rfl E.v hx0) rfl rfl (Nat.le_of_ble_eq_true rfl) (Nat.le_of_ble_eq_true rfl) (Nat.le_of_ble_eq_true rfl) dX0_restoreSnapshot_3 0 0 (Nat.le_of_ble_eq_true rfl) (Nat.le_of_ble_eq_true rfl) (fun v' h1 q => ?_) (fun q Ex h1 hx1 => ?_)
    · exact q.elim
    · obtain ⟨hc, hE, hJ⟩ := hx1
      obtain rfl : Ex = "java/lang/IllegalStateException" := by rw [hE]; rfl
      refine r_xcatchS E [] ⟨0, 8, 11, 43⟩ [] rfl (fun z hz => by cases hz) (by decide) (by decide) q1141 (classAt_of (E.ts _ q1020)) ?_
      refine r_astore_n E [some (.ref x), some (.ref o), some (.ref q)] dX0_restoreSnapshot_11 rfl rfl ?_
      refine r_iconst E (nI 1) dX0_restoreSnapshot_12 (by decide) ?_
      exact r_ireturn E P rfl dX0_restoreSnapshot_13 ⟨by rw [if_neg (by rw [hsv]; exact Bool.false_ne_true)]; rfl, OP.no hD ho hJ (by rw [if_neg (by rw [hsv]; exact Bool.false_ne_true)]; decide)⟩

set_option maxHeartbeats 4000000 in
theorem w_perStroke (G : fmG) (hl : (fmLn G).stackTraces = false) (h : fmHp) {x : Nat} {a : DA} {S : DS} (hC : CC G h) (hD : DK G h x a S) (hk8 : S.kp ≤ 8) (o : Nat) (f0 : Nat → UInt64) (ho : h o = some (oDb f0))  : Ct G yX0_perStroke (wsW_ yX0_perStroke cX0_perStroke 3 (some .int) [(0, 7, 10, 88)]) { frames := 7, cells := 1, slots := 6, locals := 120 } [.ref x, .ref o] h (fun v0 h' => (v0 = some (.int (nI 0)) ∧ ¬ S.N 354 = 0 ∨ v0 = some (.int (nI 1)) ∧ S.N 354 = 0) ∧ ∃ (v' : Nat) (f : Nat → UInt64), DK G h' x (upv a v') S ∧ (∀ q y, h q = some y → ¬ own x a q → q ≠ o → h' q = some y) ∧ h' o = some (oDb f) ∧ (¬ S.N 354 = 0 → f 0 = FP.ddiv (FP.i2d (sWon S.N (rK S.N))) (FP.i2d (S.N 354)))) fmNo := by
  refine Ct.ofH hl (by decide +kernel) (Nat.le_of_ble_eq_true rfl) (fun Γ E P => ?_)
  obtain ⟨d0, dh0, w0, pm0, X0, W0, hx0, -⟩ := id hD
  refine r_aload_n E dX0_perStroke_0 rfl ?_
  refine r_iconst E (nI 0) dX0_perStroke_1 (by decide) ?_
  refine r_aload_n E dX0_perStroke_2 rfl ?_
  refine r_callV E (jn_perStroke G hl h hC hD hk8) mX1_perStroke q1376 q1377 q1378 (fun H a1 => fm_rc (ci := 1) (C := RX1) (T := TX1) (N := 9) a1 rfl E.v hx0) rfl rfl (Nat.le_of_ble_eq_true rfl) (Nat.le_of_ble_eq_true rfl) (Nat.le_of_ble_eq_true rfl) dX0_perStroke_3 0 0 (Nat.le_of_ble_eq_true rfl) (Nat.le_of_ble_eq_true rfl) (fun v' h1 q => ?_) (fun q Ex h1 hx1 => ?_)
  · obtain ⟨hn, rfl, hJ⟩ := q
    have ho1 := JP.hd hD hJ ho
    obtain ⟨v1, k1, k2⟩ := hJ
    refine r_dast E ho1 (by decide) (by decide) dX0_perStroke_6 ?_
    refine r_goto (tgt := 13) E dX0_perStroke_7 (by decide) ?_
    refine r_iconst E (nI 0) dX0_perStroke_13 (by decide) ?_
    exact r_ireturn E P rfl dX0_perStroke_14 ⟨Or.inl ⟨rfl, hn⟩, v1, _, k1.arr ho1 (Or.inr rfl), fun q y hq h1 h2 => (fmUp_n h2).trans (k2 q y hq h1), fmUp_s, fun _ => if_pos rfl⟩
  · obtain ⟨hn, rfl, hJ⟩ := hx1
    have ho1 := JP.hd hD hJ ho
    obtain ⟨v1, k1, k2⟩ := hJ
    refine r_xcatchS E [] ⟨0, 7, 10, 88⟩ [] rfl (fun z hz => by cases hz) (by decide) (by decide) q1362 (classAt_of (E.ts _ q1363)) ?_
    refine r_astore_n E [some (.ref x), some (.ref o), some (.ref q)] dX0_perStroke_10 rfl rfl ?_
    refine r_iconst E (nI 1) dX0_perStroke_11 (by decide) ?_
    exact r_ireturn E P rfl dX0_perStroke_12 ⟨Or.inr ⟨rfl, hn⟩, v1, f0, k1, fun q y hq h1 _ => k2 q y hq h1, ho1, fun z => absurd hn z⟩

