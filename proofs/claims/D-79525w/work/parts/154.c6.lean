set_option maxHeartbeats 4000000 in
theorem ctR_J8_init_3 (G : fmG) (hl : (fmLn G).stackTraces = false) (h : fmHp) (o : Nat) (x y : Int32) (ho : h o = some (true, .inr (.inl (10, [.null, .null, .null, .null, .null, .int 0, .int x, .int y])))) : Ct G yJ8_init_3 (ws_ yJ8_init_3 cJ8_init_3 5 none) { frames := 1, cells := 0, slots := 0, locals := 40 } [.ref o, .null, .null, .int (bI false), .int (bI false)] h (fmRet none h) fmNo := by
  refine Ct.of hl (by decide +kernel) (Nat.le_of_ble_eq_true rfl) (fun Γ E P => ?_)
  refine r_aload_n E dJ8_init_3_0 rfl ?_
  refine r_objInit E q445 q134 q135 dJ8_init_3_1 (Nat.le_of_ble_eq_true rfl) (Nat.le_of_ble_eq_true rfl) ?_
  refine r_aload_n E dJ8_init_3_4 rfl ?_
  refine r_aload_n E dJ8_init_3_5 rfl ?_
  refine r_putf E cl_X5 0 (by decide) rfl q480 (fun _ z => z) ho (Nat.le_of_ble_eq_true rfl) rfl rfl dJ8_init_3_6 ?_
  refine r_hp (h' := fmUp h o (true, .inr (.inl (10, [.ref o, .null, .null, .null, .null, .int 0, .int x, .int y])))) (rfl) ?_
  refine r_aload_n E dJ8_init_3_9 rfl ?_
  refine r_getsQ E E.v.2.2.2.2.2.1.1.1 q446 dJ8_init_3_10 (fun v1 hv1 => ?_)
  refine r_putf E cl_X5 1 (by decide) rfl q481 (fun _ z => z) fmUp_s (Nat.le_of_ble_eq_true rfl) (by rcases hv1 with rfl | ⟨t9, rfl⟩ <;> rfl) (by rcases hv1 with rfl | ⟨t9, rfl⟩ <;> rfl) dJ8_init_3_13 ?_
  refine r_hp (h' := fmUp (fmUp h o (true, .inr (.inl (10, [.ref o, .null, .null, .null, .null, .int 0, .int x, .int y])))) o (true, .inr (.inl (10, [.ref o, v1, .null, .null, .null, .int 0, .int x, .int y])))) (rfl) ?_
  refine r_aload_n E dJ8_init_3_16 rfl ?_
  refine r_getsQ E E.v.2.2.2.2.2.1.2.1 q448 dJ8_init_3_17 (fun v2 hv2 => ?_)
  refine r_putf E cl_X5 2 (by decide) rfl q482 (fun _ z => z) fmUp_s (Nat.le_of_ble_eq_true rfl) (by rcases hv2 with rfl | ⟨t9, rfl⟩ <;> rfl) (by rcases hv2 with rfl | ⟨t9, rfl⟩ <;> rfl) dJ8_init_3_20 ?_
  refine r_hp (h' := fmUp (fmUp (fmUp h o (true, .inr (.inl (10, [.ref o, .null, .null, .null, .null, .int 0, .int x, .int y])))) o (true, .inr (.inl (10, [.ref o, v1, .null, .null, .null, .int 0, .int x, .int y])))) o (true, .inr (.inl (10, [.ref o, v1, v2, .null, .null, .int 0, .int x, .int y])))) (rfl) ?_
  refine r_iload E dJ8_init_3_23 rfl ?_
  refine r_ifB_eq (b := false) (tgt := 36) E dJ8_init_3_25 (by decide) (fun _ => ?_) (fun c => absurd c (by decide))
  refine r_aload_n E dJ8_init_3_36 rfl ?_
  refine r_null E dJ8_init_3_37 ?_
  refine r_putf E cl_X5 1 (by decide) rfl q481 (fun _ z => z) fmUp_s (Nat.le_of_ble_eq_true rfl) rfl rfl dJ8_init_3_38 ?_
  refine r_hp (h' := fmUp (fmUp (fmUp (fmUp h o (true, .inr (.inl (10, [.ref o, .null, .null, .null, .null, .int 0, .int x, .int y])))) o (true, .inr (.inl (10, [.ref o, v1, .null, .null, .null, .int 0, .int x, .int y])))) o (true, .inr (.inl (10, [.ref o, v1, v2, .null, .null, .int 0, .int x, .int y])))) o (true, .inr (.inl (10, [.ref o, .null, v2, .null, .null, .int 0, .int x, .int y])))) (rfl) ?_
  refine r_aload_n E dJ8_init_3_41 rfl ?_
  refine r_aload_nN E dJ8_init_3_42 rfl ?_
  refine r_putf E cl_X5 3 (by decide) rfl q479 (fun _ z => z) fmUp_s (Nat.le_of_ble_eq_true rfl) rfl rfl dJ8_init_3_43 ?_
  refine r_hp (h' := fmUp (fmUp (fmUp (fmUp (fmUp h o (true, .inr (.inl (10, [.ref o, .null, .null, .null, .null, .int 0, .int x, .int y])))) o (true, .inr (.inl (10, [.ref o, v1, .null, .null, .null, .int 0, .int x, .int y])))) o (true, .inr (.inl (10, [.ref o, v1, v2, .null, .null, .int 0, .int x, .int y])))) o (true, .inr (.inl (10, [.ref o, .null, v2, .null, .null, .int 0, .int x, .int y])))) o (true, .inr (.inl (10, [.ref o, .null, v2, .null, .null, .int 0, .int x, .int y])))) (rfl) ?_
  refine r_aload_n E dJ8_init_3_46 rfl ?_
  refine r_aload_nN E dJ8_init_3_47 rfl ?_
  refine r_putf E cl_X5 0 (by decide) rfl q480 (fun _ z => z) fmUp_s (Nat.le_of_ble_eq_true rfl) rfl rfl dJ8_init_3_48 ?_
  refine r_hp (h' := fmUp (fmUp (fmUp (fmUp (fmUp (fmUp h o (true, .inr (.inl (10, [.ref o, .null, .null, .null, .null, .int 0, .int x, .int y])))) o (true, .inr (.inl (10, [.ref o, v1, .null, .null, .null, .int 0, .int x, .int y])))) o (true, .inr (.inl (10, [.ref o, v1, v2, .null, .null, .int 0, .int x, .int y])))) o (true, .inr (.inl (10, [.ref o, .null, v2, .null, .null, .int 0, .int x, .int y])))) o (true, .inr (.inl (10, [.ref o, .null, v2, .null, .null, .int 0, .int x, .int y])))) o (true, .inr (.inl (10, [.null, .null, v2, .null, .null, .int 0, .int x, .int y])))) (rfl) ?_
  refine r_iload_n E dJ8_init_3_51 rfl ?_
  refine r_ifB_ne (b := false) (tgt := 60) E dJ8_init_3_52 (by decide) (fun c => absurd c (by decide)) (fun _ => ?_)
  refine r_aload_n E dJ8_init_3_55 rfl ?_
  refine r_null E dJ8_init_3_56 ?_
  refine r_putf E cl_X5 2 (by decide) rfl q482 (fun _ z => z) fmUp_s (Nat.le_of_ble_eq_true rfl) rfl rfl dJ8_init_3_57 ?_
  refine r_hp (h' := fmUp (fmUp (fmUp (fmUp (fmUp (fmUp (fmUp h o (true, .inr (.inl (10, [.ref o, .null, .null, .null, .null, .int 0, .int x, .int y])))) o (true, .inr (.inl (10, [.ref o, v1, .null, .null, .null, .int 0, .int x, .int y])))) o (true, .inr (.inl (10, [.ref o, v1, v2, .null, .null, .int 0, .int x, .int y])))) o (true, .inr (.inl (10, [.ref o, .null, v2, .null, .null, .int 0, .int x, .int y])))) o (true, .inr (.inl (10, [.ref o, .null, v2, .null, .null, .int 0, .int x, .int y])))) o (true, .inr (.inl (10, [.null, .null, v2, .null, .null, .int 0, .int x, .int y])))) o (true, .inr (.inl (10, [.null, .null, .null, .null, .null, .int 0, .int x, .int y])))) (rfl) ?_
  exact r_return E P rfl dJ8_init_3_60 ⟨rfl, by simp only [fmUp_uu]; exact fmUp_id ho⟩

set_option maxHeartbeats 4000000 in
theorem ctR_J9_init_3 (G : fmG) (hl : (fmLn G).stackTraces = false) (h : fmHp) (o : Nat) (x y : Int32) (ho : h o = some (true, .inr (.inl (10, [.null, .null, .null, .null, .null, .int 0, .int x, .int y])))) : Ct G yJ9_init_3 (ws_ yJ9_init_3 cJ9_init_3 5 none) { frames := 2, cells := 0, slots := 0, locals := 64 } [.ref o, .null, .null, .int (bI false), .int (bI false)] h (fmRet none h) fmNo := by
  refine Ct.of hl (by decide +kernel) (Nat.le_of_ble_eq_true rfl) (fun Γ E P => ?_)
  refine r_aload_n E dJ9_init_3_0 rfl ?_
  refine r_aload_nN E dJ9_init_3_1 rfl ?_
  refine r_aload_nN E dJ9_init_3_2 rfl ?_
  refine r_iload_n E dJ9_init_3_3 rfl ?_
  refine r_iload E dJ9_init_3_4 rfl ?_
  refine r_callI0 E (ctR_J8_init_3 G hl (h) o x y ho) mJ8_init_3 rfl q707 q708 rfl rfl (Nat.le_of_ble_eq_true rfl) (Nat.le_of_ble_eq_true rfl) (Nat.le_of_ble_eq_true rfl) dJ9_init_3_6 0 0 (Nat.le_of_ble_eq_true rfl) (Nat.le_of_ble_eq_true rfl) ?_
  exact r_return E P rfl dJ9_init_3_9 ⟨rfl, rfl⟩

set_option maxHeartbeats 4000000 in
theorem ct_X5_init (G : fmG) (hl : (fmLn G).stackTraces = false) (h : fmHp) (o : Nat) (x y : Int32) (ho : h o = some (true, .inr (.inl (10, [.null, .null, .null, .null, .null, .int 0, .int 0, .int 0])))) : Ct G yX5_init (ws_ yX5_init cX5_init 3 none) { frames := 3, cells := 0, slots := 0, locals := 88 } [.ref o, .int x, .int y] h (fmRet none (fmUp h o (true, .inr (.inl (10, [.null, .null, .null, .null, .null, .int 0, .int x, .int y]))))) fmNo := by
  refine Ct.of hl (by decide +kernel) (Nat.le_of_ble_eq_true rfl) (fun Γ E P => ?_)
  refine r_aload_n E dX5_init_0 rfl ?_
  refine r_null E dX5_init_1 ?_
  refine r_null E dX5_init_2 ?_
  refine r_iconst E (nI 0) dX5_init_3 (by decide) ?_
  refine r_iconst E (nI 0) dX5_init_4 (by decide) ?_
  refine r_callI0 E (ctR_J9_init_3 G hl (h) o 0 0 ho) mJ9_init_3 rfl q704 q705 rfl rfl (Nat.le_of_ble_eq_true rfl) (Nat.le_of_ble_eq_true rfl) (Nat.le_of_ble_eq_true rfl) dX5_init_5 0 0 (Nat.le_of_ble_eq_true rfl) (Nat.le_of_ble_eq_true rfl) ?_
  refine r_aload_n E dX5_init_8 rfl ?_
  refine r_iload_n E dX5_init_9 rfl ?_
  refine r_putfF E cl_X5 6 (by decide) rfl rfl rfl q710 (fun _ z => z) ho (Nat.le_of_ble_eq_true rfl) rfl rfl dX5_init_10 ?_
  refine r_hp (h' := fmUp h o (true, .inr (.inl (10, [.null, .null, .null, .null, .null, .int 0, .int x, .int 0])))) (rfl) ?_
  refine r_aload_n E dX5_init_13 rfl ?_
  refine r_iload_n E dX5_init_14 rfl ?_
  refine r_putfF E cl_X5 7 (by decide) rfl rfl rfl q712 (fun _ z => z) fmUp_s (Nat.le_of_ble_eq_true rfl) rfl rfl dX5_init_15 ?_
  refine r_hp (h' := fmUp (fmUp h o (true, .inr (.inl (10, [.null, .null, .null, .null, .null, .int 0, .int x, .int 0])))) o (true, .inr (.inl (10, [.null, .null, .null, .null, .null, .int 0, .int x, .int y])))) (rfl) ?_
  exact r_return E P rfl dX5_init_18 ⟨rfl, by rw [fmUp_uu]⟩

set_option maxHeartbeats 4000000 in
theorem ctF_J8_init_3 (G : fmG) (hl : (fmLn G).stackTraces = false) (h : fmHp) (o : Nat) (x : Int32) (ho : h o = some (true, .inr (.inl (11, [.null, .null, .null, .null, .null, .int 0, .int x])))) : Ct G yJ8_init_3 (ws_ yJ8_init_3 cJ8_init_3 5 none) { frames := 1, cells := 0, slots := 0, locals := 40 } [.ref o, .null, .null, .int (bI false), .int (bI false)] h (fmRet none h) fmNo := by
  refine Ct.of hl (by decide +kernel) (Nat.le_of_ble_eq_true rfl) (fun Γ E P => ?_)
  refine r_aload_n E dJ8_init_3_0 rfl ?_
  refine r_objInit E q445 q134 q135 dJ8_init_3_1 (Nat.le_of_ble_eq_true rfl) (Nat.le_of_ble_eq_true rfl) ?_
  refine r_aload_n E dJ8_init_3_4 rfl ?_
  refine r_aload_n E dJ8_init_3_5 rfl ?_
  refine r_putf E cl_X11 0 (by decide) rfl q480 (fun _ z => z) ho (Nat.le_of_ble_eq_true rfl) rfl rfl dJ8_init_3_6 ?_
  refine r_hp (h' := fmUp h o (true, .inr (.inl (11, [.ref o, .null, .null, .null, .null, .int 0, .int x])))) (rfl) ?_
  refine r_aload_n E dJ8_init_3_9 rfl ?_
  refine r_getsQ E E.v.2.2.2.2.2.1.1.1 q446 dJ8_init_3_10 (fun v1 hv1 => ?_)
  refine r_putf E cl_X11 1 (by decide) rfl q481 (fun _ z => z) fmUp_s (Nat.le_of_ble_eq_true rfl) (by rcases hv1 with rfl | ⟨t9, rfl⟩ <;> rfl) (by rcases hv1 with rfl | ⟨t9, rfl⟩ <;> rfl) dJ8_init_3_13 ?_
  refine r_hp (h' := fmUp (fmUp h o (true, .inr (.inl (11, [.ref o, .null, .null, .null, .null, .int 0, .int x])))) o (true, .inr (.inl (11, [.ref o, v1, .null, .null, .null, .int 0, .int x])))) (rfl) ?_
  refine r_aload_n E dJ8_init_3_16 rfl ?_
  refine r_getsQ E E.v.2.2.2.2.2.1.2.1 q448 dJ8_init_3_17 (fun v2 hv2 => ?_)
  refine r_putf E cl_X11 2 (by decide) rfl q482 (fun _ z => z) fmUp_s (Nat.le_of_ble_eq_true rfl) (by rcases hv2 with rfl | ⟨t9, rfl⟩ <;> rfl) (by rcases hv2 with rfl | ⟨t9, rfl⟩ <;> rfl) dJ8_init_3_20 ?_
  refine r_hp (h' := fmUp (fmUp (fmUp h o (true, .inr (.inl (11, [.ref o, .null, .null, .null, .null, .int 0, .int x])))) o (true, .inr (.inl (11, [.ref o, v1, .null, .null, .null, .int 0, .int x])))) o (true, .inr (.inl (11, [.ref o, v1, v2, .null, .null, .int 0, .int x])))) (rfl) ?_
  refine r_iload E dJ8_init_3_23 rfl ?_
  refine r_ifB_eq (b := false) (tgt := 36) E dJ8_init_3_25 (by decide) (fun _ => ?_) (fun c => absurd c (by decide))
  refine r_aload_n E dJ8_init_3_36 rfl ?_
  refine r_null E dJ8_init_3_37 ?_
  refine r_putf E cl_X11 1 (by decide) rfl q481 (fun _ z => z) fmUp_s (Nat.le_of_ble_eq_true rfl) rfl rfl dJ8_init_3_38 ?_
  refine r_hp (h' := fmUp (fmUp (fmUp (fmUp h o (true, .inr (.inl (11, [.ref o, .null, .null, .null, .null, .int 0, .int x])))) o (true, .inr (.inl (11, [.ref o, v1, .null, .null, .null, .int 0, .int x])))) o (true, .inr (.inl (11, [.ref o, v1, v2, .null, .null, .int 0, .int x])))) o (true, .inr (.inl (11, [.ref o, .null, v2, .null, .null, .int 0, .int x])))) (rfl) ?_
  refine r_aload_n E dJ8_init_3_41 rfl ?_
  refine r_aload_nN E dJ8_init_3_42 rfl ?_
  refine r_putf E cl_X11 3 (by decide) rfl q479 (fun _ z => z) fmUp_s (Nat.le_of_ble_eq_true rfl) rfl rfl dJ8_init_3_43 ?_
  refine r_hp (h' := fmUp (fmUp (fmUp (fmUp (fmUp h o (true, .inr (.inl (11, [.ref o, .null, .null, .null, .null, .int 0, .int x])))) o (true, .inr (.inl (11, [.ref o, v1, .null, .null, .null, .int 0, .int x])))) o (true, .inr (.inl (11, [.ref o, v1, v2, .null, .null, .int 0, .int x])))) o (true, .inr (.inl (11, [.ref o, .null, v2, .null, .null, .int 0, .int x])))) o (true, .inr (.inl (11, [.ref o, .null, v2, .null, .null, .int 0, .int x])))) (rfl) ?_
  refine r_aload_n E dJ8_init_3_46 rfl ?_
  refine r_aload_nN E dJ8_init_3_47 rfl ?_
  refine r_putf E cl_X11 0 (by decide) rfl q480 (fun _ z => z) fmUp_s (Nat.le_of_ble_eq_true rfl) rfl rfl dJ8_init_3_48 ?_
  refine r_hp (h' := fmUp (fmUp (fmUp (fmUp (fmUp (fmUp h o (true, .inr (.inl (11, [.ref o, .null, .null, .null, .null, .int 0, .int x])))) o (true, .inr (.inl (11, [.ref o, v1, .null, .null, .null, .int 0, .int x])))) o (true, .inr (.inl (11, [.ref o, v1, v2, .null, .null, .int 0, .int x])))) o (true, .inr (.inl (11, [.ref o, .null, v2, .null, .null, .int 0, .int x])))) o (true, .inr (.inl (11, [.ref o, .null, v2, .null, .null, .int 0, .int x])))) o (true, .inr (.inl (11, [.null, .null, v2, .null, .null, .int 0, .int x])))) (rfl) ?_
  refine r_iload_n E dJ8_init_3_51 rfl ?_
  refine r_ifB_ne (b := false) (tgt := 60) E dJ8_init_3_52 (by decide) (fun c => absurd c (by decide)) (fun _ => ?_)
  refine r_aload_n E dJ8_init_3_55 rfl ?_
  refine r_null E dJ8_init_3_56 ?_
  refine r_putf E cl_X11 2 (by decide) rfl q482 (fun _ z => z) fmUp_s (Nat.le_of_ble_eq_true rfl) rfl rfl dJ8_init_3_57 ?_
  refine r_hp (h' := fmUp (fmUp (fmUp (fmUp (fmUp (fmUp (fmUp h o (true, .inr (.inl (11, [.ref o, .null, .null, .null, .null, .int 0, .int x])))) o (true, .inr (.inl (11, [.ref o, v1, .null, .null, .null, .int 0, .int x])))) o (true, .inr (.inl (11, [.ref o, v1, v2, .null, .null, .int 0, .int x])))) o (true, .inr (.inl (11, [.ref o, .null, v2, .null, .null, .int 0, .int x])))) o (true, .inr (.inl (11, [.ref o, .null, v2, .null, .null, .int 0, .int x])))) o (true, .inr (.inl (11, [.null, .null, v2, .null, .null, .int 0, .int x])))) o (true, .inr (.inl (11, [.null, .null, .null, .null, .null, .int 0, .int x])))) (rfl) ?_
  exact r_return E P rfl dJ8_init_3_60 ⟨rfl, by simp only [fmUp_uu]; exact fmUp_id ho⟩

set_option maxHeartbeats 4000000 in
theorem ctF_J9_init_3 (G : fmG) (hl : (fmLn G).stackTraces = false) (h : fmHp) (o : Nat) (x : Int32) (ho : h o = some (true, .inr (.inl (11, [.null, .null, .null, .null, .null, .int 0, .int x])))) : Ct G yJ9_init_3 (ws_ yJ9_init_3 cJ9_init_3 5 none) { frames := 2, cells := 0, slots := 0, locals := 64 } [.ref o, .null, .null, .int (bI false), .int (bI false)] h (fmRet none h) fmNo := by
  refine Ct.of hl (by decide +kernel) (Nat.le_of_ble_eq_true rfl) (fun Γ E P => ?_)
  refine r_aload_n E dJ9_init_3_0 rfl ?_
  refine r_aload_nN E dJ9_init_3_1 rfl ?_
  refine r_aload_nN E dJ9_init_3_2 rfl ?_
  refine r_iload_n E dJ9_init_3_3 rfl ?_
  refine r_iload E dJ9_init_3_4 rfl ?_
  refine r_callI0 E (ctF_J8_init_3 G hl (h) o x ho) mJ8_init_3 rfl q707 q708 rfl rfl (Nat.le_of_ble_eq_true rfl) (Nat.le_of_ble_eq_true rfl) (Nat.le_of_ble_eq_true rfl) dJ9_init_3_6 0 0 (Nat.le_of_ble_eq_true rfl) (Nat.le_of_ble_eq_true rfl) ?_
  exact r_return E P rfl dJ9_init_3_9 ⟨rfl, rfl⟩

set_option maxHeartbeats 4000000 in
theorem ct_X11_init (G : fmG) (hl : (fmLn G).stackTraces = false) (h : fmHp) (o : Nat) (x : Int32) (ho : h o = some (true, .inr (.inl (11, [.null, .null, .null, .null, .null, .int 0, .int 0])))) : Ct G yX11_init (ws_ yX11_init cX11_init 2 none) { frames := 3, cells := 0, slots := 0, locals := 88 } [.ref o, .int x] h (fmRet none (fmUp h o (true, .inr (.inl (11, [.null, .null, .null, .null, .null, .int 0, .int x]))))) fmNo := by
  refine Ct.of hl (by decide +kernel) (Nat.le_of_ble_eq_true rfl) (fun Γ E P => ?_)
  refine r_aload_n E dX11_init_0 rfl ?_
  refine r_null E dX11_init_1 ?_
  refine r_null E dX11_init_2 ?_
  refine r_iconst E (nI 0) dX11_init_3 (by decide) ?_
  refine r_iconst E (nI 0) dX11_init_4 (by decide) ?_
  refine r_callI0 E (ctF_J9_init_3 G hl (h) o 0 ho) mJ9_init_3 rfl q1612 q705 rfl rfl (Nat.le_of_ble_eq_true rfl) (Nat.le_of_ble_eq_true rfl) (Nat.le_of_ble_eq_true rfl) dX11_init_5 0 0 (Nat.le_of_ble_eq_true rfl) (Nat.le_of_ble_eq_true rfl) ?_
  refine r_aload_n E dX11_init_8 rfl ?_
  refine r_iload_n E dX11_init_9 rfl ?_
  refine r_putfF E cl_X11 6 (by decide) rfl rfl rfl q1613 (fun _ z => z) ho (Nat.le_of_ble_eq_true rfl) rfl rfl dX11_init_10 ?_
  refine r_hp (h' := fmUp h o (true, .inr (.inl (11, [.null, .null, .null, .null, .null, .int 0, .int x])))) (rfl) ?_
  exact r_return E P rfl dX11_init_13 ⟨rfl, rfl⟩

set_option maxHeartbeats 4000000 in
theorem ctF_X1_requireIndex (G : fmG) (hl : (fmLn G).stackTraces = false) (h : fmHp)  : Ct G yX1_requireIndex (ws_ yX1_requireIndex cX1_requireIndex 1 none) { frames := 6, cells := 1, slots := 6, locals := 100 } [.int (bI false)] h (fun _ _ => False) (fun q Ex h' => Ex = "java/lang/IndexOutOfBoundsException" ∧ h q = none ∧ (fmK0 G).size ≤ q ∧ h' = fmUp h q (true, .inr (.inl (18, [])))) := by
  refine Ct.of hl (by decide +kernel) (Nat.le_of_ble_eq_true rfl) (fun Γ E P => ?_)
  refine r_iload_n E dX1_requireIndex_0 rfl ?_
  refine r_ifB_ne (b := false) (tgt := 12) E dX1_requireIndex_1 (by decide) (fun c => absurd c (by decide)) (fun _ => ?_)
  refine r_make E (ci := 18) rfl (by decide +kernel) (by decide +kernel) q634 q93 at_S_ioobe at_G_ioobe dX1_requireIndex_4 dX1_requireIndex_7 dX1_requireIndex_8 (Nat.le_of_ble_eq_true rfl) (Nat.le_of_ble_eq_true rfl) 0 0 (Nat.le_of_ble_eq_true rfl) (Nat.le_of_ble_eq_true rfl) (fun x2 hx2 kx2 => ?_)
  refine r_athrow E (ci := 18) rfl fmUp_s dX1_requireIndex_11 ?_
  exact r_xout E P (fun x hx => by cases hx) ⟨rfl, hx2, kx2, rfl⟩

set_option maxHeartbeats 4000000 in
theorem ctF_X1_requireState (G : fmG) (hl : (fmLn G).stackTraces = false) (h : fmHp)  : Ct G yX1_requireState (ws_ yX1_requireState cX1_requireState 1 none) { frames := 6, cells := 1, slots := 6, locals := 100 } [.int (bI false)] h (fun _ _ => False) (fun q Ex h' => Ex = "java/lang/IllegalStateException" ∧ h q = none ∧ (fmK0 G).size ≤ q ∧ h' = fmUp h q (true, .inr (.inl (20, [])))) := by
  refine Ct.of hl (by decide +kernel) (Nat.le_of_ble_eq_true rfl) (fun Γ E P => ?_)
  refine r_iload_n E dX1_requireState_0 rfl ?_
  refine r_ifB_ne (b := false) (tgt := 12) E dX1_requireState_1 (by decide) (fun c => absurd c (by decide)) (fun _ => ?_)
  refine r_make E (ci := 20) rfl (by decide +kernel) (by decide +kernel) q1150 q113 at_S_ise at_G_ise dX1_requireState_4 dX1_requireState_7 dX1_requireState_8 (Nat.le_of_ble_eq_true rfl) (Nat.le_of_ble_eq_true rfl) 0 0 (Nat.le_of_ble_eq_true rfl) (Nat.le_of_ble_eq_true rfl) (fun x2 hx2 kx2 => ?_)
  refine r_athrow E (ci := 20) rfl fmUp_s dX1_requireState_11 ?_
  exact r_xout E P (fun x hx => by cases hx) ⟨rfl, hx2, kx2, rfl⟩

set_option maxHeartbeats 4000000 in
theorem ctF_X1_requireElement (G : fmG) (hl : (fmLn G).stackTraces = false) (h : fmHp)  : Ct G yX1_requireElement (ws_ yX1_requireElement cX1_requireElement 1 none) { frames := 6, cells := 1, slots := 6, locals := 100 } [.int (bI false)] h (fun _ _ => False) (fun q Ex h' => Ex = "java/util/NoSuchElementException" ∧ h q = none ∧ (fmK0 G).size ≤ q ∧ h' = fmUp h q (true, .inr (.inl (21, [])))) := by
  refine Ct.of hl (by decide +kernel) (Nat.le_of_ble_eq_true rfl) (fun Γ E P => ?_)
  refine r_iload_n E dX1_requireElement_0 rfl ?_
  refine r_ifB_ne (b := false) (tgt := 12) E dX1_requireElement_1 (by decide) (fun c => absurd c (by decide)) (fun _ => ?_)
  refine r_make E (ci := 21) rfl (by decide +kernel) (by decide +kernel) q1276 q99 at_S_nse at_G_nse dX1_requireElement_4 dX1_requireElement_7 dX1_requireElement_8 (Nat.le_of_ble_eq_true rfl) (Nat.le_of_ble_eq_true rfl) 0 0 (Nat.le_of_ble_eq_true rfl) (Nat.le_of_ble_eq_true rfl) (fun x2 hx2 kx2 => ?_)
  refine r_athrow E (ci := 21) rfl fmUp_s dX1_requireElement_11 ?_
  exact r_xout E P (fun x hx => by cases hx) ⟨rfl, hx2, kx2, rfl⟩

set_option maxHeartbeats 4000000 in
theorem ctF_X1_allow (G : fmG) (hl : (fmLn G).stackTraces = false) (h : fmHp) (x y : Int32) : Ct G yX1_allow (ws_ yX1_allow cX1_allow 3 none) { frames := 4, cells := 1, slots := 8, locals := 110 } [.int (bI false), .int x, .int y] h (fun _ _ => False) (fun q Ex h' => Ex = "FlintMine$Refusal" ∧ h q = none ∧ (fmK0 G).size ≤ q ∧ h' = fmUp h q (true, .inr (.inl (10, [.null, .null, .null, .null, .null, .int 0, .int x, .int y])))) := by
  refine Ct.of hl (by decide +kernel) (Nat.le_of_ble_eq_true rfl) (fun Γ E P => ?_)
  refine r_iload_n E dX1_allow_0 rfl ?_
  refine r_ifB_ne (b := false) (tgt := 14) E dX1_allow_1 (by decide) (fun c => absurd c (by decide)) (fun _ => ?_)
  refine r_new E cl_X5 [.null, .null, .null, .null, .null, .int 0, .int 0, .int 0] q655 q693 q104 (by decide) 0 0 (Nat.le_of_ble_eq_true rfl) (Nat.le_of_ble_eq_true rfl) dX1_allow_4 (fun a2 ha2 ka2 => ?_)
  refine r_dup E dX1_allow_7 rfl ?_
  refine r_iload_n E dX1_allow_8 rfl ?_
  refine r_iload_n E dX1_allow_9 rfl ?_
  refine r_callI0 E (ct_X5_init G hl (fmUp h a2 (true, .inr (.inl (10, [.null, .null, .null, .null, .null, .int 0, .int 0, .int 0])))) a2 x y fmUp_s) mX5_init rfl q737 q702 rfl rfl (Nat.le_of_ble_eq_true rfl) (Nat.le_of_ble_eq_true rfl) (Nat.le_of_ble_eq_true rfl) dX1_allow_10 0 0 (Nat.le_of_ble_eq_true rfl) (Nat.le_of_ble_eq_true rfl) ?_
  refine r_athrow E (ci := 10) rfl fmUp_s dX1_allow_13 ?_
  exact r_xout E P (fun x hx => by cases hx) ⟨rfl, ha2, ka2, fmUp_uu _ _ _ _⟩

