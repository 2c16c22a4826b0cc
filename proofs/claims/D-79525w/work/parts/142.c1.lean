set_option maxHeartbeats 4000000 in
theorem ct_X3_init_2 (G : fmG) (hl : (fmLn G).stackTraces = false) (h : fmHp) (o : Nat) (x y : Int32) (ho : h o = some (true, .inr (.inl (3, [.int 0, .int 0])))) : Ct G yX3_init_2 (ws_ yX3_init_2 cX3_init_2 3 none) { frames := 1, cells := 0, slots := 0, locals := 30 } [.ref o, .int x, .int y] h (fmRet none (fmUp h o (true, .inr (.inl (3, [.int x, .int y]))))) fmNo := by
  refine Ct.of hl (by decide +kernel) (Nat.le_of_ble_eq_true rfl) (fun Γ E P => ?_)
  refine r_aload_n E dX3_init_2_0 rfl ?_
  refine r_objInit E q175 q134 q135 dX3_init_2_1 (Nat.le_of_ble_eq_true rfl) (Nat.le_of_ble_eq_true rfl) ?_
  refine r_aload_n E dX3_init_2_4 rfl ?_
  refine r_iload_n E dX3_init_2_5 rfl ?_
  refine r_putfF E cl_X3 0 (by decide) rfl rfl rfl q176 (fun _ z => z) ho (Nat.le_of_ble_eq_true rfl) rfl rfl dX3_init_2_6 ?_
  refine r_hp (h' := fmUp h o (true, .inr (.inl (3, [.int x, .int 0])))) (rfl) ?_
  refine r_aload_n E dX3_init_2_9 rfl ?_
  refine r_iload_n E dX3_init_2_10 rfl ?_
  refine r_putfF E cl_X3 1 (by decide) rfl rfl rfl q178 (fun _ z => z) fmUp_s (Nat.le_of_ble_eq_true rfl) rfl rfl dX3_init_2_11 ?_
  refine r_hp (h' := fmUp (fmUp h o (true, .inr (.inl (3, [.int x, .int 0])))) o (true, .inr (.inl (3, [.int x, .int y])))) (rfl) ?_
  exact r_return E P rfl dX3_init_2_14 ⟨rfl, by rw [fmUp_uu]⟩

set_option maxHeartbeats 4000000 in
theorem ct_X3_init (G : fmG) (hl : (fmLn G).stackTraces = false) (h : fmHp) (o : Nat) (ho : h o = some (true, .inr (.inl (3, [.int 0, .int 0])))) : Ct G yX3_init (ws_ yX3_init cX3_init 1 none) { frames := 2, cells := 0, slots := 0, locals := 52 } [.ref o] h (fmRet none (fmUp h o (true, .inr (.inl (3, [.int (nI 3), .int (nI 0)]))))) fmNo := by
  refine Ct.of hl (by decide +kernel) (Nat.le_of_ble_eq_true rfl) (fun Γ E P => ?_)
  refine r_aload_n E dX3_init_0 rfl ?_
  refine r_iconst E (nI 3) dX3_init_1 (by decide) ?_
  refine r_iconst E (nI 0) dX3_init_2 (by decide) ?_
  refine r_callI0 E (ct_X3_init_2 G hl (h) o (nI 3) (nI 0) ho) mX3_init_2 rfl q172 q173 rfl rfl (Nat.le_of_ble_eq_true rfl) (Nat.le_of_ble_eq_true rfl) (Nat.le_of_ble_eq_true rfl) dX3_init_3 0 0 (Nat.le_of_ble_eq_true rfl) (Nat.le_of_ble_eq_true rfl) ?_
  exact r_return E P rfl dX3_init_6 ⟨rfl, rfl⟩

set_option maxHeartbeats 4000000 in
theorem ct_X3_strokes (G : fmG) (hl : (fmLn G).stackTraces = false) (h : fmHp) (o : Nat) (b : Bool) (x y : Int32) (ho : h o = some (b, .inr (.inl (3, [.int x, .int y])))) : Ct G yX3_strokes (ws_ yX3_strokes cX3_strokes 1 (some .int)) { frames := 0, cells := 0, slots := 0, locals := 0 } [.ref o] h (fmRet (some (.int (nI 2 * x + y))) h) fmNo := by
  refine Ct.of hl (by decide +kernel) (Nat.le_of_ble_eq_true rfl) (fun Γ E P => ?_)
  refine r_iconst E (nI 2) dX3_strokes_0 (by decide) ?_
  refine r_aload_n E dX3_strokes_1 rfl ?_
  refine r_getf E cl_X3 0 (by decide) q176 ho rfl dX3_strokes_2 ?_
  refine r_imul E dX3_strokes_5 ?_
  refine r_aload_n E dX3_strokes_6 rfl ?_
  refine r_getf E cl_X3 1 (by decide) q178 ho rfl dX3_strokes_7 ?_
  refine r_iadd E dX3_strokes_10 ?_
  exact r_ireturn E P rfl dX3_strokes_11 ⟨rfl, rfl⟩

set_option maxHeartbeats 4000000 in
theorem ct_X3_shaft (G : fmG) (hl : (fmLn G).stackTraces = false) (h : fmHp) (o : Nat) : Ct G yX3_shaft (ws_ yX3_shaft cX3_shaft 1 (some .int)) { frames := 0, cells := 0, slots := 0, locals := 0 } [.ref o] h (fmRet (some (.int (-1))) h) fmNo := by
  refine Ct.of hl (by decide +kernel) (Nat.le_of_ble_eq_true rfl) (fun Γ E P => ?_)
  refine r_iconst E (-1) dX3_shaft_0 (by decide) ?_
  exact r_ireturn E P rfl dX3_shaft_1 ⟨rfl, rfl⟩

set_option maxHeartbeats 4000000 in
theorem ct_X6_init (G : fmG) (hl : (fmLn G).stackTraces = false) (h : fmHp) (o : Nat) (s : Int32) (p : Bool) (ho : h o = some (true, .inr (.inl (4, [.int 0, .int 0])))) : Ct G yX6_init (ws_ yX6_init cX6_init 3 none) { frames := 1, cells := 0, slots := 0, locals := 30 } [.ref o, .int s, .int (bI p)] h (fmRet none (fmUp h o (true, .inr (.inl (4, [.int s, .int (bI p)]))))) fmNo := by
  refine Ct.of hl (by decide +kernel) (Nat.le_of_ble_eq_true rfl) (fun Γ E P => ?_)
  refine r_aload_n E dX6_init_0 rfl ?_
  refine r_objInit E q808 q134 q135 dX6_init_1 (Nat.le_of_ble_eq_true rfl) (Nat.le_of_ble_eq_true rfl) ?_
  refine r_aload_n E dX6_init_4 rfl ?_
  refine r_iload_n E dX6_init_5 rfl ?_
  refine r_putfF E cl_X6 0 (by decide) rfl rfl rfl q809 (fun _ z => z) ho (Nat.le_of_ble_eq_true rfl) rfl rfl dX6_init_6 ?_
  refine r_hp (h' := fmUp h o (true, .inr (.inl (4, [.int s, .int 0])))) (rfl) ?_
  refine r_aload_n E dX6_init_9 rfl ?_
  refine r_iload_n E dX6_init_10 rfl ?_
  refine r_putfF E cl_X6 1 (by decide) rfl rfl rfl q812 (fun _ z => z) fmUp_s (Nat.le_of_ble_eq_true rfl) (bI_n _) (bI_f _) dX6_init_11 ?_
  refine r_hp (h' := fmUp (fmUp h o (true, .inr (.inl (4, [.int s, .int 0])))) o (true, .inr (.inl (4, [.int s, .int (bI p)])))) (rfl) ?_
  exact r_return E P rfl dX6_init_14 ⟨rfl, by rw [fmUp_uu]⟩

set_option maxHeartbeats 4000000 in
theorem ct_X6_shaft (G : fmG) (hl : (fmLn G).stackTraces = false) (h : fmHp) (o : Nat) (b : Bool) (s : Int32) (p : Bool) (ho : h o = some (b, .inr (.inl (4, [.int s, .int (bI p)])))) : Ct G yX6_shaft (ws_ yX6_shaft cX6_shaft 1 (some .int)) { frames := 0, cells := 0, slots := 0, locals := 0 } [.ref o] h (fmRet (some (.int s)) h) fmNo := by
  refine Ct.of hl (by decide +kernel) (Nat.le_of_ble_eq_true rfl) (fun Γ E P => ?_)
  refine r_aload_n E dX6_shaft_0 rfl ?_
  refine r_getf E cl_X6 0 (by decide) q809 ho rfl dX6_shaft_1 ?_
  exact r_ireturn E P rfl dX6_shaft_4 ⟨rfl, rfl⟩

set_option maxHeartbeats 4000000 in
theorem ct_X6_isBare (G : fmG) (hl : (fmLn G).stackTraces = false) (h : fmHp) (o : Nat) (b : Bool) (s : Int32) (p : Bool) (ho : h o = some (b, .inr (.inl (4, [.int s, .int (bI p)])))) : Ct G yX6_isBare (ws_ yX6_isBare cX6_isBare 1 (some .boolean)) { frames := 0, cells := 0, slots := 0, locals := 0 } [.ref o] h (fmRet (some (.int (bI (!p)))) h) fmNo := by
  refine Ct.of hl (by decide +kernel) (Nat.le_of_ble_eq_true rfl) (fun Γ E P => ?_)
  refine r_aload_n E dX6_isBare_0 rfl ?_
  refine r_getf E cl_X6 1 (by decide) q812 ho rfl dX6_isBare_1 ?_
  refine r_ifB_ne (b := p) (tgt := 11) E dX6_isBare_4 (by decide) (fun c1 => ?_) (fun c1 => ?_)
  · refine r_iconst E (nI 0) dX6_isBare_11 (by decide) ?_
    refine r_top (v' := .int (bI (!p))) (by rw [c1]; rfl) ?_
    exact r_zreturn E P rfl dX6_isBare_12 ⟨rfl, rfl⟩
  · refine r_iconst E (nI 1) dX6_isBare_7 (by decide) ?_
    refine r_goto (tgt := 12) E dX6_isBare_8 (by decide) ?_
    refine r_top (v' := .int (bI (!p))) (by rw [c1]; rfl) ?_
    exact r_zreturn E P rfl dX6_isBare_12 ⟨rfl, rfl⟩

set_option maxHeartbeats 4000000 in
theorem ct_X8_init (G : fmG) (hl : (fmLn G).stackTraces = false) (h : fmHp) (o q : Nat) (b : Bool) (s : Int32) (p : Bool) (ho : h o = some (true, .inr (.inl (5, [.int 0])))) (hq : h q = some (b, .inr (.inl (4, [.int s, .int (bI p)])))) : Ct G yX8_init (ws_ yX8_init cX8_init 2 none) { frames := 1, cells := 0, slots := 0, locals := 30 } [.ref o, .ref q] h (fmRet none (fmUp h o (true, .inr (.inl (5, [.int s]))))) fmNo := by
  refine Ct.of hl (by decide +kernel) (Nat.le_of_ble_eq_true rfl) (fun Γ E P => ?_)
  have hqo : q ≠ o := fun z => by rw [z, ho] at hq; cases hq
  refine r_aload_n E dX8_init_0 rfl ?_
  refine r_objInit E q966 q134 q135 dX8_init_1 (Nat.le_of_ble_eq_true rfl) (Nat.le_of_ble_eq_true rfl) ?_
  refine r_aload_n E dX8_init_4 rfl ?_
  refine r_aload_n E dX8_init_5 rfl ?_
  refine r_getfN E cl_X6 0 (by decide) q810 hq rfl dX8_init_6 ?_
  refine r_putfF E cl_X8 0 (by decide) rfl rfl rfl q967 (fun _ z => z) ho (Nat.le_of_ble_eq_true rfl) rfl rfl dX8_init_9 ?_
  refine r_hp (h' := fmUp h o (true, .inr (.inl (5, [.int s])))) (rfl) ?_
  exact r_return E P rfl dX8_init_12 ⟨rfl, rfl⟩

set_option maxHeartbeats 4000000 in
theorem ct_X8_shaft (G : fmG) (hl : (fmLn G).stackTraces = false) (h : fmHp) (o : Nat) (b : Bool) (s : Int32) (ho : h o = some (b, .inr (.inl (5, [.int s])))) : Ct G yX8_shaft (ws_ yX8_shaft cX8_shaft 1 (some .int)) { frames := 0, cells := 0, slots := 0, locals := 0 } [.ref o] h (fmRet (some (.int s)) h) fmNo := by
  refine Ct.of hl (by decide +kernel) (Nat.le_of_ble_eq_true rfl) (fun Γ E P => ?_)
  refine r_aload_n E dX8_shaft_0 rfl ?_
  refine r_getf E cl_X8 0 (by decide) q967 ho rfl dX8_shaft_1 ?_
  exact r_ireturn E P rfl dX8_shaft_4 ⟨rfl, rfl⟩

set_option maxHeartbeats 4000000 in
theorem ct_X7_init_2 (G : fmG) (hl : (fmLn G).stackTraces = false) (h : fmHp) (o : Nat) (x y : Int32) (p : Bool) (ho : h o = some (true, .inr (.inl (6, [.int 0, .int 0, .int 0])))) : Ct G yX7_init_2 (ws_ yX7_init_2 cX7_init_2 4 none) { frames := 1, cells := 0, slots := 0, locals := 30 } [.ref o, .int x, .int y, .int (bI p)] h (fmRet none (fmUp h o (true, .inr (.inl (6, [.int x, .int y, .int (bI p)]))))) fmNo := by
  refine Ct.of hl (by decide +kernel) (Nat.le_of_ble_eq_true rfl) (fun Γ E P => ?_)
  refine r_aload_n E dX7_init_2_0 rfl ?_
  refine r_objInit E q885 q134 q135 dX7_init_2_1 (Nat.le_of_ble_eq_true rfl) (Nat.le_of_ble_eq_true rfl) ?_
  refine r_aload_n E dX7_init_2_4 rfl ?_
  refine r_iload_n E dX7_init_2_5 rfl ?_
  refine r_putfF E cl_X7 0 (by decide) rfl rfl rfl q886 (fun _ z => z) ho (Nat.le_of_ble_eq_true rfl) rfl rfl dX7_init_2_6 ?_
  refine r_hp (h' := fmUp h o (true, .inr (.inl (6, [.int x, .int 0, .int 0])))) (rfl) ?_
  refine r_aload_n E dX7_init_2_9 rfl ?_
  refine r_iload_n E dX7_init_2_10 rfl ?_
  refine r_putfF E cl_X7 1 (by decide) rfl rfl rfl q888 (fun _ z => z) fmUp_s (Nat.le_of_ble_eq_true rfl) rfl rfl dX7_init_2_11 ?_
  refine r_hp (h' := fmUp (fmUp h o (true, .inr (.inl (6, [.int x, .int 0, .int 0])))) o (true, .inr (.inl (6, [.int x, .int y, .int 0])))) (rfl) ?_
  refine r_aload_n E dX7_init_2_14 rfl ?_
  refine r_iload_n E dX7_init_2_15 rfl ?_
  refine r_putfF E cl_X7 2 (by decide) rfl rfl rfl q891 (fun _ z => z) fmUp_s (Nat.le_of_ble_eq_true rfl) (bI_n _) (bI_f _) dX7_init_2_16 ?_
  refine r_hp (h' := fmUp (fmUp (fmUp h o (true, .inr (.inl (6, [.int x, .int 0, .int 0])))) o (true, .inr (.inl (6, [.int x, .int y, .int 0])))) o (true, .inr (.inl (6, [.int x, .int y, .int (bI p)])))) (rfl) ?_
  exact r_return E P rfl dX7_init_2_19 ⟨rfl, by rw [fmUp_uu, fmUp_uu]⟩

set_option maxHeartbeats 4000000 in
theorem ct_X7_init (G : fmG) (hl : (fmLn G).stackTraces = false) (h : fmHp) (o : Nat) (x y : Int32) (ho : h o = some (true, .inr (.inl (6, [.int 0, .int 0, .int 0])))) : Ct G yX7_init (ws_ yX7_init cX7_init 3 none) { frames := 2, cells := 0, slots := 0, locals := 53 } [.ref o, .int x, .int y] h (fmRet none (fmUp h o (true, .inr (.inl (6, [.int x, .int y, .int (bI false)]))))) fmNo := by
  refine Ct.of hl (by decide +kernel) (Nat.le_of_ble_eq_true rfl) (fun Γ E P => ?_)
  refine r_aload_n E dX7_init_0 rfl ?_
  refine r_iload_n E dX7_init_1 rfl ?_
  refine r_iload_n E dX7_init_2 rfl ?_
  refine r_iconst E (nI 0) dX7_init_3 (by decide) ?_
  refine r_callI0 E (ct_X7_init_2 G hl (h) o x y false ho) mX7_init_2 rfl q882 q883 rfl rfl (Nat.le_of_ble_eq_true rfl) (Nat.le_of_ble_eq_true rfl) (Nat.le_of_ble_eq_true rfl) dX7_init_4 0 0 (Nat.le_of_ble_eq_true rfl) (Nat.le_of_ble_eq_true rfl) ?_
  exact r_return E P rfl dX7_init_7 ⟨rfl, rfl⟩

set_option maxHeartbeats 4000000 in
theorem ct_X7_winning (G : fmG) (hl : (fmLn G).stackTraces = false) (h : fmHp) (o : Nat) (b : Bool) (x y : Int32) (p : Bool) (ho : h o = some (b, .inr (.inl (6, [.int x, .int y, .int (bI p)])))) (m : Int32) : Ct G yX7_winning (ws_ yX7_winning cX7_winning 2 (some (.object "FlintMine$Shaft"))) { frames := 3, cells := 1, slots := 3, locals := 75 } [.ref o, .int m] h (fun v h' => ∃ a, h a = none ∧ (fmK0 G).size ≤ a ∧ v = some (.ref a) ∧ h' = fmUp h a (true, .inr (.inl (6, [.int x, .int (y + m), .int (bI false)])))) fmNo := by
  refine Ct.of hl (by decide +kernel) (Nat.le_of_ble_eq_true rfl) (fun Γ E P => ?_)
  refine r_new E cl_X7 [.int 0, .int 0, .int 0] q923 q878 q111 (by decide) 0 0 (Nat.le_of_ble_eq_true rfl) (Nat.le_of_ble_eq_true rfl) dX7_winning_0 (fun a ha ha0 => ?_)
  have hoa : o ≠ a := fun q => by rw [q, ha] at ho; cases ho
  refine r_dup E dX7_winning_3 rfl ?_
  refine r_aload_n E dX7_winning_4 rfl ?_
  refine r_getf E cl_X7 0 (by decide) q886 ((fmUp_n hoa).trans ho) rfl dX7_winning_5 ?_
  refine r_aload_n E dX7_winning_8 rfl ?_
  refine r_getf E cl_X7 1 (by decide) q888 ((fmUp_n hoa).trans ho) rfl dX7_winning_9 ?_
  refine r_iload_n E dX7_winning_12 rfl ?_
  refine r_iadd E dX7_winning_13 ?_
  refine r_callI0 E (ct_X7_init G hl (fmUp h a (true, .inr (.inl (6, [.int 0, .int 0, .int 0])))) a x (y + m) fmUp_s) mX7_init rfl q924 q880 rfl rfl (Nat.le_of_ble_eq_true rfl) (Nat.le_of_ble_eq_true rfl) (Nat.le_of_ble_eq_true rfl) dX7_winning_14 0 0 (Nat.le_of_ble_eq_true rfl) (Nat.le_of_ble_eq_true rfl) ?_
  exact r_areturn E P rfl (Or.inl ⟨_, rfl⟩) dX7_winning_17 ⟨a, ha, ha0, rfl, fmUp_uu _ _ _ _⟩

set_option maxHeartbeats 4000000 in
theorem ct_X7_closed (G : fmG) (hl : (fmLn G).stackTraces = false) (h : fmHp) (o : Nat) (b : Bool) (x y : Int32) (p : Bool) (ho : h o = some (b, .inr (.inl (6, [.int x, .int y, .int (bI p)]))))  : Ct G yX7_closed (ws_ yX7_closed cX7_closed 1 (some (.object "FlintMine$Shaft"))) { frames := 2, cells := 1, slots := 3, locals := 53 } [.ref o] h (fun v h' => ∃ a, h a = none ∧ (fmK0 G).size ≤ a ∧ v = some (.ref a) ∧ h' = fmUp h a (true, .inr (.inl (6, [.int x, .int y, .int (bI true)])))) fmNo := by
  refine Ct.of hl (by decide +kernel) (Nat.le_of_ble_eq_true rfl) (fun Γ E P => ?_)
  refine r_new E cl_X7 [.int 0, .int 0, .int 0] q923 q878 q111 (by decide) 0 0 (Nat.le_of_ble_eq_true rfl) (Nat.le_of_ble_eq_true rfl) dX7_closed_0 (fun a ha ha0 => ?_)
  have hoa : o ≠ a := fun q => by rw [q, ha] at ho; cases ho
  refine r_dup E dX7_closed_3 rfl ?_
  refine r_aload_n E dX7_closed_4 rfl ?_
  refine r_getf E cl_X7 0 (by decide) q886 ((fmUp_n hoa).trans ho) rfl dX7_closed_5 ?_
  refine r_aload_n E dX7_closed_8 rfl ?_
  refine r_getf E cl_X7 1 (by decide) q888 ((fmUp_n hoa).trans ho) rfl dX7_closed_9 ?_
  refine r_iconst E (nI 1) dX7_closed_12 (by decide) ?_
  refine r_callI0 E (ct_X7_init_2 G hl (fmUp h a (true, .inr (.inl (6, [.int 0, .int 0, .int 0])))) a x y true fmUp_s) mX7_init_2 rfl q882 q883 rfl rfl (Nat.le_of_ble_eq_true rfl) (Nat.le_of_ble_eq_true rfl) (Nat.le_of_ble_eq_true rfl) dX7_closed_13 0 0 (Nat.le_of_ble_eq_true rfl) (Nat.le_of_ble_eq_true rfl) ?_
  exact r_areturn E P rfl (Or.inl ⟨_, rfl⟩) dX7_closed_16 ⟨a, ha, ha0, rfl, fmUp_uu _ _ _ _⟩

