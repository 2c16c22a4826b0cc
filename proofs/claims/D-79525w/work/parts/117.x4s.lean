set_option maxHeartbeats 4000000 in
theorem ctz_X4_init (G : fmG) (hl : (fmLn G).stackTraces = false) (m : Nat) (h0 : fmHp)  : CtZ G yX4_init (ws_ yX4_init cX4_init 2 none) { frames := 1, cells := 15, slots := 4112, locals := 40 } [.ref m] (fmUp h0 m (true, .inr (.inl (0, mNew)))) (m + 1) (fmRet none (mdl m mIni h0)) fmNo := by
  refine CtZ.of hl (by decide +kernel) (Nat.le_of_ble_eq_true rfl) (fun Γ E P => ?_)
  refine z_aload_n E dX4_init_0 rfl ?_
  refine z_objInit E q1883 q134 q135 dX4_init_1 (by decide) (by decide) ?_
  refine z_aload_n E dX4_init_4 rfl ?_
  refine z_sipush E (nI 356) dX4_init_5 (by decide) ?_
  refine z_newa E 0 (.inl (fun _ => 0)) rfl (z_ai 356) q236 (fun e => e) (Nat.le_of_ble_eq_true rfl) (Nat.le_of_ble_eq_true rfl) 14 3756 (Nat.le_of_ble_eq_true rfl) (Nat.le_of_ble_eq_true rfl) dX4_init_8 (fun hz1 _ => ?_)
  refine z_putfF E cl_X4 1 (by decide) rfl rfl rfl q1887 (fun _ z => z) ((fmUp_n (by omega)).trans fmUp_s) (Nat.le_of_ble_eq_true rfl) rfl rfl dX4_init_10 ?_
  refine z_aload_n E dX4_init_13 rfl ?_
  refine z_sipush E (nI 356) dX4_init_14 (by decide) ?_
  refine z_newa E 0 (.inl (fun _ => 0)) rfl (z_ai 356) q236 (fun e => e) (Nat.le_of_ble_eq_true rfl) (Nat.le_of_ble_eq_true rfl) 13 3400 (Nat.le_of_ble_eq_true rfl) (Nat.le_of_ble_eq_true rfl) dX4_init_17 (fun hz2 _ => ?_)
  refine z_putfF E cl_X4 2 (by decide) rfl rfl rfl q1888 (fun _ z => z) ((fmUp_n (by omega)).trans fmUp_s) (Nat.le_of_ble_eq_true rfl) rfl rfl dX4_init_19 ?_
  refine z_aload_n E dX4_init_22 rfl ?_
  refine z_bipush E (nI 8) dX4_init_23 (by decide) ?_
  refine z_sipush E (nI 356) dX4_init_25 (by decide) ?_
  refine z_mnewa E q1884 q1885 q236 (Nat.le_of_ble_eq_true rfl) (Nat.le_of_ble_eq_true rfl) 4 544 (Nat.le_of_ble_eq_true rfl) (Nat.le_of_ble_eq_true rfl) dX4_init_28 (fun _ => ?_)
  refine z_putfF E cl_X4 3 (by decide) rfl rfl rfl q1889 (fun _ z => z) ((fmRows_lo (by omega)).trans fmUp_s) (Nat.le_of_ble_eq_true rfl) rfl rfl dX4_init_32 ?_
  refine z_aload_n E dX4_init_35 rfl ?_
  refine z_bipush E (nI 64) dX4_init_36 (by decide) ?_
  refine z_newa E 0 (.inl (fun _ => 0)) rfl (z_ai 64) q236 (fun e => e) (Nat.le_of_ble_eq_true rfl) (Nat.le_of_ble_eq_true rfl) 3 480 (Nat.le_of_ble_eq_true rfl) (Nat.le_of_ble_eq_true rfl) dX4_init_38 (fun hz12 _ => ?_)
  refine z_putfF E cl_X4 9 (by decide) rfl rfl rfl q1895 (fun _ z => z) ((fmUp_n (by omega)).trans fmUp_s) (Nat.le_of_ble_eq_true rfl) rfl rfl dX4_init_40 ?_
  refine z_aload_n E dX4_init_43 rfl ?_
  refine z_bipush E (nI 64) dX4_init_44 (by decide) ?_
  refine z_newa E 0 (.inl (fun _ => 0)) rfl (z_ai 64) q236 (fun e => e) (Nat.le_of_ble_eq_true rfl) (Nat.le_of_ble_eq_true rfl) 2 416 (Nat.le_of_ble_eq_true rfl) (Nat.le_of_ble_eq_true rfl) dX4_init_46 (fun hz13 _ => ?_)
  refine z_putfF E cl_X4 10 (by decide) rfl rfl rfl q1896 (fun _ z => z) ((fmUp_n (by omega)).trans fmUp_s) (Nat.le_of_ble_eq_true rfl) rfl rfl dX4_init_48 ?_
  refine z_aload_n E dX4_init_51 rfl ?_
  refine z_bipush E (nI 60) dX4_init_52 (by decide) ?_
  refine z_newa E 4 (.inl (fun _ => 0)) rfl (z_ac 60) q1950 (fun e => e) (Nat.le_of_ble_eq_true rfl) (Nat.le_of_ble_eq_true rfl) 1 356 (Nat.le_of_ble_eq_true rfl) (Nat.le_of_ble_eq_true rfl) dX4_init_54 (fun hz14 _ => ?_)
  refine z_putfF E cl_X4 11 (by decide) rfl rfl rfl q1897 (fun _ z => z) ((fmUp_n (by omega)).trans fmUp_s) (Nat.le_of_ble_eq_true rfl) rfl rfl dX4_init_56 ?_
  refine z_aload_n E dX4_init_59 rfl ?_
  refine z_iconst E (-1) dX4_init_60 (by decide) ?_
  refine z_putf E cl_X4 14 (by decide) rfl q1900 (fun _ z => z) fmUp_s (Nat.le_of_ble_eq_true rfl) rfl rfl dX4_init_61 ?_
  refine z_aload_n E dX4_init_64 rfl ?_
  refine z_sipush E (nI 356) dX4_init_65 (by decide) ?_
  refine z_newa E 0 (.inl (fun _ => 0)) rfl (z_ai 356) q236 (fun e => e) (Nat.le_of_ble_eq_true rfl) (Nat.le_of_ble_eq_true rfl) 0 0 (Nat.le_of_ble_eq_true rfl) (Nat.le_of_ble_eq_true rfl) dX4_init_68 (fun hz15 _ => ?_)
  refine z_putfF E cl_X4 20 (by decide) rfl rfl rfl q1906 (fun _ z => z) ((fmUp_n (by omega)).trans fmUp_s) (Nat.le_of_ble_eq_true rfl) rfl rfl dX4_init_70 ?_
  refine z_hp (h' := mdl m sZero h0) (by
    funext q
    by_cases hq : m ≤ q ∧ q < m + 16
    · obtain ⟨j, rfl⟩ : ∃ j, q = m + j := ⟨q - m, by omega⟩
      rw [mdl_at j (by omega)]
      have hj : j = 0 ∨ j = 1 ∨ j = 2 ∨ j = 3 ∨ (4 ≤ j ∧ j < 12) ∨ j = 12 ∨ j = 13 ∨ j = 14 ∨ j = 15 := by omega
      rcases hj with rfl | rfl | rfl | rfl | hj | rfl | rfl | rfl | rfl
      · unfold fmUp fmRows; dsimp only
        repeat rw [if_neg (by omega)]
        first | rfl | (rw [if_pos (by omega)]; rfl)
      · unfold fmUp fmRows; dsimp only
        repeat rw [if_neg (by omega)]
        first | rfl | (rw [if_pos (by omega)]; rfl)
      · unfold fmUp fmRows; dsimp only
        repeat rw [if_neg (by omega)]
        first | rfl | (rw [if_pos (by omega)]; rfl)
      · unfold fmUp fmRows; dsimp only
        repeat rw [if_neg (by omega)]
        first | rfl | (rw [if_pos (by omega)]; rfl)
      · unfold fmUp fmRows; dsimp only
        repeat rw [if_neg (by omega)]
        rw [if_pos (by omega)]
        unfold mEnt
        rw [if_neg (by omega), if_neg (by omega), if_neg (by omega), if_neg (by omega), if_neg (by omega)]
        rfl
      · unfold fmUp fmRows; dsimp only
        repeat rw [if_neg (by omega)]
        first | rfl | (rw [if_pos (by omega)]; rfl)
      · unfold fmUp fmRows; dsimp only
        repeat rw [if_neg (by omega)]
        first | rfl | (rw [if_pos (by omega)]; rfl)
      · unfold fmUp fmRows; dsimp only
        repeat rw [if_neg (by omega)]
        first | rfl | (rw [if_pos (by omega)]; rfl)
      · unfold fmUp fmRows; dsimp only
        repeat rw [if_neg (by omega)]
        first | rfl | (rw [if_pos (by omega)]; rfl)
    · unfold mdl
      rw [if_neg hq]
      unfold fmUp fmRows; dsimp only
      repeat rw [if_neg (by omega)]) ?_
  refine fmZ.of ?_
  refine r_iconst E (nI 0) dX4_init_73 (by decide) ?_
  refine r_istore_n E [some (.ref m), some (.int (nI 0))] dX4_init_74 rfl rfl ?_
  refine r_hp (h' := mdl m (sZero.1, va_up sZero.2 1 (sIniK 0)) h0) (by rw [show sIniK 0 = sZero.2 1 from rfl, va_id rfl]) ?_
  have lp1 : ∀ (n1 i1 : Nat), i1 + n1 = 64 → fmW G Γ (mdl m (sZero.1, va_up sZero.2 1 (sIniK i1)) h0) 0 0 75 [some (.ref m), some (.int (nI i1))] [] := by
    intro n1
    induction n1 with
    | zero =>
      intro i1 hi1
      refine r_iload_n E dX4_init_75 rfl ?_
      refine r_bipush E (nI 64) dX4_init_76 (by decide) ?_
      refine r_icmpN_ge (tgt := 108) E dX4_init_78 (by decide) (by omega) (by omega) (fun c2 => ?_) (fun c2 => ?_)
      · have h64 : i1 = 64 := by omega
        refine r_aload_n E dX4_init_108 rfl ?_
        refine r_getf E cl_X4 1 (by decide) q1887 mdl_o rfl dX4_init_109 ?_
        refine r_sipush E (nI 355) dX4_init_112 (by decide) ?_
        refine r_iconst E (nI 3) dX4_init_115 (by decide) ?_
        refine r_iast E mdl_1 (by omega) (by omega) dX4_init_116 ?_
        refine r_hp (h' := mdl m (sZero.1, va_up sZero.2 1 (upd (sIniK i1) 355 (nI 3))) h0) (mdl_b1 _) ?_
        exact r_return E P rfl dX4_init_117 ⟨rfl, by rw [h64]; rfl⟩
      · exfalso; omega
    | succ n1 ih =>
      intro i1 hi1
      refine r_iload_n E dX4_init_75 rfl ?_
      refine r_bipush E (nI 64) dX4_init_76 (by decide) ?_
      refine r_icmpN_ge (tgt := 108) E dX4_init_78 (by decide) (by omega) (by omega) (fun c3 => ?_) (fun c3 => ?_)
      · exfalso; omega
      · refine r_aload_n E dX4_init_81 rfl ?_
        refine r_getf E cl_X4 1 (by decide) q1887 mdl_o rfl dX4_init_82 ?_
        refine r_bipush E (nI 64) dX4_init_85 (by decide) ?_
        refine r_iload_n E dX4_init_87 rfl ?_
        refine r_iaddN E dX4_init_88 ?_
        refine r_iconst E (nI 3) dX4_init_89 (by decide) ?_
        refine r_iast E mdl_1 (by omega) (by omega) dX4_init_90 ?_
        refine r_hp (h' := mdl m (sZero.1, va_up sZero.2 1 (upd (sIniK i1) (64 + i1) (nI 3))) h0) (mdl_b1 _) ?_
        refine r_aload_n E dX4_init_91 rfl ?_
        refine r_getf E cl_X4 1 (by decide) q1887 mdl_o rfl dX4_init_92 ?_
        refine r_sipush E (nI 192) dX4_init_95 (by decide) ?_
        refine r_iload_n E dX4_init_98 rfl ?_
        refine r_iaddN E dX4_init_99 ?_
        refine r_iconst E (-1) dX4_init_100 (by decide) ?_
        refine r_iast E mdl_1 (by omega) (by omega) dX4_init_101 ?_
        refine r_hp (h' := mdl m (sZero.1, va_up sZero.2 1 (upd (upd (sIniK i1) (64 + i1) (nI 3)) (192 + i1) (-1))) h0) (mdl_b1 _) ?_
        refine r_hp (h' := mdl m (sZero.1, va_up sZero.2 1 (sIniK (i1 + 1))) h0) rfl ?_
        refine r_iinc E (nI (i1 + 1)) [some (.ref m), some (.int (nI (i1 + 1)))] dX4_init_102 rfl (nI_1 i1) rfl rfl ?_
        refine r_goto (tgt := 75) E dX4_init_105 (by decide) ?_
        exact ih (i1 + 1) (by omega)
  exact lp1 64 0 (by omega)

