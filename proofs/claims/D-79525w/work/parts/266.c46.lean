/-! ROWS: a constructor of a nest mate -/
section IROW
variable {G : fmG} {Γ : fmC} {cc : ByteArray} {nL : Nat} {own nm : String} {ret : Option FieldType} {RM : Room} {tb : List ExceptionTableEntry} {h : fmHp} {kc ks pc : Nat} {L : List (Option Value)} {st : List Value}
variable {y : MethodName} {bytes : ByteArray} {ml n index : Nat} {rt : Option FieldType} {rm : Room} {As : List Value} {b : Nat} {rest : List Value} {cpost : Option Value → fmHp → Prop} {cxp : Nat → String → fmHp → Prop} {hh : List (Nat × Nat × Nat × Nat)}
variable {ci N : Nat} {C : String} {T : u_T}
theorem r_callIN (E : fmE G Γ cc nL own nm ret RM tb) (hC : Ct G y (ws_ y bytes ml none) rm (.ref b :: As) h cpost cxp) (hM : fmM y bytes ml none n) (hy1 : y.name = "<init>") {host : String} (h1 : Cond.methodLinkNest own index y host ∈ lw_tbl) (h2 : Cond.instanceMethod y ∈ lw_all) (hn : As.length = n) (hst : st = As.reverse ++ .ref b :: rest) (hf : rm.frames + 1 ≤ RM.frames) (hl : 8 + (ml + 11) + rm.locals ≤ RM.locals) (hr : (rest.map fun v => v.category).sum ≤ 8) (d : decode cc pc = .ok (.invokespecial index, 3)) (kc' ks' : Nat) (hkc : kc' + rm.cells ≤ kc) (hks : ks' + rm.slots ≤ ks) (kk : ∀ (v : Option Value) (h' : fmHp), cpost v h' → fmW G Γ h' kc' ks' (pc + 3) L (v.toList ++ rest)) (kx : ∀ (q : Nat) (Ex : String) (h' : fmHp), cxp q Ex h' → fmT G Γ h' kc' ks' pc L Ex q) : fmW G Γ h kc ks pc L st := by
  intro H lo cx sx ls a1 a2 a3 a4 a5 Tt hT X
  have hr2 : 2 * (F0 Γ.m pc ls rest).monitorRoom + (rest.map fun v => v.category).sum ≤ 8 := by simpa [JFrame.monitorRoom] using hr
  exact fm_after (rm := rm) (fun v => rfl) rfl kc' ks' hkc hks a2 a3 a4 a5 kk kx (vx_callIN X E.x (bytes := bytes) (maxL := ml) E.xown hy1 ((E.nw h1 rfl).use rfl) (E.ts _ h2) (E.ts _ hM.1) hM.2.1 (fm_back E hC hM hf hl) (g := F0 Γ.m pc ls st) rfl a5.1 (a := b) (argsL := As) (rest := rest) (fun sig hs => hn.trans (fm_len hM.2.2 sig hs)) hst hr2 (by rw [E.b]; exact d) (fun vm₁ hW₁ => fm_pre E hT hW₁ a1 (by omega) (by omega)))
theorem r_callIN0 {h1 : fmHp} (E : fmE G Γ cc nL own nm ret RM tb) (hC : Ct G y (ws_ y bytes ml none) rm (.ref b :: As) h (fmRet none h1) fmNo) (hM : fmM y bytes ml none n) (hy1 : y.name = "<init>") {host : String} (w1 : Cond.methodLinkNest own index y host ∈ lw_tbl) (w2 : Cond.instanceMethod y ∈ lw_all) (hn : As.length = n) (hst : st = As.reverse ++ .ref b :: rest) (hf : rm.frames + 1 ≤ RM.frames) (hl : 8 + (ml + 11) + rm.locals ≤ RM.locals) (hr : (rest.map fun v => v.category).sum ≤ 8) (d : decode cc pc = .ok (.invokespecial index, 3)) (kc' ks' : Nat) (hkc : kc' + rm.cells ≤ kc) (hks : ks' + rm.slots ≤ ks) (k : fmW G Γ h1 kc' ks' (pc + 3) L rest) : fmW G Γ h kc ks pc L st :=
  r_callIN E hC hM hy1 w1 w2 hn hst hf hl hr d kc' ks' hkc hks (fun v' h' q => by obtain ⟨q1, q2⟩ := q; subst q1; subst q2; exact k) (fun _ _ _ q => q.elim)
end IROW

set_option maxHeartbeats 4000000 in
theorem ct_X1_taken (G : fmG) (hl : (fmLn G).stackTraces = false) (h : fmHp) {x far qu d pa sb : Nat} {fl re de : Int32} {sv : Value} (hC : CC G h) (hx : DkO h x far qu d pa sb fl re de sv) (v len : Nat) (T : Nat → Int32) (hS : SBt h sb v len T) (hlen : len ≤ 60) (hch : ∀ i, i < len → ∃ k, k < 65536 ∧ T i = nI k) (u : Int32)  : Ct G yX1_taken (wsW_ yX1_taken cX1_taken 4 (some (.object "java/util/List")) [(0, 12, 22, 341), (0, 12, 43, 0), (22, 33, 43, 0)]) { frames := 17, cells := 376, slots := 15100, locals := 622 } [.ref x] h (fun v0 h' => (∃ v', SBt h' sb v' 0 T ∧ (v' = v ∨ h v' = none)) ∧ (((pAll T len u).1.2.2.2.2.2 = false ∧ FrX sb h h' ∧ ∃ (li m e9 : Nat) (f : Nat → Nat), v0 = some (.ref li) ∧ AL G h' li e9 m f ∧ CmdsAt G h' T len f m ∧ m ≤ 62 ∧ (pAll T len u).2 = m ∧ ∀ y, h e9 = some y → y.1 = false) ∨ ((pAll T len u).1.2.2.2.2.2 = true ∧ v0 = some .null ∧ h' x = some (true, .inr (.inl (1, [.ref far, .ref qu, .ref d, .ref pa, .ref sb, .int (nI (pAll T len u).1.2.2.2.2.1), .int re, .int de, sv]))) ∧ ∀ q y, h q = some y → q ≠ sb → q ≠ x → h' q = some y))) fmNo := by
  refine Ct.ofH hl (by decide +kernel) (Nat.le_of_ble_eq_true rfl) (fun Γ E P => ?_)
  obtain ⟨u0, ml, cap, bf, hsb, hv, hrr⟩ := id hS
  have hx0 : h x = some (true, .inr (.inl (1, [.ref far, .ref qu, .ref d, .ref pa, .ref sb, .int fl, .int re, .int de, sv]))) := hx
  have hxs : x ≠ sb := fun z => by rw [z, hsb] at hx0; cases hx0
  refine r_new E cl_X10 [.int 0, .null] q1482 q1483 q118 (by decide) 375 15095 (Nat.le_of_ble_eq_true rfl) (Nat.le_of_ble_eq_true rfl) dX1_taken_0 (fun p hp kp => ?_)
  refine r_dup E dX1_taken_3 rfl ?_
  refine r_aload_n E dX1_taken_4 rfl ?_
  refine r_callIN0 E (ct_X10_init G hl (fmUp h p (true, .inr (.inl (8, [.int 0, .null])))) p x fmUp_s) mX10_init rfl q1484 q1485 rfl rfl (Nat.le_of_ble_eq_true rfl) (Nat.le_of_ble_eq_true rfl) (Nat.le_of_ble_eq_true rfl) dX1_taken_5 375 15095 (Nat.le_of_ble_eq_true rfl) (Nat.le_of_ble_eq_true rfl) ?_
  refine r_hp (h' := fmUp h p (true, .inr (.inl (8, [.int (nI 0), .ref x])))) (fmUp_uu _ _ _ _) ?_
  have k1 : Kp h (fmUp h p (true, .inr (.inl (8, [.int (nI 0), .ref x])))) := Kp.up hp
  have hp1 : (fmUp h p (true, .inr (.inl (8, [.int (nI 0), .ref x])))) p = some (true, .inr (.inl (8, [.int (nI 0), .ref x]))) := fmUp_s
  generalize hH1 : fmUp h p (true, .inr (.inl (8, [.int (nI 0), .ref x]))) = h1 at *
  refine r_callV E (ct_X10_text G hl h1 (hC.kp k1) (k1 _ _ hx) p hp1 v len T (hS.kept (fun y z => k1 _ _ z) (fun y z => k1 _ _ z)) hlen hch u) mX10_text q1495 q1496 q1497 (fun H a1 => fm_rc (ci := 8) (C := RX10) (T := TX10) (N := 2) a1 rfl E.v hp1) rfl rfl (Nat.le_of_ble_eq_true rfl) (Nat.le_of_ble_eq_true rfl) (Nat.le_of_ble_eq_true rfl) dX1_taken_8 2 590 (Nat.le_of_ble_eq_true rfl) (Nat.le_of_ble_eq_true rfl) (fun v' h2 q => ?_) (fun q Ex h2 hx2 => ?_)
  · obtain ⟨li, m, e9, f, rfl, hA2, hcs2, hm62, hw, hm, hfr2, hli, hJ2⟩ := q
    have k2 : Kp h h2 := fun q y hq => hfr2 q y (k1 q y hq) (fun z => by rw [z, hp] at hq; cases hq)
    refine r_astore_n E [some (.ref x), some (.ref li), none, none] dX1_taken_11 rfl rfl ?_
    refine r_aload_n E dX1_taken_12 rfl ?_
    refine r_getf E cl_X1 4 (by decide) q275 (k2 _ _ hx) rfl dX1_taken_13 ?_
    refine r_iconst E (nI 0) dX1_taken_16 (by decide) ?_
    refine r_callV E (ct_J5_setLength G hl h2 sb v len T (hS.kept (fun y z => k2 _ _ z) (fun y z => k2 _ _ z)) (hC.kp k2)) mJ5_setLength q1649 q1650 q1651 (fun H a1 => fm_rc (ci := 15) (C := RJ5) (T := TJ5) (N := 4) a1 rfl E.v (k2 _ _ hsb)) rfl rfl (Nat.le_of_ble_eq_true rfl) (Nat.le_of_ble_eq_true rfl) (Nat.le_of_ble_eq_true rfl) dX1_taken_17 0 0 (Nat.le_of_ble_eq_true rfl) (Nat.le_of_ble_eq_true rfl) (fun v' h3 q => ?_) (fun _ _ _ q => q.elim)
    obtain ⟨rfl, v3, hS3, hfr3, hv3⟩ := q
    refine r_aload_n E dX1_taken_20 rfl ?_
    exact r_areturn E P rfl (Or.inl ⟨_, rfl⟩) dX1_taken_21 ⟨⟨v3, hS3, hv3.imp id k2.none⟩, Or.inl ⟨hw, fun q y hq hn => hfr3 q y (k2 q y hq) hn, li, m, e9, f, rfl, hA2.one (k2 _ _ hsb) (by decide) hfr3, hcs2.one (k2 _ _ hsb) (by decide) hfr3, hm62, hm, fun y hy => hJ2 y (k1 _ _ hy)⟩⟩
  · obtain ⟨hw, rfl, hq, hfr2⟩ := hx2
    have k2 : Kp h h2 := fun q y hq => hfr2 q y (k1 q y hq) (fun z => by rw [z, hp] at hq; cases hq)
    refine r_xcatchS E [] ⟨0, 12, 22, 341⟩ [⟨0, 12, 43, 0⟩, ⟨22, 33, 43, 0⟩] rfl (fun z hz => by cases hz) (by decide) (by decide) q1481 (classAt_of (E.ts _ q1601)) ?_
    have hqx : q ≠ x := fun z => by have h9 := k2 _ _ hx0; rw [← z, hq] at h9; cases h9
    have hsx : sb ≠ x := fun z => hxs z.symm
    refine r_astore_n E [some (.ref x), some (.ref q), none, none] dX1_taken_22 rfl rfl ?_
    refine r_aload_n E dX1_taken_23 rfl ?_
    refine r_aload_n E dX1_taken_24 rfl ?_
    refine r_getfN E cl_X11 6 (by decide) q1614 hq rfl dX1_taken_25 ?_
    refine r_putf E cl_X1 5 (by decide) rfl q276 (fun _ z => z) (k2 _ _ hx) (Nat.le_of_ble_eq_true rfl) rfl rfl dX1_taken_28 ?_
    refine r_hp (h' := fmUp h2 x (true, .inr (.inl (1, [.ref far, .ref qu, .ref d, .ref pa, .ref sb, .int (nI (pAll T len u).1.2.2.2.2.1), .int re, .int de, sv])))) (rfl) ?_
    refine r_null E dX1_taken_31 ?_
    refine r_astore_nN E [some (.ref x), some (.ref q), some (.null), none] dX1_taken_32 rfl rfl ?_
    refine r_aload_n E dX1_taken_33 rfl ?_
    refine r_getf E cl_X1 4 (by decide) q275 fmUp_s rfl dX1_taken_34 ?_
    refine r_iconst E (nI 0) dX1_taken_37 (by decide) ?_
    refine r_hp (h' := fmUp h2 x (true, .inr (.inl (1, [.ref far, .ref qu, .ref d, .ref pa, .ref sb, .int (nI (pAll T len u).1.2.2.2.2.1), .int re, .int de, sv])))) rfl ?_
    have f4 : FrX x h (fmUp h2 x (true, .inr (.inl (1, [.ref far, .ref qu, .ref d, .ref pa, .ref sb, .int (nI (pAll T len u).1.2.2.2.2.1), .int re, .int de, sv])))) := fun q y hq hn => (fmUp_n hn).trans (k2 q y hq)
    have hx4 : (fmUp h2 x (true, .inr (.inl (1, [.ref far, .ref qu, .ref d, .ref pa, .ref sb, .int (nI (pAll T len u).1.2.2.2.2.1), .int re, .int de, sv])))) x = some (true, .inr (.inl (1, [.ref far, .ref qu, .ref d, .ref pa, .ref sb, .int (nI (pAll T len u).1.2.2.2.2.1), .int re, .int de, sv]))) := fmUp_s
    have v4 : ∀ v3, (fmUp h2 x (true, .inr (.inl (1, [.ref far, .ref qu, .ref d, .ref pa, .ref sb, .int (nI (pAll T len u).1.2.2.2.2.1), .int re, .int de, sv])))) v3 = none → h v3 = none := fun v3 z => k2.none (up_none z)
    have hxv : v ≠ x := fun z => by rw [← z, hv] at hx0; cases hx0
    have hS4 : SBt (fmUp h2 x (true, .inr (.inl (1, [.ref far, .ref qu, .ref d, .ref pa, .ref sb, .int (nI (pAll T len u).1.2.2.2.2.1), .int re, .int de, sv])))) sb v len T := hS.kept (fun y z => f4 _ _ z hsx) (fun y z => f4 _ _ z hxv)
    have hC4 : CC G (fmUp h2 x (true, .inr (.inl (1, [.ref far, .ref qu, .ref d, .ref pa, .ref sb, .int (nI (pAll T len u).1.2.2.2.2.1), .int re, .int de, sv])))) := hC.kept (fun q y hq => f4 _ _ hq (fun z => by rw [z, hx0] at hq; cases hq))
    have hsb4 := f4 _ _ hsb hsx
    generalize hH4 : fmUp h2 x (true, .inr (.inl (1, [.ref far, .ref qu, .ref d, .ref pa, .ref sb, .int (nI (pAll T len u).1.2.2.2.2.1), .int re, .int de, sv]))) = h4 at *
    refine r_callV E (ct_J5_setLength G hl h4 sb v len T hS4 hC4) mJ5_setLength q1649 q1650 q1651 (fun H a1 => fm_rc (ci := 15) (C := RJ5) (T := TJ5) (N := 4) a1 rfl E.v hsb4) rfl rfl (Nat.le_of_ble_eq_true rfl) (Nat.le_of_ble_eq_true rfl) (Nat.le_of_ble_eq_true rfl) dX1_taken_38 0 0 (Nat.le_of_ble_eq_true rfl) (Nat.le_of_ble_eq_true rfl) (fun v' h3 q => ?_) (fun _ _ _ q => q.elim)
    obtain ⟨rfl, v3, hS3, hfr3, hv3⟩ := q
    refine r_aload_nN E dX1_taken_41 rfl ?_
    exact r_areturnN E P rfl (Or.inl ⟨_, rfl⟩) dX1_taken_42 ⟨⟨v3, hS3, hv3.imp id (v4 v3)⟩, Or.inr ⟨hw, rfl, hfr3 _ _ hx4 hxs, fun q y hq h1 h2 => hfr3 q y (f4 q y hq h2) h1⟩⟩

