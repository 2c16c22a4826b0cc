/-! ROWS: an interface's default; the cache of Integers; a method overridden -/
section DROW
variable {G : fmG} {Γ : fmC} {cc : ByteArray} {nL : Nat} {own nm : String} {ret : Option FieldType} {RM : Room} {tb : List ExceptionTableEntry} {h : fmHp} {kc ks pc : Nat} {L : List (Option Value)} {st : List Value}
variable {y : MethodName} {bytes : ByteArray} {ml n index : Nat} {rt : Option FieldType} {rm : Room} {As : List Value} {b : Nat} {rest : List Value} {cpost : Option Value → fmHp → Prop} {cxp : Nat → String → fmHp → Prop} {hh : List (Nat × Nat × Nat × Nat)}
variable {ci N : Nat} {C : String} {T : u_T}
theorem fm_backD (E : fmE G Γ cc nL own nm ret RM tb) {len : Nat} (hC : Ct G y (ws_ y bytes ml rt) rm As h cpost fmNo) (hM : fmM y bytes ml rt n) (hf : rm.frames + 1 ≤ RM.frames) (hl : 8 + (ml + 11) + rm.locals ≤ RM.locals) : Jvm.Free.Back (fmLn G) Γ.R Γ.p Γ.e Γ.below Γ.s Γ.args y len 8 (PreOf Γ.R rm.cells rm.slots (fmPc G As h)) (PostOf (fmRc G cpost) rm.cells rm.slots (fmOld G)) := by
  intro m meth c A g ig mk a h1 h2 h3 h4 h5 h6 h7
  rcases fm_back (rm := rm) (n := n) E hC hM hf hl m meth c A g ig mk a h1 h2 h3 h4 h5 h6 h7 with q | ⟨q, B, hB, hp, hs⟩
  · exact q
  · obtain ⟨g', mk', t, Lc, Ex, ce, e1, e2, ⟨h', hx, hH⟩, -⟩ := hp
    exact hx.elim
theorem r_callD (E : fmE G Γ cc nL own nm ret RM tb) {x : MethodName} {count : Nat} {v1 : Value} (hC : Ct G y (ws_ y bytes ml rt) rm (.ref b :: As) h (fmRet (some v1) h) fmNo) (hM : fmM y bytes ml rt n) {b0 : Bool} {fs : List Value} (hc : vwCl[ci]? = some (C, T, N)) (he : h b = some (b0, .inr (.inl (ci, fs)))) (hF : (C, x, y) ∈ fmLd) (h1 : Cond.methodLink own index x ∈ lw_all) (h2 : Cond.instanceMethod y ∈ lw_all) (hx : (x.cls ≠ "java/lang/invoke/MethodHandle" ∧ x.cls ≠ "java/lang/invoke/VarHandle") ∧ (parseMethodDescriptor x.desc).map (fun d => d.parameters.length) = some n) (hn : As.length = n) (hst : st = As.reverse ++ .ref b :: rest) (hf : rm.frames + 1 ≤ RM.frames) (hl : 8 + (ml + 11) + rm.locals ≤ RM.locals) (hr : (rest.map fun v => v.category).sum ≤ 8) (d : decode cc pc = .ok (.invokeinterface index count, 5)) (kc' ks' : Nat) (hkc : kc' + rm.cells ≤ kc) (hks : ks' + rm.slots ≤ ks) (k : fmW G Γ h kc' ks' (pc + 5) L (v1 :: rest)) : fmW G Γ h kc ks pc L st := by
  intro H lo cx sx ls a1 a2 a3 a4 a5 Tt hT X
  have hr2 : 2 * (F0 Γ.m pc ls rest).monitorRoom + (rest.map fun v => v.category).sum ≤ 8 := by simpa [JFrame.monitorRoom] using hr
  obtain ⟨cB, g1, g2, g3⟩ := fm_rc a1 hc E.v he
  obtain ⟨w1, w2, w3, w4, w5⟩ := E.v.2.2.2.2.2.2.2.2.2.1 _ hF
  obtain ⟨hfc, kB, hkB, -⟩ := (E.v.1.1 ci _ hc).2
  have hcc := Option.some.inj (hfc.symm.trans g3)
  rw [hcc] at hkB
  have kk : ∀ (v : Option Value) (h' : fmHp), fmRet (some v1) h v h' → fmW G Γ h' kc' ks' (pc + 5) L (v.toList ++ rest) := fun v h' q => by obtain ⟨rfl, rfl⟩ := q; exact k
  have hvm := (State.WarmedH.refl Γ.s).alike
  have w4' : (Cond.landsInDefault C x y).before Γ.args Γ.s = true := (Cond.landsInDefault_setVm hvm (args' := Γ.args) (State.methodFound?_setVm hvm _ _ _)).trans w4
  refine fm_after (rm := rm) (cxp := fmNo) (a := (Value.ref b :: As).toArray) (fun v => rfl) rfl kc' ks' hkc hks a2 a3 a4 a5 kk (fun _ _ _ q => q.elim) (Or.inl ?_)
  obtain ⟨v, vm₁, B, q1, q2, q3, q4⟩ := Jvm.Stand.interfaceBackD X E.x (own := own) (C := C) E.xown (E.ts _ h1) (va_any rfl w1) (va_any rfl w2) w4' (E.ts _ h2) (va_any rfl w3) (va_any rfl w5) hx.1 (fm_backD (n := n) E hC hM hf hl) (b := b) (cB := cB.cls) g3 hkB ⟨cB, by rw [hT]; exact g1, rfl, g2⟩ (g := F0 Γ.m pc ls st) rfl a5.1 (s₀ := Tt.setTop (F0 Γ.m pc ls st)) (Steps.refl _) (argsL := As) (rest := rest) (fun sig hs => hn.trans (fm_len hx.2 sig hs)) hst hr2 (by rw [E.b]; exact d) (fun vm₁ hW₁ => fm_pre E hT hW₁ a1 (by omega) (by omega))
  exact ⟨v, vm₁, B, q1, q2, q3, fun target ht => q4.trans ht⟩
/-- a place of the cache of Integers -/
theorem r_aaldC (E : fmE G Γ cc nL own nm ret RM tb) {a n j : Nat} {b : Bool} {f : Nat → Option Nat} (he : h a = some (b, .inl (9, n, .inr (.inr (.inr (.inr f)))))) (hj : j < n) (hn : n < 2 ^ 31) (d : decode cc pc = .ok (.aaload, 1)) (k : fmW G Γ h kc ks (pc + 1) L (va_rf (f j) :: st)) : fmW G Γ h kc ks pc L (.int (nI j) :: .ref a :: st) := by
  intro H lo cx sx ls a1 a2 a3 a4 a5
  have hc : (nI j).toNatClampNeg = j := nI_clamp (Nat.lt_trans hj hn)
  refine W.aald (v := va_rf (f j)) (ty := .object "java/lang/Integer") E.x E.b (a1.1 _ _ _ he).1 (E.v.2.2.2.2.2.2.2.2.2.2 n (fun i => va_rf (f i))) rfl (fun q => by cases q) (by show ¬ (_ ∨ (arrV _ _ _).slots.size ≤ _); rw [arrV_size]; exact nI_in hj hn) (by show (arrV _ _ _).slots[_]? = _; rw [hc, arrV_read _ _ hj]) rfl rfl d (k H lo cx sx ls a1 a2 a3 a4 a5)
/-- a call of an abstract method that the receiver's class has made its own -/
theorem r_callO (E : fmE G Γ cc nL own nm ret RM tb) {x : MethodName} (hC : Ct G y (ws_ y bytes ml rt) rm (.ref b :: As) h cpost cxp) (hM : fmM y bytes ml rt n) {C : String} (hsame : Cond.sameMethod x.cls x.cls x.name x.desc ∈ lw_all) (hd0 : Cond.declares x ∈ lw_tbl) (hx : (x.cls ≠ "java/lang/invoke/MethodHandle" ∧ x.cls ≠ "java/lang/invoke/VarHandle") ∧ (parseMethodDescriptor x.desc).map (fun d => d.parameters.length) = some n) (h1 : Cond.methodLink own index x ∈ lw_all) (h2 : Cond.instanceMethod y ∈ lw_all) (h3 : Cond.selects C x y ∈ lw_all) (hv : ∀ H : Heap, fmH G h H → ∃ cell : Cell, H[b]? = some cell ∧ cell.vm.isStatics = false ∧ Γ.s.vm.findClass C = some cell.cls) (hn : As.length = n) (hst : st = As.reverse ++ .ref b :: rest) (hf : rm.frames + 1 ≤ RM.frames) (hl : 8 + (ml + 11) + rm.locals ≤ RM.locals) (hr : (rest.map fun v => v.category).sum ≤ 8) (d : decode cc pc = .ok (.invokevirtual index, 3)) (kc' ks' : Nat) (hkc : kc' + rm.cells ≤ kc) (hks : ks' + rm.slots ≤ ks) (kk : ∀ (v : Option Value) (h' : fmHp), cpost v h' → fmW G Γ h' kc' ks' (pc + 3) L (v.toList ++ rest)) (kx : ∀ (q : Nat) (Ex : String) (h' : fmHp), cxp q Ex h' → fmT G Γ h' kc' ks' pc L Ex q) : fmW G Γ h kc ks pc L st := by
  intro H lo cx sx ls a1 a2 a3 a4 a5 Tt hT X
  have hr2 : 2 * (F0 Γ.m pc ls rest).monitorRoom + (rest.map fun v => v.category).sum ≤ 8 := by simpa [JFrame.monitorRoom] using hr
  exact fm_after (rm := rm) (fun v => rfl) rfl kc' ks' hkc hks a2 a3 a4 a5 kk kx (by obtain ⟨cB, g1, g2, g3⟩ := hv H a1; exact vx_callVU X E.x (C := C) (owner := x.cls) (bytes := bytes) (maxL := ml) (ret := rt) E.xown (E.ts _ h1) (E.ts _ hsame) (va_Decl.abs (E.nw hd0 rfl)) hx.1 (E.ts _ h3) (E.ts _ h2) (E.ts _ hM.1) (fm_back E hC hM hf hl) (b := b) (cellB := cB) (by rw [hT]; exact g1) g2 g3 (g := F0 Γ.m pc ls st) rfl a5.1 (argsL := As) (rest := rest) (fun sig hs => hn.trans (fm_len hx.2 sig hs)) hst hr2 (by rw [E.b]; exact d) (fun vm₁ hW₁ => fm_pre E hT hW₁ a1 (by omega) (by omega)))
end DROW
