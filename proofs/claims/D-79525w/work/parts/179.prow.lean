/-! ROWS: a method of the superclass (super.m()); a private method on an object of a subclass -/
section PROW
variable {G : fmG} {Γ : fmC} {cc : ByteArray} {nL : Nat} {own nm : String} {ret : Option FieldType} {RM : Room} {tb : List ExceptionTableEntry} {h : fmHp} {kc ks pc : Nat} {L : List (Option Value)} {st : List Value}
variable {y : MethodName} {bytes : ByteArray} {ml n index : Nat} {rt : Option FieldType} {rm : Room} {As : List Value} {b : Nat} {rest : List Value} {cpost : Option Value → fmHp → Prop} {cxp : Nat → String → fmHp → Prop} {hh : List (Nat × Nat × Nat × Nat)}
variable {ci N : Nat} {C : String} {T : u_T}
theorem r_callU (E : fmE G Γ cc nL own nm ret RM tb) (hC : Ct G y (ws_ y bytes ml rt) rm (.ref b :: As) h cpost cxp) (hM : fmM y bytes ml rt n) (hy1 : y.name ≠ "<init>") (h1 : Cond.methodLink own index y ∈ lw_all) (h2 : Cond.instanceMethod y ∈ lw_all) (h3 : Cond.sameMethod y.cls y.cls y.name y.desc ∈ lw_all) (h4 : Cond.superclass own y.cls ∈ lw_all) {b0 : Bool} {fs : List Value} (hc : vwCl[ci]? = some (C, T, N)) (he : h b = some (b0, .inr (.inl (ci, fs)))) (hn : As.length = n) (hst : st = As.reverse ++ .ref b :: rest) (hf : rm.frames + 1 ≤ RM.frames) (hl : 8 + (ml + 11) + rm.locals ≤ RM.locals) (hr : (rest.map fun v => v.category).sum ≤ 8) (d : decode cc pc = .ok (.invokespecial index, 3)) (kc' ks' : Nat) (hkc : kc' + rm.cells ≤ kc) (hks : ks' + rm.slots ≤ ks) (kk : ∀ (v : Option Value) (h' : fmHp), cpost v h' → fmW G Γ h' kc' ks' (pc + 3) L (v.toList ++ rest)) (kx : ∀ (q : Nat) (Ex : String) (h' : fmHp), cxp q Ex h' → fmT G Γ h' kc' ks' pc L Ex q) : fmW G Γ h kc ks pc L st := by
  intro H lo cx sx ls a1 a2 a3 a4 a5 Tt hT X
  have hr2 : 2 * (F0 Γ.m pc ls rest).monitorRoom + (rest.map fun v => v.category).sum ≤ 8 := by simpa [JFrame.monitorRoom] using hr
  obtain ⟨cB, g1, g2, g3⟩ := fm_rc a1 hc E.v he
  obtain ⟨hfc, kB, hkB, -⟩ := (E.v.1.1 ci _ hc).2
  have hcc := Option.some.inj (hfc.symm.trans g3)
  rw [hcc] at hkB
  exact fm_after (rm := rm) (fun v => rfl) rfl kc' ks' hkc hks a2 a3 a4 a5 kk kx (vx_callSU X E.x (bytes := bytes) (maxL := ml) (ret := rt) E.xown (E.ts _ h1) (E.ts _ h3) (E.ts _ h4) (E.ts _ h2) (E.ts _ hM.1) hy1 (fm_back E hC hM hf hl) (b := b) (cellB := cB) (kB := kB) (by rw [hT]; exact g1) g2 hkB (g := F0 Γ.m pc ls st) rfl a5.1 (argsL := As) (rest := rest) (fun sig hs => hn.trans (fm_len hM.2.2 sig hs)) hst hr2 (by rw [E.b]; exact d) (fun vm₁ hW₁ => fm_pre E hT hW₁ a1 (by omega) (by omega)))
/-- own: the class of the private method; z: another method of it that the tables select -/
theorem r_callP (E : fmE G Γ cc nL own nm ret RM tb) (hC : Ct G y (ws_ y bytes ml rt) rm (.ref b :: As) h cpost cxp) (hM : fmM y bytes ml rt n) {z : MethodName} (h1 : Cond.methodLink own index y ∈ lw_all) (h2 : Cond.instanceMethod y ∈ lw_all) (h3 : Cond.privateMethod y ∈ lw_tbl) {C' : String} (h4 : Cond.selects C' z z ∈ lw_all) (hz : z.cls = y.cls) {b0 : Bool} {fs : List Value} (hc : vwCl[ci]? = some (C, T, N)) (he : h b = some (b0, .inr (.inl (ci, fs)))) (hn : As.length = n) (hst : st = As.reverse ++ .ref b :: rest) (hf : rm.frames + 1 ≤ RM.frames) (hl : 8 + (ml + 11) + rm.locals ≤ RM.locals) (hr : (rest.map fun v => v.category).sum ≤ 8) (d : decode cc pc = .ok (.invokevirtual index, 3)) (kc' ks' : Nat) (hkc : kc' + rm.cells ≤ kc) (hks : ks' + rm.slots ≤ ks) (kk : ∀ (v : Option Value) (h' : fmHp), cpost v h' → fmW G Γ h' kc' ks' (pc + 3) L (v.toList ++ rest)) (kx : ∀ (q : Nat) (Ex : String) (h' : fmHp), cxp q Ex h' → fmT G Γ h' kc' ks' pc L Ex q) : fmW G Γ h kc ks pc L st := by
  intro H lo cx sx ls a1 a2 a3 a4 a5 Tt hT X
  have hr2 : 2 * (F0 Γ.m pc ls rest).monitorRoom + (rest.map fun v => v.category).sum ≤ 8 := by simpa [JFrame.monitorRoom] using hr
  obtain ⟨cB, g1, g2, g3⟩ := fm_rc a1 hc E.v he
  refine fm_after (rm := rm) (a := (Value.ref b :: As).toArray) (fun v => rfl) rfl kc' ks' hkc hks a2 a3 a4 a5 kk kx ?_
  obtain ⟨mk, methM, hnamed, hmethM, hstM, habM⟩ := Cond.instanceMethod_spec (E.ts _ h2)
  obtain ⟨methM', cM, hmethM', -, -, -, -, -, -, hsigM⟩ := Cond.code_spec hnamed (E.ts _ hM.1)
  cases hmethM.symm.trans hmethM'
  obtain ⟨c2, r2, m2, q1, q2, q3, q4, kP, hkP, hkPi⟩ := Cond.selects_spec (E.ts _ h4)
  have hcl : m2.cls = mk.cls := by
    have e1 := findClass_of_methodNamed q3
    have e2 := findClass_of_methodNamed hnamed
    rw [hz] at e1
    exact Option.some.inj (e1.symm.trans e2)
  rw [hcl] at hkP
  have hselP : selectMethod Γ.e.platform Γ.s.vm cB.cls mk = .method mk := selectMethod_private hmethM (Cond.privateMethod_at ((E.nw h3 rfl).use rfl : (Cond.privateMethod y).before Γ.args Γ.s = true) mk methM hnamed hmethM)
  obtain ⟨vm₁, X₁, hstep₁⟩ := X.invokevirtual E.x E.xown (E.ts _ h1) hnamed hmethM hstM hkP hkPi hM.2.1 (a := b) (cell := cB) (by rw [hT]; exact g1)
    (fun z h => by rw [h] at g2; cases g2) hselP hmethM habM hkP hkPi (g := F0 Γ.m pc ls st) rfl (argsL := As) (rest := rest) (hn.trans (fm_len hM.2.2 _ hsigM)) hst (by rw [E.b]; exact d)
  rcases fm_back (rm := rm) (n := n) E hC hM hf hl Γ.m Γ.meth Γ.c ⟨Tt.setVm vm₁, lo, cx, sx⟩ { F0 Γ.m pc ls st with stack := rest } (.invokevirtual index) mk (Value.ref b :: As).toArray X₁ rfl a5.1 (by rw [E.b]; exact d) hr2 (X₁.named hnamed) (fm_pre E hT X₁.warmed a1 (by omega) (by omega)) with ⟨v, B, X', hpost, hsteps⟩ | ⟨q, B, X', hpost, hsteps⟩
  · exact Or.inl ⟨v, vm₁, B, X₁.warmed, X', hpost, fun target h => hstep₁ _ fun acts => by rw [doInvoke_state]; exact hsteps.trans h⟩
  · exact Or.inr ⟨q, vm₁, B, X₁.warmed, X', hpost, hstep₁ _ fun acts => by rw [doInvoke_state]; exact hsteps⟩
end PROW
