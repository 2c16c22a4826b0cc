/-! Z: the judgement with the heap's size known, for objects that are made side by side -/
def fmZ (G : fmG) (Γ : fmC) (h : fmHp) (z kc ks pc : Nat) (L : List (Option Value)) (st : List Value) : Prop :=
  ∀ (H : Heap) (locs : List Loc) (cells slots : Nat) (ls : Array Slot), fmH G h H → H.size = z → (∀ y ∈ locs, (fmK0 G).size ≤ y.base) → cells + kc ≤ Γ.R.cells → slots + ks ≤ Γ.R.slots → lv_has ls Γ.c.maxLocals (fmA 0 L) →
    W Γ.p (fmLn G) Γ.e Γ.R Γ.s Γ.m Γ.args Γ.below Γ.meth Γ.c H locs cells slots Γ.Q (F0 Γ.m pc ls st)
theorem fmZ.of {G : fmG} {Γ : fmC} {h : fmHp} {z kc ks pc : Nat} {L : List (Option Value)} {st : List Value} (k : fmW G Γ h kc ks pc L st) : fmZ G Γ h z kc ks pc L st := fun H lo c s ls a1 _ => k H lo c s ls a1
theorem z_hp {G : fmG} {Γ : fmC} {h h' : fmHp} {z kc ks pc : Nat} {L : List (Option Value)} {st : List Value} (e : h = h') (k : fmZ G Γ h' z kc ks pc L st) : fmZ G Γ h z kc ks pc L st := by rw [e]; exact k
def fmPcZ (G : fmG) (args : List Value) (h : fmHp) (z : Nat) : Array Value → State → Prop := fun a U => fmPc G args h a U ∧ U.heap.size = z
def CtZ (G : fmG) (y : MethodName) (ws : List Cond) (rm : Room) (args : List Value) (h : fmHp) (z : Nat) (post : Option Value → fmHp → Prop) (xp : Nat → String → fmHp → Prop) : Prop :=
  vx_Met (fmLn G) y ws rm (fmPcZ G args h z) (fmRc G post) (fmXc G xp) rm.cells rm.slots (fmOld G)
theorem fmPcZ.blind {G : fmG} {args : List Value} {h : fmHp} {z : Nat} : FrameBlind (fmPcZ G args h z) := fun a U g mk q => ⟨fmPc.blind a U g mk q.1, q.2⟩
theorem CtZ.of {G : fmG} {y : MethodName} {cc : ByteArray} {nL : Nat} {ret : Option FieldType} {rm : Room} {args : List Value} {h : fmHp} {z : Nat} {post : Option Value → fmHp → Prop} {xp : Nat → String → fmHp → Prop} (hl : (fmLn G).stackTraces = false) (hy : plainName y.cls = true) (hn : (lg_sl args).length ≤ nL)
    (body : ∀ Γ : fmC, fmE G Γ cc nL y.cls y.name ret rm [] → fmP G Γ post xp → fmZ G Γ h z rm.cells rm.slots 0 (fmIn args ++ List.replicate (nL - (fmIn args).length) none) []) : CtZ G y (ws_ y cc nL ret) rm args h z post xp := by
  have hw : ∀ (args' : Array Value) (s : State) (m : MethodId), (headSpec (ws_ y cc nL ret) rm).pre.before args' s = true → s.methodNamed? y = some m → ∃ meth c, s.vm.method? m = some meth ∧ meth.code = some c ∧ c.code = cc ∧ c.maxLocals = nL ∧ meth.sig.returnType = ret ∧ meth.locks = false ∧ c.exceptionTable.isEmpty = true := by
    intro args' s m h hn
    obtain ⟨meth, c, h1, h2, h3, h4, h5, h6, h7, -⟩ := Cond.code_spec hn (atoms_spec (ws := ws_ y cc nL ret) h _ List.mem_cons_self)
    exact ⟨meth, c, h1, h2, h3, h4, h5, h6, h7⟩
  refine fmFree.of_body (code := cc) (maxLocals := nL) (ret := ret) hy (fun args' s m h hn => by obtain ⟨a, b, h1, h2, h3, h4, h5, h6, -⟩ := hw args' s m h hn; exact ⟨a, b, h1, h2, h3, h4, h5, h6⟩) ?_
  intro p e s m av below meth c s₁ Bx Bb hml Br Bl Bn Bm Bp hh0 X hv
  obtain ⟨⟨rfl, hV, hH⟩, hz⟩ := hv
  have hts := atoms_spec (ws := ws_ y cc nL ret) Bp
  have hE : fmE G (p, e, rm, s, m, args.toArray, below, meth, c, vx_MQ below (fmRc G post) (fmXc G xp) args.toArray s rm.cells rm.slots (fmOld G)) cc nL y.cls y.name ret rm [] :=
    ⟨Bx, Bb, hml, findClass_of_methodNamed Bn, Br, Bl, (name_of_methodNamed Bn Bm).1, fun w h => hts w (List.mem_cons_of_mem _ h), hV, by
      obtain ⟨meth9, c9, h1, h2, -, -, -, -, h7⟩ := hw _ s m Bp Bn
      cases Option.some.inj (h1.symm.trans Bm)
      cases Option.some.inj (h2.symm.trans X.code)
      show c.exceptionTable.toList = []
      rw [Array.isEmpty_iff.mp h7], rfl, hl, hH.2⟩
  have k := body _ hE rfl s.heap [] 0 0 ((lg_sl args ++ List.replicate (nL - (lg_sl args).length) Slot.unset).toArray) hH hz (fun _ h => by cases h) (Nat.le_of_eq (Nat.zero_add _)) (Nat.le_of_eq (Nat.zero_add _)) (by
    show lv_has _ c.maxLocals _
    rw [hml]
    have h1 := lv_entry args (n := nL) hn
    refine ⟨h1.1, h1.2.1, fun q hq => h1.2.2 q ?_⟩
    rw [← fmA_in_args args 0]
    obtain ⟨j, w⟩ := q
    obtain ⟨k, hk, hw⟩ := fmA_of _ _ _ _ hq
    rw [Nat.zero_add] at hk
    subst hk
    by_cases hlt : j < (fmIn args).length
    · rw [List.getElem?_append_left hlt] at hw
      have h3 := fmA_in (fmIn args) 0 j w hw
      rwa [Nat.zero_add] at h3
    · rw [List.getElem?_append_right (Nat.not_lt.mp hlt)] at hw
      have := List.eq_of_mem_replicate (List.mem_of_getElem? hw)
      cases this)
  obtain ⟨t, a1, o, b1, b2, b3⟩ := k s₁ hh0 X
  rw [← lg_entry_eq] at a1
  exact ⟨t, o, a1, b1, b2, b3⟩
theorem fm_outer (c : ClassId) (N h0 : Nat) : ∀ i, ∃ f : Nat → Value, Jvm.Free.Multi.outerC c N h0 i = arrV c N f
  | 0 => ⟨fun _ => .null, arrV_new c N .null⟩
  | i + 1 => by
    obtain ⟨f, hf⟩ := fm_outer c N h0 i
    exact ⟨_, by unfold Jvm.Free.Multi.outerC; rw [hf]; exact arrV_store c N i f _⟩
theorem fm_cell {c : ClassId} {N h0 : Nat} : Jvm.Free.Multi.outerC c N h0 N = arrV c N (fun j => va_rf (some (h0 + 1 + j))) := by
  obtain ⟨f, hf⟩ := fm_outer c N h0 N
  rw [hf]
  refine arrV_eq (fun j hj => ?_)
  have h1 := Jvm.Free.Multi.outerC_slot c N h0 N j hj
  rw [hf, arrV_read _ _ hj, if_pos hj] at h1
  exact Option.some.inj h1
section ROWZ
variable {G : fmG} {Γ : fmC} {cc : ByteArray} {nL : Nat} {own nm : String} {ret : Option FieldType} {RM : Room} {tb : List ExceptionTableEntry} {h : fmHp} {z kc ks pc : Nat} {L : List (Option Value)} {st : List Value}
variable {ci : Nat} {C : String} {T : u_T} {N : Nat} {ty : Nat → FieldType}
theorem z_iconst (E : fmE G Γ cc nL own nm ret RM tb) {n : Int} (v : Int32) (d : decode cc pc = .ok (.iconst n, 1)) (hv : Int32.ofInt n = v) (k : fmZ G Γ h z kc ks (pc + 1) L (.int v :: st)) : fmZ G Γ h z kc ks pc L st := by
  intro H lo cx sx ls a1 az a2 a3 a4 a5
  exact lv_iconst E.x E.b d hv (k H lo cx sx ls a1 az a2 a3 a4 a5)
theorem z_bipush (E : fmE G Γ cc nL own nm ret RM tb) {n : Int} (v : Int32) (d : decode cc pc = .ok (.bipush n, 2)) (hv : (Int8.ofInt n).toInt32 = v) (k : fmZ G Γ h z kc ks (pc + 2) L (.int v :: st)) : fmZ G Γ h z kc ks pc L st := by
  intro H lo cx sx ls a1 az a2 a3 a4 a5
  exact lv_bipush E.x E.b d hv (k H lo cx sx ls a1 az a2 a3 a4 a5)
theorem z_sipush (E : fmE G Γ cc nL own nm ret RM tb) {n : Int} (v : Int32) (d : decode cc pc = .ok (.sipush n, 3)) (hv : (Int16.ofInt n).toInt32 = v) (k : fmZ G Γ h z kc ks (pc + 3) L (.int v :: st)) : fmZ G Γ h z kc ks pc L st := by
  intro H lo cx sx ls a1 az a2 a3 a4 a5
  exact lv_sipush E.x E.b d hv (k H lo cx sx ls a1 az a2 a3 a4 a5)
theorem z_aload_n (E : fmE G Γ cc nL own nm ret RM tb) {j : Fin 4} {x : Nat} (d : decode cc pc = .ok (.aload_n j, 1)) (hL : L[(j : Nat)]? = some (some (.ref x))) (k : fmZ G Γ h z kc ks (pc + 1) L (.ref x :: st)) : fmZ G Γ h z kc ks pc L st := by
  intro H lo cx sx ls a1 az a2 a3 a4 a5
  exact lv_aload_n E.x E.b d rfl (fm_ld a5 hL) (k H lo cx sx ls a1 az a2 a3 a4 a5)
theorem z_dup (E : fmE G Γ cc nL own nm ret RM tb) {va : Value} (d : decode cc pc = .ok (.dup, 1)) (h1 : va.category = 1) (k : fmZ G Γ h z kc ks (pc + 1) L (va :: va :: st)) : fmZ G Γ h z kc ks pc L (va :: st) := by
  intro H lo cx sx ls a1 az a2 a3 a4 a5
  exact lv_dup E.x E.b d h1 (k H lo cx sx ls a1 az a2 a3 a4 a5)
theorem z_objInit (E : fmE G Γ cc nL own nm ret RM tb) {index a : Nat} (hlink : Cond.methodLink own index Lib.objectInit ∈ lw_all) (h2 : Cond.instanceMethod Lib.objectInit ∈ lw_all) (h3 : Cond.code Lib.objectInit ⟨#[0xb1]⟩ 1 none ∈ lw_all) (d : decode cc pc = .ok (.invokespecial index, 3)) (hf : 1 ≤ RM.frames) (hl : (st.map fun v => v.category).sum + 12 ≤ RM.locals) (k : fmZ G Γ h z kc ks (pc + 3) L st) : fmZ G Γ h z kc ks pc L (.ref a :: st) := by
  intro H lo cx sx ls a1 az a2 a3 a4 a5
  exact W.objInit E.x E.b E.xown (E.ts _ hlink) (E.ts _ h2) (E.ts _ h3) rfl a5.1 rfl d (by rw [E.R]; exact hf) (by rw [E.R]; simpa [JFrame.monitorRoom] using hl) (k H lo cx sx ls a1 az a2 a3 a4 a5)
theorem z_putf (E : fmE G Γ cc nL own nm ret RM tb) {index : Nat} {a : Nat} {fs : List Value} {v : Value} {ref : String} (cl : fmCl ci C T N ty) (f : Nat) (hf : f < N) (hfin : (T f).2.2.2 = false) (hlink : Cond.fieldLink own index ref (T f).2.1 (T f).2.2.1 ∈ lw_all) (hsame : ∀ x, Γ.s.fieldFound? (T f).1 (T f).2.1 (T f).2.2.1 = some x → Γ.s.fieldFound? ref (T f).2.1 (T f).2.2.1 = some x) (he : h a = some (true, .inr (.inl (ci, fs)))) (hl : f < fs.length) (hn : narrow (ty f) v = v) (hfit : fits (ty f) v = true) (d : decode cc pc = .ok (.putfield index, 3)) (k : fmZ G Γ (fmUp h a (true, .inr (.inl (ci, fs.set f v)))) z kc ks (pc + 3) L st) : fmZ G Γ h z kc ks pc L (v :: .ref a :: st) := by
  intro H lo cx sx ls a1 az a2 a3 a4 a5
  obtain ⟨r, h1, cell, q1, q2, q3, q4⟩ := (a1.1 _ _ _ he).1
  have hr : r = (C, T, N) := Option.some.inj (h1.symm.trans cl.1)
  subst hr
  obtain ⟨hS, hfc, kC, hkC, hkind⟩ := E.v.1.1 ci _ cl.1
  obtain ⟨cf, kf, fi, fd, hi, hsl⟩ := hS f hf
  have hlay := E.ts _ (cl.2.1 _ (u_in_lay hf))
  unfold u_lay at hlay
  rw [if_neg (by rw [hfin]; decide)] at hlay
  have hst := (u_facts hfc hkC (u_lays E.ts cl.2.1 hf) hi).1
  have h6 := u_store hfc hkC hkind hlay hi (cl.2.2.1 f hf) hn hfit
  refine W.putK E.x E.b (f := fd) ⟨E.xown, E.ts _ hlink, ⟨_, _, _, hsame _ hi⟩, hst⟩ (by rw [q2]; exact h6) q1 q3 (by rw [hsl]; exact k2_hasslot (q4 f hf)) rfl rfl d fun H' e1 e2 e3 => ?_
  rw [hsl] at e1 ⊢
  exact k H' _ cx sx ls (fm_puts own E.ts E.v cl hf hl a1 he q1 q2 q3 q4 e1 e2 e3) (e2.trans az) (fun z hz => (List.mem_append.mp hz).elim (a2 z) (fun hz => by rw [List.mem_singleton.mp hz]; exact (a1.1 _ _ _ he).2 rfl)) a3 a4 a5
theorem z_putfF (E : fmE G Γ cc nL own nm ret RM tb) {index : Nat} {a : Nat} {fs : List Value} {v : Value} {ref : String} (cl : fmCl ci C T N ty) (f : Nat) (hf : f < N) (hfin : (T f).2.2.2 = true) (hin2 : nm = "<init>") (hdecl : (T f).1 = own) (hlink : Cond.fieldLink own index ref (T f).2.1 (T f).2.2.1 ∈ lw_all) (hsame : ∀ x, Γ.s.fieldFound? (T f).1 (T f).2.1 (T f).2.2.1 = some x → Γ.s.fieldFound? ref (T f).2.1 (T f).2.2.1 = some x) (he : h a = some (true, .inr (.inl (ci, fs)))) (hl : f < fs.length) (hn : narrow (ty f) v = v) (hfit : fits (ty f) v = true) (d : decode cc pc = .ok (.putfield index, 3)) (k : fmZ G Γ (fmUp h a (true, .inr (.inl (ci, fs.set f v)))) z kc ks (pc + 3) L st) : fmZ G Γ h z kc ks pc L (v :: .ref a :: st) := by
  intro H lo cx sx ls a1 az a2 a3 a4 a5
  obtain ⟨r, h1, cell, q1, q2, q3, q4⟩ := (a1.1 _ _ _ he).1
  have hr : r = (C, T, N) := Option.some.inj (h1.symm.trans cl.1)
  subst hr
  obtain ⟨hS, hfc, kC, hkC, hkind⟩ := E.v.1.1 ci _ cl.1
  obtain ⟨cf, kf, fi, fd, hi, hsl⟩ := hS f hf
  have hlay := E.ts _ (cl.2.1 _ (u_in_lay hf))
  unfold u_lay at hlay
  rw [if_pos hfin] at hlay
  have hst := (u_facts hfc hkC (u_lays E.ts cl.2.1 hf) hi).1
  have hcf : Γ.m.cls = cf := by
    obtain ⟨_, _, c', _, _, _, -, -, hf', -, -, -, hown2, -⟩ := Cond.laysFinal_spec hlay
    have e1 : c' = cf := by have := hi.symm.trans hf'; simp at this; exact this.1.symm
    rw [hdecl] at hown2
    rw [← e1]; exact Option.some.inj (E.xown.symm.trans hown2)
  have h6 := u_fits hfc hkC hkind (Or.inr hlay) hi (cl.2.2.1 f hf) hn hfit
  refine W.putFinK E.x E.b E.xown (E.ts _ hlink) (hsame _ hi) hst hcf (E.xnm.trans hin2) (by rw [q2]; exact h6) q1 q3 (by rw [hsl]; exact k2_hasslot (q4 f hf)) rfl rfl d fun H' e1 e2 e3 => ?_
  rw [hsl] at e1 ⊢
  exact k H' _ cx sx ls (fm_puts own E.ts E.v cl hf hl a1 he q1 q2 q3 q4 e1 e2 e3) (e2.trans az) (fun z hz => (List.mem_append.mp hz).elim (a2 z) (fun hz => by rw [List.mem_singleton.mp hz]; exact (a1.1 _ _ _ he).2 rfl)) a3 a4 a5
theorem z_newa (E : fmE G Γ cc nL own nm ret RM tb) {at_ : ArrayType} {n : Nat} (t : Nat) (a0 : (Nat → Int32) ⊕ (Nat → Int64) ⊕ (Nat → UInt32) ⊕ (Nat → UInt64) ⊕ (Nat → Option Nat)) (ht : fmTy[t]? = some (newarray.typeOf at_)) (ha0 : ∀ cA : ClassId, vp_cell cA (n, a0) = arrV cA n (fun _ => defaultValue (newarray.typeOf at_))) (hw : Cond.arrayClass (newarray.typeOf at_) ∈ lw_all) (hnm : va_RA Γ.s (G.2.1 t) (newarray.typeOf at_) → Γ.s.vm.findClass ("[" ++ (newarray.typeOf at_).toString) = some (G.2.1 t)) (hn : n < 2 ^ 31) (hby : n * componentBytes (newarray.typeOf at_) ≤ 536870912) (kc' ks' : Nat) (hkc : kc' + 1 ≤ kc) (hks : ks' + n ≤ ks) (d : decode cc pc = .ok (.newarray at_, 2)) (k : h z = none → (fmK0 G).size ≤ z → fmZ G Γ (fmUp h z (true, .inl (t, n, a0))) (z + 1) kc' ks' (pc + 2) L (.ref z :: st)) : fmZ G Γ h z kc ks pc L (.int (nI n) :: st) := by
  intro H lo cx sx ls a1 az a2 a3 a4 a5
  subst az
  refine va_newaK E.x E.b (E.ts _ hw) rfl d rfl (nI_pos hn) (nI_clamp hn) hby (by omega) (by omega) rfl fun H1 cA e1 z1 o1 _ hNm => ?_
  have hcA : cA = G.2.1 t := Option.some.inj (hNm.symm.trans (hnm (fm_ty E.v ht).2))
  subst hcA
  exact k a1.none a1.2.1 H1 lo (cx + 1) (sx + n) ls (a1.up (by show H1[_]? = some (vp_cell _ _); rw [ha0]; exact e1) a1.2.1 (by omega) (fun q hq _ => o1 q hq)) z1 a2 (by omega) (by omega) a5
theorem r_newZ (E : fmE G Γ cc nL own nm ret RM tb) {index : Nat} (cl : fmCl ci C T N ty) (fs : List Value) (hlink : Cond.classLink own index C ∈ lw_all) (hins : Cond.instantiable C N ∈ lw_all) (hini : Cond.initialized C ∈ lw_all) (hfs : ∀ j, j < N → defaultValue (ty j) = vp_V fs j) (kc' ks' : Nat) (hkc : kc' + 1 ≤ kc) (hks : ks' + N ≤ ks) (d : decode cc pc = .ok (.new index, 3)) (k : ∀ a : Nat, h a = none → (fmK0 G).size ≤ a → fmZ G Γ (fmUp h a (true, .inr (.inl (ci, fs)))) (a + 1) kc' ks' (pc + 3) L (.ref a :: st)) : fmW G Γ h kc ks pc L st := by
  intro H lo cx sx ls a1 a2 a3 a4 a5
  have hKn := E.v.1.1 ci _ cl.1
  refine W.newcK E.x E.b E.xown (E.ts _ hlink) (E.ts _ hins) (E.ts _ hini) rfl d (by omega) (by omega) hKn.2.1 rfl fun H1 kC hkC e1 z1 o1 => ?_
  exact k H.size a1.none a1.2.1 H1 lo (cx + 1) (sx + N) ls (a1.up ⟨_, cl.1, (u_born ty E.ts cl.2.1 hKn hkC e1 cl.2.2.1).to hfs⟩ a1.2.1 (by omega) (fun q hq _ => o1 q hq)) z1 a2 (by omega) (by omega) a5
variable {y : MethodName} {bytes : ByteArray} {ml n index : Nat} {rt : Option FieldType} {rm : Room} {As : List Value} {b : Nat} {rest : List Value} {cpost : Option Value → fmHp → Prop} {cxp : Nat → String → fmHp → Prop}
theorem z_callI (E : fmE G Γ cc nL own nm ret RM tb) (hC : CtZ G y (ws_ y bytes ml none) rm (.ref b :: As) h z cpost cxp) (hM : fmM y bytes ml none n) (hy1 : y.name = "<init>") (h1 : Cond.methodLink own index y ∈ lw_all) (h2 : Cond.instanceMethod y ∈ lw_all) (hn : As.length = n) (hst : st = As.reverse ++ .ref b :: rest) (hf : rm.frames + 1 ≤ RM.frames) (hl : 8 + (ml + 11) + rm.locals ≤ RM.locals) (hr : (rest.map fun v => v.category).sum ≤ 8) (d : decode cc pc = .ok (.invokespecial index, 3)) (kc' ks' : Nat) (hkc : kc' + rm.cells ≤ kc) (hks : ks' + rm.slots ≤ ks) (kk : ∀ (v : Option Value) (h' : fmHp), cpost v h' → fmW G Γ h' kc' ks' (pc + 3) L (v.toList ++ rest)) (kx : ∀ (q : Nat) (Ex : String) (h' : fmHp), cxp q Ex h' → fmT G Γ h' kc' ks' pc L Ex q) : fmZ G Γ h z kc ks pc L st := by
  intro H lo cx sx ls a1 az a2 a3 a4 a5 Tt hT X
  have hr2 : 2 * (F0 Γ.m pc ls rest).monitorRoom + (rest.map fun v => v.category).sum ≤ 8 := by simpa [JFrame.monitorRoom] using hr
  exact fm_after (rm := rm) (fun v => rfl) rfl kc' ks' hkc hks a2 a3 a4 a5 kk kx (vx_callI X E.x (bytes := bytes) (maxL := ml) E.xown hy1 (E.ts _ h1) (E.ts _ h2) (E.ts _ hM.1) hM.2.1 (vx_back (bytes := bytes) (maxL := ml) (ret := none) hC fmPcZ.blind rfl rfl (by rw [E.R]; exact hf) (by rw [E.R]; exact hl) (pay_in E.ts (lw_meth hM.1)) List.mem_cons_self) (g := F0 Γ.m pc ls st) rfl a5.1 (a := b) (argsL := As) (rest := rest) (fun sig hs => hn.trans (fm_len hM.2.2 sig hs)) hst hr2 (by rw [E.b]; exact d) (fun vm₁ hW₁ => ⟨by show cx + rm.cells ≤ _; omega, by show sx + rm.slots ≤ _; omega, ⟨rfl, E.v.warm (U := Tt.setVm vm₁) hW₁, by rw [← hT] at a1; exact a1⟩, by rw [← hT] at az; exact az⟩))
/-- an array of arrays of numbers: itself at z, its rows behind it -/
def fmRows (h : fmHp) (z n k : Nat) : fmHp := fun q => if q = z then some (true, .inl (8, n, .inr (.inr (.inr (.inr (fun i => some (z + 1 + i))))))) else if z + 1 ≤ q ∧ q < z + 1 + n then some (true, .inl (0, k, .inl (fun _ => 0))) else h q
theorem z_mnewa (E : fmE G Γ cc nL own nm ret RM tb) {n k' : Nat} (hlink : Cond.classLink own index "[[I" ∈ lw_all) (hov : (Cond.arrayOver (.array .int)) ∈ lw_tbl) (hac : (Cond.arrayClass .int) ∈ lw_all) (hn : n ≤ 1000) (hk : k' ≤ 1000) (kc' ks' : Nat) (hkc : kc' + (1 + n) ≤ kc) (hks : ks' + (n + n * k') ≤ ks) (d : decode cc pc = .ok (.multianewarray index 2, 4)) (k : (fmK0 G).size ≤ z → fmZ G Γ (fmRows h z n k') (z + 1 + n) kc' ks' (pc + 4) L (.ref z :: st)) : fmZ G Γ h z kc ks pc L (.int (nI k') :: .int (nI n) :: st) := by
  intro H lo cx sx ls a1 az a2 a3 a4 a5 Tt hT X
  have en : (nI n).toNatClampNeg = n := nI_clamp (by omega)
  have ek : (nI k').toNatClampNeg = k' := nI_clamp (by omega)
  have hcb : componentBytes FieldType.int = 4 := rfl
  obtain ⟨vm₁, cA, comp, hW, hfA, hfC, hO, hI, X1, stp⟩ := X.multianewarray2F E.x (own := own) (index := index) (ty := .int) E.xown (E.ts _ hlink) (show (Cond.arrayOver (.array .int)).before Γ.args Γ.s = true from E.nw hov rfl) (E.ts _ hac) (g := F0 Γ.m pc ls (.int (nI k') :: .int (nI n) :: st)) rfl (by rw [E.b]; exact d) (n := nI n) (k := nI k') (rest := st) rfl (nI_pos (by omega)) (nI_pos (by omega)) (by rw [en]; omega) (by rw [ek, hcb]; omega) (by rw [ek]; omega) rfl rfl (by rw [en]; omega) (by rw [en, ek]; omega)
  rw [en, ek] at X1 stp
  have hA : cA = G.2.1 8 := Option.some.inj (hfA.symm.trans (fm_ty E.v (t := 8) (y := .array .int) rfl).2)
  have hCm : comp = G.2.1 0 := Option.some.inj (hfC.symm.trans (fm_ty E.v (t := 0) (y := .int) rfl).2)
  subst hA
  subst hCm
  obtain ⟨f1, f2, f3⟩ := Jvm.Free.Multi.fill_facts (Tt.setVm vm₁) (G.2.1 8) (G.2.1 0) n k' (defaultValue FieldType.int) n
  have fo := fun (a : Addr) (ha : a < Tt.heap.size) => Jvm.Free.Multi.fill_old (Tt.setVm vm₁) (G.2.1 8) (G.2.1 0) n k' (defaultValue FieldType.int) (a := a) ha n
  have fi := fun (j : Nat) (hj : j < n) => Jvm.Free.Multi.fill_inner (Tt.setVm vm₁) (G.2.1 8) (G.2.1 0) n k' (defaultValue FieldType.int) n j hj
  have hsz : (Tt.setVm vm₁).heap.size = z := by rw [← az, ← hT]; rfl
  rw [hsz] at f1 f2 fi
  have hst : Tt.heap.size = z := by rw [hT]; exact az
  rw [hst] at stp fo
  have hfo : ∀ q, q < z → (Jvm.Free.Multi.fill (Tt.setVm vm₁) (G.2.1 8) (G.2.1 0) n k' (defaultValue FieldType.int) n).heap[q]? = H[q]? := fun q hq => by rw [fo q hq, ← hT]; rfl
  have hz0 : (fmK0 G).size ≤ z := by rw [← az]; exact a1.2.1
  obtain ⟨t, b1, b2⟩ := k hz0 _ lo (cx + 1 + n) (sx + n + n * k') ls (by
    refine ⟨fun q b x hq => ?_, by rw [f1]; omega, fun q hq => ?_⟩
    · unfold fmRows at hq
      by_cases h1 : q = z
      · rw [if_pos h1] at hq
        cases hq
        subst h1
        refine ⟨?_, fun _ => hz0⟩
        show _ = some (arrV (G.2.1 8) n (fun j => va_rf (some (q + 1 + j))))
        rw [f2, fm_cell]
      · rw [if_neg h1] at hq
        by_cases h2 : z + 1 ≤ q ∧ q < z + 1 + n
        · rw [if_pos h2] at hq
          cases hq
          refine ⟨?_, fun _ => by omega⟩
          have h3 := fi (q - (z + 1)) (by omega)
          rw [show z + 1 + (q - (z + 1)) = q by omega] at h3
          show _ = some (arrV (G.2.1 0) k' (fun _ => .int 0))
          rw [h3]
          exact congrArg some (arrV_new (G.2.1 0) k' (.int 0))
        · rw [if_neg h2] at hq
          obtain ⟨h3, h4⟩ := a1.1 q b x hq
          exact ⟨h3.kept (hfo q (by rw [← az]; exact h3.lt)), h4⟩
    · rw [hfo q (by omega)]
      exact a1.2.2 q hq) f1 a2 (by omega) (by omega) a5 _ rfl X1
  exact ⟨t, stp t b1, b2⟩
end ROWZ
