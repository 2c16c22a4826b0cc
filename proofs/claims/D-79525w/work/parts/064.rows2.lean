/-! BASE 3: rows of the judgement, calls, exceptions, ends -/
section ROWS2
variable {G : fmG} {Γ : fmC} {cc : ByteArray} {nL : Nat} {own nm : String} {ret : Option FieldType} {RM : Room} {tb : List ExceptionTableEntry} {h : fmHp} {kc ks pc : Nat} {L : List (Option Value)} {st : List Value}
variable {ci : Nat} {C : String} {T : u_T} {N : Nat} {ty : Nat → FieldType}
theorem r_bast (E : fmE G Γ cc nL own nm ret RM tb) {a n j : Nat} {f : Nat → Int32} {x : Int32} (he : h a = some (true, .inl (3, n, .inl f))) (hj : j < n) (hn : n < 2 ^ 31) (d : decode cc pc = .ok (.bastore, 1)) (k : fmW G Γ (fmUp h a (true, .inl (3, n, .inl (upd f j (x.toInt8.toInt32))))) kc ks (pc + 1) L st) : fmW G Γ h kc ks pc L (.int (x) :: .int (nI j) :: .ref a :: st) := by
  intro H lo cx sx ls a1 a2 a3 a4 a5
  have hc : (nI j).toNatClampNeg = j := nI_clamp (Nat.lt_trans hj hn)
  refine W.bast E.x E.b (a1.1 _ _ _ he).1 ((fm_ty E.v (t := 3) rfl).1 n (fun i => .int (f i))) (fun q => by cases q) (by show ¬ (_ ∨ (arrV _ _ _).slots.size ≤ _); rw [arrV_size]; exact nI_in hj hn) rfl rfl d fun H1 e z oq => ?_
  refine k H1 _ cx sx ls (a1.up ?_ ((a1.1 _ _ _ he).2 rfl) (Nat.le_of_eq z.symm) (fun q _ hq => oq q hq)) (fun z hz => (List.mem_append.mp hz).elim (a2 z) (fun hz => by rw [List.mem_singleton.mp hz]; exact (a1.1 _ _ _ he).2 rfl)) a3 a4 a5
  show H1[a]? = some (vp_cell _ _)
  rw [e, hc]
  rw [show narrow .byte (.int x) = .int x.toInt8.toInt32 from rfl]
  show some ((arrV (G.2.1 3) n (fun i => .int (f i))).setSlot j (.int (x.toInt8.toInt32))) = some (arrV (G.2.1 3) n (fun i => .int (upd f j (x.toInt8.toInt32) i)))
  rw [arrV_store]
  congr 2
  funext q
  by_cases hq : q = j
  · subst hq
    simp [updV, upd]
  · simp [updV, upd, hq]
theorem r_cast (E : fmE G Γ cc nL own nm ret RM tb) {a n j : Nat} {f : Nat → Int32} {x : Int32} (he : h a = some (true, .inl (4, n, .inl f))) (hj : j < n) (hn : n < 2 ^ 31) (d : decode cc pc = .ok (.castore, 1)) (k : fmW G Γ (fmUp h a (true, .inl (4, n, .inl (upd f j ((x.toUInt32 % 65536).toInt32))))) kc ks (pc + 1) L st) : fmW G Γ h kc ks pc L (.int (x) :: .int (nI j) :: .ref a :: st) := by
  intro H lo cx sx ls a1 a2 a3 a4 a5
  have hc : (nI j).toNatClampNeg = j := nI_clamp (Nat.lt_trans hj hn)
  refine W.cast E.x E.b (a1.1 _ _ _ he).1 ((fm_ty E.v (t := 4) rfl).1 n (fun i => .int (f i))) (fun q => by cases q) (by show ¬ (_ ∨ (arrV _ _ _).slots.size ≤ _); rw [arrV_size]; exact nI_in hj hn) rfl rfl d fun H1 e z oq => ?_
  refine k H1 _ cx sx ls (a1.up ?_ ((a1.1 _ _ _ he).2 rfl) (Nat.le_of_eq z.symm) (fun q _ hq => oq q hq)) (fun z hz => (List.mem_append.mp hz).elim (a2 z) (fun hz => by rw [List.mem_singleton.mp hz]; exact (a1.1 _ _ _ he).2 rfl)) a3 a4 a5
  show H1[a]? = some (vp_cell _ _)
  rw [e, hc]
  rw [show narrow .char (.int x) = .int (x.toUInt32 % 65536).toInt32 from rfl]
  show some ((arrV (G.2.1 4) n (fun i => .int (f i))).setSlot j (.int ((x.toUInt32 % 65536).toInt32))) = some (arrV (G.2.1 4) n (fun i => .int (upd f j ((x.toUInt32 % 65536).toInt32) i)))
  rw [arrV_store]
  congr 2
  funext q
  by_cases hq : q = j
  · subst hq
    simp [updV, upd]
  · simp [updV, upd, hq]
theorem r_zast (E : fmE G Γ cc nL own nm ret RM tb) {a n j : Nat} {f : Nat → Int32} {x : Bool} (he : h a = some (true, .inl (5, n, .inl f))) (hj : j < n) (hn : n < 2 ^ 31) (d : decode cc pc = .ok (.bastore, 1)) (k : fmW G Γ (fmUp h a (true, .inl (5, n, .inl (upd f j (bI x))))) kc ks (pc + 1) L st) : fmW G Γ h kc ks pc L (.int (bI x) :: .int (nI j) :: .ref a :: st) := by
  intro H lo cx sx ls a1 a2 a3 a4 a5
  have hc : (nI j).toNatClampNeg = j := nI_clamp (Nat.lt_trans hj hn)
  refine W.zast E.x E.b (a1.1 _ _ _ he).1 ((fm_ty E.v (t := 5) rfl).1 n (fun i => .int (f i))) (fun q => by cases q) (by show ¬ (_ ∨ (arrV _ _ _).slots.size ≤ _); rw [arrV_size]; exact nI_in hj hn) rfl rfl d fun H1 e z oq => ?_
  refine k H1 _ cx sx ls (a1.up ?_ ((a1.1 _ _ _ he).2 rfl) (Nat.le_of_eq z.symm) (fun q _ hq => oq q hq)) (fun z hz => (List.mem_append.mp hz).elim (a2 z) (fun hz => by rw [List.mem_singleton.mp hz]; exact (a1.1 _ _ _ he).2 rfl)) a3 a4 a5
  show H1[a]? = some (vp_cell _ _)
  rw [e, hc]
  rw [bI_n]
  show some ((arrV (G.2.1 5) n (fun i => .int (f i))).setSlot j (.int (bI x))) = some (arrV (G.2.1 5) n (fun i => .int (upd f j (bI x) i)))
  rw [arrV_store]
  congr 2
  funext q
  by_cases hq : q = j
  · subst hq
    simp [updV, upd]
  · simp [updV, upd, hq]
theorem r_alen (E : fmE G Γ cc nL own nm ret RM tb) {a t n : Nat} {b : Bool} {y : FieldType} {x : (Nat → Int32) ⊕ (Nat → Int64) ⊕ (Nat → UInt32) ⊕ (Nat → UInt64) ⊕ (Nat → Option Nat)} (he : h a = some (b, .inl (t, n, x))) (ht : fmTy[t]? = some y) (d : decode cc pc = .ok (.arraylength, 1)) (k : fmW G Γ h kc ks (pc + 1) L (.int (nI n) :: st)) : fmW G Γ h kc ks pc L (.ref a :: st) := by
  intro H lo cx sx ls a1 a2 a3 a4 a5
  exact va_alen (v := nI n) (tys := [(G.2.1 t, y)]) E.x E.b ⟨E.v.1.1, fun j q hq => by have hz : j < 1 := (List.getElem?_eq_some_iff.mp hq).1; rw [show j = 0 by omega] at hq; cases hq; exact fm_ty E.v ht⟩ (fm_ar a1 he) 0 0 rfl rfl rfl d (k H lo cx sx ls a1 a2 a3 a4 a5)
theorem r_aald (E : fmE G Γ cc nL own nm ret RM tb) {a n j t : Nat} {b : Bool} {y : FieldType} {f : Nat → Option Nat} (he : h a = some (b, .inl (t, n, .inr (.inr (.inr (.inr f)))))) (ht : fmTy[t]? = some y) (hy : y.isReference = true) (hj : j < n) (hn : n < 2 ^ 31) (d : decode cc pc = .ok (.aaload, 1)) (k : fmW G Γ h kc ks (pc + 1) L (va_rf (f j) :: st)) : fmW G Γ h kc ks pc L (.int (nI j) :: .ref a :: st) := by
  intro H lo cx sx ls a1 a2 a3 a4 a5
  have hc : (nI j).toNatClampNeg = j := nI_clamp (Nat.lt_trans hj hn)
  refine W.aald (v := va_rf (f j)) (ty := y) E.x E.b (a1.1 _ _ _ he).1 ((fm_ty E.v ht).1 n (fun i => va_rf (f i))) hy (fun q => by cases q) (by show ¬ (_ ∨ (arrV _ _ _).slots.size ≤ _); rw [arrV_size]; exact nI_in hj hn) (by show (arrV _ _ _).slots[_]? = _; rw [hc, arrV_read _ _ hj]) rfl rfl d (k H lo cx sx ls a1 a2 a3 a4 a5)
theorem r_aast (E : fmE G Γ cc nL own nm ret RM tb) {a n j t : Nat} {f : Nat → Option Nat} {v : Nat} {Ev Cv : String} (ht : fmTy[t]? = some (.object Ev)) (hv : ∀ H : Heap, fmH G h H → ∃ cell : Cell, H[v]? = some cell ∧ cell.vm.isStatics = false ∧ Γ.s.vm.findClass Cv = some cell.cls) (hca : Cond.castable Cv Ev ∈ lw_tbl) (he : h a = some (true, .inl (t, n, .inr (.inr (.inr (.inr f)))))) (hj : j < n) (hn : n < 2 ^ 31) (d : decode cc pc = .ok (.aastore, 1)) (k : fmW G Γ (fmUp h a (true, .inl (t, n, .inr (.inr (.inr (.inr (va_up f j (some v)))))))) kc ks (pc + 1) L st) : fmW G Γ h kc ks pc L (.ref v :: .int (nI j) :: .ref a :: st) := by
  intro H lo cx sx ls a1 a2 a3 a4 a5
  have hc : (nI j).toNatClampNeg = j := nI_clamp (Nat.lt_trans hj hn)
  have fin : ∀ (H1 : Heap), H1[a]? = some ((arrV (G.2.1 t) n (fun i => va_rf (f i))).setSlot j (.ref v)) → H1.size = H.size → (∀ q : Nat, q ≠ a → H1[q]? = H[q]?) → fmH G (fmUp h a (true, .inl (t, n, .inr (.inr (.inr (.inr (va_up f j (some v)))))))) H1 := by
    intro H1 e z oq
    refine a1.up ?_ ((a1.1 _ _ _ he).2 rfl) (Nat.le_of_eq z.symm) (fun q _ hq => oq q hq)
    show H1[a]? = some (vp_cell _ _)
    rw [e, vp_cell_q, arrV_store]
    congr 2
    funext q
    by_cases hq : q = j
    · subst hq
      simp [updV, va_up, va_rf]
    · simp [updV, va_up, hq]
  obtain ⟨cellV, g1, g2, g3⟩ := hv H a1
  obtain ⟨kA, comp, k1, k2, k3, -⟩ := (fm_ty E.v ht).2
  obtain ⟨kE, hkE, -⟩ := Vm.findClass_spec k3
  obtain ⟨c0, t1, f1, f2, f3⟩ := Cond.castable_spec (va_Nw.use (A := Γ.args) rfl (E.nw hca rfl))
  cases g3.symm.trans f1
  cases k3.symm.trans f2
  obtain ⟨kC, hkC, -⟩ := Vm.findClass_spec g3
  refine W.aast E.x E.b (a1.1 _ _ _ he).1 (fun q h => by cases h) (fun h => by cases h) k1 k2 rfl hkE ⟨nI_pos (Nat.lt_trans hj hn), by show _ < (arrV _ _ _).slots.size; rw [arrV_size, hc]; exact hj⟩ g1 (fun q h => by rw [h] at g2; cases g2) hkC f3 rfl rfl d fun H1 e z oq => ?_
  rw [hc] at e
  exact k H1 _ cx sx ls (fin H1 e z oq) (fun z hz => (List.mem_append.mp hz).elim (a2 z) (fun hz => by rw [List.mem_singleton.mp hz]; exact (a1.1 _ _ _ he).2 rfl)) a3 a4 a5
theorem r_aastN (E : fmE G Γ cc nL own nm ret RM tb) {a n j t : Nat} {f : Nat → Option Nat} {Ev : String} (ht : fmTy[t]? = some (.object Ev)) (he : h a = some (true, .inl (t, n, .inr (.inr (.inr (.inr f)))))) (hj : j < n) (hn : n < 2 ^ 31) (d : decode cc pc = .ok (.aastore, 1)) (k : fmW G Γ (fmUp h a (true, .inl (t, n, .inr (.inr (.inr (.inr (va_up f j none))))))) kc ks (pc + 1) L st) : fmW G Γ h kc ks pc L (.null :: .int (nI j) :: .ref a :: st) := by
  intro H lo cx sx ls a1 a2 a3 a4 a5
  have hc : (nI j).toNatClampNeg = j := nI_clamp (Nat.lt_trans hj hn)
  have fin : ∀ (H1 : Heap), H1[a]? = some ((arrV (G.2.1 t) n (fun i => va_rf (f i))).setSlot j (.null)) → H1.size = H.size → (∀ q : Nat, q ≠ a → H1[q]? = H[q]?) → fmH G (fmUp h a (true, .inl (t, n, .inr (.inr (.inr (.inr (va_up f j none))))))) H1 := by
    intro H1 e z oq
    refine a1.up ?_ ((a1.1 _ _ _ he).2 rfl) (Nat.le_of_eq z.symm) (fun q _ hq => oq q hq)
    show H1[a]? = some (vp_cell _ _)
    rw [e, vp_cell_q, arrV_store]
    congr 2
    funext q
    by_cases hq : q = j
    · subst hq
      simp [updV, va_up, va_rf]
    · simp [updV, va_up, hq]
  refine va_WaastN E.x E.b (C := Ev) (a1.1 _ _ _ he).1 ((fm_ty E.v ht).1 n (fun i => va_rf (f i))) (fun h => by cases h) (by show ¬ (_ ∨ (arrV _ _ _).slots.size ≤ _); rw [arrV_size]; exact nI_in hj hn) rfl rfl d fun H1 e z oq => ?_
  rw [hc] at e
  exact k H1 _ cx sx ls (fin H1 e z oq) (fun z hz => (List.mem_append.mp hz).elim (a2 z) (fun hz => by rw [List.mem_singleton.mp hz]; exact (a1.1 _ _ _ he).2 rfl)) a3 a4 a5
theorem r_newa (E : fmE G Γ cc nL own nm ret RM tb) {at_ : ArrayType} {n : Nat} (t : Nat) (a0 : (Nat → Int32) ⊕ (Nat → Int64) ⊕ (Nat → UInt32) ⊕ (Nat → UInt64) ⊕ (Nat → Option Nat)) (ht : fmTy[t]? = some (newarray.typeOf at_)) (ha0 : ∀ cA : ClassId, vp_cell cA (n, a0) = arrV cA n (fun _ => defaultValue (newarray.typeOf at_))) (hw : Cond.arrayClass (newarray.typeOf at_) ∈ lw_all) (hnm : va_RA Γ.s (G.2.1 t) (newarray.typeOf at_) → Γ.s.vm.findClass ("[" ++ (newarray.typeOf at_).toString) = some (G.2.1 t)) (hn : n < 2 ^ 31) (hby : n * componentBytes (newarray.typeOf at_) ≤ 536870912) (kc' ks' : Nat) (hkc : kc' + 1 ≤ kc) (hks : ks' + n ≤ ks) (d : decode cc pc = .ok (.newarray at_, 2)) (k : ∀ a : Nat, h a = none → (fmK0 G).size ≤ a → fmW G Γ (fmUp h a (true, .inl (t, n, a0))) kc' ks' (pc + 2) L (.ref a :: st)) : fmW G Γ h kc ks pc L (.int (nI n) :: st) := by
  intro H lo cx sx ls a1 a2 a3 a4 a5
  refine va_newaK E.x E.b (E.ts _ hw) rfl d rfl (nI_pos hn) (nI_clamp hn) hby (by omega) (by omega) rfl fun H1 cA e1 z1 o1 _ hNm => ?_
  have hcA : cA = G.2.1 t := Option.some.inj (hNm.symm.trans (hnm (fm_ty E.v ht).2))
  subst hcA
  exact k H.size a1.none a1.2.1 H1 lo (cx + 1) (sx + n) ls (a1.up (by show H1[_]? = some (vp_cell _ _); rw [ha0]; exact e1) a1.2.1 (by omega) (fun q hq _ => o1 q hq)) a2 (by omega) (by omega) a5
theorem r_anew (E : fmE G Γ cc nL own nm ret RM tb) {Cn : String} {index n : Nat} (t : Nat) (ht : fmTy[t]? = some (.object Cn)) (hlink : Cond.classLink own index Cn ∈ lw_all) (hov : Cond.arrayOver (.object Cn) ∈ lw_tbl) (hn : n < 134217728) (kc' ks' : Nat) (hkc : kc' + 1 ≤ kc) (hks : ks' + n ≤ ks) (d : decode cc pc = .ok (.anewarray index, 3)) (k : ∀ a : Nat, h a = none → (fmK0 G).size ≤ a → fmW G Γ (fmUp h a (true, .inl (t, n, .inr (.inr (.inr (.inr (fun _ => none))))))) kc' ks' (pc + 3) L (.ref a :: st)) : fmW G Γ h kc ks pc L (.int (nI n) :: st) := by
  intro H lo cx sx ls a1 a2 a3 a4 a5
  have hn2 : n < 2 ^ 31 := by omega
  have hcl : (nI n).toNatClampNeg = n := nI_clamp hn2
  refine W.anew E.x E.b E.xown (E.ts _ hlink) (va_AO.use (C := Cn) (E.nw hov rfl)) rfl d rfl (nI_pos hn2) (by rw [hcl]; omega) (by omega) (by rw [hcl]; omega) fun cA kA comp h1 h2 h3 h4 => ?_
  obtain ⟨kA', comp', g1, g2, g3, g4⟩ := (fm_ty E.v ht).2
  cases h1.symm.trans g4
  rw [hcl]
  refine k H.size a1.none a1.2.1 _ lo (cx + 1) (sx + n) ls (a1.up ?_ a1.2.1 (by simp) (fun q hq _ => by rw [Array.getElem?_push, if_neg (Nat.ne_of_lt hq)])) a2 (by omega) (by omega) a5
  show _ = some (vp_cell _ _)
  rw [vp_cell_q, show (fun j => va_rf ((fun _ => none : Nat → Option Nat) j)) = (fun _ => Value.null) from rfl, ← arrV_new]
  simp
theorem r_castY (E : fmE G Γ cc nL own nm ret RM tb) {index a : Nat} {Cv n : String} (hlink : Cond.classLink own index n ∈ lw_all) (hv : ∀ H : Heap, fmH G h H → ∃ cell : Cell, H[a]? = some cell ∧ cell.vm.isStatics = false ∧ Γ.s.vm.findClass Cv = some cell.cls) (hca : Cond.castable Cv n ∈ lw_tbl) (d : decode cc pc = .ok (.checkcast index, 3)) (k : fmW G Γ h kc ks (pc + 3) L (.ref a :: st)) : fmW G Γ h kc ks pc L (.ref a :: st) := by
  intro H lo cx sx ls a1 a2 a3 a4 a5
  exact va_castY E.x E.b E.xown (E.ts _ hlink) (E.nw hca rfl) (hv H a1) d (k H lo cx sx ls a1 a2 a3 a4 a5)
theorem r_castS (E : fmE G Γ cc nL own nm ret RM tb) {index a : Nat} {b : Bool} {fs : List Value} (cl : fmCl ci C T N ty) (hlink : Cond.classLink own index C ∈ lw_all) (he : h a = some (b, .inr (.inl (ci, fs)))) (d : decode cc pc = .ok (.checkcast index, 3)) (k : fmW G Γ h kc ks (pc + 3) L (.ref a :: st)) : fmW G Γ h kc ks pc L (.ref a :: st) := by
  intro H lo cx sx ls a1 a2 a3 a4 a5
  exact va_castS E.x E.b E.xown (E.ts _ hlink) (E.v.1.1 ci _ cl.1).2 (fm_rc a1 cl.1 E.v he) d (k H lo cx sx ls a1 a2 a3 a4 a5)
theorem r_castN (E : fmE G Γ cc nL own nm ret RM tb) {index : Nat} (d : decode cc pc = .ok (.checkcast index, 3)) (k : fmW G Γ h kc ks (pc + 3) L (.null :: st)) : fmW G Γ h kc ks pc L (.null :: st) := by
  intro H lo cx sx ls a1 a2 a3 a4 a5
  exact lv_castN E.x E.b d (k H lo cx sx ls a1 a2 a3 a4 a5)
theorem r_instS (E : fmE G Γ cc nL own nm ret RM tb) {index a : Nat} {b : Bool} {fs : List Value} (cl : fmCl ci C T N ty) (hlink : Cond.classLink own index C ∈ lw_all) (he : h a = some (b, .inr (.inl (ci, fs)))) (d : decode cc pc = .ok (.instanceof index, 3)) (k : fmW G Γ h kc ks (pc + 3) L (.int 1 :: st)) : fmW G Γ h kc ks pc L (.ref a :: st) := by
  intro H lo cx sx ls a1 a2 a3 a4 a5
  exact va_instS E.x E.b E.xown (E.ts _ hlink) (E.v.1.1 ci _ cl.1).2 (fm_rc a1 cl.1 E.v he) d (k H lo cx sx ls a1 a2 a3 a4 a5)
theorem r_instNo (E : fmE G Γ cc nL own nm ret RM tb) {index a : Nat} {n : String} {b : Bool} {fs : List Value} (cl : fmCl ci C T N ty) (hlink : Cond.classLink own index n ∈ lw_all) (hnc : (C, n) ∈ fmNc) (he : h a = some (b, .inr (.inl (ci, fs)))) (d : decode cc pc = .ok (.instanceof index, 3)) (k : fmW G Γ h kc ks (pc + 3) L (.int 0 :: st)) : fmW G Γ h kc ks pc L (.ref a :: st) := by
  intro H lo cx sx ls a1 a2 a3 a4 a5
  exact va_instNo E.x E.b E.xown (E.ts _ hlink) (E.v.2.2.2.1 _ hnc) (fm_rc a1 cl.1 E.v he) d (k H lo cx sx ls a1 a2 a3 a4 a5)
theorem r_ldcS (E : fmE G Γ cc nL own nm ret RM tb) (d : decode cc pc = .ok (.ldc 64, 2)) (hown : own = "FlintMine$Parser") (k : fmW G Γ h kc ks (pc + 2) L (.ref (fmAd G 12) :: st)) : fmW G Γ h kc ks pc L st := by
  intro H lo cx sx ls a1 a2 a3 a4 a5
  exact va_ldcS E.x E.b (by rw [← hown]; exact E.xown) E.v.2.2.2.2.2.2.2.1 d (k H lo cx sx ls a1 a2 a3 a4 a5)
theorem r_ldcM (E : fmE G Γ cc nL own nm ret RM tb) {index : Nat} (hlink : Cond.classLink own index "[Ljava/lang/Object;" ∈ lw_all) (d : decode cc pc = .ok (.ldc index, 2)) (k : fmW G Γ h kc ks (pc + 2) L (.ref (fmAd G 13) :: st)) : fmW G Γ h kc ks pc L st := by
  intro H lo cx sx ls a1 a2 a3 a4 a5
  exact va_ldcM E.x E.b E.xown (E.ts _ hlink) E.v.2.2.2.2.2.2.2.2.1 d (k H lo cx sx ls a1 a2 a3 a4 a5)
variable {post : Option Value → fmHp → Prop} {xp : Nat → String → fmHp → Prop}
theorem fmP.q (P : fmP G Γ post xp) : Γ.Q = vx_MQ Γ.below (fmRc G post) (fmXc G xp) Γ.args Γ.s Γ.R.cells Γ.R.slots (fmOld G) := P
theorem r_ireturn (E : fmE G Γ cc nL own nm ret RM tb) (P : fmP G Γ post xp) {v : Int32} (hr : ret = some .int) (d : decode cc pc = .ok (.ireturn, 1)) (hp : post (some (.int v)) h) : fmW G Γ h kc ks pc L [.int v] := by
  intro H lo cx sx ls a1 a2 a3 a4 a5
  rw [fmP.q P]
  exact W.widen (k := Γ.R.cells) (n := Γ.R.slots) (by omega) (by omega) (vx_ret (W.zret (ty := .int) E.x E.b (E.xret.trans hr) rfl (fun t ht _ => ⟨_, h, rfl, hp, by rw [ht]; exact a1⟩) a2 d E.lock))
theorem r_zreturn (E : fmE G Γ cc nL own nm ret RM tb) (P : fmP G Γ post xp) {b : Bool} (hr : ret = some .boolean) (d : decode cc pc = .ok (.ireturn, 1)) (hp : post (some (.int (bI b))) h) : fmW G Γ h kc ks pc L [.int (bI b)] := by
  intro H lo cx sx ls a1 a2 a3 a4 a5
  rw [fmP.q P]
  exact W.widen (k := Γ.R.cells) (n := Γ.R.slots) (by omega) (by omega) (vx_ret (W.zret (ty := .boolean) E.x E.b (E.xret.trans hr) (bI_n b) (fun t ht _ => ⟨_, h, rfl, hp, by rw [ht]; exact a1⟩) a2 d E.lock))
theorem r_greturn (E : fmE G Γ cc nL own nm ret RM tb) (P : fmP G Γ post xp) {y : FieldType} {v : Int32} (hr : ret = some y) (hn : narrow y (.int v) = .int v) (d : decode cc pc = .ok (.ireturn, 1)) (hp : post (some (.int v)) h) : fmW G Γ h kc ks pc L [.int v] := by
  intro H lo cx sx ls a1 a2 a3 a4 a5
  rw [fmP.q P]
  exact W.widen (k := Γ.R.cells) (n := Γ.R.slots) (by omega) (by omega) (vx_ret (W.zret (ty := y) E.x E.b (E.xret.trans hr) hn (fun t ht _ => ⟨_, h, rfl, hp, by rw [ht]; exact a1⟩) a2 d E.lock))
theorem r_return (E : fmE G Γ cc nL own nm ret RM tb) (P : fmP G Γ post xp) (hr : ret = none) (d : decode cc pc = .ok (.return_, 1)) (hp : post none h) : fmW G Γ h kc ks pc L [] := by
  intro H lo cx sx ls a1 a2 a3 a4 a5
  rw [fmP.q P]
  exact W.widen (k := Γ.R.cells) (n := Γ.R.slots) (by omega) (by omega) (vx_ret (W.vret E.x E.b (E.xret.trans hr) (fun t ht _ => ⟨_, h, rfl, hp, by rw [ht]; exact a1⟩) a2 d E.lock))
theorem r_areturn (E : fmE G Γ cc nL own nm ret RM tb) (P : fmP G Γ post xp) {a : Nat} {y : FieldType} (hr : ret = some y) (hy : (∃ n, y = .object n) ∨ ∃ t, y = .array t) (d : decode cc pc = .ok (.areturn, 1)) (hp : post (some (.ref a)) h) : fmW G Γ h kc ks pc L [.ref a] := by
  intro H lo cx sx ls a1 a2 a3 a4 a5
  rw [fmP.q P]
  exact W.widen (k := Γ.R.cells) (n := Γ.R.slots) (by omega) (by omega) (vx_ret (W.aret E.x E.b (E.xret.trans hr) hy (Or.inr ⟨a, rfl⟩) (fun t ht _ => ⟨_, h, rfl, hp, by rw [ht]; exact a1⟩) a2 d E.lock))
theorem r_areturnN (E : fmE G Γ cc nL own nm ret RM tb) (P : fmP G Γ post xp) {y : FieldType} (hr : ret = some y) (hy : (∃ n, y = .object n) ∨ ∃ t, y = .array t) (d : decode cc pc = .ok (.areturn, 1)) (hp : post (some .null) h) : fmW G Γ h kc ks pc L [.null] := by
  intro H lo cx sx ls a1 a2 a3 a4 a5
  rw [fmP.q P]
  exact W.widen (k := Γ.R.cells) (n := Γ.R.slots) (by omega) (by omega) (vx_ret (W.aret E.x E.b (E.xret.trans hr) hy (Or.inl rfl) (fun t ht _ => ⟨_, h, rfl, hp, by rw [ht]; exact a1⟩) a2 d E.lock))
theorem r_lreturn (E : fmE G Γ cc nL own nm ret RM tb) (P : fmP G Γ post xp) {v : Int64} (hr : ret = some .long) (d : decode cc pc = .ok (.lreturn, 1)) (hp : post (some (.long v)) h) : fmW G Γ h kc ks pc L [.long v] := by
  intro H lo cx sx ls a1 a2 a3 a4 a5
  rw [fmP.q P]
  exact W.widen (k := Γ.R.cells) (n := Γ.R.slots) (by omega) (by omega) (vx_ret (W.lret E.x E.b (E.xret.trans hr) (fun t ht _ => ⟨_, h, rfl, hp, by rw [ht]; exact a1⟩) a2 d E.lock))
theorem r_dreturn (E : fmE G Γ cc nL own nm ret RM tb) (P : fmP G Γ post xp) {v : UInt64} (hr : ret = some .double) (d : decode cc pc = .ok (.dreturn, 1)) (hp : post (some (.double v)) h) : fmW G Γ h kc ks pc L [.double v] := by
  intro H lo cx sx ls a1 a2 a3 a4 a5
  rw [fmP.q P]
  exact W.widen (k := Γ.R.cells) (n := Γ.R.slots) (by omega) (by omega) (vx_ret (W.dret E.x E.b (E.xret.trans hr) (fun t ht _ => ⟨_, h, rfl, hp, by rw [ht]; exact a1⟩) a2 d E.lock))
theorem r_freturn (E : fmE G Γ cc nL own nm ret RM tb) (P : fmP G Γ post xp) {v : UInt32} (hr : ret = some .float) (d : decode cc pc = .ok (.freturn, 1)) (hp : post (some (.float v)) h) : fmW G Γ h kc ks pc L [.float v] := by
  intro H lo cx sx ls a1 a2 a3 a4 a5
  rw [fmP.q P]
  exact W.widen (k := Γ.R.cells) (n := Γ.R.slots) (by omega) (by omega) (vx_ret (W.fret E.x E.b (E.xret.trans hr) (fun t ht _ => ⟨_, h, rfl, hp, by rw [ht]; exact a1⟩) a2 d E.lock))
theorem r_xout (E : fmE G Γ cc nL own nm ret RM tb) (P : fmP G Γ post xp) {Ex : String} {q : Nat} (hout : ∀ x ∈ tb, covers x pc = false) (hp : xp q Ex h) : fmT G Γ h kc ks pc L Ex q := by
  intro H lo cx sx ls rest ce a1 a2 a3 a4 a5 a6 a7 a8
  rw [fmP.q P]
  exact vx_out (by rw [E.xtb]; exact hout) E.lock a6 a7 a8 (fun t ht _ => ⟨h, hp, by rw [ht]; exact a1⟩) a2 (by omega) (by omega)
theorem r_xoutP (E : fmE G Γ cc nL own nm ret RM tb) (P : fmP G Γ post xp) {Ex : String} {q : Nat} (hout : ∀ z ∈ tb, covers z pc = false ∨ (z.catchType ≠ 0 ∧ ∃ n : String, Cond.classLink own z.catchType n ∈ lw_all ∧ (Ex, n) ∈ fmNc)) (hp : xp q Ex h) : fmT G Γ h kc ks pc L Ex q := by
  intro H lo cx sx ls rest ce a1 a2 a3 a4 a5 a6 a7 a8
  rw [fmP.q P]
  refine vx_outP E.xown E.lock (by rw [E.xtb]; exact fun z hz => (hout z hz).imp id (fun ⟨h0, n, h1, h2⟩ => ⟨h0, n, E.ts _ h1, E.v.2.2.2.1 _ h2⟩)) a6 a7 a8 (fun t ht _ => ⟨h, hp, by rw [ht]; exact a1⟩) a2 (by omega) (by omega)
theorem r_xcatch (E : fmE G Γ cc nL own nm ret RM tb) {Ex n : String} {q : Nat} (pre : List ExceptionTableEntry) (x : ExceptionTableEntry) (suf : List ExceptionTableEntry) (hs : tb = pre ++ x :: suf) (hpre : ∀ z ∈ pre, covers z pc = false ∨ (z.catchType ≠ 0 ∧ ∃ n : String, Cond.classLink own z.catchType n ∈ lw_all ∧ (Ex, n) ∈ fmNc)) (hx : covers x pc = true) (h0 : x.catchType ≠ 0) (hlink : Cond.classLink own x.catchType n ∈ lw_all) (hca : Cond.castable Ex n ∈ lw_tbl) (k : fmW G Γ h kc ks x.handlerPc L [.ref q]) : fmT G Γ h kc ks pc L Ex q := by
  intro H lo cx sx ls rest ce a1 a2 a3 a4 a5 a6 a7 a8
  exact vx_catch E.xown pre x suf (E.xtb.trans hs) (fun z hz => (hpre z hz).imp id (fun ⟨h0, n, h1, h2⟩ => ⟨h0, n, E.ts _ h1, E.v.2.2.2.1 _ h2⟩)) hx h0 (E.ts _ hlink) ((E.nw hca rfl).use rfl) a6 a7 a8 (k H lo cx sx ls a1 a2 a3 a4 a5)
/-- caught by its own class -/
theorem r_xcatchS (E : fmE G Γ cc nL own nm ret RM tb) {Ex : String} {q : Nat} (pre : List ExceptionTableEntry) (x : ExceptionTableEntry) (suf : List ExceptionTableEntry) (hs : tb = pre ++ x :: suf) (hpre : ∀ z ∈ pre, covers z pc = false ∨ (z.catchType ≠ 0 ∧ ∃ n : String, Cond.classLink own z.catchType n ∈ lw_all ∧ (Ex, n) ∈ fmNc)) (hx : covers x pc = true) (h0 : x.catchType ≠ 0) (hlink : Cond.classLink own x.catchType Ex ∈ lw_all) (hat : ∃ cC : ClassId, ClassAt Γ.s Ex cC) (k : fmW G Γ h kc ks x.handlerPc L [.ref q]) : fmT G Γ h kc ks pc L Ex q := by
  intro H lo cx sx ls rest ce a1 a2 a3 a4 a5 a6 a7 a8
  obtain ⟨cC, hC⟩ := hat
  have hca : (Cond.castable Ex Ex).before Γ.args Γ.s = true := by
    have h1 := va_assign hC
    have h2 := hC.1
    simp [Cond.before, Cond.holds, Cond.value, h2, h1]
  exact vx_catch E.xown pre x suf (E.xtb.trans hs) (fun z hz => (hpre z hz).imp id (fun ⟨h0, n, h1, h2⟩ => ⟨h0, n, E.ts _ h1, E.v.2.2.2.1 _ h2⟩)) hx h0 (E.ts _ hlink) hca a6 a7 a8 (k H lo cx sx ls a1 a2 a3 a4 a5)
theorem r_athrow (E : fmE G Γ cc nL own nm ret RM tb) {a : Nat} {b : Bool} {fs : List Value} (cl : vwCl[ci]? = some (C, T, N)) (he : h a = some (b, .inr (.inl (ci, fs)))) (d : decode cc pc = .ok (.athrow, 1)) (k : fmT G Γ h kc ks pc L C a) : fmW G Γ h kc ks pc L (.ref a :: st) := by
  intro H lo cx sx ls a1 a2 a3 a4 a5
  obtain ⟨r, h1, cell, g1, g2, g3, -⟩ := (a1.1 _ _ _ he).1
  exact vx_athrow E.x E.b d (k H lo cx sx ls st cell a1 a2 a3 a4 a5 g1 g3 (by rw [g2]; exact (E.v.1.1 ci _ cl).2.1))
/-- new E(); the object stays on the stack -/
theorem r_make (E : fmE G Γ cc nL own nm ret RM tb) {names : List String} {ik ic : Nat} (hc : vwCl[ci]? = some (C, T, 0)) (hcls : Bundle.fit C = true) (hnames : ∀ n ∈ names, Bundle.fit n = true) (hlink : Cond.classLink own ik C ∈ lw_all) (hini : Cond.initialized C ∈ lw_all) (hat : ∀ w ∈ vx_at0 own ic C names, w ∈ lw_all ∨ (w ∈ lw_tbl ∧ fmNwOk w = true ∧ w.onTables = true)) (hgood : ∀ w ∈ Cond.classLink own ik C :: Cond.initialized C :: vx_at0 own ic C names, vx_ot w = true)
    (d0 : decode cc pc = .ok (.new ik, 3)) (d3 : decode cc (pc + 3) = .ok (.dup, 1)) (d4 : decode cc (pc + 4) = .ok (.invokespecial ic, 3)) (hRf : names.length + 3 < RM.frames) (hRl : (st.map fun v => v.category).sum + (13 * (names.length + 1) + 42) ≤ RM.locals) (kc' ks' : Nat) (hkc : kc' + 1 ≤ kc) (hks : ks' + 6 ≤ ks)
    (k : ∀ a : Nat, h a = none → (fmK0 G).size ≤ a → fmW G Γ (fmUp h a (true, .inr (.inl (ci, [])))) kc' ks' (pc + 7) L (.ref a :: st)) : fmW G Γ h kc ks pc L st := by
  intro H lo cx sx ls a1 a2 a3 a4 a5
  have hk : ∀ q : Nat, q < (fmK0 G).size → ¬ fmOld G q → Γ.s.heap[q]? = (fmK0 G)[q]? := fun q h1 _ => E.hp.2 q h1
  refine fm_make0 (A := fmOld G) E.x E.b E.tr E.xown hcls hnames (E.ts _ hlink) (E.ts _ hini) (fun w hw => (hat w hw).elim (E.ts w) (fun ⟨q1, q2, q3⟩ => (E.nw q1 q2).use q3)) hgood (E.v.2.2.2.2.2.1.1.kept hk) (E.v.2.2.2.2.2.1.2.kept hk) (fun q _ h2 => by rw [a1.2.2 q (Nat.not_le.mp h2), E.hp.2 q (Nat.not_le.mp h2)]) a5.1 d0 d3 d4 (by rw [E.R]; exact hRf) (by rw [E.R]; exact hRl) (by omega) (by omega) ?_
  intro H1 ce e1 e2 e3 e4 e5
  exact k H.size a1.none a1.2.1 H1 lo (cx + 1) (sx + 6) ls (a1.up ⟨_, hc, ce, e1, Option.some.inj (e3.symm.trans (E.v.1.1 ci _ hc).2.1), e2, fun _ hk => absurd hk (Nat.not_lt_zero _)⟩ a1.2.1 e4 (fun q hq _ => e5 q hq)) a2 (by omega) (by omega) a5
theorem r_objInit (E : fmE G Γ cc nL own nm ret RM tb) {index a : Nat} (hlink : Cond.methodLink own index Lib.objectInit ∈ lw_all) (h2 : Cond.instanceMethod Lib.objectInit ∈ lw_all) (h3 : Cond.code Lib.objectInit ⟨#[0xb1]⟩ 1 none ∈ lw_all) (d : decode cc pc = .ok (.invokespecial index, 3)) (hf : 1 ≤ RM.frames) (hl : (st.map fun v => v.category).sum + 12 ≤ RM.locals) (k : fmW G Γ h kc ks (pc + 3) L st) : fmW G Γ h kc ks pc L (.ref a :: st) := by
  intro H lo cx sx ls a1 a2 a3 a4 a5
  exact W.objInit E.x E.b E.xown (E.ts _ hlink) (E.ts _ h2) (E.ts _ h3) rfl a5.1 rfl d (by rw [E.R]; exact hf) (by rw [E.R]; simpa [JFrame.monitorRoom] using hl) (k H lo cx sx ls a1 a2 a3 a4 a5)
/-- a method: its code's word, its class initialised, its number of arguments -/
def fmM (y : MethodName) (b : ByteArray) (ml : Nat) (r : Option FieldType) (n : Nat) : Prop := Cond.code y b ml r ∈ lw_all ∧ (y.cls ≠ "java/lang/invoke/MethodHandle" ∧ y.cls ≠ "java/lang/invoke/VarHandle") ∧ (parseMethodDescriptor y.desc).map (fun d => d.parameters.length) = some n
def fmMH (y : MethodName) (b : ByteArray) (ml : Nat) (r : Option FieldType) (n : Nat) (hh : List (Nat × Nat × Nat × Nat)) : Prop := Cond.codeWith y b ml r hh ∈ lw_all ∧ (y.cls ≠ "java/lang/invoke/MethodHandle" ∧ y.cls ≠ "java/lang/invoke/VarHandle") ∧ (parseMethodDescriptor y.desc).map (fun d => d.parameters.length) = some n
theorem fm_len {y : MethodName} {n : Nat} (h : (parseMethodDescriptor y.desc).map (fun d => d.parameters.length) = some n) : ∀ sig, parseMethodDescriptor y.desc = some sig → n = sig.parameters.length := by
  intro sig hs
  rw [hs] at h
  exact (Option.some.inj h).symm
variable {y : MethodName} {bytes : ByteArray} {ml n index : Nat} {rt : Option FieldType} {rm : Room} {As : List Value} {b : Nat} {rest : List Value} {cpost : Option Value → fmHp → Prop} {cxp : Nat → String → fmHp → Prop} {hh : List (Nat × Nat × Nat × Nat)}
theorem fm_back (E : fmE G Γ cc nL own nm ret RM tb) {len : Nat} (hC : Ct G y (ws_ y bytes ml rt) rm As h cpost cxp) (hM : fmM y bytes ml rt n) (hf : rm.frames + 1 ≤ RM.frames) (hl : 8 + (ml + 11) + rm.locals ≤ RM.locals) : vx_Back (fmLn G) Γ.R Γ.p Γ.e Γ.below Γ.s Γ.args y len 8 (PreOf Γ.R rm.cells rm.slots (fmPc G As h)) (PostOf (fmRc G cpost) rm.cells rm.slots (fmOld G)) (vx_Post (fmXc G cxp) rm.cells rm.slots (fmOld G)) :=
  vx_back (bytes := bytes) (maxL := ml) (ret := rt) hC fmPc.blind rfl rfl (by rw [E.R]; exact hf) (by rw [E.R]; exact hl) (pay_in E.ts (lw_meth hM.1)) List.mem_cons_self
theorem fm_backH (E : fmE G Γ cc nL own nm ret RM tb) {len : Nat} (hC : Ct G y (wsW_ y bytes ml rt hh) rm As h cpost cxp) (hM : fmMH y bytes ml rt n hh) (hf : rm.frames + 1 ≤ RM.frames) (hl : 8 + (ml + 11) + rm.locals ≤ RM.locals) : vx_Back (fmLn G) Γ.R Γ.p Γ.e Γ.below Γ.s Γ.args y len 8 (PreOf Γ.R rm.cells rm.slots (fmPc G As h)) (PostOf (fmRc G cpost) rm.cells rm.slots (fmOld G)) (vx_Post (fmXc G cxp) rm.cells rm.slots (fmOld G)) :=
  vx_backW (bytes := bytes) (maxL := ml) (ret := rt) (hh := hh) hC fmPc.blind rfl rfl (by rw [E.R]; exact hf) (by rw [E.R]; exact hl) (pay_in E.ts (lw_methW hM.1)) List.mem_cons_self
theorem fm_pre (E : fmE G Γ cc nL own nm ret RM tb) {H : Heap} {Tt : State} {lo : List Loc} {cx sx : Nat} {vm₁ : Vm} (hT : Tt.heap = H) (hW : Γ.s.WarmedH vm₁) (a1 : fmH G h H) (h3 : cx + rm.cells ≤ Γ.R.cells) (h4 : sx + rm.slots ≤ Γ.R.slots) : PreOf Γ.R rm.cells rm.slots (fmPc G As h) ⟨Tt.setVm vm₁, lo, cx, sx⟩ As.toArray :=
  ⟨h3, h4, rfl, E.v.warm (U := Tt.setVm vm₁) hW, by rw [← hT] at a1; exact a1⟩
/-- what a call comes to -/
theorem fm_after {lo : List Loc} {cx sx : Nat} {ls : Array Slot} {len : Nat} {Tt : State} {a : Array Value} {g0 : JFrame} (hg1 : ∀ v : Option Value, ({ g0 with pc := g0.pc + len, stack := v.toList ++ rest } : JFrame) = F0 Γ.m (pc + len) ls (v.toList ++ rest)) (hg2 : ({ g0 with stack := rest } : JFrame) = F0 Γ.m pc ls rest) (kc' ks' : Nat) (hkc : kc' + rm.cells ≤ kc) (hks : ks' + rm.slots ≤ ks) (a2 : ∀ z ∈ lo, (fmK0 G).size ≤ z.base) (a3 : cx + kc ≤ Γ.R.cells) (a4 : sx + ks ≤ Γ.R.slots) (a5 : lv_has ls Γ.c.maxLocals (fmA 0 L))
    (kk : ∀ (v : Option Value) (h' : fmHp), cpost v h' → fmW G Γ h' kc' ks' (pc + len) L (v.toList ++ rest)) (kx : ∀ (q : Nat) (Ex : String) (h' : fmHp), cxp q Ex h' → fmT G Γ h' kc' ks' pc L Ex q)
    (hor : (∃ (v : Option Value) (vm₁ : Vm) (B : Pt), Γ.s.WarmedH vm₁ ∧ Stand Γ.p (fmLn G) Γ.e Γ.R Γ.s Γ.m Γ.args Γ.below Γ.meth Γ.c B.U B.locs B.cells B.slots ∧ PostOf (fmRc G cpost) rm.cells rm.slots (fmOld G) ⟨Tt.setVm vm₁, lo, cx, sx⟩ a v B ∧ ∀ target, Steps Γ.p.tables Γ.e Γ.below (B.U.setTop { g0 with pc := g0.pc + len, stack := v.toList ++ rest }) target → Steps Γ.p.tables Γ.e Γ.below (Tt.setTop g0) target) ∨
      (∃ (q : Addr) (vm₁ : Vm) (B : Pt), Γ.s.WarmedH vm₁ ∧ Stand Γ.p (fmLn G) Γ.e Γ.R Γ.s Γ.m Γ.args Γ.below Γ.meth Γ.c B.U B.locs B.cells B.slots ∧ vx_Post (fmXc G cxp) rm.cells rm.slots (fmOld G) ⟨Tt.setVm vm₁, lo, cx, sx⟩ a q B ∧ Steps Γ.p.tables Γ.e Γ.below (Tt.setTop g0) ((B.U.setTop { g0 with stack := rest }).pushFrame (.throwing q)))) : ∃ t, Steps Γ.p.tables Γ.e Γ.below (Tt.setTop g0) t ∧ Γ.Q t := by
  rcases hor with ⟨v, vm₁, ⟨U', l2, c2, s2⟩, hW₁, X', ⟨g', mk, t, Lc, e1, e2, ⟨v', h', hv, hp, hH'⟩, h1, hL, h2, h3⟩, st2⟩ | ⟨q, vm₁, ⟨U', l2, c2, s2⟩, hW₁, X', ⟨g', mk, t, Lc, Ex, ce, e1, e2, ⟨h', hxp, hH'⟩, hce, hcv, hcl, h1, hL, h2, h3⟩, st2⟩
  · dsimp only [Pt.U, Pt.locs, Pt.cells, Pt.slots] at X' e1 e2 h1 h2 h3 st2
    subst h1; subst h2; subst h3
    cases hv
    obtain ⟨t2, b1, b2⟩ := kk v h' hp U'.heap (lo ++ Lc) (cx + rm.cells) (sx + rm.slots) ls (by rw [e1]; exact hH') (fun z hz => (List.mem_append.mp hz).elim (a2 z) (hL z)) (by omega) (by omega) a5 U' rfl X'
    rw [← hg1] at b1
    exact ⟨t2, st2 t2 b1, b2⟩
  · dsimp only [Pt.U, Pt.locs, Pt.cells, Pt.slots] at X' e1 e2 h1 h2 h3 st2 hcl
    subst h1; subst h2; subst h3
    obtain ⟨t2, b1, b2⟩ := kx q Ex h' hxp U'.heap (lo ++ Lc) (cx + rm.cells) (sx + rm.slots) ls rest ce (by rw [e1]; exact hH') (fun z hz => (List.mem_append.mp hz).elim (a2 z) (hL z)) (by omega) (by omega) a5 (by rw [e1]; exact hce) hcv (vx_cls hW₁ hcl) U' rfl X'
    rw [← hg2] at b1
    exact ⟨t2, st2.trans b1, b2⟩
theorem r_callV (E : fmE G Γ cc nL own nm ret RM tb) (hC : Ct G y (ws_ y bytes ml rt) rm (.ref b :: As) h cpost cxp) (hM : fmM y bytes ml rt n) {C : String} (h1 : Cond.methodLink own index y ∈ lw_all) (h2 : Cond.instanceMethod y ∈ lw_all) (h3 : Cond.selects C y y ∈ lw_all) (hv : ∀ H : Heap, fmH G h H → ∃ cell : Cell, H[b]? = some cell ∧ cell.vm.isStatics = false ∧ Γ.s.vm.findClass C = some cell.cls) (hn : As.length = n) (hst : st = As.reverse ++ .ref b :: rest) (hf : rm.frames + 1 ≤ RM.frames) (hl : 8 + (ml + 11) + rm.locals ≤ RM.locals) (hr : (rest.map fun v => v.category).sum ≤ 8) (d : decode cc pc = .ok (.invokevirtual index, 3)) (kc' ks' : Nat) (hkc : kc' + rm.cells ≤ kc) (hks : ks' + rm.slots ≤ ks) (kk : ∀ (v : Option Value) (h' : fmHp), cpost v h' → fmW G Γ h' kc' ks' (pc + 3) L (v.toList ++ rest)) (kx : ∀ (q : Nat) (Ex : String) (h' : fmHp), cxp q Ex h' → fmT G Γ h' kc' ks' pc L Ex q) : fmW G Γ h kc ks pc L st := by
  intro H lo cx sx ls a1 a2 a3 a4 a5 Tt hT X
  have hr2 : 2 * (F0 Γ.m pc ls rest).monitorRoom + (rest.map fun v => v.category).sum ≤ 8 := by simpa [JFrame.monitorRoom] using hr
  exact fm_after (rm := rm) (fun v => rfl) rfl kc' ks' hkc hks a2 a3 a4 a5 kk kx (by obtain ⟨cB, g1, g2, g3⟩ := hv H a1; exact vx_callV X E.x (C := C) (bytes := bytes) (maxL := ml) (ret := rt) E.xown (E.ts _ h1) (E.ts _ h2) (E.ts _ h3) (E.ts _ hM.1) hM.2.1 (fm_back E hC hM hf hl) (b := b) (cellB := cB) (by rw [hT]; exact g1) g2 g3 (g := F0 Γ.m pc ls st) rfl a5.1 (argsL := As) (rest := rest) (fun sig hs => hn.trans (fm_len hM.2.2 sig hs)) hst hr2 (by rw [E.b]; exact d) (fun vm₁ hW₁ => fm_pre E hT hW₁ a1 (by omega) (by omega)))
theorem r_callVH (E : fmE G Γ cc nL own nm ret RM tb) (hC : Ct G y (wsW_ y bytes ml rt hh) rm (.ref b :: As) h cpost cxp) (hM : fmMH y bytes ml rt n hh) {C : String} (h1 : Cond.methodLink own index y ∈ lw_all) (h2 : Cond.instanceMethod y ∈ lw_all) (h3 : Cond.selects C y y ∈ lw_all) (hv : ∀ H : Heap, fmH G h H → ∃ cell : Cell, H[b]? = some cell ∧ cell.vm.isStatics = false ∧ Γ.s.vm.findClass C = some cell.cls) (hn : As.length = n) (hst : st = As.reverse ++ .ref b :: rest) (hf : rm.frames + 1 ≤ RM.frames) (hl : 8 + (ml + 11) + rm.locals ≤ RM.locals) (hr : (rest.map fun v => v.category).sum ≤ 8) (d : decode cc pc = .ok (.invokevirtual index, 3)) (kc' ks' : Nat) (hkc : kc' + rm.cells ≤ kc) (hks : ks' + rm.slots ≤ ks) (kk : ∀ (v : Option Value) (h' : fmHp), cpost v h' → fmW G Γ h' kc' ks' (pc + 3) L (v.toList ++ rest)) (kx : ∀ (q : Nat) (Ex : String) (h' : fmHp), cxp q Ex h' → fmT G Γ h' kc' ks' pc L Ex q) : fmW G Γ h kc ks pc L st := by
  intro H lo cx sx ls a1 a2 a3 a4 a5 Tt hT X
  have hr2 : 2 * (F0 Γ.m pc ls rest).monitorRoom + (rest.map fun v => v.category).sum ≤ 8 := by simpa [JFrame.monitorRoom] using hr
  exact fm_after (rm := rm) (fun v => rfl) rfl kc' ks' hkc hks a2 a3 a4 a5 kk kx (by obtain ⟨cB, g1, g2, g3⟩ := hv H a1; exact vx_callVX X E.x (C := C) (bytes := bytes) (maxL := ml) (ret := rt) (hh := hh) E.xown (E.ts _ h1) (E.ts _ h2) (E.ts _ h3) (E.ts _ hM.1) hM.2.1 (fm_backH E hC hM hf hl) (b := b) (cellB := cB) (by rw [hT]; exact g1) g2 g3 (g := F0 Γ.m pc ls st) rfl a5.1 (argsL := As) (rest := rest) (fun sig hs => hn.trans (fm_len hM.2.2 sig hs)) hst hr2 (by rw [E.b]; exact d) (fun vm₁ hW₁ => fm_pre E hT hW₁ a1 (by omega) (by omega)))
theorem r_callVN (E : fmE G Γ cc nL own nm ret RM tb) (hC : Ct G y (ws_ y bytes ml rt) rm (.ref b :: As) h cpost cxp) (hM : fmM y bytes ml rt n) {C host : String} (h1 : Cond.methodLinkNest own index y host ∈ lw_tbl) (h2 : Cond.instanceMethod y ∈ lw_all) (h3 : Cond.selects C y y ∈ lw_all) (hv : ∀ H : Heap, fmH G h H → ∃ cell : Cell, H[b]? = some cell ∧ cell.vm.isStatics = false ∧ Γ.s.vm.findClass C = some cell.cls) (hn : As.length = n) (hst : st = As.reverse ++ .ref b :: rest) (hf : rm.frames + 1 ≤ RM.frames) (hl : 8 + (ml + 11) + rm.locals ≤ RM.locals) (hr : (rest.map fun v => v.category).sum ≤ 8) (d : decode cc pc = .ok (.invokevirtual index, 3)) (kc' ks' : Nat) (hkc : kc' + rm.cells ≤ kc) (hks : ks' + rm.slots ≤ ks) (kk : ∀ (v : Option Value) (h' : fmHp), cpost v h' → fmW G Γ h' kc' ks' (pc + 3) L (v.toList ++ rest)) (kx : ∀ (q : Nat) (Ex : String) (h' : fmHp), cxp q Ex h' → fmT G Γ h' kc' ks' pc L Ex q) : fmW G Γ h kc ks pc L st := by
  intro H lo cx sx ls a1 a2 a3 a4 a5 Tt hT X
  have hr2 : 2 * (F0 Γ.m pc ls rest).monitorRoom + (rest.map fun v => v.category).sum ≤ 8 := by simpa [JFrame.monitorRoom] using hr
  exact fm_after (rm := rm) (fun v => rfl) rfl kc' ks' hkc hks a2 a3 a4 a5 kk kx (by obtain ⟨cB, g1, g2, g3⟩ := hv H a1; exact vx_callVN X E.x (C := C) (bytes := bytes) (maxL := ml) (ret := rt) E.xown ((E.nw h1 rfl).use rfl) (E.ts _ h2) (E.ts _ h3) (E.ts _ hM.1) hM.2.1 (fm_back E hC hM hf hl) (b := b) (cellB := cB) (by rw [hT]; exact g1) g2 g3 (g := F0 Γ.m pc ls st) rfl a5.1 (argsL := As) (rest := rest) (fun sig hs => hn.trans (fm_len hM.2.2 sig hs)) hst hr2 (by rw [E.b]; exact d) (fun vm₁ hW₁ => fm_pre E hT hW₁ a1 (by omega) (by omega)))
theorem r_callS (E : fmE G Γ cc nL own nm ret RM tb) (hC : Ct G y (ws_ y bytes ml rt) rm (As) h cpost cxp) (hM : fmM y bytes ml rt n) (w0 : Cond.initialized y.cls ∈ lw_all) (h1 : Cond.methodLink own index y ∈ lw_all) (h2 : Cond.static y ∈ lw_all) (hn : As.length = n) (hst : st = As.reverse ++ rest) (hf : rm.frames + 1 ≤ RM.frames) (hl : 8 + (ml + 11) + rm.locals ≤ RM.locals) (hr : (rest.map fun v => v.category).sum ≤ 8) (d : decode cc pc = .ok (.invokestatic index, 3)) (kc' ks' : Nat) (hkc : kc' + rm.cells ≤ kc) (hks : ks' + rm.slots ≤ ks) (kk : ∀ (v : Option Value) (h' : fmHp), cpost v h' → fmW G Γ h' kc' ks' (pc + 3) L (v.toList ++ rest)) (kx : ∀ (q : Nat) (Ex : String) (h' : fmHp), cxp q Ex h' → fmT G Γ h' kc' ks' pc L Ex q) : fmW G Γ h kc ks pc L st := by
  intro H lo cx sx ls a1 a2 a3 a4 a5 Tt hT X
  have hr2 : 2 * (F0 Γ.m pc ls rest).monitorRoom + (rest.map fun v => v.category).sum ≤ 8 := by simpa [JFrame.monitorRoom] using hr
  exact fm_after (rm := rm) (fun v => rfl) rfl kc' ks' hkc hks a2 a3 a4 a5 kk kx (vx_callS X E.x (bytes := bytes) (maxL := ml) (ret := rt) E.xown (E.ts _ h1) (E.ts _ h2) (E.ts _ w0) (E.ts _ hM.1) hM.2.1 (fm_back E hC hM hf hl) (g := F0 Γ.m pc ls st) rfl a5.1 (argsL := As) (rest := rest) (fun sig hs => hn.trans (fm_len hM.2.2 sig hs)) hst hr2 (by rw [E.b]; exact d) (fun vm₁ hW₁ => fm_pre E hT hW₁ a1 (by omega) (by omega)))
theorem r_callSH (E : fmE G Γ cc nL own nm ret RM tb) (hC : Ct G y (wsW_ y bytes ml rt hh) rm (As) h cpost cxp) (hM : fmMH y bytes ml rt n hh) (w0 : Cond.initialized y.cls ∈ lw_all) (h1 : Cond.methodLink own index y ∈ lw_all) (h2 : Cond.static y ∈ lw_all) (hn : As.length = n) (hst : st = As.reverse ++ rest) (hf : rm.frames + 1 ≤ RM.frames) (hl : 8 + (ml + 11) + rm.locals ≤ RM.locals) (hr : (rest.map fun v => v.category).sum ≤ 8) (d : decode cc pc = .ok (.invokestatic index, 3)) (kc' ks' : Nat) (hkc : kc' + rm.cells ≤ kc) (hks : ks' + rm.slots ≤ ks) (kk : ∀ (v : Option Value) (h' : fmHp), cpost v h' → fmW G Γ h' kc' ks' (pc + 3) L (v.toList ++ rest)) (kx : ∀ (q : Nat) (Ex : String) (h' : fmHp), cxp q Ex h' → fmT G Γ h' kc' ks' pc L Ex q) : fmW G Γ h kc ks pc L st := by
  intro H lo cx sx ls a1 a2 a3 a4 a5 Tt hT X
  have hr2 : 2 * (F0 Γ.m pc ls rest).monitorRoom + (rest.map fun v => v.category).sum ≤ 8 := by simpa [JFrame.monitorRoom] using hr
  exact fm_after (rm := rm) (fun v => rfl) rfl kc' ks' hkc hks a2 a3 a4 a5 kk kx (vx_callSX X E.x (bytes := bytes) (maxL := ml) (ret := rt) (hh := hh) E.xown (E.ts _ h1) (E.ts _ h2) (E.ts _ w0) (E.ts _ hM.1) hM.2.1 (fm_backH E hC hM hf hl) (g := F0 Γ.m pc ls st) rfl a5.1 (argsL := As) (rest := rest) (fun sig hs => hn.trans (fm_len hM.2.2 sig hs)) hst hr2 (by rw [E.b]; exact d) (fun vm₁ hW₁ => fm_pre E hT hW₁ a1 (by omega) (by omega)))
theorem r_callSN (E : fmE G Γ cc nL own nm ret RM tb) (hC : Ct G y (ws_ y bytes ml rt) rm (As) h cpost cxp) (hM : fmM y bytes ml rt n) (w0 : Cond.initialized y.cls ∈ lw_all) {host : String} (h1 : Cond.methodLinkNest own index y host ∈ lw_tbl) (h2 : Cond.static y ∈ lw_all) (hn : As.length = n) (hst : st = As.reverse ++ rest) (hf : rm.frames + 1 ≤ RM.frames) (hl : 8 + (ml + 11) + rm.locals ≤ RM.locals) (hr : (rest.map fun v => v.category).sum ≤ 8) (d : decode cc pc = .ok (.invokestatic index, 3)) (kc' ks' : Nat) (hkc : kc' + rm.cells ≤ kc) (hks : ks' + rm.slots ≤ ks) (kk : ∀ (v : Option Value) (h' : fmHp), cpost v h' → fmW G Γ h' kc' ks' (pc + 3) L (v.toList ++ rest)) (kx : ∀ (q : Nat) (Ex : String) (h' : fmHp), cxp q Ex h' → fmT G Γ h' kc' ks' pc L Ex q) : fmW G Γ h kc ks pc L st := by
  intro H lo cx sx ls a1 a2 a3 a4 a5 Tt hT X
  have hr2 : 2 * (F0 Γ.m pc ls rest).monitorRoom + (rest.map fun v => v.category).sum ≤ 8 := by simpa [JFrame.monitorRoom] using hr
  exact fm_after (rm := rm) (fun v => rfl) rfl kc' ks' hkc hks a2 a3 a4 a5 kk kx (vx_callSN X E.x (bytes := bytes) (maxL := ml) (ret := rt) E.xown ((E.nw h1 rfl).use rfl) (E.ts _ h2) (E.ts _ w0) (E.ts _ hM.1) hM.2.1 (fm_back E hC hM hf hl) (g := F0 Γ.m pc ls st) rfl a5.1 (argsL := As) (rest := rest) (fun sig hs => hn.trans (fm_len hM.2.2 sig hs)) hst hr2 (by rw [E.b]; exact d) (fun vm₁ hW₁ => fm_pre E hT hW₁ a1 (by omega) (by omega)))
theorem r_callI (E : fmE G Γ cc nL own nm ret RM tb) (hC : Ct G y (ws_ y bytes ml none) rm (.ref b :: As) h cpost cxp) (hM : fmM y bytes ml none n) (hy1 : y.name = "<init>") (h1 : Cond.methodLink own index y ∈ lw_all) (h2 : Cond.instanceMethod y ∈ lw_all) (hn : As.length = n) (hst : st = As.reverse ++ .ref b :: rest) (hf : rm.frames + 1 ≤ RM.frames) (hl : 8 + (ml + 11) + rm.locals ≤ RM.locals) (hr : (rest.map fun v => v.category).sum ≤ 8) (d : decode cc pc = .ok (.invokespecial index, 3)) (kc' ks' : Nat) (hkc : kc' + rm.cells ≤ kc) (hks : ks' + rm.slots ≤ ks) (kk : ∀ (v : Option Value) (h' : fmHp), cpost v h' → fmW G Γ h' kc' ks' (pc + 3) L (v.toList ++ rest)) (kx : ∀ (q : Nat) (Ex : String) (h' : fmHp), cxp q Ex h' → fmT G Γ h' kc' ks' pc L Ex q) : fmW G Γ h kc ks pc L st := by
  intro H lo cx sx ls a1 a2 a3 a4 a5 Tt hT X
  have hr2 : 2 * (F0 Γ.m pc ls rest).monitorRoom + (rest.map fun v => v.category).sum ≤ 8 := by simpa [JFrame.monitorRoom] using hr
  exact fm_after (rm := rm) (fun v => rfl) rfl kc' ks' hkc hks a2 a3 a4 a5 kk kx (vx_callI X E.x (bytes := bytes) (maxL := ml) E.xown hy1 (E.ts _ h1) (E.ts _ h2) (E.ts _ hM.1) hM.2.1 (fm_back E hC hM hf hl) (g := F0 Γ.m pc ls st) rfl a5.1 (a := b) (argsL := As) (rest := rest) (fun sig hs => hn.trans (fm_len hM.2.2 sig hs)) hst hr2 (by rw [E.b]; exact d) (fun vm₁ hW₁ => fm_pre E hT hW₁ a1 (by omega) (by omega)))
theorem r_callF (E : fmE G Γ cc nL own nm ret RM tb) {x : MethodName} {count : Nat} (hC : Ct G y (ws_ y bytes ml rt) rm (.ref b :: As) h cpost cxp) (hM : fmM y bytes ml rt n) {b0 : Bool} {fs : List Value} (hc : vwCl[ci]? = some (C, T, N)) (he : h b = some (b0, .inr (.inl (ci, fs)))) (i : Nat) (hF : fmFw[i]? = some (C, x, y)) (h1 : Cond.methodLink own index x ∈ lw_all) (h2 : Cond.instanceMethod y ∈ lw_all) (h3 : Cond.selects C x y ∈ lw_all) (hx : (x.cls ≠ "java/lang/invoke/MethodHandle" ∧ x.cls ≠ "java/lang/invoke/VarHandle") ∧ (parseMethodDescriptor x.desc).map (fun d => d.parameters.length) = some n) (hn : As.length = n) (hst : st = As.reverse ++ .ref b :: rest) (hf : rm.frames + 1 ≤ RM.frames) (hl : 8 + (ml + 11) + rm.locals ≤ RM.locals) (hr : (rest.map fun v => v.category).sum ≤ 8) (d : decode cc pc = .ok (.invokeinterface index count, 5)) (kc' ks' : Nat) (hkc : kc' + rm.cells ≤ kc) (hks : ks' + rm.slots ≤ ks) (kk : ∀ (v : Option Value) (h' : fmHp), cpost v h' → fmW G Γ h' kc' ks' (pc + 5) L (v.toList ++ rest)) (kx : ∀ (q : Nat) (Ex : String) (h' : fmHp), cxp q Ex h' → fmT G Γ h' kc' ks' pc L Ex q) : fmW G Γ h kc ks pc L st := by
  intro H lo cx sx ls a1 a2 a3 a4 a5 Tt hT X
  have hr2 : 2 * (F0 Γ.m pc ls rest).monitorRoom + (rest.map fun v => v.category).sum ≤ 8 := by simpa [JFrame.monitorRoom] using hr
  obtain ⟨cB, g1, g2, g3⟩ := fm_rc a1 hc E.v he
  obtain ⟨w1, w2, w3, w4, w5⟩ := E.v.2.2.1 _ (List.mem_of_getElem? hF)
  obtain ⟨hfc, kB, hkB, -⟩ := (E.v.1.1 ci _ hc).2
  have hcc := Option.some.inj (hfc.symm.trans g3)
  rw [hcc] at hkB
  exact fm_after (rm := rm) (fun v => rfl) rfl kc' ks' hkc hks a2 a3 a4 a5 kk kx (vx_callIF X E.x (C := C) (bytes := bytes) (maxL := ml) (ret := rt) E.xown (E.ts _ h1) (va_any rfl w1) (va_any rfl w2) (E.ts _ h3) (E.ts _ h2) (va_any rfl w3) (va_any rfl w4) (va_any rfl w5) (E.ts _ hM.1) hx.1 (fm_back E hC hM hf hl) (b := b) (cellB := cB) (kB := kB) (by rw [hT]; exact g1) g2 g3 hkB (g := F0 Γ.m pc ls st) rfl a5.1 (argsL := As) (rest := rest) (fun sig hs => hn.trans (fm_len hx.2 sig hs)) hst hr2 (by rw [E.b]; exact d) (fun vm₁ hW₁ => fm_pre E hT hW₁ a1 (by omega) (by omega)))
end ROWS2
