/-! ROWS for the library's members: arraycopy, getClass -/
theorem va_cpy_0 {α : Type} {f g : Nat → α} {n i : Nat} (h : i < n) : va_cpy f g 0 0 n i = f i := by
  unfold va_cpy
  rw [if_pos ⟨Nat.zero_le _, by omega⟩]
  congr 1
  omega
theorem va_cpy_9 {f : Nat → Option Nat} {n i : Nat} (h : n ≤ i) : va_cpy f (fun _ => none) 0 0 n i = none := by
  unfold va_cpy
  rw [if_neg (by omega)]
/-- an object of a class that is told of in the tables -/
def isO (h : fmHp) (y : Nat) : Prop := ∃ (ci : Nat) (C : String) (T : u_T) (N : Nat) (b : Bool) (fs : List Value), vwCl[ci]? = some (C, T, N) ∧ h y = some (b, .inr (.inl (ci, fs))) ∧ Cond.castable C "java/lang/Object" ∈ lw_tbl
theorem shr1 {n : Nat} (h : n ≤ 1000) : nI n >>> (nI 1 &&& 31) = nI (n / 2) := by
  have key : ∀ k : Fin 1001, nI k.val >>> (nI 1 &&& 31) = nI (k.val / 2) := by decide +kernel
  exact key ⟨n, by omega⟩
section ROWJ
variable {G : fmG} {Γ : fmC} {cc : ByteArray} {nL : Nat} {own nm : String} {ret : Option FieldType} {RM : Room} {tb : List ExceptionTableEntry} {h : fmHp} {kc ks pc : Nat} {L : List (Option Value)} {st : List Value}
theorem fm_nn (z : Int32) (hz : ¬ z < 0) : z.toInt = (z.toNatClampNeg : Int) := by
  have hz0 : (0 : Int) ≤ z.toInt := by
    have := Int32.not_lt.mp hz
    simpa using Int32.le_iff_toInt_le.mp this
  show z.toInt = ((z.toInt.toNat : Nat) : Int)
  omega
theorem r_copyI (E : fmE G Γ cc nL own nm ret RM tb) {index a0 a n0 n1 t sp dp n : Nat} {b0 : Bool} {f g : Nat → Int32} {ty : FieldType} (ht : fmTy[t]? = some ty) (hp : refKind ty = false) (he0 : h a0 = some (b0, .inl (t, n0, .inl f))) (he1 : h a = some (true, .inl (t, n1, .inl g))) (h4 : sp + n ≤ n0) (h5 : dp + n ≤ n1) (hn0 : n0 < 2 ^ 31) (hn1 : n1 < 2 ^ 31) (hfit : ∀ i, i < n → fits ty (.int (f (sp + i))) = true)
    (hlink : Cond.methodLink own index arraycopyName ∈ lw_all) (w2 : Cond.static arraycopyName ∈ lw_all) (w3 : Cond.native arraycopyName ∈ lw_all) (w4 : Cond.initialized "java/lang/System" ∈ lw_all) (hf : 1 ≤ RM.frames) (hl : (st.map fun v => v.category).sum + (nativeFrameWords "java/lang/System" "arraycopy" 5 + 11) ≤ RM.locals) (d : decode cc pc = .ok (.invokestatic index, 3)) (k : fmW G Γ (fmUp h a (true, .inl (t, n1, .inl (va_cpy f g sp dp n)))) kc ks (pc + 3) L st) : fmW G Γ h kc ks pc L (.int (nI n) :: .int (nI dp) :: .ref a :: .int (nI sp) :: .ref a0 :: st) := by
  intro H lo cx sx ls a1 a2 a3 a4 a5 T hT X
  have c1 : (nI sp).toNatClampNeg = sp := nI_clamp (by omega)
  have c2 : (nI dp).toNatClampNeg = dp := nI_clamp (by omega)
  have c3 : (nI n).toNatClampNeg = n := nI_clamp (by omega)
  have q1 : ¬ nI sp < 0 := nI_pos (by omega)
  have q2 : ¬ nI dp < 0 := nI_pos (by omega)
  have q3 : ¬ nI n < 0 := nI_pos (by omega)
  have hc0 : H[a0]? = some (vp_cell (G.2.1 t) (n0, .inl f)) := (a1.1 _ _ _ he0).1
  have hc1 : H[a]? = some (vp_cell (G.2.1 t) (n1, .inl g)) := (a1.1 _ _ _ he1).1
  obtain ⟨-, k0, hk0, cm0, hkk0⟩ := (fm_ty E.v ht).1 n0 (fun j => .int (f j))
  obtain ⟨-, k1, hk1, cm1, hkk1⟩ := (fm_ty E.v ht).1 n1 (fun j => .int (g j))
  obtain ⟨vm', X', step⟩ := X.arraycopy E.x E.xown (E.ts _ hlink) (E.ts _ w3) (E.ts _ w2) (E.ts _ w4) (src := a0) (dst := a) (cs := vp_cell (G.2.1 t) (n0, .inl f)) (cd := vp_cell (G.2.1 t) (n1, .inl g)) (srcPos := nI sp) (destPos := nI dp) (n := nI n) (by rw [hT]; exact hc0) (by rw [hT]; exact hc1)
    (fun _ h => by cases h) (fun _ h => by cases h) (fun h => by cases h) (fun h => by cases h) hk0 hk1 hkk0 hkk1 (by simp [hp]) q1 q2 q3
    (by rw [fm_nn _ q1, fm_nn _ q3, c1, c3]; show ¬ _ > ((arrV (G.2.1 t) n0 (fun j => .int (f j))).slots.size : Int); rw [arrV_size]; omega)
    (by rw [fm_nn _ q2, fm_nn _ q3, c2, c3]; show ¬ _ > ((arrV (G.2.1 t) n1 (fun j => .int (g j))).slots.size : Int); rw [arrV_size]; omega)
    (fun vm₁ _ i hi => by
      have hi' : i < n := by rw [c3] at hi; exact hi
      have e : (vp_cell (G.2.1 t) (n0, .inl f)).slots.getD ((nI sp).toNatClampNeg + i) .null = .int (f (sp + i)) := by
        rw [c1]
        show (arrV (G.2.1 t) n0 (fun j => .int (f j))).slots.getD _ _ = _
        rw [Array.getD_eq_getD_getElem?, arrV_read _ _ (by omega)]
        rfl
      refine ⟨?_, ?_⟩
      · rw [e]
        exact hfit i hi'
      · rw [e]
        exact trivial)
    (g := F0 Γ.m pc ls (.int (nI n) :: .int (nI dp) :: .ref a :: .int (nI sp) :: .ref a0 :: st)) rfl (by rw [a5.1]) (rest := st) rfl (by rw [E.b]; exact d) (by rw [E.R]; exact hf) (by rw [E.R]; show 2 * 0 + _ + _ ≤ _; omega)
  have e1 : copied (vp_cell (G.2.1 t) (n0, .inl f)) (vp_cell (G.2.1 t) (n1, .inl g)) (nI sp) (nI dp) (nI n) = vp_cell (G.2.1 t) (n1, .inl (va_cpy f g (nI sp).toNatClampNeg (nI dp).toNatClampNeg (nI n).toNatClampNeg)) := va_copied (fun z => .int z) (G.2.1 t) (G.2.1 t) f g (by rw [c1, c3]; exact h4)
  rw [e1, c1, c2, c3] at X' step
  have hl2 : a < H.size := (Array.getElem?_eq_some_iff.mp hc1).1
  obtain ⟨t2, b1, b2⟩ := k (H.setIfInBounds a (vp_cell (G.2.1 t) (n1, .inl (va_cpy f g sp dp n)))) _ cx sx ls (a1.up (show (H.setIfInBounds a _)[a]? = some _ by simp [Array.getElem?_setIfInBounds, hl2]) ((a1.1 _ _ _ he1).2 rfl) (by simp) (fun q _ hq => by simp [Array.getElem?_setIfInBounds, Ne.symm hq])) (fun q hq => by
      rcases List.mem_append.mp hq with h | h
      · exact a2 q h
      · obtain ⟨z, -, hz⟩ := List.mem_map.mp h
        rw [← hz]
        exact (a1.1 _ _ _ he1).2 rfl) a3 a4 a5 _ (by rw [← hT]; rfl) X'
  exact ⟨t2, step t2 b1, b2⟩
theorem r_copyQ (E : fmE G Γ cc nL own nm ret RM tb) {index a0 a n0 n1 t0 t1 sp dp n : Nat} {b0 : Bool} {f g : Nat → Option Nat} {E0 E1 : String} (ht0 : fmTy[t0]? = some (.object E0)) (ht1 : fmTy[t1]? = some (.object E1)) (he0 : h a0 = some (b0, .inl (t0, n0, .inr (.inr (.inr (.inr f)))))) (he1 : h a = some (true, .inl (t1, n1, .inr (.inr (.inr (.inr g)))))) (h4 : sp + n ≤ n0) (h5 : dp + n ≤ n1) (hn0 : n0 < 2 ^ 31) (hn1 : n1 < 2 ^ 31)
    (hel : ∀ H : Heap, fmH G h H → ∀ i, i < n → ∀ y, f (sp + i) = some y → ∃ (Cv : String) (cell : Cell), Cond.castable Cv E1 ∈ lw_tbl ∧ H[y]? = some cell ∧ cell.vm.isStatics = false ∧ Γ.s.vm.findClass Cv = some cell.cls)
    (hlink : Cond.methodLink own index arraycopyName ∈ lw_all) (w2 : Cond.static arraycopyName ∈ lw_all) (w3 : Cond.native arraycopyName ∈ lw_all) (w4 : Cond.initialized "java/lang/System" ∈ lw_all) (hf : 1 ≤ RM.frames) (hl : (st.map fun v => v.category).sum + (nativeFrameWords "java/lang/System" "arraycopy" 5 + 11) ≤ RM.locals) (d : decode cc pc = .ok (.invokestatic index, 3)) (k : fmW G Γ (fmUp h a (true, .inl (t1, n1, .inr (.inr (.inr (.inr (va_cpy f g sp dp n))))))) kc ks (pc + 3) L st) : fmW G Γ h kc ks pc L (.int (nI n) :: .int (nI dp) :: .ref a :: .int (nI sp) :: .ref a0 :: st) := by
  intro H lo cx sx ls a1 a2 a3 a4 a5 T hT X
  have c1 : (nI sp).toNatClampNeg = sp := nI_clamp (by omega)
  have c2 : (nI dp).toNatClampNeg = dp := nI_clamp (by omega)
  have c3 : (nI n).toNatClampNeg = n := nI_clamp (by omega)
  have q1 : ¬ nI sp < 0 := nI_pos (by omega)
  have q2 : ¬ nI dp < 0 := nI_pos (by omega)
  have q3 : ¬ nI n < 0 := nI_pos (by omega)
  have hc0 : H[a0]? = some (vp_cell (G.2.1 t0) (n0, .inr (.inr (.inr (.inr f))))) := (a1.1 _ _ _ he0).1
  have hc1 : H[a]? = some (vp_cell (G.2.1 t1) (n1, .inr (.inr (.inr (.inr g))))) := (a1.1 _ _ _ he1).1
  obtain ⟨-, k0, hk0, cm0, hkk0⟩ := (fm_ty E.v ht0).1 n0 (fun j => va_rf (f j))
  obtain ⟨-, k1, hk1, cm1, hkk1⟩ := (fm_ty E.v ht1).1 n1 (fun j => va_rf (g j))
  obtain ⟨vm', X', step⟩ := X.arraycopy E.x E.xown (E.ts _ hlink) (E.ts _ w3) (E.ts _ w2) (E.ts _ w4) (src := a0) (dst := a) (cs := vp_cell (G.2.1 t0) (n0, .inr (.inr (.inr (.inr f))))) (cd := vp_cell (G.2.1 t1) (n1, .inr (.inr (.inr (.inr g))))) (srcPos := nI sp) (destPos := nI dp) (n := nI n) (by rw [hT]; exact hc0) (by rw [hT]; exact hc1)
    (fun _ h => by cases h) (fun _ h => by cases h) (fun h => by cases h) (fun h => by cases h) hk0 hk1 hkk0 hkk1 rfl q1 q2 q3
    (by rw [fm_nn _ q1, fm_nn _ q3, c1, c3]; show ¬ _ > ((arrV (G.2.1 t0) n0 (fun j => va_rf (f j))).slots.size : Int); rw [arrV_size]; omega)
    (by rw [fm_nn _ q2, fm_nn _ q3, c2, c3]; show ¬ _ > ((arrV (G.2.1 t1) n1 (fun j => va_rf (g j))).slots.size : Int); rw [arrV_size]; omega)
    (fun vm₁ hal i hi => by
      have hi' : i < n := by rw [c3] at hi; exact hi
      have e : (vp_cell (G.2.1 t0) (n0, .inr (.inr (.inr (.inr f))))).slots.getD ((nI sp).toNatClampNeg + i) .null = va_rf (f (sp + i)) := by
        rw [c1]
        show (arrV (G.2.1 t0) n0 (fun j => va_rf (f j))).slots.getD _ _ = _
        rw [Array.getD_eq_getD_getElem?, arrV_read _ _ (by omega)]
        rfl
      rw [e]
      cases hy : f (sp + i) with
      | none => exact ⟨rfl, trivial⟩
      | some y =>
        obtain ⟨Cv, cellV, hca, g1, g2, g3⟩ := hel H a1 i hi' y hy
        obtain ⟨kA, comp, r1, r2, r3, -⟩ := (fm_ty E.v ht1).2
        cases hk1.symm.trans r1
        cases hkk1.symm.trans r2
        obtain ⟨c0, t1', f1, f2, f3⟩ := Cond.castable_spec (va_Nw.use (A := Γ.args) rfl (E.nw hca rfl))
        cases g3.symm.trans f1
        cases r3.symm.trans f2
        obtain ⟨kC, hkC, -⟩ := Vm.findClass_spec g3
        obtain ⟨kE, hkE, -⟩ := Vm.findClass_spec r3
        obtain ⟨kC', hkC', -⟩ := hal.2.2 _ _ hkC
        obtain ⟨kE', hkE', -⟩ := hal.2.2 _ _ hkE
        refine ⟨rfl, cellV, (show T.heap[y]? = some cellV by rw [hT]; exact g1), (fun q h => by rw [h] at g2; cases g2), ⟨kC', hkC'⟩, ?_, ?_⟩
        · exact ⟨kE', hkE'⟩
        · show vm₁.assignable _ _ = true
          rw [hal.assignable]
          exact f3)
    (g := F0 Γ.m pc ls (.int (nI n) :: .int (nI dp) :: .ref a :: .int (nI sp) :: .ref a0 :: st)) rfl (by rw [a5.1]) (rest := st) rfl (by rw [E.b]; exact d) (by rw [E.R]; exact hf) (by rw [E.R]; show 2 * 0 + _ + _ ≤ _; omega)
  have e1 : copied (vp_cell (G.2.1 t0) (n0, .inr (.inr (.inr (.inr f))))) (vp_cell (G.2.1 t1) (n1, .inr (.inr (.inr (.inr g))))) (nI sp) (nI dp) (nI n) = vp_cell (G.2.1 t1) (n1, .inr (.inr (.inr (.inr (va_cpy f g (nI sp).toNatClampNeg (nI dp).toNatClampNeg (nI n).toNatClampNeg))))) := by
    rw [vp_cell_q, vp_cell_q, vp_cell_q]
    exact va_copied (fun z => va_rf z) (G.2.1 t0) (G.2.1 t1) f g (by rw [c1, c3]; exact h4)
  rw [e1, c1, c2, c3] at X' step
  have hl2 : a < H.size := (Array.getElem?_eq_some_iff.mp hc1).1
  obtain ⟨t2, b1, b2⟩ := k (H.setIfInBounds a (vp_cell (G.2.1 t1) (n1, .inr (.inr (.inr (.inr (va_cpy f g sp dp n))))))) _ cx sx ls (a1.up (show (H.setIfInBounds a _)[a]? = some _ by simp [Array.getElem?_setIfInBounds, hl2]) ((a1.1 _ _ _ he1).2 rfl) (by simp) (fun q _ hq => by simp [Array.getElem?_setIfInBounds, Ne.symm hq])) (fun q hq => by
      rcases List.mem_append.mp hq with h | h
      · exact a2 q h
      · obtain ⟨z, -, hz⟩ := List.mem_map.mp h
        rw [← hz]
        exact (a1.1 _ _ _ he1).2 rfl) a3 a4 a5 _ (by rw [← hT]; rfl) X'
  exact ⟨t2, step t2 b1, b2⟩
theorem r_getC (E : fmE G Γ cc nL own nm ret RM tb) {index a n : Nat} {b : Bool} {f : Nat → Option Nat} (he : h a = some (b, .inl (6, n, .inr (.inr (.inr (.inr f)))))) (hlink : Cond.methodLink own index ⟨"java/lang/Object", "getClass", "()Ljava/lang/Class;"⟩ ∈ lw_all) (w1 : Cond.declares ⟨"java/lang/Object", "getClass", "()Ljava/lang/Class;"⟩ ∈ lw_tbl) (w2 : Cond.selects "[Ljava/lang/Object;" ⟨"java/lang/Object", "getClass", "()Ljava/lang/Class;"⟩ ⟨"java/lang/Object", "getClass", "()Ljava/lang/Class;"⟩ ∈ lw_all) (w3 : Cond.instanceMethod ⟨"java/lang/Object", "getClass", "()Ljava/lang/Class;"⟩ ∈ lw_all) (w4 : Cond.native ⟨"java/lang/Object", "getClass", "()Ljava/lang/Class;"⟩ ∈ lw_all)
    (hf : 1 ≤ RM.frames) (hl : (st.map fun v => v.category).sum + 14 ≤ RM.locals) (d : decode cc pc = .ok (.invokevirtual index, 3)) (k : fmW G Γ h kc ks (pc + 3) L (.ref (fmAd G 13) :: st)) : fmW G Γ h kc ks pc L (.ref a :: st) := by
  intro H lo cx sx ls a1 a2 a3 a4 a5
  refine va_getC (C := "[Ljava/lang/Object;") E.x E.b (by rw [a5.1]) E.xown (E.ts _ hlink) (show (Cond.declares _).before Γ.args Γ.s = true from va_Dc.use (E.nw w1 rfl)) (E.ts _ w2) (E.ts _ w3) (E.ts _ w4) E.v.2.2.2.2.2.2.2.2.1 ⟨_, (a1.1 _ _ _ he).1, rfl, ?_⟩ (by rw [E.R]; exact hf) (by rw [E.R]; exact hl) d (k H lo cx sx ls a1 a2 a3 a4 a5)
  obtain ⟨kA, comp, r1, r2, r3, r4⟩ := (fm_ty E.v (t := 6) (y := .object "java/lang/Object") rfl).2
  exact r4
theorem nI_max {a b : Nat} (ha : a < 2 ^ 31) (hb : b < 2 ^ 31) : (if nI a < nI b then nI b else nI a) = nI (max a b) := by
  by_cases h : a < b
  · rw [if_pos (nI_lt h hb)]; congr 1; omega
  · rw [if_neg (fun q => h ((nI_ltI ha hb).mp q))]; congr 1; omega
theorem nI_min {a b : Nat} (ha : a < 2 ^ 31) (hb : b < 2 ^ 31) : (if nI b < nI a then nI b else nI a) = nI (min a b) := by
  by_cases h : b < a
  · rw [if_pos (nI_lt h ha)]; congr 1; omega
  · rw [if_neg (fun q => h ((nI_ltI hb ha).mp q))]; congr 1; omega
theorem r_max (E : fmE G Γ cc nL own nm ret RM tb) {index a b : Nat} (ha : a < 2 ^ 31) (hb : b < 2 ^ 31) (hlink : Cond.methodLink own index Lib.Math.max.name ∈ lw_all) (w2 : Cond.static Lib.Math.max.name ∈ lw_all) (w3 : Cond.initialized "java/lang/Math" ∈ lw_all) (w4 : Cond.code Lib.Math.max.name Lib.Math.max.code 2 (some .int) ∈ lw_all) (hf : 1 ≤ RM.frames) (hl : (st.map fun v => v.category).sum + 13 ≤ RM.locals) (d : decode cc pc = .ok (.invokestatic index, 3)) (k : fmW G Γ h kc ks (pc + 3) L (.int (nI (max a b)) :: st)) : fmW G Γ h kc ks pc L (.int (nI b) :: .int (nI a) :: st) := by
  intro H lo cx sx ls a1 a2 a3 a4 a5
  refine va_mmax E.x E.b (by rw [a5.1]) E.xown (E.ts _ hlink) (E.ts _ w2) (E.ts _ w3) (E.ts _ w4) (by rw [E.R]; exact hf) (by rw [E.R]; exact hl) (by omega) (by omega) d ?_
  rw [nI_max ha hb]
  exact k H lo cx sx ls a1 a2 a3 a4 a5
theorem r_min (E : fmE G Γ cc nL own nm ret RM tb) {index a b : Nat} (ha : a < 2 ^ 31) (hb : b < 2 ^ 31) (hlink : Cond.methodLink own index Lib.Math.min.name ∈ lw_all) (w2 : Cond.static Lib.Math.min.name ∈ lw_all) (w3 : Cond.initialized "java/lang/Math" ∈ lw_all) (w4 : Cond.code Lib.Math.min.name Lib.Math.min.code 2 (some .int) ∈ lw_all) (hf : 1 ≤ RM.frames) (hl : (st.map fun v => v.category).sum + 13 ≤ RM.locals) (d : decode cc pc = .ok (.invokestatic index, 3)) (k : fmW G Γ h kc ks (pc + 3) L (.int (nI (min a b)) :: st)) : fmW G Γ h kc ks pc L (.int (nI b) :: .int (nI a) :: st) := by
  intro H lo cx sx ls a1 a2 a3 a4 a5
  refine va_mmin E.x E.b (by rw [a5.1]) E.xown (E.ts _ hlink) (E.ts _ w2) (E.ts _ w3) (E.ts _ w4) (by rw [E.R]; exact hf) (by rw [E.R]; exact hl) (by omega) (by omega) d ?_
  rw [nI_min ha hb]
  exact k H lo cx sx ls a1 a2 a3 a4 a5
end ROWJ
