/-! BASE 2: rows of the judgement -/
section ROWS
variable {G : fmG} {Γ : fmC} {cc : ByteArray} {nL : Nat} {own nm : String} {ret : Option FieldType} {RM : Room} {tb : List ExceptionTableEntry} {h : fmHp} {kc ks pc : Nat} {L : List (Option Value)} {st : List Value}
def bI (b : Bool) : Int32 := if b then 1 else 0
theorem bI_or (a b : Bool) : bI a ||| bI b = bI (a || b) := by cases a <;> cases b <;> rfl
theorem bI_and (a b : Bool) : bI a &&& bI b = bI (a && b) := by cases a <;> cases b <;> rfl
theorem bI_0 (b : Bool) : bI b = 0 ↔ b = false := by cases b <;> decide
theorem bI_n (b : Bool) : narrow .boolean (.int (bI b)) = .int (bI b) := by cases b <;> rfl
theorem bI_f (b : Bool) : fits .boolean (.int (bI b)) = true := by cases b <;> rfl
theorem bI_dec (p : Prop) (d : Decidable p) : bI (decide p) = if p then 1 else 0 := by unfold bI; by_cases q : p <;> simp [q]
theorem fmE.x (E : fmE G Γ cc nL own nm ret RM tb) : Γ.p.tables.exec = Jvm.exec := E.1
theorem fmE.b (E : fmE G Γ cc nL own nm ret RM tb) : Γ.c.code = cc := E.2.1
theorem fmE.ml (E : fmE G Γ cc nL own nm ret RM tb) : Γ.c.maxLocals = nL := E.2.2.1
theorem fmE.xown (E : fmE G Γ cc nL own nm ret RM tb) : Γ.s.vm.findClass own = some Γ.m.cls := E.2.2.2.1
theorem fmE.xret (E : fmE G Γ cc nL own nm ret RM tb) : Γ.meth.sig.returnType = ret := E.2.2.2.2.1
theorem fmE.lock (E : fmE G Γ cc nL own nm ret RM tb) : Γ.meth.locks = false := E.2.2.2.2.2.1
theorem fmE.xnm (E : fmE G Γ cc nL own nm ret RM tb) : Γ.meth.name = nm := E.2.2.2.2.2.2.1
theorem fmE.ts (E : fmE G Γ cc nL own nm ret RM tb) : ∀ w ∈ lw_all, w.before Γ.args Γ.s = true := E.2.2.2.2.2.2.2.1
theorem fmE.v (E : fmE G Γ cc nL own nm ret RM tb) : fmV G Γ.s := E.2.2.2.2.2.2.2.2.1
theorem fmE.xtb (E : fmE G Γ cc nL own nm ret RM tb) : Γ.c.exceptionTable.toList = tb := E.2.2.2.2.2.2.2.2.2.1
theorem fmE.R (E : fmE G Γ cc nL own nm ret RM tb) : Γ.R = RM := E.2.2.2.2.2.2.2.2.2.2.1
theorem fmE.tr (E : fmE G Γ cc nL own nm ret RM tb) : (fmLn G).stackTraces = false := E.2.2.2.2.2.2.2.2.2.2.2.1
theorem fmE.hp (E : fmE G Γ cc nL own nm ret RM tb) : fmB G Γ.s.heap := E.2.2.2.2.2.2.2.2.2.2.2.2
theorem fmE.nw (E : fmE G Γ cc nL own nm ret RM tb) {w : Cond} (hw : w ∈ lw_tbl) (hk : fmNwOk w = true) : va_Nw w Γ.s := E.v.2.1 w hw hk
theorem r_iconst (E : fmE G Γ cc nL own nm ret RM tb) {n : Int} (v : Int32) (d : decode cc pc = .ok (.iconst n, 1)) (hv : Int32.ofInt n = v) (k : fmW G Γ h kc ks (pc + 1) L (.int v :: st)) : fmW G Γ h kc ks pc L st := by
  intro H lo cx sx ls a1 a2 a3 a4 a5
  exact lv_iconst E.x E.b d hv (k H lo cx sx ls a1 a2 a3 a4 a5)
theorem r_bipush (E : fmE G Γ cc nL own nm ret RM tb) {n : Int} (v : Int32) (d : decode cc pc = .ok (.bipush n, 2)) (hv : (Int8.ofInt n).toInt32 = v) (k : fmW G Γ h kc ks (pc + 2) L (.int v :: st)) : fmW G Γ h kc ks pc L st := by
  intro H lo cx sx ls a1 a2 a3 a4 a5
  exact lv_bipush E.x E.b d hv (k H lo cx sx ls a1 a2 a3 a4 a5)
theorem r_sipush (E : fmE G Γ cc nL own nm ret RM tb) {n : Int} (v : Int32) (d : decode cc pc = .ok (.sipush n, 3)) (hv : (Int16.ofInt n).toInt32 = v) (k : fmW G Γ h kc ks (pc + 3) L (.int v :: st)) : fmW G Γ h kc ks pc L st := by
  intro H lo cx sx ls a1 a2 a3 a4 a5
  exact lv_sipush E.x E.b d hv (k H lo cx sx ls a1 a2 a3 a4 a5)
theorem r_lconst (E : fmE G Γ cc nL own nm ret RM tb) {n : Fin 2} (v : Int64) (d : decode cc pc = .ok (.lconst n, 1)) (hv : Int64.ofNat (n : Nat) = v) (k : fmW G Γ h kc ks (pc + 1) L (.long v :: st)) : fmW G Γ h kc ks pc L st := by
  intro H lo cx sx ls a1 a2 a3 a4 a5
  exact lv_lconst E.x E.b d hv (k H lo cx sx ls a1 a2 a3 a4 a5)
theorem r_null (E : fmE G Γ cc nL own nm ret RM tb) (d : decode cc pc = .ok (.aconst_null, 1)) (k : fmW G Γ h kc ks (pc + 1) L (.null :: st)) : fmW G Γ h kc ks pc L st := by
  intro H lo cx sx ls a1 a2 a3 a4 a5
  exact lv_null E.x E.b d (k H lo cx sx ls a1 a2 a3 a4 a5)
theorem r_iload_n (E : fmE G Γ cc nL own nm ret RM tb) {j : Fin 4} {x : Int32} (d : decode cc pc = .ok (.iload_n j, 1)) (hL : L[(j : Nat)]? = some (some (.int x))) (k : fmW G Γ h kc ks (pc + 1) L (.int x :: st)) : fmW G Γ h kc ks pc L st := by
  intro H lo cx sx ls a1 a2 a3 a4 a5
  exact lv_iload_n E.x E.b d rfl (fm_ld a5 hL) (k H lo cx sx ls a1 a2 a3 a4 a5)
theorem r_iload (E : fmE G Γ cc nL own nm ret RM tb) {j : Nat} {x : Int32} (d : decode cc pc = .ok (.iload j, 2)) (hL : L[j]? = some (some (.int x))) (k : fmW G Γ h kc ks (pc + 2) L (.int x :: st)) : fmW G Γ h kc ks pc L st := by
  intro H lo cx sx ls a1 a2 a3 a4 a5
  exact lv_iload E.x E.b d (fm_ld a5 hL) (k H lo cx sx ls a1 a2 a3 a4 a5)
theorem r_lload_n (E : fmE G Γ cc nL own nm ret RM tb) {j : Fin 4} {x : Int64} (d : decode cc pc = .ok (.lload_n j, 1)) (hL : L[(j : Nat)]? = some (some (.long x))) (k : fmW G Γ h kc ks (pc + 1) L (.long x :: st)) : fmW G Γ h kc ks pc L st := by
  intro H lo cx sx ls a1 a2 a3 a4 a5
  exact lv_lload_n E.x E.b d rfl (fm_ld a5 hL) (k H lo cx sx ls a1 a2 a3 a4 a5)
theorem r_lload (E : fmE G Γ cc nL own nm ret RM tb) {j : Nat} {x : Int64} (d : decode cc pc = .ok (.lload j, 2)) (hL : L[j]? = some (some (.long x))) (k : fmW G Γ h kc ks (pc + 2) L (.long x :: st)) : fmW G Γ h kc ks pc L st := by
  intro H lo cx sx ls a1 a2 a3 a4 a5
  exact lv_lload E.x E.b d (fm_ld a5 hL) (k H lo cx sx ls a1 a2 a3 a4 a5)
theorem r_aload_n (E : fmE G Γ cc nL own nm ret RM tb) {j : Fin 4} {x : Nat} (d : decode cc pc = .ok (.aload_n j, 1)) (hL : L[(j : Nat)]? = some (some (.ref x))) (k : fmW G Γ h kc ks (pc + 1) L (.ref x :: st)) : fmW G Γ h kc ks pc L st := by
  intro H lo cx sx ls a1 a2 a3 a4 a5
  exact lv_aload_n E.x E.b d rfl (fm_ld a5 hL) (k H lo cx sx ls a1 a2 a3 a4 a5)
theorem r_aload (E : fmE G Γ cc nL own nm ret RM tb) {j : Nat} {x : Nat} (d : decode cc pc = .ok (.aload j, 2)) (hL : L[j]? = some (some (.ref x))) (k : fmW G Γ h kc ks (pc + 2) L (.ref x :: st)) : fmW G Γ h kc ks pc L st := by
  intro H lo cx sx ls a1 a2 a3 a4 a5
  exact lv_aload E.x E.b d (fm_ld a5 hL) (k H lo cx sx ls a1 a2 a3 a4 a5)
theorem r_dload_n (E : fmE G Γ cc nL own nm ret RM tb) {j : Fin 4} {x : UInt64} (d : decode cc pc = .ok (.dload_n j, 1)) (hL : L[(j : Nat)]? = some (some (.double x))) (k : fmW G Γ h kc ks (pc + 1) L (.double x :: st)) : fmW G Γ h kc ks pc L st := by
  intro H lo cx sx ls a1 a2 a3 a4 a5
  exact lv_dload_n E.x E.b d rfl (fm_ld a5 hL) (k H lo cx sx ls a1 a2 a3 a4 a5)
theorem r_dload (E : fmE G Γ cc nL own nm ret RM tb) {j : Nat} {x : UInt64} (d : decode cc pc = .ok (.dload j, 2)) (hL : L[j]? = some (some (.double x))) (k : fmW G Γ h kc ks (pc + 2) L (.double x :: st)) : fmW G Γ h kc ks pc L st := by
  intro H lo cx sx ls a1 a2 a3 a4 a5
  exact lv_dload E.x E.b d (fm_ld a5 hL) (k H lo cx sx ls a1 a2 a3 a4 a5)
theorem r_fload_n (E : fmE G Γ cc nL own nm ret RM tb) {j : Fin 4} {x : UInt32} (d : decode cc pc = .ok (.fload_n j, 1)) (hL : L[(j : Nat)]? = some (some (.float x))) (k : fmW G Γ h kc ks (pc + 1) L (.float x :: st)) : fmW G Γ h kc ks pc L st := by
  intro H lo cx sx ls a1 a2 a3 a4 a5
  exact lv_fload_n E.x E.b d rfl (fm_ld a5 hL) (k H lo cx sx ls a1 a2 a3 a4 a5)
theorem r_fload (E : fmE G Γ cc nL own nm ret RM tb) {j : Nat} {x : UInt32} (d : decode cc pc = .ok (.fload j, 2)) (hL : L[j]? = some (some (.float x))) (k : fmW G Γ h kc ks (pc + 2) L (.float x :: st)) : fmW G Γ h kc ks pc L st := by
  intro H lo cx sx ls a1 a2 a3 a4 a5
  exact lv_fload E.x E.b d (fm_ld a5 hL) (k H lo cx sx ls a1 a2 a3 a4 a5)
theorem r_aload_nN (E : fmE G Γ cc nL own nm ret RM tb) {j : Fin 4} (d : decode cc pc = .ok (.aload_n j, 1)) (hL : L[(j : Nat)]? = some (some .null)) (k : fmW G Γ h kc ks (pc + 1) L (.null :: st)) : fmW G Γ h kc ks pc L st := by
  intro H lo cx sx ls a1 a2 a3 a4 a5
  exact lv_aload_nN E.x E.b d rfl (fm_ld a5 hL) (k H lo cx sx ls a1 a2 a3 a4 a5)
theorem r_aloadN (E : fmE G Γ cc nL own nm ret RM tb) {j : Nat} (d : decode cc pc = .ok (.aload j, 2)) (hL : L[j]? = some (some .null)) (k : fmW G Γ h kc ks (pc + 2) L (.null :: st)) : fmW G Γ h kc ks pc L st := by
  intro H lo cx sx ls a1 a2 a3 a4 a5
  exact lv_aloadN E.x E.b d (fm_ld a5 hL) (k H lo cx sx ls a1 a2 a3 a4 a5)
theorem r_istore_n (E : fmE G Γ cc nL own nm ret RM tb) {j : Fin 4} {x : Int32} (L' : List (Option Value)) (d : decode cc pc = .ok (.istore_n j, 1)) (hok : fmSt1 L (j : Nat) nL = true) (hL : L.set (j : Nat) (some (.int x)) = L') (k : fmW G Γ h kc ks (pc + 1) L' st) : fmW G Γ h kc ks pc L (.int x :: st) := by
  intro H lo cx sx ls a1 a2 a3 a4 a5
  exact lv_istore_n (nL := nL) E.x E.b d rfl (by rw [← E.ml]; exact a5) (by have := hok; simp only [fmSt1, Bool.and_eq_true, decide_eq_true_eq] at this; exact this.1) rfl (fun ls' hl => k H lo cx sx ls' a1 a2 a3 a4 (by rw [E.ml]; exact fm_st1 hok hL hl))
theorem r_istore (E : fmE G Γ cc nL own nm ret RM tb) {j : Nat} {x : Int32} (L' : List (Option Value)) (d : decode cc pc = .ok (.istore j, 2)) (hok : fmSt1 L j nL = true) (hL : L.set j (some (.int x)) = L') (k : fmW G Γ h kc ks (pc + 2) L' st) : fmW G Γ h kc ks pc L (.int x :: st) := by
  intro H lo cx sx ls a1 a2 a3 a4 a5
  exact lv_istore (nL := nL) E.x E.b d (by rw [← E.ml]; exact a5) (by have := hok; simp only [fmSt1, Bool.and_eq_true, decide_eq_true_eq] at this; exact this.1) rfl (fun ls' hl => k H lo cx sx ls' a1 a2 a3 a4 (by rw [E.ml]; exact fm_st1 hok hL hl))
theorem r_lstore_n (E : fmE G Γ cc nL own nm ret RM tb) {j : Fin 4} {x : Int64} (L' : List (Option Value)) (d : decode cc pc = .ok (.lstore_n j, 1)) (hok : fmSt2 L (j : Nat) nL = true) (hL : (L.set (j : Nat) (some (.long x))).set ((j : Nat) + 1) none = L') (k : fmW G Γ h kc ks (pc + 1) L' st) : fmW G Γ h kc ks pc L (.long x :: st) := by
  intro H lo cx sx ls a1 a2 a3 a4 a5
  exact lv_lstore_n (nL := nL) E.x E.b d rfl (by rw [← E.ml]; exact a5) (by have := hok; simp only [fmSt2, Bool.and_eq_true, decide_eq_true_eq] at this; exact this.1) rfl (fun ls' hl => k H lo cx sx ls' a1 a2 a3 a4 (by rw [E.ml]; exact fm_st2 hok hL hl))
theorem r_lstore (E : fmE G Γ cc nL own nm ret RM tb) {j : Nat} {x : Int64} (L' : List (Option Value)) (d : decode cc pc = .ok (.lstore j, 2)) (hok : fmSt2 L j nL = true) (hL : (L.set j (some (.long x))).set (j + 1) none = L') (k : fmW G Γ h kc ks (pc + 2) L' st) : fmW G Γ h kc ks pc L (.long x :: st) := by
  intro H lo cx sx ls a1 a2 a3 a4 a5
  exact lv_lstore (nL := nL) E.x E.b d (by rw [← E.ml]; exact a5) (by have := hok; simp only [fmSt2, Bool.and_eq_true, decide_eq_true_eq] at this; exact this.1) rfl (fun ls' hl => k H lo cx sx ls' a1 a2 a3 a4 (by rw [E.ml]; exact fm_st2 hok hL hl))
theorem r_astore_n (E : fmE G Γ cc nL own nm ret RM tb) {j : Fin 4} {x : Nat} (L' : List (Option Value)) (d : decode cc pc = .ok (.astore_n j, 1)) (hok : fmSt1 L (j : Nat) nL = true) (hL : L.set (j : Nat) (some (.ref x)) = L') (k : fmW G Γ h kc ks (pc + 1) L' st) : fmW G Γ h kc ks pc L (.ref x :: st) := by
  intro H lo cx sx ls a1 a2 a3 a4 a5
  exact lv_astore_n (nL := nL) E.x E.b d rfl (by rw [← E.ml]; exact a5) (by have := hok; simp only [fmSt1, Bool.and_eq_true, decide_eq_true_eq] at this; exact this.1) rfl (fun ls' hl => k H lo cx sx ls' a1 a2 a3 a4 (by rw [E.ml]; exact fm_st1 hok hL hl))
theorem r_astore (E : fmE G Γ cc nL own nm ret RM tb) {j : Nat} {x : Nat} (L' : List (Option Value)) (d : decode cc pc = .ok (.astore j, 2)) (hok : fmSt1 L j nL = true) (hL : L.set j (some (.ref x)) = L') (k : fmW G Γ h kc ks (pc + 2) L' st) : fmW G Γ h kc ks pc L (.ref x :: st) := by
  intro H lo cx sx ls a1 a2 a3 a4 a5
  exact lv_astore (nL := nL) E.x E.b d (by rw [← E.ml]; exact a5) (by have := hok; simp only [fmSt1, Bool.and_eq_true, decide_eq_true_eq] at this; exact this.1) rfl (fun ls' hl => k H lo cx sx ls' a1 a2 a3 a4 (by rw [E.ml]; exact fm_st1 hok hL hl))
theorem r_dstore_n (E : fmE G Γ cc nL own nm ret RM tb) {j : Fin 4} {x : UInt64} (L' : List (Option Value)) (d : decode cc pc = .ok (.dstore_n j, 1)) (hok : fmSt2 L (j : Nat) nL = true) (hL : (L.set (j : Nat) (some (.double x))).set ((j : Nat) + 1) none = L') (k : fmW G Γ h kc ks (pc + 1) L' st) : fmW G Γ h kc ks pc L (.double x :: st) := by
  intro H lo cx sx ls a1 a2 a3 a4 a5
  exact lv_dstore_n (nL := nL) E.x E.b d rfl (by rw [← E.ml]; exact a5) (by have := hok; simp only [fmSt2, Bool.and_eq_true, decide_eq_true_eq] at this; exact this.1) rfl (fun ls' hl => k H lo cx sx ls' a1 a2 a3 a4 (by rw [E.ml]; exact fm_st2 hok hL hl))
theorem r_dstore (E : fmE G Γ cc nL own nm ret RM tb) {j : Nat} {x : UInt64} (L' : List (Option Value)) (d : decode cc pc = .ok (.dstore j, 2)) (hok : fmSt2 L j nL = true) (hL : (L.set j (some (.double x))).set (j + 1) none = L') (k : fmW G Γ h kc ks (pc + 2) L' st) : fmW G Γ h kc ks pc L (.double x :: st) := by
  intro H lo cx sx ls a1 a2 a3 a4 a5
  exact lv_dstore (nL := nL) E.x E.b d (by rw [← E.ml]; exact a5) (by have := hok; simp only [fmSt2, Bool.and_eq_true, decide_eq_true_eq] at this; exact this.1) rfl (fun ls' hl => k H lo cx sx ls' a1 a2 a3 a4 (by rw [E.ml]; exact fm_st2 hok hL hl))
theorem r_astore_nN (E : fmE G Γ cc nL own nm ret RM tb) {j : Fin 4} (L' : List (Option Value)) (d : decode cc pc = .ok (.astore_n j, 1)) (hok : fmSt1 L (j : Nat) nL = true) (hL : L.set (j : Nat) (some .null) = L') (k : fmW G Γ h kc ks (pc + 1) L' st) : fmW G Γ h kc ks pc L (.null :: st) := by
  intro H lo cx sx ls a1 a2 a3 a4 a5
  exact lv_astore_nN (nL := nL) E.x E.b d rfl (by rw [← E.ml]; exact a5) (by have := hok; simp only [fmSt1, Bool.and_eq_true, decide_eq_true_eq] at this; exact this.1) rfl (fun ls' hl => k H lo cx sx ls' a1 a2 a3 a4 (by rw [E.ml]; exact fm_st1 hok hL hl))
theorem r_astoreN (E : fmE G Γ cc nL own nm ret RM tb) {j : Nat} (L' : List (Option Value)) (d : decode cc pc = .ok (.astore j, 2)) (hok : fmSt1 L j nL = true) (hL : L.set j (some .null) = L') (k : fmW G Γ h kc ks (pc + 2) L' st) : fmW G Γ h kc ks pc L (.null :: st) := by
  intro H lo cx sx ls a1 a2 a3 a4 a5
  exact lv_astoreN (nL := nL) E.x E.b d (by rw [← E.ml]; exact a5) (by have := hok; simp only [fmSt1, Bool.and_eq_true, decide_eq_true_eq] at this; exact this.1) rfl (fun ls' hl => k H lo cx sx ls' a1 a2 a3 a4 (by rw [E.ml]; exact fm_st1 hok hL hl))
theorem r_iinc (E : fmE G Γ cc nL own nm ret RM tb) {j : Nat} {n : Int} {x : Int32} (v : Int32) (L' : List (Option Value)) (d : decode cc pc = .ok (.iinc j n, 3)) (hx : L[j]? = some (some (.int x))) (hv : x + Int32.ofInt n = v) (hok : fmSt1 L j nL = true) (hL : L.set j (some (.int v)) = L') (k : fmW G Γ h kc ks (pc + 3) L' st) : fmW G Γ h kc ks pc L st := by
  intro H lo cx sx ls a1 a2 a3 a4 a5
  obtain ⟨q, hq⟩ := List.getElem?_of_mem (fmA_in L 0 j _ hx)
  rw [Nat.zero_add] at hq
  exact lv_iinc (nL := nL) (k := q) E.x E.b d (by rw [← E.ml]; exact a5) hq hv (by have := hok; simp only [fmSt1, Bool.and_eq_true, decide_eq_true_eq] at this; exact this.1) rfl (fun ls' hl => k H lo cx sx ls' a1 a2 a3 a4 (by rw [E.ml]; exact fm_st1 hok hL hl))
theorem r_iadd (E : fmE G Γ cc nL own nm ret RM tb) {x y : Int32} (d : decode cc pc = .ok (.iadd, 1)) (k : fmW G Γ h kc ks (pc + 1) L (.int (x + y) :: st)) : fmW G Γ h kc ks pc L (.int y :: .int x :: st) := by
  intro H lo cx sx ls a1 a2 a3 a4 a5
  exact lv_iadd E.x E.b d (k H lo cx sx ls a1 a2 a3 a4 a5)
theorem r_isub (E : fmE G Γ cc nL own nm ret RM tb) {x y : Int32} (d : decode cc pc = .ok (.isub, 1)) (k : fmW G Γ h kc ks (pc + 1) L (.int (x - y) :: st)) : fmW G Γ h kc ks pc L (.int y :: .int x :: st) := by
  intro H lo cx sx ls a1 a2 a3 a4 a5
  exact lv_isub E.x E.b d (k H lo cx sx ls a1 a2 a3 a4 a5)
theorem r_imul (E : fmE G Γ cc nL own nm ret RM tb) {x y : Int32} (d : decode cc pc = .ok (.imul, 1)) (k : fmW G Γ h kc ks (pc + 1) L (.int (x * y) :: st)) : fmW G Γ h kc ks pc L (.int y :: .int x :: st) := by
  intro H lo cx sx ls a1 a2 a3 a4 a5
  exact lv_imul E.x E.b d (k H lo cx sx ls a1 a2 a3 a4 a5)
theorem r_iand (E : fmE G Γ cc nL own nm ret RM tb) {x y : Int32} (d : decode cc pc = .ok (.iand, 1)) (k : fmW G Γ h kc ks (pc + 1) L (.int (x &&& y) :: st)) : fmW G Γ h kc ks pc L (.int y :: .int x :: st) := by
  intro H lo cx sx ls a1 a2 a3 a4 a5
  exact lv_iand E.x E.b d (k H lo cx sx ls a1 a2 a3 a4 a5)
theorem r_ior (E : fmE G Γ cc nL own nm ret RM tb) {x y : Int32} (d : decode cc pc = .ok (.ior, 1)) (k : fmW G Γ h kc ks (pc + 1) L (.int (x ||| y) :: st)) : fmW G Γ h kc ks pc L (.int y :: .int x :: st) := by
  intro H lo cx sx ls a1 a2 a3 a4 a5
  exact lv_ior E.x E.b d (k H lo cx sx ls a1 a2 a3 a4 a5)
theorem r_ixor (E : fmE G Γ cc nL own nm ret RM tb) {x y : Int32} (d : decode cc pc = .ok (.ixor, 1)) (k : fmW G Γ h kc ks (pc + 1) L (.int (x ^^^ y) :: st)) : fmW G Γ h kc ks pc L (.int y :: .int x :: st) := by
  intro H lo cx sx ls a1 a2 a3 a4 a5
  exact lv_ixor E.x E.b d (k H lo cx sx ls a1 a2 a3 a4 a5)
theorem r_ishl (E : fmE G Γ cc nL own nm ret RM tb) {x y : Int32} (d : decode cc pc = .ok (.ishl, 1)) (k : fmW G Γ h kc ks (pc + 1) L (.int (x <<< (y &&& 31)) :: st)) : fmW G Γ h kc ks pc L (.int y :: .int x :: st) := by
  intro H lo cx sx ls a1 a2 a3 a4 a5
  exact lv_ishl E.x E.b d (k H lo cx sx ls a1 a2 a3 a4 a5)
theorem r_ishr (E : fmE G Γ cc nL own nm ret RM tb) {x y : Int32} (d : decode cc pc = .ok (.ishr, 1)) (k : fmW G Γ h kc ks (pc + 1) L (.int (x >>> (y &&& 31)) :: st)) : fmW G Γ h kc ks pc L (.int y :: .int x :: st) := by
  intro H lo cx sx ls a1 a2 a3 a4 a5
  exact lv_ishr E.x E.b d (k H lo cx sx ls a1 a2 a3 a4 a5)
theorem r_ineg (E : fmE G Γ cc nL own nm ret RM tb) {x : Int32} (d : decode cc pc = .ok (.ineg, 1)) (k : fmW G Γ h kc ks (pc + 1) L (.int (-x) :: st)) : fmW G Γ h kc ks pc L (.int x :: st) := by
  intro H lo cx sx ls a1 a2 a3 a4 a5
  exact lv_ineg E.x E.b d (k H lo cx sx ls a1 a2 a3 a4 a5)
theorem r_iaddN (E : fmE G Γ cc nL own nm ret RM tb) {a b : Nat} (d : decode cc pc = .ok (.iadd, 1)) (k : fmW G Γ h kc ks (pc + 1) L (.int (nI (a + b)) :: st)) : fmW G Γ h kc ks pc L (.int (nI b) :: .int (nI a) :: st) := by
  intro H lo cx sx ls a1 a2 a3 a4 a5
  refine lv_iadd E.x E.b d ?_
  rw [nI_add]
  exact (k H lo cx sx ls a1 a2 a3 a4 a5)
theorem r_imulN (E : fmE G Γ cc nL own nm ret RM tb) {a b : Nat} (d : decode cc pc = .ok (.imul, 1)) (k : fmW G Γ h kc ks (pc + 1) L (.int (nI (a * b)) :: st)) : fmW G Γ h kc ks pc L (.int (nI b) :: .int (nI a) :: st) := by
  intro H lo cx sx ls a1 a2 a3 a4 a5
  refine lv_imul E.x E.b d ?_
  rw [pk_mul]
  exact (k H lo cx sx ls a1 a2 a3 a4 a5)
theorem r_isubN (E : fmE G Γ cc nL own nm ret RM tb) {a b : Nat} (d : decode cc pc = .ok (.isub, 1)) (hle : b ≤ a) (k : fmW G Γ h kc ks (pc + 1) L (.int (nI (a - b)) :: st)) : fmW G Γ h kc ks pc L (.int (nI b) :: .int (nI a) :: st) := by
  intro H lo cx sx ls a1 a2 a3 a4 a5
  refine lv_isub E.x E.b d ?_
  rw [pk_sub hle]
  exact (k H lo cx sx ls a1 a2 a3 a4 a5)
theorem r_idivN (E : fmE G Γ cc nL own nm ret RM tb) {a b : Nat} (d : decode cc pc = .ok (.idiv, 1)) (ha : a < 2 ^ 31) (h0 : 0 < b) (hb : b < 2 ^ 31) (k : fmW G Γ h kc ks (pc + 1) L (.int (nI (a / b)) :: st)) : fmW G Γ h kc ks pc L (.int (nI b) :: .int (nI a) :: st) := by
  intro H lo cx sx ls a1 a2 a3 a4 a5
  refine lv_idiv E.x E.b d (nI_ne0 h0 hb) ?_
  rw [pk_div ha h0 hb]
  exact (k H lo cx sx ls a1 a2 a3 a4 a5)
theorem r_iremN (E : fmE G Γ cc nL own nm ret RM tb) {a b : Nat} (d : decode cc pc = .ok (.irem, 1)) (ha : a < 2 ^ 31) (h0 : 0 < b) (hb : b < 2 ^ 31) (k : fmW G Γ h kc ks (pc + 1) L (.int (nI (a % b)) :: st)) : fmW G Γ h kc ks pc L (.int (nI b) :: .int (nI a) :: st) := by
  intro H lo cx sx ls a1 a2 a3 a4 a5
  refine lv_irem E.x E.b d (nI_ne0 h0 hb) ?_
  rw [pk_rem ha h0 hb]
  exact (k H lo cx sx ls a1 a2 a3 a4 a5)
theorem r_iorB (E : fmE G Γ cc nL own nm ret RM tb) {a b : Bool} (d : decode cc pc = .ok (.ior, 1)) (k : fmW G Γ h kc ks (pc + 1) L (.int (bI (a || b)) :: st)) : fmW G Γ h kc ks pc L (.int (bI b) :: .int (bI a) :: st) := by
  intro H lo cx sx ls a1 a2 a3 a4 a5
  refine lv_ior E.x E.b d ?_
  rw [bI_or]
  exact (k H lo cx sx ls a1 a2 a3 a4 a5)
theorem r_iandB (E : fmE G Γ cc nL own nm ret RM tb) {a b : Bool} (d : decode cc pc = .ok (.iand, 1)) (k : fmW G Γ h kc ks (pc + 1) L (.int (bI (a && b)) :: st)) : fmW G Γ h kc ks pc L (.int (bI b) :: .int (bI a) :: st) := by
  intro H lo cx sx ls a1 a2 a3 a4 a5
  refine lv_iand E.x E.b d ?_
  rw [bI_and]
  exact (k H lo cx sx ls a1 a2 a3 a4 a5)
theorem r_ladd (E : fmE G Γ cc nL own nm ret RM tb) {x y : Int64} (d : decode cc pc = .ok (.ladd, 1)) (k : fmW G Γ h kc ks (pc + 1) L (.long (x + y) :: st)) : fmW G Γ h kc ks pc L (.long y :: .long x :: st) := by
  intro H lo cx sx ls a1 a2 a3 a4 a5
  exact lv_ladd E.x E.b d (k H lo cx sx ls a1 a2 a3 a4 a5)
theorem r_lsub (E : fmE G Γ cc nL own nm ret RM tb) {x y : Int64} (d : decode cc pc = .ok (.lsub, 1)) (k : fmW G Γ h kc ks (pc + 1) L (.long (x - y) :: st)) : fmW G Γ h kc ks pc L (.long y :: .long x :: st) := by
  intro H lo cx sx ls a1 a2 a3 a4 a5
  exact lv_lsub E.x E.b d (k H lo cx sx ls a1 a2 a3 a4 a5)
theorem r_lmul (E : fmE G Γ cc nL own nm ret RM tb) {x y : Int64} (d : decode cc pc = .ok (.lmul, 1)) (k : fmW G Γ h kc ks (pc + 1) L (.long (x * y) :: st)) : fmW G Γ h kc ks pc L (.long y :: .long x :: st) := by
  intro H lo cx sx ls a1 a2 a3 a4 a5
  exact lv_lmul E.x E.b d (k H lo cx sx ls a1 a2 a3 a4 a5)
theorem r_land (E : fmE G Γ cc nL own nm ret RM tb) {x y : Int64} (d : decode cc pc = .ok (.land, 1)) (k : fmW G Γ h kc ks (pc + 1) L (.long (x &&& y) :: st)) : fmW G Γ h kc ks pc L (.long y :: .long x :: st) := by
  intro H lo cx sx ls a1 a2 a3 a4 a5
  exact lv_land E.x E.b d (k H lo cx sx ls a1 a2 a3 a4 a5)
theorem r_lor (E : fmE G Γ cc nL own nm ret RM tb) {x y : Int64} (d : decode cc pc = .ok (.lor, 1)) (k : fmW G Γ h kc ks (pc + 1) L (.long (x ||| y) :: st)) : fmW G Γ h kc ks pc L (.long y :: .long x :: st) := by
  intro H lo cx sx ls a1 a2 a3 a4 a5
  exact lv_lor E.x E.b d (k H lo cx sx ls a1 a2 a3 a4 a5)
theorem r_lshl (E : fmE G Γ cc nL own nm ret RM tb) {x : Int64} {y : Int32} (d : decode cc pc = .ok (.lshl, 1)) (k : fmW G Γ h kc ks (pc + 1) L (.long (x <<< (y.toInt64 &&& 63)) :: st)) : fmW G Γ h kc ks pc L (.int y :: .long x :: st) := by
  intro H lo cx sx ls a1 a2 a3 a4 a5
  exact lv_lshl E.x E.b d rfl (k H lo cx sx ls a1 a2 a3 a4 a5)
theorem r_lshr (E : fmE G Γ cc nL own nm ret RM tb) {x : Int64} {y : Int32} (d : decode cc pc = .ok (.lshr, 1)) (k : fmW G Γ h kc ks (pc + 1) L (.long (x >>> (y.toInt64 &&& 63)) :: st)) : fmW G Γ h kc ks pc L (.int y :: .long x :: st) := by
  intro H lo cx sx ls a1 a2 a3 a4 a5
  exact lv_lshr E.x E.b d rfl (k H lo cx sx ls a1 a2 a3 a4 a5)
theorem r_i2l (E : fmE G Γ cc nL own nm ret RM tb) {x : Int32} (d : decode cc pc = .ok (.i2l, 1)) (k : fmW G Γ h kc ks (pc + 1) L (.long x.toInt64 :: st)) : fmW G Γ h kc ks pc L (.int x :: st) := by
  intro H lo cx sx ls a1 a2 a3 a4 a5
  exact lv_i2l E.x E.b d rfl (k H lo cx sx ls a1 a2 a3 a4 a5)
theorem r_l2i (E : fmE G Γ cc nL own nm ret RM tb) {x : Int64} (d : decode cc pc = .ok (.l2i, 1)) (k : fmW G Γ h kc ks (pc + 1) L (.int x.toInt32 :: st)) : fmW G Γ h kc ks pc L (.long x :: st) := by
  intro H lo cx sx ls a1 a2 a3 a4 a5
  exact lv_l2i E.x E.b d rfl (k H lo cx sx ls a1 a2 a3 a4 a5)
theorem r_i2b (E : fmE G Γ cc nL own nm ret RM tb) {x : Int32} (d : decode cc pc = .ok (.i2b, 1)) (k : fmW G Γ h kc ks (pc + 1) L (.int x.toInt8.toInt32 :: st)) : fmW G Γ h kc ks pc L (.int x :: st) := by
  intro H lo cx sx ls a1 a2 a3 a4 a5
  exact lv_i2b E.x E.b d rfl (k H lo cx sx ls a1 a2 a3 a4 a5)
theorem r_i2c (E : fmE G Γ cc nL own nm ret RM tb) {x : Int32} (d : decode cc pc = .ok (.i2c, 1)) (k : fmW G Γ h kc ks (pc + 1) L (.int (x.toUInt32 % 65536).toInt32 :: st)) : fmW G Γ h kc ks pc L (.int x :: st) := by
  intro H lo cx sx ls a1 a2 a3 a4 a5
  exact lv_i2c E.x E.b d rfl (k H lo cx sx ls a1 a2 a3 a4 a5)
theorem r_i2d (E : fmE G Γ cc nL own nm ret RM tb) {x : Int32} (d : decode cc pc = .ok (.i2d, 1)) (k : fmW G Γ h kc ks (pc + 1) L (.double (FP.i2d x) :: st)) : fmW G Γ h kc ks pc L (.int x :: st) := by
  intro H lo cx sx ls a1 a2 a3 a4 a5
  exact lv_i2d E.x E.b d (k H lo cx sx ls a1 a2 a3 a4 a5)
theorem r_i2f (E : fmE G Γ cc nL own nm ret RM tb) {x : Int32} (d : decode cc pc = .ok (.i2f, 1)) (k : fmW G Γ h kc ks (pc + 1) L (.float (FP.i2f x) :: st)) : fmW G Γ h kc ks pc L (.int x :: st) := by
  intro H lo cx sx ls a1 a2 a3 a4 a5
  exact lv_i2f E.x E.b d (k H lo cx sx ls a1 a2 a3 a4 a5)
theorem r_iushr (E : fmE G Γ cc nL own nm ret RM tb) {x y : Int32} (d : decode cc pc = .ok (.iushr, 1)) (k : fmW G Γ h kc ks (pc + 1) L (.int ((x.toUInt32 >>> (y.toUInt32 &&& Int32.toUInt32 31)).toInt32) :: st)) : fmW G Γ h kc ks pc L (.int y :: .int x :: st) := by
  intro H lo cx sx ls a1 a2 a3 a4 a5
  exact lv_iushr E.x E.b d rfl (k H lo cx sx ls a1 a2 a3 a4 a5)
theorem r_dup (E : fmE G Γ cc nL own nm ret RM tb) {va : Value} (d : decode cc pc = .ok (.dup, 1)) (h1 : va.category = 1) (k : fmW G Γ h kc ks (pc + 1) L (va :: va :: st)) : fmW G Γ h kc ks pc L (va :: st) := by
  intro H lo cx sx ls a1 a2 a3 a4 a5
  exact lv_dup E.x E.b d h1 (k H lo cx sx ls a1 a2 a3 a4 a5)
theorem r_pop (E : fmE G Γ cc nL own nm ret RM tb) {va : Value} (d : decode cc pc = .ok (.pop, 1)) (h1 : va.category = 1) (k : fmW G Γ h kc ks (pc + 1) L st) : fmW G Γ h kc ks pc L (va :: st) := by
  intro H lo cx sx ls a1 a2 a3 a4 a5
  exact lv_pop E.x E.b d h1 (k H lo cx sx ls a1 a2 a3 a4 a5)
theorem r_dup_x1 (E : fmE G Γ cc nL own nm ret RM tb) {va vb : Value} (d : decode cc pc = .ok (.dup_x1, 1)) (h1 : va.category = 1) (h2 : vb.category = 1) (k : fmW G Γ h kc ks (pc + 1) L (va :: vb :: va :: st)) : fmW G Γ h kc ks pc L (va :: vb :: st) := by
  intro H lo cx sx ls a1 a2 a3 a4 a5
  exact lv_dup_x1 E.x E.b d h1 h2 (k H lo cx sx ls a1 a2 a3 a4 a5)
theorem r_dup_x2 (E : fmE G Γ cc nL own nm ret RM tb) {va vb vd : Value} (d : decode cc pc = .ok (.dup_x2, 1)) (h1 : va.category = 1) (h2 : vb.category = 1) (h3 : vd.category = 1) (k : fmW G Γ h kc ks (pc + 1) L (va :: vb :: vd :: va :: st)) : fmW G Γ h kc ks pc L (va :: vb :: vd :: st) := by
  intro H lo cx sx ls a1 a2 a3 a4 a5
  exact lv_dup_x2 E.x E.b d h1 h2 h3 (k H lo cx sx ls a1 a2 a3 a4 a5)
theorem r_dup2 (E : fmE G Γ cc nL own nm ret RM tb) {va vb : Value} (d : decode cc pc = .ok (.dup2, 1)) (h1 : va.category = 1) (h2 : vb.category = 1) (k : fmW G Γ h kc ks (pc + 1) L (va :: vb :: va :: vb :: st)) : fmW G Γ h kc ks pc L (va :: vb :: st) := by
  intro H lo cx sx ls a1 a2 a3 a4 a5
  exact lv_dup2_11 E.x E.b d h1 h2 (k H lo cx sx ls a1 a2 a3 a4 a5)
theorem r_top {v v' : Value} (e : v = v') (k : fmW G Γ h kc ks pc L (v' :: st)) : fmW G Γ h kc ks pc L (v :: st) := by rw [e]; exact k
theorem r_topi {x y : Int32} (e : x = y) (k : fmW G Γ h kc ks pc L (.int y :: st)) : fmW G Γ h kc ks pc L (.int x :: st) := by rw [e]; exact k
theorem r_hp {h' : fmHp} (e : h = h') (k : fmW G Γ h' kc ks pc L st) : fmW G Γ h kc ks pc L st := by rw [e]; exact k
theorem r_goto (E : fmE G Γ cc nL own nm ret RM tb) {off : Int} {tgt : Nat} (d : decode cc pc = .ok (.goto off, 3)) (ht : (pc : Int) + off = (tgt : Int)) (k : fmW G Γ h kc ks tgt L st) : fmW G Γ h kc ks pc L st := by
  intro H lo cx sx ls a1 a2 a3 a4 a5
  exact lv_goto E.x E.b d ht (k H lo cx sx ls a1 a2 a3 a4 a5)
theorem r_if_eq (E : fmE G Γ cc nL own nm ret RM tb) {x : Int32} {off : Int} {tgt : Nat} (d : decode cc pc = .ok (.ifCond .eq off, 3)) (ht : (pc : Int) + off = (tgt : Int)) (kt : x = 0 → fmW G Γ h kc ks tgt L st) (kf : ¬ x = 0 → fmW G Γ h kc ks (pc + 3) L st) : fmW G Γ h kc ks pc L (.int x :: st) := by
  intro H lo cx sx ls a1 a2 a3 a4 a5
  exact lv_if_eq E.x E.b d ht (fun q => kt q H lo cx sx ls a1 a2 a3 a4 a5) (fun q => kf q H lo cx sx ls a1 a2 a3 a4 a5)
theorem r_icmp_eq (E : fmE G Γ cc nL own nm ret RM tb) {x y : Int32} {off : Int} {tgt : Nat} (d : decode cc pc = .ok (.if_icmp .eq off, 3)) (ht : (pc : Int) + off = (tgt : Int)) (kt : x = y → fmW G Γ h kc ks tgt L st) (kf : ¬ x = y → fmW G Γ h kc ks (pc + 3) L st) : fmW G Γ h kc ks pc L (.int y :: .int x :: st) := by
  intro H lo cx sx ls a1 a2 a3 a4 a5
  exact lv_icmp_eq E.x E.b d ht (fun q => kt q H lo cx sx ls a1 a2 a3 a4 a5) (fun q => kf q H lo cx sx ls a1 a2 a3 a4 a5)
theorem r_if_ne (E : fmE G Γ cc nL own nm ret RM tb) {x : Int32} {off : Int} {tgt : Nat} (d : decode cc pc = .ok (.ifCond .ne off, 3)) (ht : (pc : Int) + off = (tgt : Int)) (kt : ¬ x = 0 → fmW G Γ h kc ks tgt L st) (kf : x = 0 → fmW G Γ h kc ks (pc + 3) L st) : fmW G Γ h kc ks pc L (.int x :: st) := by
  intro H lo cx sx ls a1 a2 a3 a4 a5
  exact lv_if_ne E.x E.b d ht (fun q => kt q H lo cx sx ls a1 a2 a3 a4 a5) (fun q => kf q H lo cx sx ls a1 a2 a3 a4 a5)
theorem r_icmp_ne (E : fmE G Γ cc nL own nm ret RM tb) {x y : Int32} {off : Int} {tgt : Nat} (d : decode cc pc = .ok (.if_icmp .ne off, 3)) (ht : (pc : Int) + off = (tgt : Int)) (kt : ¬ x = y → fmW G Γ h kc ks tgt L st) (kf : x = y → fmW G Γ h kc ks (pc + 3) L st) : fmW G Γ h kc ks pc L (.int y :: .int x :: st) := by
  intro H lo cx sx ls a1 a2 a3 a4 a5
  exact lv_icmp_ne E.x E.b d ht (fun q => kt q H lo cx sx ls a1 a2 a3 a4 a5) (fun q => kf q H lo cx sx ls a1 a2 a3 a4 a5)
theorem r_if_lt (E : fmE G Γ cc nL own nm ret RM tb) {x : Int32} {off : Int} {tgt : Nat} (d : decode cc pc = .ok (.ifCond .lt off, 3)) (ht : (pc : Int) + off = (tgt : Int)) (kt : x < 0 → fmW G Γ h kc ks tgt L st) (kf : ¬ x < 0 → fmW G Γ h kc ks (pc + 3) L st) : fmW G Γ h kc ks pc L (.int x :: st) := by
  intro H lo cx sx ls a1 a2 a3 a4 a5
  exact lv_if_lt E.x E.b d ht (fun q => kt q H lo cx sx ls a1 a2 a3 a4 a5) (fun q => kf q H lo cx sx ls a1 a2 a3 a4 a5)
theorem r_icmp_lt (E : fmE G Γ cc nL own nm ret RM tb) {x y : Int32} {off : Int} {tgt : Nat} (d : decode cc pc = .ok (.if_icmp .lt off, 3)) (ht : (pc : Int) + off = (tgt : Int)) (kt : x < y → fmW G Γ h kc ks tgt L st) (kf : ¬ x < y → fmW G Γ h kc ks (pc + 3) L st) : fmW G Γ h kc ks pc L (.int y :: .int x :: st) := by
  intro H lo cx sx ls a1 a2 a3 a4 a5
  exact lv_icmp_lt E.x E.b d ht (fun q => kt q H lo cx sx ls a1 a2 a3 a4 a5) (fun q => kf q H lo cx sx ls a1 a2 a3 a4 a5)
theorem r_if_ge (E : fmE G Γ cc nL own nm ret RM tb) {x : Int32} {off : Int} {tgt : Nat} (d : decode cc pc = .ok (.ifCond .ge off, 3)) (ht : (pc : Int) + off = (tgt : Int)) (kt : 0 ≤ x → fmW G Γ h kc ks tgt L st) (kf : ¬ 0 ≤ x → fmW G Γ h kc ks (pc + 3) L st) : fmW G Γ h kc ks pc L (.int x :: st) := by
  intro H lo cx sx ls a1 a2 a3 a4 a5
  exact lv_if_ge E.x E.b d ht (fun q => kt q H lo cx sx ls a1 a2 a3 a4 a5) (fun q => kf q H lo cx sx ls a1 a2 a3 a4 a5)
theorem r_icmp_ge (E : fmE G Γ cc nL own nm ret RM tb) {x y : Int32} {off : Int} {tgt : Nat} (d : decode cc pc = .ok (.if_icmp .ge off, 3)) (ht : (pc : Int) + off = (tgt : Int)) (kt : y ≤ x → fmW G Γ h kc ks tgt L st) (kf : ¬ y ≤ x → fmW G Γ h kc ks (pc + 3) L st) : fmW G Γ h kc ks pc L (.int y :: .int x :: st) := by
  intro H lo cx sx ls a1 a2 a3 a4 a5
  exact lv_icmp_ge E.x E.b d ht (fun q => kt q H lo cx sx ls a1 a2 a3 a4 a5) (fun q => kf q H lo cx sx ls a1 a2 a3 a4 a5)
theorem r_if_gt (E : fmE G Γ cc nL own nm ret RM tb) {x : Int32} {off : Int} {tgt : Nat} (d : decode cc pc = .ok (.ifCond .gt off, 3)) (ht : (pc : Int) + off = (tgt : Int)) (kt : 0 < x → fmW G Γ h kc ks tgt L st) (kf : ¬ 0 < x → fmW G Γ h kc ks (pc + 3) L st) : fmW G Γ h kc ks pc L (.int x :: st) := by
  intro H lo cx sx ls a1 a2 a3 a4 a5
  exact lv_if_gt E.x E.b d ht (fun q => kt q H lo cx sx ls a1 a2 a3 a4 a5) (fun q => kf q H lo cx sx ls a1 a2 a3 a4 a5)
theorem r_icmp_gt (E : fmE G Γ cc nL own nm ret RM tb) {x y : Int32} {off : Int} {tgt : Nat} (d : decode cc pc = .ok (.if_icmp .gt off, 3)) (ht : (pc : Int) + off = (tgt : Int)) (kt : y < x → fmW G Γ h kc ks tgt L st) (kf : ¬ y < x → fmW G Γ h kc ks (pc + 3) L st) : fmW G Γ h kc ks pc L (.int y :: .int x :: st) := by
  intro H lo cx sx ls a1 a2 a3 a4 a5
  exact lv_icmp_gt E.x E.b d ht (fun q => kt q H lo cx sx ls a1 a2 a3 a4 a5) (fun q => kf q H lo cx sx ls a1 a2 a3 a4 a5)
theorem r_if_le (E : fmE G Γ cc nL own nm ret RM tb) {x : Int32} {off : Int} {tgt : Nat} (d : decode cc pc = .ok (.ifCond .le off, 3)) (ht : (pc : Int) + off = (tgt : Int)) (kt : x ≤ 0 → fmW G Γ h kc ks tgt L st) (kf : ¬ x ≤ 0 → fmW G Γ h kc ks (pc + 3) L st) : fmW G Γ h kc ks pc L (.int x :: st) := by
  intro H lo cx sx ls a1 a2 a3 a4 a5
  exact lv_if_le E.x E.b d ht (fun q => kt q H lo cx sx ls a1 a2 a3 a4 a5) (fun q => kf q H lo cx sx ls a1 a2 a3 a4 a5)
theorem r_icmp_le (E : fmE G Γ cc nL own nm ret RM tb) {x y : Int32} {off : Int} {tgt : Nat} (d : decode cc pc = .ok (.if_icmp .le off, 3)) (ht : (pc : Int) + off = (tgt : Int)) (kt : x ≤ y → fmW G Γ h kc ks tgt L st) (kf : ¬ x ≤ y → fmW G Γ h kc ks (pc + 3) L st) : fmW G Γ h kc ks pc L (.int y :: .int x :: st) := by
  intro H lo cx sx ls a1 a2 a3 a4 a5
  exact lv_icmp_le E.x E.b d ht (fun q => kt q H lo cx sx ls a1 a2 a3 a4 a5) (fun q => kf q H lo cx sx ls a1 a2 a3 a4 a5)
theorem r_icmpN_eq (E : fmE G Γ cc nL own nm ret RM tb) {a b : Nat} {off : Int} {tgt : Nat} (d : decode cc pc = .ok (.if_icmp .eq off, 3)) (ht : (pc : Int) + off = (tgt : Int)) (ha : a < 2 ^ 31) (hb : b < 2 ^ 31) (kt : a = b → fmW G Γ h kc ks tgt L st) (kf : ¬ a = b → fmW G Γ h kc ks (pc + 3) L st) : fmW G Γ h kc ks pc L (.int (nI b) :: .int (nI a) :: st) := by
  intro H lo cx sx ls a1 a2 a3 a4 a5
  exact lv_icmp_eq E.x E.b d ht (fun q => kt ((nI_eq ha hb).mp q) H lo cx sx ls a1 a2 a3 a4 a5) (fun q => kf (fun z => q ((nI_eq ha hb).mpr z)) H lo cx sx ls a1 a2 a3 a4 a5)
theorem r_icmpN_ne (E : fmE G Γ cc nL own nm ret RM tb) {a b : Nat} {off : Int} {tgt : Nat} (d : decode cc pc = .ok (.if_icmp .ne off, 3)) (ht : (pc : Int) + off = (tgt : Int)) (ha : a < 2 ^ 31) (hb : b < 2 ^ 31) (kt : ¬ a = b → fmW G Γ h kc ks tgt L st) (kf : a = b → fmW G Γ h kc ks (pc + 3) L st) : fmW G Γ h kc ks pc L (.int (nI b) :: .int (nI a) :: st) := by
  intro H lo cx sx ls a1 a2 a3 a4 a5
  exact lv_icmp_ne E.x E.b d ht (fun q => kt (fun z => q ((nI_eq ha hb).mpr z)) H lo cx sx ls a1 a2 a3 a4 a5) (fun q => kf ((nI_eq ha hb).mp q) H lo cx sx ls a1 a2 a3 a4 a5)
theorem r_icmpN_lt (E : fmE G Γ cc nL own nm ret RM tb) {a b : Nat} {off : Int} {tgt : Nat} (d : decode cc pc = .ok (.if_icmp .lt off, 3)) (ht : (pc : Int) + off = (tgt : Int)) (ha : a < 2 ^ 31) (hb : b < 2 ^ 31) (kt : a < b → fmW G Γ h kc ks tgt L st) (kf : ¬ a < b → fmW G Γ h kc ks (pc + 3) L st) : fmW G Γ h kc ks pc L (.int (nI b) :: .int (nI a) :: st) := by
  intro H lo cx sx ls a1 a2 a3 a4 a5
  exact lv_icmp_lt E.x E.b d ht (fun q => kt ((nI_ltI ha hb).mp q) H lo cx sx ls a1 a2 a3 a4 a5) (fun q => kf (fun z => q ((nI_ltI ha hb).mpr z)) H lo cx sx ls a1 a2 a3 a4 a5)
theorem r_icmpN_ge (E : fmE G Γ cc nL own nm ret RM tb) {a b : Nat} {off : Int} {tgt : Nat} (d : decode cc pc = .ok (.if_icmp .ge off, 3)) (ht : (pc : Int) + off = (tgt : Int)) (ha : a < 2 ^ 31) (hb : b < 2 ^ 31) (kt : b ≤ a → fmW G Γ h kc ks tgt L st) (kf : ¬ b ≤ a → fmW G Γ h kc ks (pc + 3) L st) : fmW G Γ h kc ks pc L (.int (nI b) :: .int (nI a) :: st) := by
  intro H lo cx sx ls a1 a2 a3 a4 a5
  exact lv_icmp_ge E.x E.b d ht (fun q => kt ((nI_leI hb ha).mp q) H lo cx sx ls a1 a2 a3 a4 a5) (fun q => kf (fun z => q ((nI_leI hb ha).mpr z)) H lo cx sx ls a1 a2 a3 a4 a5)
theorem r_icmpN_gt (E : fmE G Γ cc nL own nm ret RM tb) {a b : Nat} {off : Int} {tgt : Nat} (d : decode cc pc = .ok (.if_icmp .gt off, 3)) (ht : (pc : Int) + off = (tgt : Int)) (ha : a < 2 ^ 31) (hb : b < 2 ^ 31) (kt : b < a → fmW G Γ h kc ks tgt L st) (kf : ¬ b < a → fmW G Γ h kc ks (pc + 3) L st) : fmW G Γ h kc ks pc L (.int (nI b) :: .int (nI a) :: st) := by
  intro H lo cx sx ls a1 a2 a3 a4 a5
  exact lv_icmp_gt E.x E.b d ht (fun q => kt ((nI_ltI hb ha).mp q) H lo cx sx ls a1 a2 a3 a4 a5) (fun q => kf (fun z => q ((nI_ltI hb ha).mpr z)) H lo cx sx ls a1 a2 a3 a4 a5)
theorem r_icmpN_le (E : fmE G Γ cc nL own nm ret RM tb) {a b : Nat} {off : Int} {tgt : Nat} (d : decode cc pc = .ok (.if_icmp .le off, 3)) (ht : (pc : Int) + off = (tgt : Int)) (ha : a < 2 ^ 31) (hb : b < 2 ^ 31) (kt : a ≤ b → fmW G Γ h kc ks tgt L st) (kf : ¬ a ≤ b → fmW G Γ h kc ks (pc + 3) L st) : fmW G Γ h kc ks pc L (.int (nI b) :: .int (nI a) :: st) := by
  intro H lo cx sx ls a1 a2 a3 a4 a5
  exact lv_icmp_le E.x E.b d ht (fun q => kt ((nI_leI ha hb).mp q) H lo cx sx ls a1 a2 a3 a4 a5) (fun q => kf (fun z => q ((nI_leI ha hb).mpr z)) H lo cx sx ls a1 a2 a3 a4 a5)
theorem r_ifB_eq (E : fmE G Γ cc nL own nm ret RM tb) {b : Bool} {off : Int} {tgt : Nat} (d : decode cc pc = .ok (.ifCond .eq off, 3)) (ht : (pc : Int) + off = (tgt : Int)) (kt : b = false → fmW G Γ h kc ks tgt L st) (kf : b = true → fmW G Γ h kc ks (pc + 3) L st) : fmW G Γ h kc ks pc L (.int (bI b) :: st) := by
  intro H lo cx sx ls a1 a2 a3 a4 a5
  exact lv_if_eq E.x E.b d ht (fun q => kt ((bI_0 b).mp q) H lo cx sx ls a1 a2 a3 a4 a5) (fun q => kf (by cases b with | true => rfl | false => exact absurd rfl q) H lo cx sx ls a1 a2 a3 a4 a5)
theorem r_ifB_ne (E : fmE G Γ cc nL own nm ret RM tb) {b : Bool} {off : Int} {tgt : Nat} (d : decode cc pc = .ok (.ifCond .ne off, 3)) (ht : (pc : Int) + off = (tgt : Int)) (kt : b = true → fmW G Γ h kc ks tgt L st) (kf : b = false → fmW G Γ h kc ks (pc + 3) L st) : fmW G Γ h kc ks pc L (.int (bI b) :: st) := by
  intro H lo cx sx ls a1 a2 a3 a4 a5
  exact lv_if_ne E.x E.b d ht (fun q => kt (by cases b with | true => rfl | false => exact absurd rfl q) H lo cx sx ls a1 a2 a3 a4 a5) (fun q => kf ((bI_0 b).mp q) H lo cx sx ls a1 a2 a3 a4 a5)
theorem r_ifnonnull (E : fmE G Γ cc nL own nm ret RM tb) {x : Nat} {off : Int} {tgt : Nat} (d : decode cc pc = .ok (.ifnonnull off, 3)) (ht : (pc : Int) + off = (tgt : Int)) (k : fmW G Γ h kc ks tgt L st) : fmW G Γ h kc ks pc L (.ref x :: st) := by
  intro H lo cx sx ls a1 a2 a3 a4 a5
  exact lv_ifnonnull E.x E.b d ht (k H lo cx sx ls a1 a2 a3 a4 a5)
theorem r_ifnull (E : fmE G Γ cc nL own nm ret RM tb) {x : Nat} {off : Int} (d : decode cc pc = .ok (.ifnull off, 3)) (k : fmW G Γ h kc ks (pc + 3) L st) : fmW G Γ h kc ks pc L (.ref x :: st) := by
  intro H lo cx sx ls a1 a2 a3 a4 a5
  exact lv_ifnull E.x E.b d (k H lo cx sx ls a1 a2 a3 a4 a5)
theorem r_ifnullN (E : fmE G Γ cc nL own nm ret RM tb) {off : Int} {tgt : Nat} (d : decode cc pc = .ok (.ifnull off, 3)) (ht : (pc : Int) + off = (tgt : Int)) (k : fmW G Γ h kc ks tgt L st) : fmW G Γ h kc ks pc L (.null :: st) := by
  intro H lo cx sx ls a1 a2 a3 a4 a5
  exact lv_ifnullN E.x E.b d ht (k H lo cx sx ls a1 a2 a3 a4 a5)
theorem r_ifnonnullN (E : fmE G Γ cc nL own nm ret RM tb) {off : Int} (d : decode cc pc = .ok (.ifnonnull off, 3)) (k : fmW G Γ h kc ks (pc + 3) L st) : fmW G Γ h kc ks pc L (.null :: st) := by
  intro H lo cx sx ls a1 a2 a3 a4 a5
  exact lv_ifnonnullN E.x E.b d (k H lo cx sx ls a1 a2 a3 a4 a5)
theorem r_acmp_eq (E : fmE G Γ cc nL own nm ret RM tb) {a b : Nat} {off : Int} {tgt : Nat} (d : decode cc pc = .ok (.if_acmp .eq off, 3)) (ht : (pc : Int) + off = (tgt : Int)) (kt : a = b → fmW G Γ h kc ks tgt L st) (kf : ¬ a = b → fmW G Γ h kc ks (pc + 3) L st) : fmW G Γ h kc ks pc L (.ref b :: .ref a :: st) := by
  intro H lo cx sx ls a1 a2 a3 a4 a5
  exact lv_acmp_eq (rx := some a) (ry := some b) E.x E.b d ht (fun q => kt (Option.some.inj q) H lo cx sx ls a1 a2 a3 a4 a5) (fun q => kf (fun z => q (by rw [z])) H lo cx sx ls a1 a2 a3 a4 a5)
theorem r_acmp_ne (E : fmE G Γ cc nL own nm ret RM tb) {a b : Nat} {off : Int} {tgt : Nat} (d : decode cc pc = .ok (.if_acmp .ne off, 3)) (ht : (pc : Int) + off = (tgt : Int)) (kt : ¬ a = b → fmW G Γ h kc ks tgt L st) (kf : a = b → fmW G Γ h kc ks (pc + 3) L st) : fmW G Γ h kc ks pc L (.ref b :: .ref a :: st) := by
  intro H lo cx sx ls a1 a2 a3 a4 a5
  exact lv_acmp_ne (rx := some a) (ry := some b) E.x E.b d ht (fun q => kt (fun z => q (by rw [z])) H lo cx sx ls a1 a2 a3 a4 a5) (fun q => kf (Option.some.inj q) H lo cx sx ls a1 a2 a3 a4 a5)
theorem r_lookup (E : fmE G Γ cc nL own nm ret RM tb) {dflt : Int} {ps : Array (Int × Int)} {len : Nat} {x : Int32} {off : Int} {tgt : Nat} (d : decode cc pc = .ok (.lookupswitch dflt ps, len)) (hp : (ps.toList.zip (ps.toList.drop 1)).all (fun (a, next) => a.1 < next.1) = true) (ho : Op.lookupswitch.offset ps.toList dflt x.toInt = off) (ht : (pc : Int) + off = (tgt : Int)) (k : fmW G Γ h kc ks tgt L st) : fmW G Γ h kc ks pc L (.int x :: st) := by
  intro H lo cx sx ls a1 a2 a3 a4 a5
  exact lv_lookup E.x E.b d hp ho ht (k H lo cx sx ls a1 a2 a3 a4 a5)
theorem r_tableOut (E : fmE G Γ cc nL own nm ret RM tb) {dflt lo hi : Int} {offs : Array Int} {len : Nat} {x : Int32} {tgt : Nat} (d : decode cc pc = .ok (.tableswitch dflt lo hi offs, len)) (hn : x.toInt < lo ∨ hi < x.toInt) (ht : (pc : Int) + dflt = (tgt : Int)) (k : fmW G Γ h kc ks tgt L st) : fmW G Γ h kc ks pc L (.int x :: st) := by
  intro H lo cx sx ls a1 a2 a3 a4 a5
  exact lv_tableOut E.x E.b d hn ht (k H _ cx sx ls a1 a2 a3 a4 a5)
theorem r_tableIn (E : fmE G Γ cc nL own nm ret RM tb) {dflt lo hi : Int} {offs : Array Int} {len : Nat} {x : Int32} {off : Int} {tgt : Nat} (d : decode cc pc = .ok (.tableswitch dflt lo hi offs, len)) (h1 : ¬ x.toInt < lo) (h2 : ¬ hi < x.toInt) (ho : offs[(x.toInt - lo).toNat]? = some off) (ht : (pc : Int) + off = (tgt : Int)) (k : fmW G Γ h kc ks tgt L st) : fmW G Γ h kc ks pc L (.int x :: st) := by
  intro H lo cx sx ls a1 a2 a3 a4 a5
  exact lv_tableIn E.x E.b d h1 h2 ho ht (k H _ cx sx ls a1 a2 a3 a4 a5)
theorem r_ldc (E : fmE G Γ cc nL own nm ret RM tb) {index : Nat} {v : Int32} (w : Jvm.Cond.constant own index v ∈ lw_all) (d : decode cc pc = .ok (.ldc index, 2)) (k : fmW G Γ h kc ks (pc + 2) L (.int v :: st)) : fmW G Γ h kc ks pc L st := by
  intro H lo cx sx ls a1 a2 a3 a4 a5
  exact lv_ldc E.x E.b E.xown (E.ts _ w) d (k H lo cx sx ls a1 a2 a3 a4 a5)
theorem r_ldcf (E : fmE G Γ cc nL own nm ret RM tb) {index : Nat} {v : UInt32} (w : Jvm.Cond.constantFloat own index v ∈ lw_all) (d : decode cc pc = .ok (.ldc index, 2)) (k : fmW G Γ h kc ks (pc + 2) L (.float v :: st)) : fmW G Γ h kc ks pc L st := by
  intro H lo cx sx ls a1 a2 a3 a4 a5
  exact lv_ldcf E.x E.b E.xown (E.ts _ w) d (k H lo cx sx ls a1 a2 a3 a4 a5)
/-- a class of the list, its fields, their types -/
def fmCl (ci : Nat) (C : String) (T : u_T) (N : Nat) (ty : Nat → FieldType) : Prop := vwCl[ci]? = some (C, T, N) ∧ (∀ w ∈ u_ws C T N, w ∈ lw_all) ∧ (∀ k, k < N → parseFieldDescriptor (T k).2.2.1 = some (ty k)) ∧ (∀ a, a < N → ∀ b, b < N → a ≠ b → (T a).2.1 ≠ (T b).2.1)
variable {ci : Nat} {C : String} {T : u_T} {N : Nat} {ty : Nat → FieldType}
theorem fm_ob {H : Heap} {a : Nat} {b : Bool} {fs : List Value} (hH : fmH G h H) (cl : fmCl ci C T N ty) (he : h a = some (b, .inr (.inl (ci, fs)))) : va_P G.1 vwCl [(a, .inr (ci, fs))] H := by
  intro k q hk
  have hz : k < 1 := (List.getElem?_eq_some_iff.mp hk).1
  rw [show k = 0 by omega] at hk
  cases hk
  exact (hH.1 _ _ _ he).1
theorem fm_rc {H : Heap} {a : Nat} {b : Bool} {fs : List Value} (hH : fmH G h H) (hc : vwCl[ci]? = some (C, T, N)) (hV : fmV G Γ.s) (he : h a = some (b, .inr (.inl (ci, fs)))) : ∃ cell : Cell, H[a]? = some cell ∧ cell.vm.isStatics = false ∧ Γ.s.vm.findClass C = some cell.cls := by
  obtain ⟨r, h1, cell, g1, g2, g3, -⟩ := (hH.1 _ _ _ he).1
  exact ⟨cell, g1, by rw [g3]; rfl, by rw [g2]; exact (hV.1.1 ci (C, T, N) hc).2.1⟩
theorem fm_ro {H : Heap} {a kk : Nat} {b : Bool} {C : String} (hH : fmH G h H) (hc : fmOc[kk]? = some C) (hV : fmV G Γ.s) (he : h a = some (b, .inr (.inr kk))) : ∃ cell : Cell, H[a]? = some cell ∧ cell.vm.isStatics = false ∧ Γ.s.vm.findClass C = some cell.cls := by
  obtain ⟨cell, h1, h2, h3⟩ := (hH.1 _ _ _ he).1
  exact ⟨cell, h1, h2, by rw [h3]; exact hV.2.2.2.2.2.2.1 kk C hc⟩
theorem r_getfG (E : fmE G Γ cc nL own nm ret RM tb) {ref : String} {index : Nat} {a : Nat} {b : Bool} {fs : List Value} {v : Value} (cl : fmCl ci C T N ty) (f : Nat) (hf : f < N) (hlink : Cond.fieldLink own index ref (T f).2.1 (T f).2.2.1 ∈ lw_all) (hsame : ∀ x, Γ.s.fieldFound? (T f).1 (T f).2.1 (T f).2.2.1 = some x → Γ.s.fieldFound? ref (T f).2.1 (T f).2.2.1 = some x) (he : h a = some (b, .inr (.inl (ci, fs)))) (hv : fs[f]? = some v) (d : decode cc pc = .ok (.getfield index, 3)) (k : fmW G Γ h kc ks (pc + 3) L (v :: st)) : fmW G Γ h kc ks pc L (.ref a :: st) := by
  intro H lo cx sx ls a1 a2 a3 a4 a5
  exact va_get (q0 := 0) E.x E.b E.ts cl.2.1 E.xown E.v.1 (fm_ob a1 cl he) rfl cl.1 f hf (E.ts _ hlink) hsame hv d (k H lo cx sx ls a1 a2 a3 a4 a5)
theorem r_getf (E : fmE G Γ cc nL own nm ret RM tb) {index : Nat} {a : Nat} {b : Bool} {fs : List Value} {v : Value} (cl : fmCl ci C T N ty) (f : Nat) (hf : f < N) (hlink : Cond.fieldLink own index (T f).1 (T f).2.1 (T f).2.2.1 ∈ lw_all) (he : h a = some (b, .inr (.inl (ci, fs)))) (hv : fs[f]? = some v) (d : decode cc pc = .ok (.getfield index, 3)) (k : fmW G Γ h kc ks (pc + 3) L (v :: st)) : fmW G Γ h kc ks pc L (.ref a :: st) := by
  intro H lo cx sx ls a1 a2 a3 a4 a5
  exact va_get (q0 := 0) E.x E.b E.ts cl.2.1 E.xown E.v.1 (fm_ob a1 cl he) rfl cl.1 f hf (E.ts _ hlink) (fun _ z => z) hv d (k H lo cx sx ls a1 a2 a3 a4 a5)
theorem r_getfN (E : fmE G Γ cc nL own nm ret RM tb) {host : String} {index : Nat} {a : Nat} {b : Bool} {fs : List Value} {v : Value} (cl : fmCl ci C T N ty) (f : Nat) (hf : f < N) (hlink : Cond.fieldLinkNest own index (T f).1 (T f).2.1 (T f).2.2.1 host ∈ lw_tbl) (he : h a = some (b, .inr (.inl (ci, fs)))) (hv : fs[f]? = some v) (d : decode cc pc = .ok (.getfield index, 3)) (k : fmW G Γ h kc ks (pc + 3) L (v :: st)) : fmW G Γ h kc ks pc L (.ref a :: st) := by
  intro H lo cx sx ls a1 a2 a3 a4 a5
  exact va_getN (q0 := 0) E.x E.b E.ts cl.2.1 E.xown E.v.1 (fm_ob a1 cl he) rfl cl.1 f hf ((E.nw hlink rfl).use rfl) (fun _ z => z) hv d (k H lo cx sx ls a1 a2 a3 a4 a5)
theorem fm_puts {H H1 : Heap} {a : Nat} {fs : List Value} {f : Nat} {v : Value} {cell : Cell} (own : String) (hts : ∀ w ∈ lw_all, w.before Γ.args Γ.s = true) (hV : fmV G Γ.s) (cl : fmCl ci C T N ty) (hf : f < N) (hl : f < fs.length) (hH : fmH G h H) (he : h a = some (true, .inr (.inl (ci, fs)))) (q1 : H[a]? = some cell) (q2 : cell.cls = G.1.1 ci) (q3 : cell.vm = .none) (q4 : ∀ k, k < N → cell.slots[G.1.2 ci k]? = some (vp_V fs k)) (e1 : H1[a]? = some (cell.setSlot (G.1.2 ci f) v)) (e2 : H1.size = H.size) (e3 : ∀ q : Nat, q ≠ a → H1[q]? = H[q]?) : fmH G (fmUp h a (true, .inr (.inl (ci, fs.set f v)))) H1 := by
  have hap := va_apart (own := own) hts cl.2.1 ty cl.2.2.1 cl.2.2.2 hV.1 cl.1
  exact hH.up ⟨_, cl.1, t_OB.to (V := updV (vp_V fs) f v) ⟨_, e1, q2, q3, t_set q4 hap hf v⟩ (fun j _ => vp_updV_set hl v j)⟩ ((hH.1 _ _ _ he).2 rfl) (Nat.le_of_eq e2.symm) (fun q _ hq => e3 q hq)
theorem r_putf (E : fmE G Γ cc nL own nm ret RM tb) {index : Nat} {a : Nat} {fs : List Value} {v : Value} {ref : String} (cl : fmCl ci C T N ty) (f : Nat) (hf : f < N) (hfin : (T f).2.2.2 = false) (hlink : Cond.fieldLink own index ref (T f).2.1 (T f).2.2.1 ∈ lw_all) (hsame : ∀ x, Γ.s.fieldFound? (T f).1 (T f).2.1 (T f).2.2.1 = some x → Γ.s.fieldFound? ref (T f).2.1 (T f).2.2.1 = some x) (he : h a = some (true, .inr (.inl (ci, fs)))) (hl : f < fs.length) (hn : narrow (ty f) v = v) (hfit : fits (ty f) v = true) (d : decode cc pc = .ok (.putfield index, 3)) (k : fmW G Γ (fmUp h a (true, .inr (.inl (ci, fs.set f v)))) kc ks (pc + 3) L st) : fmW G Γ h kc ks pc L (v :: .ref a :: st) := by
  intro H lo cx sx ls a1 a2 a3 a4 a5
  obtain ⟨r, h1, cell, q1, q2, q3, q4⟩ := (a1.1 _ _ _ he).1
  have hr : r = (C, T, N) := Option.some.inj (h1.symm.trans cl.1)
  subst hr
  obtain ⟨hS, hfc, kC, hkC, hkind⟩ := E.v.1.1 ci _ cl.1
  obtain ⟨cf, kf, fi, fd, hi, hsl⟩ := hS f hf
  have hlay := E.ts _ (cl.2.1 _ (u_in_lay hf))
  unfold u_lay at hlay
  rw [if_neg (by rw [hfin]; decide)] at hlay
  have hst := (u_facts hfc hkC (u_lays E.ts cl.2.1 hf) hi).1
  have h6 := u_store hfc hkC hkind hlay hi (cl.2.2.1 f hf) hn hfit
  refine W.putK E.x E.b (f := fd) ⟨E.xown, E.ts _ hlink, ⟨_, _, _, hsame _ hi⟩, hst⟩ (by rw [q2]; exact h6) q1 q3 (by rw [hsl]; exact k2_hasslot (q4 f hf)) rfl rfl d fun H' e1 e2 e3 => ?_
  rw [hsl] at e1 ⊢
  exact k H' _ cx sx ls (fm_puts own E.ts E.v cl hf hl a1 he q1 q2 q3 q4 e1 e2 e3) (fun z hz => (List.mem_append.mp hz).elim (a2 z) (fun hz => by rw [List.mem_singleton.mp hz]; exact (a1.1 _ _ _ he).2 rfl)) a3 a4 a5
theorem r_putfN (E : fmE G Γ cc nL own nm ret RM tb) {index : Nat} {a : Nat} {fs : List Value} {v : Value} {ref : String} {host : String} (cl : fmCl ci C T N ty) (f : Nat) (hf : f < N) (hfin : (T f).2.2.2 = false) (hlink : Cond.fieldLinkNest own index ref (T f).2.1 (T f).2.2.1 host ∈ lw_tbl) (hsame : ∀ x, Γ.s.fieldFound? (T f).1 (T f).2.1 (T f).2.2.1 = some x → Γ.s.fieldFound? ref (T f).2.1 (T f).2.2.1 = some x) (he : h a = some (true, .inr (.inl (ci, fs)))) (hl : f < fs.length) (hn : narrow (ty f) v = v) (hfit : fits (ty f) v = true) (d : decode cc pc = .ok (.putfield index, 3)) (k : fmW G Γ (fmUp h a (true, .inr (.inl (ci, fs.set f v)))) kc ks (pc + 3) L st) : fmW G Γ h kc ks pc L (v :: .ref a :: st) := by
  intro H lo cx sx ls a1 a2 a3 a4 a5
  obtain ⟨r, h1, cell, q1, q2, q3, q4⟩ := (a1.1 _ _ _ he).1
  have hr : r = (C, T, N) := Option.some.inj (h1.symm.trans cl.1)
  subst hr
  obtain ⟨hS, hfc, kC, hkC, hkind⟩ := E.v.1.1 ci _ cl.1
  obtain ⟨cf, kf, fi, fd, hi, hsl⟩ := hS f hf
  have hlay := E.ts _ (cl.2.1 _ (u_in_lay hf))
  unfold u_lay at hlay
  rw [if_neg (by rw [hfin]; decide)] at hlay
  have hst := (u_facts hfc hkC (u_lays E.ts cl.2.1 hf) hi).1
  have h6 := u_store hfc hkC hkind hlay hi (cl.2.2.1 f hf) hn hfit
  refine va_WputK E.x E.b (f := fd) E.xown ((E.nw hlink rfl).use rfl) (hsame _ hi) hst (by rw [q2]; exact h6) q1 q3 (by rw [hsl]; exact k2_hasslot (q4 f hf)) rfl rfl d fun H' e1 e2 e3 => ?_
  rw [hsl] at e1 ⊢
  exact k H' _ cx sx ls (fm_puts own E.ts E.v cl hf hl a1 he q1 q2 q3 q4 e1 e2 e3) (fun z hz => (List.mem_append.mp hz).elim (a2 z) (fun hz => by rw [List.mem_singleton.mp hz]; exact (a1.1 _ _ _ he).2 rfl)) a3 a4 a5
theorem r_putfF (E : fmE G Γ cc nL own nm ret RM tb) {index : Nat} {a : Nat} {fs : List Value} {v : Value} {ref : String} (cl : fmCl ci C T N ty) (f : Nat) (hf : f < N) (hfin : (T f).2.2.2 = true) (hin2 : nm = "<init>") (hdecl : (T f).1 = own) (hlink : Cond.fieldLink own index ref (T f).2.1 (T f).2.2.1 ∈ lw_all) (hsame : ∀ x, Γ.s.fieldFound? (T f).1 (T f).2.1 (T f).2.2.1 = some x → Γ.s.fieldFound? ref (T f).2.1 (T f).2.2.1 = some x) (he : h a = some (true, .inr (.inl (ci, fs)))) (hl : f < fs.length) (hn : narrow (ty f) v = v) (hfit : fits (ty f) v = true) (d : decode cc pc = .ok (.putfield index, 3)) (k : fmW G Γ (fmUp h a (true, .inr (.inl (ci, fs.set f v)))) kc ks (pc + 3) L st) : fmW G Γ h kc ks pc L (v :: .ref a :: st) := by
  intro H lo cx sx ls a1 a2 a3 a4 a5
  obtain ⟨r, h1, cell, q1, q2, q3, q4⟩ := (a1.1 _ _ _ he).1
  have hr : r = (C, T, N) := Option.some.inj (h1.symm.trans cl.1)
  subst hr
  obtain ⟨hS, hfc, kC, hkC, hkind⟩ := E.v.1.1 ci _ cl.1
  obtain ⟨cf, kf, fi, fd, hi, hsl⟩ := hS f hf
  have hlay := E.ts _ (cl.2.1 _ (u_in_lay hf))
  unfold u_lay at hlay
  rw [if_pos hfin] at hlay
  have hst := (u_facts hfc hkC (u_lays E.ts cl.2.1 hf) hi).1
  have hcf : Γ.m.cls = cf := by
    obtain ⟨_, _, c', _, _, _, -, -, hf', -, -, -, hown2, -⟩ := Cond.laysFinal_spec hlay
    have e1 : c' = cf := by have := hi.symm.trans hf'; simp at this; exact this.1.symm
    rw [hdecl] at hown2
    rw [← e1]; exact Option.some.inj (E.xown.symm.trans hown2)
  have h6 := u_fits hfc hkC hkind (Or.inr hlay) hi (cl.2.2.1 f hf) hn hfit
  refine W.putFinK E.x E.b E.xown (E.ts _ hlink) (hsame _ hi) hst hcf (E.xnm.trans hin2) (by rw [q2]; exact h6) q1 q3 (by rw [hsl]; exact k2_hasslot (q4 f hf)) rfl rfl d fun H' e1 e2 e3 => ?_
  rw [hsl] at e1 ⊢
  exact k H' _ cx sx ls (fm_puts own E.ts E.v cl hf hl a1 he q1 q2 q3 q4 e1 e2 e3) (fun z hz => (List.mem_append.mp hz).elim (a2 z) (fun hz => by rw [List.mem_singleton.mp hz]; exact (a1.1 _ _ _ he).2 rfl)) a3 a4 a5
theorem r_new (E : fmE G Γ cc nL own nm ret RM tb) {index : Nat} (cl : fmCl ci C T N ty) (fs : List Value) (hlink : Cond.classLink own index C ∈ lw_all) (hins : Cond.instantiable C N ∈ lw_all) (hini : Cond.initialized C ∈ lw_all) (hfs : ∀ j, j < N → defaultValue (ty j) = vp_V fs j) (kc' ks' : Nat) (hkc : kc' + 1 ≤ kc) (hks : ks' + N ≤ ks) (d : decode cc pc = .ok (.new index, 3)) (k : ∀ a : Nat, h a = none → (fmK0 G).size ≤ a → fmW G Γ (fmUp h a (true, .inr (.inl (ci, fs)))) kc' ks' (pc + 3) L (.ref a :: st)) : fmW G Γ h kc ks pc L st := by
  intro H lo cx sx ls a1 a2 a3 a4 a5
  have hKn := E.v.1.1 ci _ cl.1
  refine W.newcK E.x E.b E.xown (E.ts _ hlink) (E.ts _ hins) (E.ts _ hini) rfl d (by omega) (by omega) hKn.2.1 rfl fun H1 kC hkC e1 z1 o1 => ?_
  exact k H.size a1.none a1.2.1 H1 lo (cx + 1) (sx + N) ls (a1.up ⟨_, cl.1, (u_born ty E.ts cl.2.1 hKn hkC e1 cl.2.2.1).to hfs⟩ a1.2.1 (by omega) (fun q hq _ => o1 q hq)) a2 (by omega) (by omega) a5
theorem r_gets (E : fmE G Γ cc nL own nm ret RM tb) {index : Nat} {Cs n ds : String} {v : Value} (i : Nat) (hz : (fmZl (fmAd G) (fmSv G))[i]? = some (Cs, n, ds, v)) (hlink : Cond.fieldLink own index Cs n ds ∈ lw_all) (d : decode cc pc = .ok (.getstatic index, 3)) (k : fmW G Γ h kc ks (pc + 3) L (v :: st)) : fmW G Γ h kc ks pc L st := by
  intro H lo cx sx ls a1 a2 a3 a4 a5
  obtain ⟨cf, kf, fi, f, a, cell, h1, h2, h3, h4, h5, h6, h7, h8⟩ := E.v.2.2.2.2.1 _ (List.mem_of_getElem? hz)
  exact W.gets E.x E.b E.xown (E.ts _ hlink) h1 h2 h3 h4 (by rw [a1.2.2 a (Nat.not_le.mp h8)]; exact h5) (fun e => by rw [e] at h6; cases h6) h7 rfl d (k H lo cx sx ls a1 a2 a3 a4 a5)
theorem r_getsN (E : fmE G Γ cc nL own nm ret RM tb) {index : Nat} {Cs n ds host : String} {v : Value} (i : Nat) (hz : (fmZl (fmAd G) (fmSv G))[i]? = some (Cs, n, ds, v)) (hlink : Cond.fieldLinkNest own index Cs n ds host ∈ lw_tbl) (d : decode cc pc = .ok (.getstatic index, 3)) (k : fmW G Γ h kc ks (pc + 3) L (v :: st)) : fmW G Γ h kc ks pc L st := by
  intro H lo cx sx ls a1 a2 a3 a4 a5
  obtain ⟨cf, kf, fi, f, a, cell, h1, h2, h3, h4, h5, h6, h7, h8⟩ := E.v.2.2.2.2.1 _ (List.mem_of_getElem? hz)
  exact va_WgetsN E.x E.b E.xown ((E.nw hlink rfl).use rfl) h1 h2 h3 h4 (by rw [a1.2.2 a (Nat.not_le.mp h8)]; exact h5) (fun e => by rw [e] at h6; cases h6) h7 rfl d (k H lo cx sx ls a1 a2 a3 a4 a5)
theorem fm_ar {H : Heap} {a t : Nat} {b : Bool} {x : vp_A} (hH : fmH G h H) (he : h a = some (b, .inl (t, x))) : va_P G.1 vwCl [(a, .inl (G.2.1 t, x))] H := by
  intro k q hk
  have hz : k < 1 := (List.getElem?_eq_some_iff.mp hk).1
  rw [show k = 0 by omega] at hk
  cases hk
  exact (hH.1 _ _ _ he).1
theorem fm_ty {t : Nat} {y : FieldType} (hV : fmV G Γ.s) (ht : fmTy[t]? = some y) : ArrOfT Γ.s (G.2.1 t) y ∧ va_RA Γ.s (G.2.1 t) y := hV.1.2 t (G.2.1 t, y) (by rw [List.getElem?_map, List.getElem?_zipIdx, ht]; simp only [Option.map_some, Nat.zero_add])
theorem r_iald (E : fmE G Γ cc nL own nm ret RM tb) {a n j : Nat} {b : Bool} {f : Nat → Int32} (he : h a = some (b, .inl (0, n, .inl f))) (hj : j < n) (hn : n < 2 ^ 31) (d : decode cc pc = .ok (.iaload, 1)) (k : fmW G Γ h kc ks (pc + 1) L (.int (f j) :: st)) : fmW G Γ h kc ks pc L (.int (nI j) :: .ref a :: st) := by
  intro H lo cx sx ls a1 a2 a3 a4 a5
  have hc : (nI j).toNatClampNeg = j := nI_clamp (Nat.lt_trans hj hn)
  refine W.iald (v := .int (f j)) E.x E.b (a1.1 _ _ _ he).1 ((fm_ty E.v (t := 0) rfl).1 n (fun i => .int (f i))) (fun q => by cases q) (by show ¬ (_ ∨ (arrV _ _ _).slots.size ≤ _); rw [arrV_size]; exact nI_in hj hn) (by show (arrV _ _ _).slots[_]? = _; rw [hc, arrV_read _ _ hj]) rfl rfl d (k H lo cx sx ls a1 a2 a3 a4 a5)
theorem r_bald (E : fmE G Γ cc nL own nm ret RM tb) {a n j : Nat} {b : Bool} {f : Nat → Int32} (he : h a = some (b, .inl (3, n, .inl f))) (hj : j < n) (hn : n < 2 ^ 31) (d : decode cc pc = .ok (.baload, 1)) (k : fmW G Γ h kc ks (pc + 1) L (.int (f j) :: st)) : fmW G Γ h kc ks pc L (.int (nI j) :: .ref a :: st) := by
  intro H lo cx sx ls a1 a2 a3 a4 a5
  have hc : (nI j).toNatClampNeg = j := nI_clamp (Nat.lt_trans hj hn)
  refine W.bald (v := .int (f j)) E.x E.b (a1.1 _ _ _ he).1 ((fm_ty E.v (t := 3) rfl).1 n (fun i => .int (f i))) (fun q => by cases q) (by show ¬ (_ ∨ (arrV _ _ _).slots.size ≤ _); rw [arrV_size]; exact nI_in hj hn) (by show (arrV _ _ _).slots[_]? = _; rw [hc, arrV_read _ _ hj]) rfl rfl d (k H lo cx sx ls a1 a2 a3 a4 a5)
theorem r_cald (E : fmE G Γ cc nL own nm ret RM tb) {a n j : Nat} {b : Bool} {f : Nat → Int32} (he : h a = some (b, .inl (4, n, .inl f))) (hj : j < n) (hn : n < 2 ^ 31) (d : decode cc pc = .ok (.caload, 1)) (k : fmW G Γ h kc ks (pc + 1) L (.int (f j) :: st)) : fmW G Γ h kc ks pc L (.int (nI j) :: .ref a :: st) := by
  intro H lo cx sx ls a1 a2 a3 a4 a5
  have hc : (nI j).toNatClampNeg = j := nI_clamp (Nat.lt_trans hj hn)
  refine W.cald (v := .int (f j)) E.x E.b (a1.1 _ _ _ he).1 ((fm_ty E.v (t := 4) rfl).1 n (fun i => .int (f i))) (fun q => by cases q) (by show ¬ (_ ∨ (arrV _ _ _).slots.size ≤ _); rw [arrV_size]; exact nI_in hj hn) (by show (arrV _ _ _).slots[_]? = _; rw [hc, arrV_read _ _ hj]) rfl rfl d (k H lo cx sx ls a1 a2 a3 a4 a5)
theorem r_zald (E : fmE G Γ cc nL own nm ret RM tb) {a n j : Nat} {b : Bool} {f : Nat → Int32} (he : h a = some (b, .inl (5, n, .inl f))) (hj : j < n) (hn : n < 2 ^ 31) (d : decode cc pc = .ok (.baload, 1)) (k : fmW G Γ h kc ks (pc + 1) L (.int (f j) :: st)) : fmW G Γ h kc ks pc L (.int (nI j) :: .ref a :: st) := by
  intro H lo cx sx ls a1 a2 a3 a4 a5
  have hc : (nI j).toNatClampNeg = j := nI_clamp (Nat.lt_trans hj hn)
  refine W.zald (v := .int (f j)) E.x E.b (a1.1 _ _ _ he).1 ((fm_ty E.v (t := 5) rfl).1 n (fun i => .int (f i))) (fun q => by cases q) (by show ¬ (_ ∨ (arrV _ _ _).slots.size ≤ _); rw [arrV_size]; exact nI_in hj hn) (by show (arrV _ _ _).slots[_]? = _; rw [hc, arrV_read _ _ hj]) rfl rfl d (k H lo cx sx ls a1 a2 a3 a4 a5)
theorem r_lald (E : fmE G Γ cc nL own nm ret RM tb) {a n j : Nat} {b : Bool} {f : Nat → Int64} (he : h a = some (b, .inl (1, n, .inr (.inl f)))) (hj : j < n) (hn : n < 2 ^ 31) (d : decode cc pc = .ok (.laload, 1)) (k : fmW G Γ h kc ks (pc + 1) L (.long (f j) :: st)) : fmW G Γ h kc ks pc L (.int (nI j) :: .ref a :: st) := by
  intro H lo cx sx ls a1 a2 a3 a4 a5
  have hc : (nI j).toNatClampNeg = j := nI_clamp (Nat.lt_trans hj hn)
  refine W.lald (v := .long (f j)) E.x E.b (a1.1 _ _ _ he).1 ((fm_ty E.v (t := 1) rfl).1 n (fun i => .long (f i))) (fun q => by cases q) (by show ¬ (_ ∨ (arrV _ _ _).slots.size ≤ _); rw [arrV_size]; exact nI_in hj hn) (by show (arrV _ _ _).slots[_]? = _; rw [hc, arrV_read _ _ hj]) rfl rfl d (k H lo cx sx ls a1 a2 a3 a4 a5)
theorem r_dald (E : fmE G Γ cc nL own nm ret RM tb) {a n j : Nat} {b : Bool} {f : Nat → UInt64} (he : h a = some (b, .inl (2, n, .inr (.inr (.inr (.inl f)))))) (hj : j < n) (hn : n < 2 ^ 31) (d : decode cc pc = .ok (.daload, 1)) (k : fmW G Γ h kc ks (pc + 1) L (.double (f j) :: st)) : fmW G Γ h kc ks pc L (.int (nI j) :: .ref a :: st) := by
  intro H lo cx sx ls a1 a2 a3 a4 a5
  have hc : (nI j).toNatClampNeg = j := nI_clamp (Nat.lt_trans hj hn)
  refine W.dald (v := .double (f j)) E.x E.b (a1.1 _ _ _ he).1 ((fm_ty E.v (t := 2) rfl).1 n (fun i => .double (f i))) (fun q => by cases q) (by show ¬ (_ ∨ (arrV _ _ _).slots.size ≤ _); rw [arrV_size]; exact nI_in hj hn) (by show (arrV _ _ _).slots[_]? = _; rw [hc, arrV_read _ _ hj]) rfl rfl d (k H lo cx sx ls a1 a2 a3 a4 a5)
theorem r_iast (E : fmE G Γ cc nL own nm ret RM tb) {a n j : Nat} {f : Nat → Int32} {x : Int32} (he : h a = some (true, .inl (0, n, .inl f))) (hj : j < n) (hn : n < 2 ^ 31) (d : decode cc pc = .ok (.iastore, 1)) (k : fmW G Γ (fmUp h a (true, .inl (0, n, .inl (upd f j (x))))) kc ks (pc + 1) L st) : fmW G Γ h kc ks pc L (.int x :: .int (nI j) :: .ref a :: st) := by
  intro H lo cx sx ls a1 a2 a3 a4 a5
  have hc : (nI j).toNatClampNeg = j := nI_clamp (Nat.lt_trans hj hn)
  refine W.iast E.x E.b (a1.1 _ _ _ he).1 ((fm_ty E.v (t := 0) rfl).1 n (fun i => .int (f i))) (fun q => by cases q) (by show ¬ (_ ∨ (arrV _ _ _).slots.size ≤ _); rw [arrV_size]; exact nI_in hj hn) rfl rfl d fun H1 e z oq => ?_
  refine k H1 _ cx sx ls (a1.up ?_ ((a1.1 _ _ _ he).2 rfl) (Nat.le_of_eq z.symm) (fun q _ hq => oq q hq)) (fun z hz => (List.mem_append.mp hz).elim (a2 z) (fun hz => by rw [List.mem_singleton.mp hz]; exact (a1.1 _ _ _ he).2 rfl)) a3 a4 a5
  show H1[a]? = some (vp_cell _ _)
  rw [e, hc]
  show some ((arrV (G.2.1 0) n (fun i => .int (f i))).setSlot j (.int x)) = some (arrV (G.2.1 0) n (fun i => .int (upd f j (x) i)))
  rw [arrV_store]
  congr 2
  funext q
  by_cases hq : q = j
  · subst hq
    simp [updV, upd]
  · simp [updV, upd, hq]
theorem r_last (E : fmE G Γ cc nL own nm ret RM tb) {a n j : Nat} {f : Nat → Int64} {x : Int64} (he : h a = some (true, .inl (1, n, .inr (.inl f)))) (hj : j < n) (hn : n < 2 ^ 31) (d : decode cc pc = .ok (.lastore, 1)) (k : fmW G Γ (fmUp h a (true, .inl (1, n, .inr (.inl (vf_upd f j (x)))))) kc ks (pc + 1) L st) : fmW G Γ h kc ks pc L (.long x :: .int (nI j) :: .ref a :: st) := by
  intro H lo cx sx ls a1 a2 a3 a4 a5
  have hc : (nI j).toNatClampNeg = j := nI_clamp (Nat.lt_trans hj hn)
  refine W.last E.x E.b (a1.1 _ _ _ he).1 ((fm_ty E.v (t := 1) rfl).1 n (fun i => .long (f i))) (fun q => by cases q) (by show ¬ (_ ∨ (arrV _ _ _).slots.size ≤ _); rw [arrV_size]; exact nI_in hj hn) rfl rfl d fun H1 e z oq => ?_
  refine k H1 _ cx sx ls (a1.up ?_ ((a1.1 _ _ _ he).2 rfl) (Nat.le_of_eq z.symm) (fun q _ hq => oq q hq)) (fun z hz => (List.mem_append.mp hz).elim (a2 z) (fun hz => by rw [List.mem_singleton.mp hz]; exact (a1.1 _ _ _ he).2 rfl)) a3 a4 a5
  show H1[a]? = some (vp_cell _ _)
  rw [e, hc]
  show some ((arrV (G.2.1 1) n (fun i => .long (f i))).setSlot j (.long x)) = some (arrV (G.2.1 1) n (fun i => .long (vf_upd f j (x) i)))
  rw [arrV_store]
  congr 2
  funext q
  by_cases hq : q = j
  · subst hq
    simp [updV, vf_upd]
  · simp [updV, vf_upd, hq]
theorem r_dast (E : fmE G Γ cc nL own nm ret RM tb) {a n j : Nat} {f : Nat → UInt64} {x : UInt64} (he : h a = some (true, .inl (2, n, .inr (.inr (.inr (.inl f)))))) (hj : j < n) (hn : n < 2 ^ 31) (d : decode cc pc = .ok (.dastore, 1)) (k : fmW G Γ (fmUp h a (true, .inl (2, n, .inr (.inr (.inr (.inl (vf_upd f j (x)))))))) kc ks (pc + 1) L st) : fmW G Γ h kc ks pc L (.double x :: .int (nI j) :: .ref a :: st) := by
  intro H lo cx sx ls a1 a2 a3 a4 a5
  have hc : (nI j).toNatClampNeg = j := nI_clamp (Nat.lt_trans hj hn)
  refine W.dast E.x E.b (a1.1 _ _ _ he).1 ((fm_ty E.v (t := 2) rfl).1 n (fun i => .double (f i))) (fun q => by cases q) (by show ¬ (_ ∨ (arrV _ _ _).slots.size ≤ _); rw [arrV_size]; exact nI_in hj hn) rfl rfl d fun H1 e z oq => ?_
  refine k H1 _ cx sx ls (a1.up ?_ ((a1.1 _ _ _ he).2 rfl) (Nat.le_of_eq z.symm) (fun q _ hq => oq q hq)) (fun z hz => (List.mem_append.mp hz).elim (a2 z) (fun hz => by rw [List.mem_singleton.mp hz]; exact (a1.1 _ _ _ he).2 rfl)) a3 a4 a5
  show H1[a]? = some (vp_cell _ _)
  rw [e, hc]
  show some ((arrV (G.2.1 2) n (fun i => .double (f i))).setSlot j (.double x)) = some (arrV (G.2.1 2) n (fun i => .double (vf_upd f j (x) i)))
  rw [arrV_store]
  congr 2
  funext q
  by_cases hq : q = j
  · subst hq
    simp [updV, vf_upd]
  · simp [updV, vf_upd, hq]
end ROWS
