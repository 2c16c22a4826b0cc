/-! a text carried out: one command after another -/
theorem aCmd_u {N : Nat → Int32} {t v : Int32} {p : Bool} (u u' : Int32) (h : t ≠ nI 100) : aCmd N t v u p = aCmd N t v u' p := by
  unfold aCmd
  simp only [if_neg h]
/-- the i-th command on the row N -/
def cR (T : Nat → Int32) (len i : Nat) (N : Nat → Int32) : ARes := aCmd N (pCmd T len (pBeg T len i) false 0).1 (pCmd T len (pBeg T len i) false 0).2.1 (pCmd T len (pBeg T len i) false 0).2.2.1 (pCmd T len (pBeg T len i) false 0).2.2.2.1
theorem cR_u (T : Nat → Int32) (len i : Nat) (N : Nat → Int32) (u : Int32) : aCmd N (pCmd T len (pBeg T len i) false u).1 (pCmd T len (pBeg T len i) false u).2.1 (pCmd T len (pBeg T len i) false u).2.2.1 (pCmd T len (pBeg T len i) false u).2.2.2.1 = cR T len i N := by
  obtain ⟨e1, e2, e3, e4⟩ := pCmd_u (T := T) (len := len) (a := pBeg T len i) (w := false) u 0
  unfold cR
  rw [e1, e2, e3]
  by_cases h : (pCmd T len (pBeg T len i) false 0).1 = nI 100
  · rw [e4 (e1.trans h)]
  · exact aCmd_u _ _ h
theorem tRun_go {T : Nat → Int32} {len n i : Nat} {u : Int32} {N : Nat → Int32} (h : (cR T len i N).1 = 0) : ∃ u', tRun T len (n + 1) i (pBeg T len i) u N = tRun T len n (i + 1) (pBeg T len (i + 1)) u' (cR T len i N).2.2.2 := by
  have e := cR_u T len i N u
  have h1 := tRun_0 (T := T) (len := len) (n := n) (k := i) (a := pBeg T len i) (u := u) (N := N) (by rw [e]; exact h)
  rw [e] at h1
  refine ⟨(pCmd T len (pBeg T len i) false u).2.2.1, h1.trans ?_⟩
  rw [(pCmd_u (T := T) (len := len) (a := pBeg T len i) (w := false) u 0).2.2.1]
  rfl
theorem tRun_thr {T : Nat → Int32} {len n i : Nat} {u : Int32} {N : Nat → Int32} (h : (cR T len i N).1 = 1 ∨ (cR T len i N).1 = 2) : tRun T len (n + 1) i (pBeg T len i) u N = (some (nI 20, nI i), N) := by
  have e := cR_u T len i N u
  exact tRun_1 (by rw [e]; omega) (by rw [e]; omega)
theorem tRun_ref {T : Nat → Int32} {len n i : Nat} {u : Int32} {N : Nat → Int32} (h : (cR T len i N).1 = 3) : tRun T len (n + 1) i (pBeg T len i) u N = (some (cR T len i N).2.1, N) := by
  have e := cR_u T len i N u
  rw [← e] at h ⊢
  exact tRun_3 (by rw [h]; decide)
theorem aCmd_115 {N : Nat → Int32} {K pk : Nat} {v u : Int32} {p : Bool} (h : RV N K pk) : aCmd N (nI 115) v u p = aSink N v K pk := by
  obtain ⟨-, eK, eP⟩ := RI_of h.1 h.2.1 h.2.2.1 h.2.2.2.1
  unfold aCmd
  rw [if_pos rfl, eK, eP]
theorem aCmd_100 {N : Nat → Int32} {K pk : Nat} {v u : Int32} {p : Bool} (h : RV N K pk) : aCmd N (nI 100) v u p = aDig N v u p K pk := by
  obtain ⟨-, eK, eP⟩ := RI_of h.1 h.2.1 h.2.2.1 h.2.2.2.1
  unfold aCmd
  rw [if_neg (by decide), if_pos rfl, eK, eP]
theorem aCmd_112 {N : Nat → Int32} {v u : Int32} {p : Bool} : aCmd N (nI 112) v u p = aProp N v := by
  unfold aCmd
  rw [if_neg (by decide), if_neg (by decide), if_pos rfl]
theorem aCmd_117 {N : Nat → Int32} {v u : Int32} {p : Bool} : aCmd N (nI 117) v u p = aUnprop N v := by
  unfold aCmd
  rw [if_neg (by decide), if_neg (by decide), if_neg (by decide), if_pos rfl]
theorem aCmd_99 {N : Nat → Int32} {K pk : Nat} {v u : Int32} {p : Bool} (h : RV N K pk) : aCmd N (nI 99) v u p = aClose N v K := by
  obtain ⟨-, eK, eP⟩ := RI_of h.1 h.2.1 h.2.2.1 h.2.2.2.1
  unfold aCmd
  rw [if_neg (by decide), if_neg (by decide), if_neg (by decide), if_neg (by decide), if_pos rfl, eK]
theorem aCmd_116 {N : Nat → Int32} {K pk : Nat} {v u : Int32} {p : Bool} (h : RV N K pk) : aCmd N (nI 116) v u p = aPick N v pk := by
  obtain ⟨-, eK, eP⟩ := RI_of h.1 h.2.1 h.2.2.1 h.2.2.2.1
  unfold aCmd
  rw [if_neg (by decide), if_neg (by decide), if_neg (by decide), if_neg (by decide), if_neg (by decide), if_pos rfl, eP]
theorem aCmd_110 {N : Nat → Int32} {v u : Int32} {p : Bool} : aCmd N (nI 110) v u p = aProps N v := by
  unfold aCmd
  rw [if_neg (by decide), if_neg (by decide), if_neg (by decide), if_neg (by decide), if_neg (by decide), if_neg (by decide)]
