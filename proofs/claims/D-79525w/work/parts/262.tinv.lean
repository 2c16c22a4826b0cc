/-! the parser's text: what holds between two commands -/
def pEnd (T : Nat → Int32) (len i : Nat) : Nat := (pCmd T len (pBeg T len i) false 0).2.2.2.2.1
theorem CmdAt.isO {G : fmG} {h : fmHp} {c : Nat} {t v u : Int32} {p : Bool} (hc : CmdAt G h c t v u p) : isO h c := by
  obtain ⟨b, f, ⟨-, h2, -⟩ | ⟨-, h2, -⟩⟩ := hc
  · exact ⟨9, RX12, TX12, 2, true, _, rfl, h2, q2321⟩
  · exact ⟨9, RX12, TX12, 2, true, _, rfl, h2, q2321⟩
theorem CmdsAt.kept {G : fmG} {h h' : fmHp} {T : Nat → Int32} {len m : Nat} {f : Nat → Nat} (hc : CmdsAt G h T len f m) (hk : ∀ q ci fs, h q = some (true, .inr (.inl (ci, fs))) → ci = 9 → h' q = some (true, .inr (.inl (ci, fs)))) (hk2 : ∀ q n f, h q = some (true, .inl (0, n, .inl f)) → h' q = some (true, .inl (0, n, .inl f))) : CmdsAt G h' T len f m := fun i hi => ⟨(hc i hi).1, (hc i hi).2.kept hk hk2⟩
/-- the list of commands so far, the parser at a; h is the heap at the start -/
def TxB (G : fmG) (h : fmHp) (p x l : Nat) (T : Nat → Int32) (len m : Nat) (h1 : fmHp) (e : Nat) (f : Nat → Nat) (a : Nat) : Prop :=
  AL G h1 l e m f ∧ CmdsAt G h1 T len f m ∧ h1 p = some (true, .inr (.inl (8, [.int (nI a), .ref x]))) ∧ FrX p h h1 ∧ h l = none ∧ (∀ y, h e = some y → y.1 = false)
theorem TxB.fr {G : fmG} {h : fmHp} {p x l : Nat} {T : Nat → Int32} {len m : Nat} {h1 h3 : fmHp} {e : Nat} {f : Nat → Nat} {a b : Nat} (hB : TxB G h p x l T len m h1 e f a) (hfr : FrX p h1 h3) (hp3 : h3 p = some (true, .inr (.inl (8, [.int (nI b), .ref x])))) : TxB G h p x l T len m h3 e f b := by
  obtain ⟨hA, hc, hp, hf, hl, hJ⟩ := hB
  obtain ⟨mc, hlo⟩ := hA.o
  obtain ⟨fe, cap, g, he⟩ := hA.el
  refine ⟨hA.kept ((hfr _ _ hlo (fun z => by rw [z, hp] at hlo; cases hlo)).trans hlo.symm) ((hfr _ _ he (fun z => by rw [z, hp] at he; cases he)).trans he.symm), hc.kept (fun q ci fs hq h9 => hfr _ _ hq (fun z => by rw [z, hp] at hq; cases hq; cases h9)) (fun q n g hq => hfr _ _ hq (fun z => by rw [z, hp] at hq; cases hq)), hp3, hf.trans hfr, hl, hJ⟩
theorem updN_lt {f : Nat → Nat} {m c i : Nat} (h : i < m) : updN f m c i = f i := if_neg (by omega)
theorem TxB.put {G : fmG} {h : fmHp} {p x l : Nat} {T : Nat → Int32} {len m : Nat} {h3 h4 : fmHp} {e e' c : Nat} {f : Nat → Nat} {a : Nat} (hB : TxB G h p x l T len m h3 e f a) (hw : (pCmd T len (pBeg T len m) false 0).2.2.2.2.2 = false) (hc : CmdAt G h3 c (pCmd T len (pBeg T len m) false 0).1 (pCmd T len (pBeg T len m) false 0).2.1 (pCmd T len (pBeg T len m) false 0).2.2.1 (pCmd T len (pBeg T len m) false 0).2.2.2.1)
    (hA4 : AL G h4 l e' (m + 1) (updN f m c)) (he9 : (e' = e ∧ ∃ x, h3 e = some (true, x)) ∨ h3 e' = none ∧ (fmK0 G).size ≤ e') (hfr4 : ∀ q x, h3 q = some x → q ≠ l → (q ≠ e ∨ x.1 = false) → h4 q = some x) : TxB G h p x l T len (m + 1) h4 e' (updN f m c) a := by
  obtain ⟨hA, hcs, hp, hf, hl, hJ⟩ := hB
  obtain ⟨mc, hlo⟩ := hA.o
  obtain ⟨fe, cap, g, he⟩ := hA.el
  have k1 : ∀ q ci fs, h3 q = some (true, .inr (.inl (ci, fs))) → ci = 9 → h4 q = some (true, .inr (.inl (ci, fs))) := fun q ci fs hq h9 => hfr4 _ _ hq (fun z => by rw [z, hlo] at hq; cases hq; cases h9) (Or.inl fun z => by rw [z, he] at hq; cases hq)
  have k2 : ∀ q n f, h3 q = some (true, .inl (0, n, .inl f)) → h4 q = some (true, .inl (0, n, .inl f)) := fun q n f hq => hfr4 _ _ hq (fun z => by rw [z, hlo] at hq; cases hq) (Or.inl fun z => by rw [z, he] at hq; cases hq)
  refine ⟨hA4, fun i hi => ?_, hfr4 _ _ hp (fun z => by rw [z, hlo] at hp; cases hp) (Or.inl fun z => by rw [z, he] at hp; cases hp), fun q y hq hn => ?_, hl, fun y hy => ?_⟩
  · by_cases q : i = m
    · subst q
      rw [show updN f i c i = c from if_pos rfl]
      exact ⟨hw, hc.kept k1 k2⟩
    · rw [updN_lt (by omega)]
      exact ⟨(hcs i (by omega)).1, (hcs i (by omega)).2.kept k1 k2⟩
  · refine hfr4 _ _ (hf q y hq hn) (fun z => by rw [z, hl] at hq; cases hq) ?_
    by_cases z : q = e
    · subst z; exact Or.inr (hJ y hq)
    · exact Or.inl z
  · rcases he9 with ⟨rfl, -⟩ | ⟨hn, -⟩
    · exact hJ y hy
    · exfalso
      by_cases z : e' = p
      · rw [z, hp] at hn; cases hn
      · rw [hf _ _ hy z] at hn; cases hn
/-- the reference's count, at k + 1 commands and n steps to go -/
def PlI (T : Nat → Int32) (len : Nat) (u : Int32) (k n : Nat) : Prop :=
  (∃ u', pLoop T len n (pCmd T len (pBeg T len k) false u') (k + 1) = pAll T len u) ∧ k + 1 + n = len + 2 ∧ len + 1 ≤ n + pEnd T len k ∧ pEnd T len k ≤ len ∧ (pCmd T len (pBeg T len k) false 0).2.2.2.2.2 = false
theorem pCmd_c (T : Nat → Int32) (len i : Nat) (u' : Int32) : (pCmd T len (pBeg T len i) false u').2.2.2.2.2 = (pCmd T len (pBeg T len i) false 0).2.2.2.2.2 ∧ (pCmd T len (pBeg T len i) false u').2.2.2.2.1 = pEnd T len i := by
  have e := pCmd_at0 (T := T) (len := len) (a := pBeg T len i) u'
  exact ⟨by rw [e], by rw [e]; rfl⟩
theorem PlI.first {T : Nat → Int32} {len : Nat} {u : Int32} (hw : (pCmd T len 0 false 0).2.2.2.2.2 = false) : PlI T len u 0 (len + 1) := by
  have h1 := pCmd_end hw
  exact ⟨⟨u, rfl⟩, by omega, Nat.le_add_right _ _, h1.2, hw⟩
theorem PlI.out {T : Nat → Int32} {len : Nat} {u : Int32} {k n : Nat} (hI : PlI T len u k n) (h : ¬ pEnd T len k < len) : (pAll T len u).1.2.2.2.2.2 = false ∧ (pAll T len u).2 = k + 1 := by
  obtain ⟨⟨u', e⟩, -, -, -, hw⟩ := hI
  have hc := pCmd_c T len k u'
  rw [pLoop_end (fun z => h (by have := z.2; rw [hc.2] at this; exact this))] at e
  rw [← e]
  exact ⟨hc.1.trans hw, rfl⟩
theorem PlI.two {T : Nat → Int32} {len : Nat} {u : Int32} {k n : Nat} (hI : PlI T len u k n) (h : pEnd T len k < len) : ∃ n', n = n' + 2 := ⟨n - 2, by have := hI.2.2.1; omega⟩
theorem PlI.no {T : Nat → Int32} {len : Nat} {u : Int32} {k n : Nat} (hI : PlI T len u k n) (h : pEnd T len k < len) (hs : pSee T len (pEnd T len k) false (nI 59) (nI 59) = false) : (pAll T len u).1.2.2.2.2.2 = true ∧ (pAll T len u).1.2.2.2.2.1 = pEnd T len k := by
  obtain ⟨n', rfl⟩ := hI.two h
  obtain ⟨⟨u', e⟩, -, -, -, hw⟩ := hI
  have hc := pCmd_c T len k u'
  have := pLoop_no (n := n') (m := k + 1) (c := pCmd T len (pBeg T len k) false u') ⟨hc.1.trans hw, by rw [hc.2]; exact h⟩ (by rw [hc.2]; exact hs)
  rw [e, hc.2] at this
  exact this
theorem PlI.go {T : Nat → Int32} {len : Nat} {u : Int32} {k n : Nat} (hI : PlI T len u k n) (h : pEnd T len k < len) (hs : pSee T len (pEnd T len k) false (nI 59) (nI 59) = true) : ∃ u' n', n = n' + 1 ∧ pLoop T len n' (pCmd T len (pBeg T len (k + 1)) false u') (k + 1 + 1) = pAll T len u := by
  obtain ⟨n', rfl⟩ := hI.two h
  obtain ⟨⟨u', e⟩, -, -, -, hw⟩ := hI
  have hc := pCmd_c T len k u'
  rw [pLoop_yes ⟨hc.1.trans hw, by rw [hc.2]; exact h⟩ (by rw [hc.2]; exact hs), hc.2] at e
  exact ⟨_, n' + 1, rfl, e⟩
theorem PlI.bad {T : Nat → Int32} {len : Nat} {u : Int32} {k n : Nat} (hI : PlI T len u k n) (h : pEnd T len k < len) (hs : pSee T len (pEnd T len k) false (nI 59) (nI 59) = true) (hw : (pCmd T len (pBeg T len (k + 1)) false 0).2.2.2.2.2 = true) : (pAll T len u).1.2.2.2.2.2 = true ∧ (pAll T len u).1.2.2.2.2.1 = pEnd T len (k + 1) := by
  obtain ⟨u', n', -, e⟩ := hI.go h hs
  have hc := pCmd_c T len (k + 1) u'
  rw [pLoop_end (fun z => by rw [hc.1, hw] at z; cases z.1)] at e
  rw [← e]
  exact ⟨hc.1.trans hw, hc.2⟩
theorem PlI.step {T : Nat → Int32} {len : Nat} {u : Int32} {k n : Nat} (hI : PlI T len u k (n + 1)) (h : pEnd T len k < len) (hs : pSee T len (pEnd T len k) false (nI 59) (nI 59) = true) (hw : (pCmd T len (pBeg T len (k + 1)) false 0).2.2.2.2.2 = false) : PlI T len u (k + 1) n := by
  obtain ⟨u', n', hn, e⟩ := hI.go h hs
  have hn2 : n' = n := by omega
  subst hn2
  have h1 := pCmd_end hw
  have hb : pBeg T len (k + 1) = pEnd T len k + 1 := rfl
  obtain ⟨-, h2, h3, h4, -⟩ := hI
  refine ⟨⟨u', e⟩, by omega, ?_, h1.2, hw⟩
  have h5 : pBeg T len (k + 1) < pEnd T len (k + 1) := h1.1
  omega
/-- the first command is wrong -/
theorem pAll_bad {T : Nat → Int32} {len : Nat} {u : Int32} (hw : (pCmd T len 0 false 0).2.2.2.2.2 = true) : (pAll T len u).1.2.2.2.2.2 = true ∧ (pAll T len u).1.2.2.2.2.1 = pEnd T len 0 := by
  have hc := pCmd_c T len 0 u
  unfold pAll
  rw [pLoop_end (fun z => by rw [show pCmd T len 0 false u = pCmd T len (pBeg T len 0) false u from rfl, hc.1, show pCmd T len (pBeg T len 0) false 0 = pCmd T len 0 false 0 from rfl, hw] at z; cases z.1)]
  exact ⟨hc.1.trans hw, hc.2⟩
/-- an object that is written over leaves the list and its commands -/
theorem AL.one {G : fmG} {h h' : fmHp} {l e n b ci : Nat} {f : Nat → Nat} {w : Bool} {fs : List Value} (hA : AL G h l e n f) (hb : h b = some (w, .inr (.inl (ci, fs)))) (hci : ci ≠ 12) (hfr : ∀ q y, h q = some y → q ≠ b → h' q = some y) : AL G h' l e n f := by
  obtain ⟨mc, hlo⟩ := hA.o
  obtain ⟨fe, cap, g, he⟩ := hA.el
  exact hA.kept ((hfr _ _ hlo (fun z => by rw [z, hb] at hlo; cases hlo; exact hci rfl)).trans hlo.symm) ((hfr _ _ he (fun z => by rw [z, hb] at he; cases he)).trans he.symm)
theorem CmdsAt.one {G : fmG} {h h' : fmHp} {T : Nat → Int32} {len m b ci : Nat} {f : Nat → Nat} {w : Bool} {fs : List Value} (hc : CmdsAt G h T len f m) (hb : h b = some (w, .inr (.inl (ci, fs)))) (hci : ci ≠ 9) (hfr : ∀ q y, h q = some y → q ≠ b → h' q = some y) : CmdsAt G h' T len f m :=
  hc.kept (fun q c9 fs hq h9 => hfr _ _ hq (fun z => by rw [z, hb] at hq; cases hq; exact hci h9)) (fun q n g hq => hfr _ _ hq (fun z => by rw [z, hb] at hq; cases hq))
