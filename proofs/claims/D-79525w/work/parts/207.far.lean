/-! THE DESK's TWO ARRAYS: far and queue written over, all else kept -/
/-- all is kept but arrays of ints that can be written -/
def Kz (h h' : fmHp) : Prop := ∀ (q : Nat) (x : fmEn), h q = some x → (∀ n f, x ≠ (true, .inl (0, n, .inl f))) → h' q = some x
theorem Gd.kz {h h' : fmHp} {N : Nat → Int32} {c a : Nat} (hk : Kz h h') (hG : Gd h N c a) : Gd h' N c a := by
  rcases hG with ⟨h1, h2, h3, h4⟩ | ⟨p, h1, h2, h4⟩ | ⟨h1, h2, h4⟩
  · exact Or.inl ⟨h1, h2, h3, hk _ _ h4 (fun _ _ z => by cases z)⟩
  · exact Or.inr (Or.inl ⟨p, h1, h2, hk _ _ h4 (fun _ _ z => by cases z)⟩)
  · exact Or.inr (Or.inr ⟨h1, h2, hk _ _ h4 (fun _ _ z => by cases z)⟩)
theorem Sh.kz {h h' : fmHp} {N : Nat → Int32} {c a : Nat} (hk : Kz h h') (hS : Sh h N c a) : Sh h' N c a := by
  obtain ⟨cl, h1, h2⟩ := hS
  exact ⟨cl, h1, hk _ _ h2 (fun _ _ z => by cases z)⟩
theorem AL.kz {G : fmG} {h h' : fmHp} {l e n : Nat} {f : Nat → Nat} (hA : AL G h l e n f) (hk : Kz h h') : AL G h' l e n f := by
  obtain ⟨mc, cap, fe, g, h1, h2, r⟩ := hA
  exact ⟨mc, cap, fe, g, hk _ _ h1 (fun _ _ z => by cases z), hk _ _ h2 (fun _ _ z => by cases z), r⟩
theorem MineAt.kz {G : fmG} {h h' : fmHp} {d g sl se pl pe : Nat} {gf sf pf : Nat → Nat} {N : Nat → Int32} {K P : Nat} (hM : MineAt G h d g sl se pl pe gf sf pf N K P) (hk : Kz h h') : MineAt G h' d g sl se pl pe gf sf pf N K P := by
  obtain ⟨h1, ⟨gq, h2, h3⟩, h4, h5, h6, h7, h8, r⟩ := hM
  exact ⟨hk _ _ h1 (fun _ _ z => by cases z), ⟨gq, hk _ _ h2 (fun _ _ z => by cases z), h3⟩, fun c hc => (h4 c hc).kz hk, h5.kz hk, fun k q => (h6 k q).kz hk, h7.kz hk, fun k q => hk _ _ (h8 k q) (fun _ _ z => by cases z), r⟩
theorem CC.kz {G : fmG} {h h' : fmHp} (hC : CC G h) (hk : Kz h h') : CC G h' := hC.kept fun _ _ e => hk _ _ e (fun _ _ z => by cases z)
theorem Kz.trans {h1 h2 h3 : fmHp} (p : Kz h1 h2) (q : Kz h2 h3) : Kz h1 h3 := fun a x e n => q a x (p a x e n) n
theorem Kz.of {h h' : fmHp} (hk : Kp h h') : Kz h h' := fun a x e _ => hk a x e
abbrev fqA (X : Nat → Int32) : fmEn := (true, .inl (0, 64, .inl X))
def fqH (h : fmHp) (far qu : Nat) (X W : Nat → Int32) : fmHp := fmUp (fmUp h far (fqA X)) qu (fqA W)
theorem fqH_f {h : fmHp} {far qu : Nat} {X W : Nat → Int32} (hn : far ≠ qu) : fqH h far qu X W far = some (fqA X) := (fmUp_n hn).trans fmUp_s
theorem fqH_q {h : fmHp} {far qu : Nat} {X W : Nat → Int32} : fqH h far qu X W qu = some (fqA W) := fmUp_s
theorem fqH_uq {h : fmHp} {far qu : Nat} {X W W' : Nat → Int32} : fmUp (fqH h far qu X W) qu (fqA W') = fqH h far qu X W' := fmUp_uu _ _ _ _
theorem fqH_uf {h : fmHp} {far qu : Nat} {X W X' : Nat → Int32} (hn : far ≠ qu) : fmUp (fqH h far qu X W) far (fqA X') = fqH h far qu X' W := by
  unfold fqH
  rw [fmUp_c _ (fun z => hn z.symm), fmUp_uu]
theorem fqH_kz {h : fmHp} {far qu : Nat} {X0 W0 X W : Nat → Int32} (hf : h far = some (fqA X0)) (hq : h qu = some (fqA W0)) : Kz h (fqH h far qu X W) := fun q x hx hn => by
  have h1 : q ≠ qu := fun z => by rw [z, hq] at hx; cases hx; exact hn _ _ rfl
  have h2 : q ≠ far := fun z => by rw [z, hf] at hx; cases hx; exact hn _ _ rfl
  unfold fqH
  rw [fmUp_n h1, fmUp_n h2]
  exact hx
theorem fqH_id {h : fmHp} {far qu : Nat} {X0 W0 : Nat → Int32} (hf : h far = some (fqA X0)) (hq : h qu = some (fqA W0)) : h = fqH h far qu X0 W0 := by
  unfold fqH
  rw [fmUp_id hf, fmUp_id hq]
theorem fqH_fq {h : fmHp} {far qu : Nat} {X W X' W' : Nat → Int32} (hn : far ≠ qu) : fqH (fqH h far qu X W) far qu X' W' = fqH h far qu X' W' := by
  show fmUp (fmUp (fqH h far qu X W) far (fqA X')) qu (fqA W') = _
  rw [fqH_uf hn, fqH_uq]
/-- a number of the search, and none for 0 -/
def oF (n : Nat) : Option Nat := if n = 0 then none else some n
theorem oF_z {n : Nat} : oF n = none ↔ n = 0 := by
  unfold oF
  split
  · exact ⟨fun _ => by assumption, fun _ => rfl⟩
  · exact ⟨fun z => by (cases z), fun z => absurd z (by assumption)⟩
theorem oF_n {n : Nat} (h : n ≠ 0) : oF n = some n := if_neg h
theorem oF_lt {n m : Nat} (h : n < m) : ∀ x, oF n = some x → x < m := fun x hx => by
  unfold oF at hx
  split at hx
  · cases hx
  · cases hx; exact h
/-- the array far holds the search's numbers -/
def bX (b : Bf) (X : Nat → Int32) : Prop := ∀ c, c < 64 → X c = cI (oF (b.1 c))
theorem bX_zero {X : Nat → Int32} (h : ∀ c, c < 64 → X c = -1) : bX bZero X := fun c hc => h c hc
theorem bX_add {b : Bf} {X : Nat → Int32} (h : bX b X) {Q' : Nat → Nat} {n x v : Nat} (hv : v ≠ 0) : bX (updN b.1 x v, Q', n) (upd X x (nI v)) := fun c hc => by
  show upd X x (nI v) c = cI (oF (updN b.1 x v c))
  unfold upd updN
  by_cases e : c = x
  · rw [if_pos e, if_pos e, oF_n hv]; rfl
  · rw [if_neg e, if_neg e]; exact h c hc
/-- the component's search: the closing of the shaft isn't asked -/
def cFar (N : Nat → Int32) (j c K : Nat) : Bf := bRun (fun x => sFree N x (nI j) K) Nat.succ 65 0 (bOne c (sFree N c (nI j) K))
theorem cFar_ok {N : Nat → Int32} {j c K : Nat} (hc : c < 64) : bOK (cFar N j c K) := bRun_ok bG_s 65 0 (bOK_one hc _)
theorem cFar_pre {N : Nat → Int32} {j c K : Nat} (hc : c < 64) : bPre (cFar N j c K).1 := bRun_pre 65 0 (bOK_one hc _) bOne_pre
theorem cFar_eq {N : Nat → Int32} {j c K : Nat} (h : N (328 + j) = nI 0) : cFar N j c K = bFar N j c K := by
  unfold cFar bFar
  rw [decide_eq_true h, Bool.and_true]
