/-! A MINE MADE -/
theorem AL.congr {G : fmG} {h : fmHp} {l e n : Nat} {f f' : Nat → Nat} (hA : AL G h l e n f) (hf : ∀ i, i < n → f' i = f i) : AL G h l e n f' := by
  obtain ⟨mc, cap, fe, g, h1, h2, h3, h4, h5, h6, h7, h8⟩ := hA
  exact ⟨mc, cap, fe, g, h1, h2, h3, h4, h5, h6, fun i hi => by rw [hf i hi]; exact h7 i hi, h8⟩
theorem AL.zero {G : fmG} {h : fmHp} {l : Nat} {f : Nat → Nat} {mc : Int32} (hC : CC G h) (hl : h l = some (true, .inr (.inl (12, [.int mc, .ref (fmAd G 10), .int (nI 0)])))) : AL G h l (fmAd G 10) 0 f :=
  ⟨mc, 0, false, fun _ => none, hl, hC.2.2.1, Nat.le_refl _, by decide, fun _ => rfl, fun q => absurd q (Nat.lt_irrefl _), fun i hi => absurd hi (Nat.not_lt_zero _), fun i _ hi => absurd hi (Nat.not_lt_zero _)⟩
abbrev mObj0 : fmEn := (true, .inr (.inl (2, [.null, .null, .null, .int 0, .int 0, .int 0, .int 0])))
/-- a mine in the making: i shafts and j picks taken over -/
def MkS (G : fmG) (h0 hh : fmHp) (d g sl se pl pe : Nat) (gc : Nat → Option Nat) (i : Nat) (f : Nat → Nat) (j : Nat) (fp : Nat → Nat) (ro pr ru st : Int32) : Prop :=
  Kp h0 hh ∧ hh d = some (true, .inr (.inl (2, [.ref g, .ref sl, .ref pl, .int ro, .int pr, .int ru, .int st]))) ∧ hh g = some (true, .inl (7, 64, .inr (.inr (.inr (.inr gc))))) ∧ AL G hh sl se i f ∧ AL G hh pl pe j fp ∧
  h0 d = none ∧ h0 g = none ∧ h0 sl = none ∧ h0 pl = none ∧ (h0 se = none ∨ se = fmAd G 10) ∧ (h0 pe = none ∨ pe = fmAd G 10) ∧ sl ≠ pl ∧ (se = pe → se = fmAd G 10)
section MKS
variable {G : fmG} {h0 hh h' : fmHp} {d g sl se pl pe : Nat} {gc : Nat → Option Nat} {i : Nat} {f : Nat → Nat} {j : Nat} {fp : Nat → Nat} {ro pr ru st : Int32}
theorem MkS.kp (hS : MkS G h0 hh d g sl se pl pe gc i f j fp ro pr ru st) (hk : Kp hh h') : MkS G h0 h' d g sl se pl pe gc i f j fp ro pr ru st := by
  obtain ⟨h1, h2, h3, h4, h5, r⟩ := hS
  exact ⟨h1.trans hk, hk _ _ h2, hk _ _ h3, h4.kp hk, h5.kp hk, r⟩
/-- an object of another class is written -/
theorem MkS.obj (hS : MkS G h0 hh d g sl se pl pe gc i f j fp ro pr ru st) {it ci : Nat} {b : Bool} {fs : List Value} {e : fmEn} (hi : hh it = some (b, .inr (.inl (ci, fs)))) (hi0 : h0 it = none) (h2 : ci ≠ 2) (h12 : ci ≠ 12) : MkS G h0 (fmUp hh it e) d g sl se pl pe gc i f j fp ro pr ru st := by
  obtain ⟨g1, g2, g3, ⟨mc, cap, fe, gg, a1, a2, ar⟩, ⟨mc', cap', fe', gg', b1, b2, br⟩, r⟩ := hS
  refine ⟨g1.up0 hi0, ?_, ?_, ⟨mc, cap, fe, gg, ?_, ?_, ar⟩, ⟨mc', cap', fe', gg', ?_, ?_, br⟩, r⟩
  · rw [fmUp_n (fun z => by rw [z, hi] at g2; cases g2; exact h2 rfl)]; exact g2
  · rw [fmUp_n (fun z => by rw [z, hi] at g3; cases g3)]; exact g3
  · rw [fmUp_n (fun z => by rw [z, hi] at a1; cases a1; exact h12 rfl)]; exact a1
  · rw [fmUp_n (fun z => by rw [z, hi] at a2; cases a2)]; exact a2
  · rw [fmUp_n (fun z => by rw [z, hi] at b1; cases b1; exact h12 rfl)]; exact b1
  · rw [fmUp_n (fun z => by rw [z, hi] at b2; cases b2)]; exact b2
theorem MkS.addS (hC : CC G h0) (hS : MkS G h0 hh d g sl se pl pe gc i f j fp ro pr ru st) {se' i' : Nat} {f' : Nat → Nat} (hA : AL G h' sl se' i' f') (hse : (se' = se ∧ ∃ x, hh se = some (true, x)) ∨ hh se' = none ∧ (fmK0 G).size ≤ se') (hfr : ∀ q x, hh q = some x → q ≠ sl → (q ≠ se ∨ x.1 = false) → h' q = some x) : MkS G h0 h' d g sl se' pl pe gc i' f' j fp ro pr ru st := by
  obtain ⟨g1, g2, g3, g4, g5, k1, k2, k3, k4, k5, k6, k7, k8⟩ := hS
  obtain ⟨mc, hsl⟩ := g4.o
  obtain ⟨fe, cap, gg, hs⟩ := g4.el
  obtain ⟨fe', cap', gg', hp⟩ := g5.el
  refine ⟨Dr.list hC g1 k3 k5 hfr, hfr _ _ g2 (fun z => by rw [z, hsl] at g2; cases g2) (Or.inl fun z => by rw [z, hs] at g2; cases g2), hfr _ _ g3 (fun z => by rw [z, hsl] at g3; cases g3) (Or.inl fun z => by rw [z, hs] at g3; cases g3), hA, AL.beside (hC.kp g1) k7 k8 g5 g4.o g4.el hfr, k1, k2, k3, k4, ?_, k6, k7, ?_⟩
  · exact hse.elim (fun q => by rw [q.1]; exact k5) (fun q => Or.inl (g1.none q.1))
  · intro z
    rcases hse with ⟨e1, _⟩ | ⟨e1, _⟩
    · rw [e1] at z ⊢; exact k8 z
    · rw [z, hp] at e1; cases e1
theorem MkS.addP (hC : CC G h0) (hS : MkS G h0 hh d g sl se pl pe gc i f j fp ro pr ru st) {pe' j' : Nat} {fp' : Nat → Nat} (hA : AL G h' pl pe' j' fp') (hpe : (pe' = pe ∧ ∃ x, hh pe = some (true, x)) ∨ hh pe' = none ∧ (fmK0 G).size ≤ pe') (hfr : ∀ q x, hh q = some x → q ≠ pl → (q ≠ pe ∨ x.1 = false) → h' q = some x) : MkS G h0 h' d g sl se pl pe' gc i f j' fp' ro pr ru st := by
  obtain ⟨g1, g2, g3, g4, g5, k1, k2, k3, k4, k5, k6, k7, k8⟩ := hS
  obtain ⟨mc, hpl⟩ := g5.o
  obtain ⟨fe, cap, gg, hs⟩ := g4.el
  obtain ⟨fe', cap', gg', hp⟩ := g5.el
  refine ⟨Dr.list hC g1 k4 k6 hfr, hfr _ _ g2 (fun z => by rw [z, hpl] at g2; cases g2) (Or.inl fun z => by rw [z, hp] at g2; cases g2), hfr _ _ g3 (fun z => by rw [z, hpl] at g3; cases g3) (Or.inl fun z => by rw [z, hp] at g3; cases g3), AL.beside (hC.kp g1) (fun z => k7 z.symm) (fun z => z.trans (k8 z.symm)) g4 g5.o g5.el hfr, hA, k1, k2, k3, k4, k5, ?_, k7, ?_⟩
  · exact hpe.elim (fun q => by rw [q.1]; exact k6) (fun q => Or.inl (g1.none q.1))
  · intro z
    rcases hpe with ⟨e1, _⟩ | ⟨e1, _⟩
    · rw [e1] at z; exact k8 z
    · rw [← z, hs] at e1; cases e1
/-- the object itself is written -/
theorem MkS.setd (hS : MkS G h0 hh d g sl se pl pe gc i f j fp ro pr ru st) {ro' pr' ru' st' : Int32} : MkS G h0 (fmUp hh d (true, .inr (.inl (2, [.ref g, .ref sl, .ref pl, .int ro', .int pr', .int ru', .int st'])))) d g sl se pl pe gc i f j fp ro' pr' ru' st' := by
  obtain ⟨g1, g2, g3, ⟨mc, cap, fe, gg, a1, a2, ar⟩, ⟨mc', cap', fe', gg', b1, b2, br⟩, k1, r⟩ := hS
  refine ⟨g1.up0 k1, fmUp_s, ?_, ⟨mc, cap, fe, gg, ?_, ?_, ar⟩, ⟨mc', cap', fe', gg', ?_, ?_, br⟩, k1, r⟩
  · rw [fmUp_n (fun z => by rw [z, g2] at g3; cases g3)]; exact g3
  · rw [fmUp_n (fun z => by rw [z, g2] at a1; cases a1)]; exact a1
  · rw [fmUp_n (fun z => by rw [z, g2] at a2; cases a2)]; exact a2
  · rw [fmUp_n (fun z => by rw [z, g2] at b1; cases b1)]; exact b1
  · rw [fmUp_n (fun z => by rw [z, g2] at b2; cases b2)]; exact b2
/-- the ground is written -/
theorem MkS.arr (hS : MkS G h0 hh d g sl se pl pe gc i f j fp ro pr ru st) {gc' : Nat → Option Nat} : MkS G h0 (fmUp hh g (true, .inl (7, 64, .inr (.inr (.inr (.inr gc')))))) d g sl se pl pe gc' i f j fp ro pr ru st := by
  obtain ⟨g1, g2, g3, ⟨mc, cap, fe, gg, a1, a2, ar⟩, ⟨mc', cap', fe', gg', b1, b2, br⟩, k1, k2, r⟩ := hS
  refine ⟨g1.up0 k2, ?_, fmUp_s, ⟨mc, cap, fe, gg, ?_, ?_, ar⟩, ⟨mc', cap', fe', gg', ?_, ?_, br⟩, k1, k2, r⟩
  · rw [fmUp_n (fun z => by rw [z, g3] at g2; cases g2)]; exact g2
  · rw [fmUp_n (fun z => by rw [z, g3] at a1; cases a1)]; exact a1
  · rw [fmUp_n (fun z => by rw [z, g3] at a2; cases a2)]; exact a2
  · rw [fmUp_n (fun z => by rw [z, g3] at b1; cases b1)]; exact b1
  · rw [fmUp_n (fun z => by rw [z, g3] at b2; cases b2)]; exact b2
theorem MkS.dr (hS : MkS G h0 hh d g sl se pl pe gc i f j fp ro pr ru st) : Dr G h0 hh d g sl se pl pe := by
  obtain ⟨g1, g2, g3, g4, g5, k1, k2, k3, k4, k5, k6, k7, k8⟩ := hS
  exact ⟨g1, k1, k2, k3, k4, k5, k6⟩
end MKS
/-- a mine taken over whole -/
theorem MkS.mine {G : fmG} {h0 hh : fmHp} {d g sl se pl pe d1 g1 sl1 se1 pl1 pe1 : Nat} {gc : Nat → Option Nat} {gf sf pf f fp : Nat → Nat} {N : Nat → Int32} {K pk : Nat} (hM : MineAt G h0 d1 g1 sl1 se1 pl1 pe1 gf sf pf N K pk) (hS : MkS G h0 hh d g sl se pl pe gc K f pk fp (N 355) (N 352) (N 353) (N 354)) (hg : ∀ c, c < 64 → gc c = some (gf c)) (hf : ∀ k, k < K → f k = sf k) (hp : ∀ k, k < pk → fp k = pf k) : MineAt G hh d g sl se pl pe gf sf pf N K pk := by
  obtain ⟨k1, k2, k3, k4, k5, -, -, -, -, -, -, k6, k7⟩ := hS
  obtain ⟨m1, m2, m3, m4, m5, m6, m7, m8, m9, -⟩ := hM.kp k1
  exact ⟨k2, ⟨gc, k3, hg⟩, m3, k4.congr fun i hi => (hf i hi).symm, m5, k5.congr fun i hi => (hp i hi).symm, m7, m8, m9, k6, k7⟩
theorem sIniK_v {c : Nat} : ∀ {k : Nat}, c < k → k ≤ 64 → sIniK k (64 + c) = nI 3 ∧ sIniK k (192 + c) = -1
  | 0, h, _ => absurd h (Nat.not_lt_zero _)
  | k + 1, h, hk => by
    unfold sIniK
    by_cases q : c = k
    · subst q
      exact ⟨by rw [upd_ne' (by omega), upd_eq' rfl], by rw [upd_eq' rfl]⟩
    · obtain ⟨h1, h2⟩ := sIniK_v (c := c) (k := k) (by omega) (by omega)
      exact ⟨by rw [upd_ne' (by omega), upd_ne' (by omega)]; exact h1, by rw [upd_ne' (by omega), upd_ne' (by omega)]; exact h2⟩
theorem sIniK_o {q : Nat} (hq : ¬ (64 ≤ q ∧ q < 128) ∧ ¬ (192 ≤ q ∧ q < 256)) : ∀ {k : Nat}, k ≤ 64 → sIniK k q = 0
  | 0, _ => rfl
  | k + 1, hk => by
    unfold sIniK
    rw [upd_ne' (by omega), upd_ne' (by omega)]
    exact sIniK_o hq (by omega)
theorem sIni_o {q : Nat} (hq : ¬ (64 ≤ q ∧ q < 128) ∧ ¬ (192 ≤ q ∧ q < 256)) (h5 : q ≠ 355) : sIni q = 0 := by
  unfold sIni
  rw [upd_ne' h5]
  exact sIniK_o hq (Nat.le_refl _)
theorem sIni_v {c : Nat} (hc : c < 64) : sIni (64 + c) = nI 3 ∧ sIni (192 + c) = -1 := by
  unfold sIni
  rw [upd_ne' (by omega), upd_ne' (by omega)]
  exact sIniK_v hc (Nat.le_refl _)
theorem sIni_355 : sIni 355 = nI 3 := upd_eq' rfl
theorem MkS.fresh {G : fmG} {h0 hh : fmHp} {d g sl pl : Nat} {gc : Nat → Option Nat} {f fp : Nat → Nat} {a : Nat} (hS : MkS G h0 hh d g sl (fmAd G 10) pl (fmAd G 10) gc 0 f 0 fp (nI 3) 0 0 0) (hg : ∀ c, c < 64 → gc c = some a) (ha : hh a = some (true, .inr (.inl (3, [.int (nI 3), .int (nI 0)])))) : MineAt G hh d g sl (fmAd G 10) pl (fmAd G 10) (fun _ => a) f fp sIni 0 0 := by
  obtain ⟨k1, k2, k3, k4, k5, -, -, -, -, -, -, k6, k7⟩ := hS
  refine ⟨by rw [sIni_355, sIni_o (by omega) (by omega), sIni_o (by omega) (by omega), sIni_o (by omega) (by omega)]; exact k2, ⟨gc, k3, hg⟩, fun c hc => ?_, k4, fun k hk => absurd hk (Nat.not_lt_zero _), k5, fun k hk => absurd hk (Nat.not_lt_zero _), by decide, by decide, k6, k7⟩
  obtain ⟨e1, e2⟩ := sIni_v hc
  exact Or.inl ⟨by rw [sIni_o (by omega) (by omega)]; rfl, e2, by rw [sIni_o (by omega) (by omega)]; rfl, by rw [e1, sIni_o (by omega) (by omega)]; exact ha⟩
