/-! A MINE CHANGED: what is told of its row, its cells -/
theorem upd_ne' {f : Nat → Int32} {k j : Nat} {v : Int32} (h : j ≠ k) : upd f k v j = f j := if_neg h
theorem upd_eq' {f : Nat → Int32} {k j : Nat} {v : Int32} (h : j = k) : upd f k v j = v := if_pos h
/-- what holds of every row -/
def RV (N : Nat → Int32) (K pk : Nat) : Prop :=
  N 350 = nI K ∧ K ≤ 8 ∧ N 351 = nI pk ∧ pk ≤ 6 ∧ (∀ k, k < pk → ∃ e, 1 ≤ e ∧ e ≤ 99 ∧ N (344 + k) = nI e) ∧
  (∀ c, c < 64 → ∃ a b, 1 ≤ a ∧ a ≤ 9 ∧ b ≤ 9 ∧ N (64 + c) = nI a ∧ N (128 + c) = nI b) ∧ (∃ p, p ≤ 99 ∧ N 352 = nI p) ∧
  (∀ c, c < 64 → N c = nI 1 → ∃ s, s < K ∧ N (192 + c) = nI s ∧ N (328 + s) = nI 0)
/-- a draft: its own cells are new -/
def Dr (G : fmG) (h0 h : fmHp) (d g sl se pl pe : Nat) : Prop :=
  Kp h0 h ∧ h0 d = none ∧ h0 g = none ∧ h0 sl = none ∧ h0 pl = none ∧ (h0 se = none ∨ se = fmAd G 10) ∧ (h0 pe = none ∨ pe = fmAd G 10)
theorem Kp.up0 {h0 h : fmHp} {a : Nat} {e : fmEn} (hk : Kp h0 h) (ha : h0 a = Option.none) : Kp h0 (fmUp h a e) := fun q x hq => by
  rw [fmUp_n (fun z => by rw [z, ha] at hq; cases hq)]
  exact hk q x hq
theorem MineAt.congr {G : fmG} {h : fmHp} {d g sl se pl pe : Nat} {gf sf pf : Nat → Nat} {N N' : Nat → Int32} {K P : Nat} (hM : MineAt G h d g sl se pl pe gf sf pf N K P)
    (hN : ∀ q, (q < 320 ∨ (320 ≤ q ∧ q < 320 + K) ∨ (328 ≤ q ∧ q < 328 + K) ∨ (336 ≤ q ∧ q < 336 + K) ∨ (344 ≤ q ∧ q < 344 + P) ∨ (352 ≤ q ∧ q < 356)) → N' q = N q) : MineAt G h d g sl se pl pe gf sf pf N' K P := by
  obtain ⟨h1, h2, h4, h5, h6, h7, h8, h9, r⟩ := hM
  refine ⟨by rw [hN 355 (by omega), hN 352 (by omega), hN 353 (by omega), hN 354 (by omega)]; exact h1, h2, fun c hc => ?_, h5, fun k hk => ?_, h7, fun k hk => ?_, h9, r⟩
  · unfold Gd
    rw [hN c (by omega), hN (64 + c) (by omega), hN (128 + c) (by omega), hN (192 + c) (by omega), hN (256 + c) (by omega)]
    exact h4 c hc
  · obtain ⟨cl, g1, g2⟩ := h6 k hk
    exact ⟨cl, by rw [hN (328 + k) (by omega)]; exact g1, by rw [hN (320 + k) (by omega), hN (336 + k) (by omega)]; exact g2⟩
  · unfold Pk
    rw [hN (344 + k) (by omega)]
    exact h8 k hk
/-- the object itself is written -/
theorem MineAt.setd {G : fmG} {h : fmHp} {d g sl se pl pe : Nat} {gf sf pf : Nat → Nat} {N N' : Nat → Int32} {K P : Nat} (hM : MineAt G h d g sl se pl pe gf sf pf N K P)
    (hN : ∀ q, q < 352 → N' q = N q) : MineAt G (fmUp h d (true, .inr (.inl (2, [.ref g, .ref sl, .ref pl, .int (N' 355), .int (N' 352), .int (N' 353), .int (N' 354)])))) d g sl se pl pe gf sf pf N' K P := by
  obtain ⟨h1, ⟨gq, h2, h3⟩, h4, h5, h6, h7, h8, h9, r⟩ := hM
  refine ⟨fmUp_s, ⟨gq, by rw [fmUp_n (fun q => by rw [q, h1] at h2; cases h2)]; exact h2, h3⟩, fun c hc => ?_, ?_, fun k hk => ?_, ?_, fun k hk => ?_, h9, r⟩
  · unfold Gd
    rw [hN c (by omega), hN (64 + c) (by omega), hN (128 + c) (by omega), hN (192 + c) (by omega), hN (256 + c) (by omega)]
    rcases h4 c hc with ⟨a1, a2, a3, a4⟩ | ⟨p, a1, a2, a4⟩ | ⟨a1, a2, a4⟩
    · exact Or.inl ⟨a1, a2, a3, by rw [fmUp_n (fun q => by rw [q, h1] at a4; cases a4)]; exact a4⟩
    · exact Or.inr (Or.inl ⟨p, a1, a2, by rw [fmUp_n (fun q => by rw [q, h1] at a4; cases a4)]; exact a4⟩)
    · exact Or.inr (Or.inr ⟨a1, a2, by rw [fmUp_n (fun q => by rw [q, h1] at a4; cases a4)]; exact a4⟩)
  · obtain ⟨mc, cap, fe, gg, g1, g2, rr⟩ := h5
    exact ⟨mc, cap, fe, gg, by rw [fmUp_n (fun q => by rw [q, h1] at g1; cases g1)]; exact g1, by rw [fmUp_n (fun q => by rw [q, h1] at g2; cases g2)]; exact g2, rr⟩
  · obtain ⟨cl, g1, g2⟩ := h6 k hk
    exact ⟨cl, by rw [hN (328 + k) (by omega)]; exact g1, by rw [hN (320 + k) (by omega), hN (336 + k) (by omega), fmUp_n (fun q => by rw [q, h1] at g2; cases g2)]; exact g2⟩
  · obtain ⟨mc, cap, fe, gg, g1, g2, rr⟩ := h7
    exact ⟨mc, cap, fe, gg, by rw [fmUp_n (fun q => by rw [q, h1] at g1; cases g1)]; exact g1, by rw [fmUp_n (fun q => by rw [q, h1] at g2; cases g2)]; exact g2, rr⟩
  · have g2 := h8 k hk
    unfold Pk at g2 ⊢
    rw [hN (344 + k) (by omega), fmUp_n (fun q => by rw [q, h1] at g2; cases g2)]
    exact g2
/-- a place of the ground is written -/
theorem MineAt.setg {G : fmG} {h : fmHp} {d g sl se pl pe : Nat} {gf sf pf : Nat → Nat} {N N' : Nat → Int32} {K P : Nat} (hM : MineAt G h d g sl se pl pe gf sf pf N K P) {gq : Nat → Option Nat} (hg : h g = some (true, .inl (7, 64, .inr (.inr (.inr (.inr gq)))))) (hgq : ∀ c, c < 64 → gq c = some (gf c)) {c a : Nat} (hc : c < 64) (hG : Gd h N' c a)
    (hN : ∀ q, q ≠ c → q ≠ 64 + c → q ≠ 128 + c → q ≠ 192 + c → q ≠ 256 + c → N' q = N q) : MineAt G (fmUp h g (true, .inl (7, 64, .inr (.inr (.inr (.inr (va_up gq c (some a)))))))) d g sl se pl pe (updN gf c a) sf pf N' K P := by
  obtain ⟨h1, -, h4, h5, h6, h7, h8, h9, h10, r⟩ := hM
  have kk : ∀ {c' a' : Nat}, Gd h N' c' a' → Gd (fmUp h g (true, .inl (7, 64, .inr (.inr (.inr (.inr (va_up gq c (some a)))))))) N' c' a' := by
    intro c' a' q
    rcases q with ⟨a1, a2, a3, a4⟩ | ⟨p, a1, a2, a4⟩ | ⟨a1, a2, a4⟩
    · exact Or.inl ⟨a1, a2, a3, by rw [fmUp_n (fun q => by rw [q, hg] at a4; cases a4)]; exact a4⟩
    · exact Or.inr (Or.inl ⟨p, a1, a2, by rw [fmUp_n (fun q => by rw [q, hg] at a4; cases a4)]; exact a4⟩)
    · exact Or.inr (Or.inr ⟨a1, a2, by rw [fmUp_n (fun q => by rw [q, hg] at a4; cases a4)]; exact a4⟩)
  refine ⟨by rw [hN 355 (by omega) (by omega) (by omega) (by omega) (by omega), hN 352 (by omega) (by omega) (by omega) (by omega) (by omega), hN 353 (by omega) (by omega) (by omega) (by omega) (by omega), hN 354 (by omega) (by omega) (by omega) (by omega) (by omega), fmUp_n (fun q => by rw [q, hg] at h1; cases h1)]; exact h1, ⟨_, fmUp_s, fun c' hc' => ?_⟩, fun c' hc' => ?_, ?_, fun k hk => ?_, ?_, fun k hk => ?_, h9, h10, r⟩
  · unfold va_up updN
    by_cases q : c' = c
    · rw [if_pos q, if_pos q]
    · rw [if_neg q, if_neg q]; exact hgq c' hc'
  · by_cases q : c' = c
    · subst q; rw [updN_s]; exact kk hG
    · rw [updN_n q]
      refine kk ?_
      unfold Gd
      rw [hN c' (by omega) (by omega) (by omega) (by omega) (by omega), hN (64 + c') (by omega) (by omega) (by omega) (by omega) (by omega), hN (128 + c') (by omega) (by omega) (by omega) (by omega) (by omega), hN (192 + c') (by omega) (by omega) (by omega) (by omega) (by omega), hN (256 + c') (by omega) (by omega) (by omega) (by omega) (by omega)]
      exact h4 c' hc'
  · obtain ⟨mc, cap, fe, gg, g1, g2, rr⟩ := h5
    exact ⟨mc, cap, fe, gg, by rw [fmUp_n (fun q => by rw [q, hg] at g1; cases g1)]; exact g1, by rw [fmUp_n (fun q => by rw [q, hg] at g2; cases g2)]; exact g2, rr⟩
  · obtain ⟨cl, g1, g2⟩ := h6 k hk
    exact ⟨cl, by rw [hN (328 + k) (by omega) (by omega) (by omega) (by omega) (by omega)]; exact g1, by rw [hN (320 + k) (by omega) (by omega) (by omega) (by omega) (by omega), hN (336 + k) (by omega) (by omega) (by omega) (by omega) (by omega), fmUp_n (fun q => by rw [q, hg] at g2; cases g2)]; exact g2⟩
  · obtain ⟨mc, cap, fe, gg, g1, g2, rr⟩ := h7
    exact ⟨mc, cap, fe, gg, by rw [fmUp_n (fun q => by rw [q, hg] at g1; cases g1)]; exact g1, by rw [fmUp_n (fun q => by rw [q, hg] at g2; cases g2)]; exact g2, rr⟩
  · have g2 := h8 k hk
    unfold Pk at g2 ⊢
    rw [hN (344 + k) (by omega) (by omega) (by omega) (by omega) (by omega), fmUp_n (fun q => by rw [q, hg] at g2; cases g2)]
    exact g2
/-- two lists don't share what they write -/
theorem AL.beside {G : fmG} {h h' : fmHp} {l e n l' e' n' : Nat} {f' : Nat → Nat} (hC : CC G h) (hl : l ≠ l') (hle : e = e' → e = fmAd G 10) (hA : AL G h l' e' n' f') (hL : ∃ mc : Int32, h l = some (true, .inr (.inl (12, [.int mc, .ref e, .int (nI n)])))) (he : ∃ (fe : Bool) (cap : Nat) (g : Nat → Option Nat), h e = some (fe, .inl (6, cap, .inr (.inr (.inr (.inr g))))))
    (hfr : ∀ q x, h q = some x → q ≠ l → (q ≠ e ∨ x.1 = false) → h' q = some x) : AL G h' l' e' n' f' := by
  obtain ⟨mc, cap, fe, g, h1, h2, r⟩ := hA
  refine ⟨mc, cap, fe, g, hfr _ _ h1 (fun z => hl z.symm) (Or.inl fun z => ?_), hfr _ _ h2 (fun z => ?_) ?_, r⟩
  · obtain ⟨fe', cap', g', he⟩ := he
    rw [z, he] at h1; cases h1
  · obtain ⟨mc', hL⟩ := hL
    rw [z, hL] at h2; cases h2
  · by_cases z : e' = e
    · refine Or.inr ?_
      have h3 := hle z.symm
      rw [z, h3, hC.2.2.1] at h2
      cases h2; rfl
    · exact Or.inl z
/-- the shafts are written -/
theorem MineAt.setS {G : fmG} {h h' : fmHp} {d g sl se pl pe : Nat} {gf sf pf : Nat → Nat} {N N' : Nat → Int32} {K P : Nat} (hC : CC G h) (hM : MineAt G h d g sl se pl pe gf sf pf N K P) {se' : Nat} {sf' : Nat → Nat} {K' : Nat} (hA : AL G h' sl se' K' sf') (hfr : ∀ q x, h q = some x → q ≠ sl → (q ≠ se ∨ x.1 = false) → h' q = some x) (hne : se' = pe → se' = fmAd G 10) (hK : K' ≤ 8) (hsh : ∀ k, k < K' → Sh h' N' k (sf' k))
    (hN : ∀ q, q < 320 ∨ (344 ≤ q ∧ q ≠ 350) → N' q = N q) : MineAt G h' d g sl se' pl pe gf sf' pf N' K' P := by
  obtain ⟨h1, ⟨gq, h2, h3⟩, h4, h5, h6, h7, h8, h9, h10, h11, h12⟩ := hM
  obtain ⟨mcS, hsl⟩ := h5.o
  obtain ⟨fe, cap, gg, hse⟩ := h5.el
  have kd : ∀ {q : Nat} {b : Bool} {ci : Nat} {fs : List Value}, ci ≠ 12 → h q = some (b, .inr (.inl (ci, fs))) → h' q = some (b, .inr (.inl (ci, fs))) := fun {q b ci fs} hci hq => hfr _ _ hq (fun z => by rw [z, hsl] at hq; cases hq; exact hci rfl) (Or.inl fun z => by rw [z, hse] at hq; cases hq)
  refine ⟨?_, ⟨gq, hfr _ _ h2 (fun z => by rw [z, hsl] at h2; cases h2) (Or.inl fun z => by rw [z, hse] at h2; cases h2), h3⟩, fun c hc => ?_, hA, hsh, AL.beside hC h11 h12 h7 h5.o h5.el hfr, fun k hk => ?_, hK, h10, h11, hne⟩
  · rw [hN 355 (by omega), hN 352 (by omega), hN 353 (by omega), hN 354 (by omega)]
    exact kd (by decide) h1
  · unfold Gd
    rw [hN c (by omega), hN (64 + c) (by omega), hN (128 + c) (by omega), hN (192 + c) (by omega), hN (256 + c) (by omega)]
    rcases h4 c hc with ⟨a1, a2, a3, a4⟩ | ⟨p, a1, a2, a4⟩ | ⟨a1, a2, a4⟩
    · exact Or.inl ⟨a1, a2, a3, kd (by decide) a4⟩
    · exact Or.inr (Or.inl ⟨p, a1, a2, kd (by decide) a4⟩)
    · exact Or.inr (Or.inr ⟨a1, a2, kd (by decide) a4⟩)
  · have g2 := h8 k hk
    unfold Pk at g2 ⊢
    rw [hN (344 + k) (by omega)]
    exact kd (by decide) g2
/-- the picks are written -/
theorem MineAt.setP {G : fmG} {h h' : fmHp} {d g sl se pl pe : Nat} {gf sf pf : Nat → Nat} {N N' : Nat → Int32} {K P : Nat} (hC : CC G h) (hM : MineAt G h d g sl se pl pe gf sf pf N K P) {pe' : Nat} {pf' : Nat → Nat} {P' : Nat} (hA : AL G h' pl pe' P' pf') (hfr : ∀ q x, h q = some x → q ≠ pl → (q ≠ pe ∨ x.1 = false) → h' q = some x) (hne : se = pe' → se = fmAd G 10) (hP : P' ≤ 6) (hpk : ∀ k, k < P' → Pk h' N' k (pf' k))
    (hN : ∀ q, q < 344 ∨ 352 ≤ q → N' q = N q) : MineAt G h' d g sl se pl pe' gf sf pf' N' K P' := by
  obtain ⟨h1, ⟨gq, h2, h3⟩, h4, h5, h6, h7, h8, h9, h10, h11, h12⟩ := hM
  obtain ⟨mcP, hpl⟩ := h7.o
  obtain ⟨fe, cap, gg, hpe⟩ := h7.el
  have kd : ∀ {q : Nat} {b : Bool} {ci : Nat} {fs : List Value}, ci ≠ 12 → h q = some (b, .inr (.inl (ci, fs))) → h' q = some (b, .inr (.inl (ci, fs))) := fun {q b ci fs} hci hq => hfr _ _ hq (fun z => by rw [z, hpl] at hq; cases hq; exact hci rfl) (Or.inl fun z => by rw [z, hpe] at hq; cases hq)
  refine ⟨?_, ⟨gq, hfr _ _ h2 (fun z => by rw [z, hpl] at h2; cases h2) (Or.inl fun z => by rw [z, hpe] at h2; cases h2), h3⟩, fun c hc => ?_, AL.beside hC (fun z => h11 z.symm) (fun z => z.trans (h12 z.symm)) h5 h7.o h7.el hfr, fun k hk => ?_, hA, hpk, h9, hP, h11, hne⟩
  · rw [hN 355 (by omega), hN 352 (by omega), hN 353 (by omega), hN 354 (by omega)]
    exact kd (by decide) h1
  · unfold Gd
    rw [hN c (by omega), hN (64 + c) (by omega), hN (128 + c) (by omega), hN (192 + c) (by omega), hN (256 + c) (by omega)]
    rcases h4 c hc with ⟨a1, a2, a3, a4⟩ | ⟨p, a1, a2, a4⟩ | ⟨a1, a2, a4⟩
    · exact Or.inl ⟨a1, a2, a3, kd (by decide) a4⟩
    · exact Or.inr (Or.inl ⟨p, a1, a2, kd (by decide) a4⟩)
    · exact Or.inr (Or.inr ⟨a1, a2, kd (by decide) a4⟩)
  · obtain ⟨cl, g1, g2⟩ := h6 k hk
    exact ⟨cl, by rw [hN (328 + k) (by omega)]; exact g1, by rw [hN (320 + k) (by omega), hN (336 + k) (by omega)]; exact kd (by decide) g2⟩
theorem AL.ft {G : fmG} {h : fmHp} {l e n : Nat} {f : Nat → Nat} (hA : AL G h l e n f) (hn : 0 < n) : ∃ x, h e = some (true, x) := by
  obtain ⟨mc, cap, fe, g, h1, h2, h3, h4, h5, h6, r⟩ := hA
  have := h6 (by omega)
  subst this
  exact ⟨_, h2⟩
/-- a draft's frame behind a write of one of its lists -/
theorem Dr.list {G : fmG} {h0 h h' : fmHp} {l e : Nat} (hC : CC G h0) (hk : Kp h0 h) (hl : h0 l = none) (he : h0 e = none ∨ e = fmAd G 10) (hfr : ∀ q x, h q = some x → q ≠ l → (q ≠ e ∨ x.1 = false) → h' q = some x) : Kp h0 h' := fun q x hq => by
  refine hfr q x (hk q x hq) (fun z => by rw [z, hl] at hq; cases hq) ?_
  by_cases z : q = e
  · rcases he with he | he
    · rw [z, he] at hq; cases hq
    · rw [z, he, hC.2.2.1] at hq; cases hq; exact Or.inr rfl
  · exact Or.inl z
