/-! a draft beside an iterator -/
theorem MineAt.oth {G : fmG} {h h' : fmHp} {d g sl se pl pe : Nat} {gf sf pf : Nat → Nat} {N : Nat → Int32} {K P b ci : Nat} {w : Bool} {fs : List Value} (hM : MineAt G h d g sl se pl pe gf sf pf N K P) (hb : h b = some (w, .inr (.inl (ci, fs)))) (hci : ci = 1 ∨ ci = 13 ∨ ci = 15) (hfr : ∀ q y, h q = some y → q ≠ b → h' q = some y) : MineAt G h' d g sl se pl pe gf sf pf N K P := by
  have ko : ∀ {q c9 : Nat} {v : Bool} {gs : List Value}, h q = some (v, .inr (.inl (c9, gs))) → (c9 ≠ 1 ∧ c9 ≠ 13 ∧ c9 ≠ 15) → h' q = some (v, .inr (.inl (c9, gs))) := fun hq hc => hfr _ _ hq (fun z => by rw [z, hb] at hq; cases hq; omega)
  have ka : ∀ {q : Nat} {v : Bool} {x : Nat × vp_A}, h q = some (v, .inl x) → h' q = some (v, .inl x) := fun hq => hfr _ _ hq (fun z => by rw [z, hb] at hq; cases hq)
  have kl : ∀ {l e n : Nat} {f : Nat → Nat}, AL G h l e n f → AL G h' l e n f := fun hA => by
    obtain ⟨mc, cap, fe, gg, g1, g2, r⟩ := hA
    exact ⟨mc, cap, fe, gg, ko g1 (by decide), ka g2, r⟩
  obtain ⟨m1, ⟨gq, m2, m3⟩, m4, m5, m6, m7, m8, r⟩ := hM
  refine ⟨ko m1 (by decide), ⟨gq, ka m2, m3⟩, fun c hc => ?_, kl m5, fun k q => ?_, kl m7, fun k q => ?_, r⟩
  · rcases m4 c hc with ⟨h1, h2, h3, h4⟩ | ⟨p, h1, h2, h4⟩ | ⟨h1, h2, h4⟩
    · exact Or.inl ⟨h1, h2, h3, ko h4 (by decide)⟩
    · exact Or.inr (Or.inl ⟨p, h1, h2, ko h4 (by decide)⟩)
    · exact Or.inr (Or.inr ⟨h1, h2, ko h4 (by decide)⟩)
  · obtain ⟨cl, s1, s2⟩ := m6 k q
    exact ⟨cl, s1, ko s2 (by decide)⟩
  · exact ko (m8 k q) (by decide)
theorem MineAt.bit {G : fmG} {h : fmHp} {d g sl se pl pe : Nat} {gf sf pf : Nat → Nat} {N : Nat → Int32} {K P : Nat} (hM : MineAt G h d g sl se pl pe gf sf pf N K P) : (∀ k, k < K → ∃ b : Bool, N (328 + k) = bI b) ∧ (∀ c, c < 64 → ∃ b : Bool, N (256 + c) = bI b) ∧ K ≤ 8 ∧ P ≤ 6 := by
  obtain ⟨m1, m2, m4, m5, m6, m7, m8, m9, m10, r⟩ := hM
  exact ⟨fun k hk => by obtain ⟨cl, s1, -⟩ := m6 k hk; exact ⟨cl, s1⟩, fun c hc => (m4 c hc).bit, m9, m10⟩
/-- an iterator that is new beside a draft -/
theorem Dr.it {G : fmG} {h0 h : fmHp} {d g sl se pl pe it : Nat} {gf sf pf : Nat → Nat} {N : Nat → Int32} {K P : Nat} {I : fmEn} (hM : MineAt G h d g sl se pl pe gf sf pf N K P) (hD : Dr G h0 h d g sl se pl pe) (hit : h it = none) : Dr G (fmUp h0 it I) (fmUp h it I) d g sl se pl pe := by
  obtain ⟨hk, h1, h2, h3, h4, h5, h6⟩ := hD
  obtain ⟨m1, ⟨gq, m2, -⟩, m4, m5, m6, m7, -⟩ := hM
  obtain ⟨mcS, o1⟩ := m5.o
  obtain ⟨mcP, o2⟩ := m7.o
  obtain ⟨fe, cap, w, a1⟩ := m5.el
  obtain ⟨fe2, cap2, w2, a2⟩ := m7.el
  have ne : ∀ {q : Nat} {y : fmEn}, h q = some y → q ≠ it := fun hq z => by rw [z, hit] at hq; cases hq
  have up : ∀ {q : Nat} {y : fmEn}, h q = some y → h0 q = none → (fmUp h0 it I) q = none := fun hq hn => (fmUp_n (ne hq)).trans hn
  refine ⟨fun q y hq => ?_, up m1 h1, up m2 h2, up o1 h3, up o2 h4, h5.imp (up a1) id, h6.imp (up a2) id⟩
  by_cases z : q = it
  · subst z; rw [fmUp_s] at hq ⊢; exact hq
  · rw [fmUp_n z] at hq ⊢; exact hk q y hq
theorem Dr.next {G : fmG} {h0 h : fmHp} {d g sl se pl pe it : Nat} {I I' : fmEn} (hD : Dr G (fmUp h0 it I) h d g sl se pl pe) : Dr G (fmUp h0 it I') (fmUp h it I') d g sl se pl pe := by
  obtain ⟨hk, h1, h2, h3, h4, h5, h6⟩ := hD
  have up : ∀ {q : Nat}, (fmUp h0 it I) q = none → (fmUp h0 it I') q = none := fun {q} hn => by
    have z : q ≠ it := fun z => by rw [z, fmUp_s] at hn; cases hn
    rw [fmUp_n z] at hn ⊢
    exact hn
  refine ⟨fun q y hq => ?_, up h1, up h2, up h3, up h4, h5.imp up id, h6.imp up id⟩
  by_cases z : q = it
  · subst z; rw [fmUp_s] at hq ⊢; exact hq
  · rw [fmUp_n z]; rw [fmUp_n z] at hq; exact hk q y ((fmUp_n z).trans hq)
theorem Dr.base {G : fmG} {h0 h : fmHp} {d g sl se pl pe it : Nat} {I : fmEn} (hD : Dr G (fmUp h0 it I) h d g sl se pl pe) (hit : h0 it = none) : Dr G h0 h d g sl se pl pe := by
  obtain ⟨hk, h1, h2, h3, h4, h5, h6⟩ := hD
  exact ⟨(Kp.up hit).trans hk, up_none h1, up_none h2, up_none h3, up_none h4, h5.imp up_none id, h6.imp up_none id⟩
theorem bI_pos (p : Bool) : decide (0 < bI p) = p := by cases p <;> rfl
theorem AD.oth {h h' : fmHp} {q e dh n b ci : Nat} {f : Nat → Nat} {w : Bool} {fs : List Value} (hA : AD h q e dh n f) (hb : h b = some (w, .inr (.inl (ci, fs)))) (hci : ci ≠ 14) (hfr : ∀ q y, h q = some y → q ≠ b → h' q = some y) : AD h' q e dh n f := by
  obtain ⟨g, h1, h2, r⟩ := hA
  exact ⟨g, hfr _ _ h1 (fun z => by rw [z, hb] at h1; cases h1; exact hci rfl), hfr _ _ h2 (fun z => by rw [z, hb] at h2; cases h2), r⟩
/-- the text and the list of commands behind replace -/
theorem SBt.rp {h h' : fmHp} {x sb v len pa e dh n : Nat} {T : Nat → Int32} {f : Nat → Nat} {fs : List Value} (hS : SBt h sb v len T) (hA : AD h pa e dh n f) (hx : h x = some (true, .inr (.inl (1, fs)))) (hfr : ∀ q y, h q = some y → q ≠ x → q ≠ pa → q ≠ e → h' q = some y) : SBt h' sb v len T := by
  obtain ⟨u, ml, cap, bf, hsb, hv, -⟩ := id hS
  obtain ⟨g, h1, h2, -⟩ := hA
  exact hS.kept (fun y z => hfr _ _ z (fun w => by rw [w, hx] at hsb; cases hsb) (fun w => by rw [w, h1] at hsb; cases hsb) (fun w => by rw [w, h2] at hsb; cases hsb)) (fun y z => hfr _ _ z (fun w => by rw [w, hx] at hv; cases hv) (fun w => by rw [w, h1] at hv; cases hv) (fun w => by rw [w, h2] at hv; cases hv))
theorem AL.rp {G : fmG} {h h' : fmHp} {x l e9 m pa e dh n : Nat} {fc f : Nat → Nat} {fs : List Value} (hL : AL G h l e9 m fc) (hA : AD h pa e dh n f) (hx : h x = some (true, .inr (.inl (1, fs)))) (hne : e9 ≠ e) (hfr : ∀ q y, h q = some y → q ≠ x → q ≠ pa → q ≠ e → h' q = some y) : AL G h' l e9 m fc := by
  obtain ⟨mc, cap, fe, gg, g1, g2, r⟩ := hL
  obtain ⟨g, h1, h2, -⟩ := hA
  exact ⟨mc, cap, fe, gg, hfr _ _ g1 (fun w => by rw [w, hx] at g1; cases g1) (fun w => by rw [w, h1] at g1; cases g1) (fun w => by rw [w, h2] at g1; cases g1), hfr _ _ g2 (fun w => by rw [w, hx] at g2; cases g2) (fun w => by rw [w, h1] at g2; cases g2) hne, r⟩
