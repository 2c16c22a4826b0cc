/-! THE LAW: comparing doubles; what holds between two calls -/
theorem dcmpW {p : Program} {l : Launch} {e : Env} {R : Room} {s : State} {m : MethodId} {args : Array Value} {below : List Frame} {meth : Method} {c : Code} {T : State} {locs : List Loc} {cells slots : Nat} (X : Stand p l e R s m args below meth c T locs cells slots) (hexec : p.tables.exec = Jvm.exec) {a b : UInt64} {pc : Nat} {ls : Array Slot} {rest : List Value} (hdg : decode c.code pc = .ok (.dcmp .l, 1)) (target : State)
    (hr : Steps p.tables e below (T.setTop { method := m, pc := pc + 1, locals := ls, stack := .int (cmpValue (FP.dcmp a b) .l) :: rest, locked := none }) target) :
    Steps p.tables e below (T.setTop { method := m, pc := pc, locals := ls, stack := .double b :: .double a :: rest, locked := none }) target := by
  jvm_step X.here [X.here.top, hexec, hdg]
  exact hr
section DCMP
variable {G : fmG} {Γ : fmC} {cc : ByteArray} {nL : Nat} {own nm : String} {ret : Option FieldType} {RM : Room} {tb : List ExceptionTableEntry} {h : fmHp} {kc ks pc : Nat} {L : List (Option Value)} {st : List Value}
theorem r_dcmpl (E : fmE G Γ cc nL own nm ret RM tb) {x y : UInt64} (d : decode cc pc = .ok (.dcmp .l, 1)) (k : fmW G Γ h kc ks (pc + 1) L (.int (cmpValue (FP.dcmp x y) .l) :: st)) : fmW G Γ h kc ks pc L (.double y :: .double x :: st) := by
  intro H lo cx sx ls a1 a2 a3 a4 a5
  have hk := k H lo cx sx ls a1 a2 a3 a4 a5
  intro T hT X
  obtain ⟨t, a, b⟩ := hk T hT X
  exact ⟨t, dcmpW X E.x (by rw [E.b]; exact d) t a, b⟩
end DCMP
/-- a reference's cell -/
theorem mEnt_k (m : Nat) (M : MSt) (j : Nat) : (∃ fs, mEnt m M j = (true, .inr (.inl (0, fs)))) ∨ (∃ (t n : Nat) (w : vpF), mEnt m M j = (true, .inl (t, n, w)) ∧ (t = 0 ∨ t = 4 ∨ t = 8)) := by
  unfold mEnt
  split
  · exact Or.inl ⟨_, rfl⟩
  · split
    · exact Or.inr ⟨8, _, _, rfl, Or.inr (Or.inr rfl)⟩
    · split
      · exact Or.inr ⟨4, _, _, rfl, Or.inr (Or.inl rfl)⟩
      · split
        · exact Or.inr ⟨0, _, _, rfl, Or.inl rfl⟩
        · split
          · exact Or.inr ⟨0, _, _, rfl, Or.inl rfl⟩
          · exact Or.inr ⟨0, _, _, rfl, Or.inl rfl⟩
theorem mdl_q {m : Nat} {M : MSt} {h : fmHp} {q : Nat} (hm : mdl m M h = h) (hq : m ≤ q ∧ q < m + 16) : h q = some (mEnt m M (q - m)) := by
  have : mdl m M h q = some (mEnt m M (q - m)) := if_pos hq
  rwa [hm] at this
theorem mdl_out {m : Nat} {M : MSt} {h : fmHp} {q : Nat} (hq : ¬ (m ≤ q ∧ q < m + 16)) : mdl m M h q = h q := if_neg hq
theorem mdl_mdl (m : Nat) (M M' : MSt) (h : fmHp) : mdl m M' (mdl m M h) = mdl m M' h := by
  funext q
  unfold mdl
  by_cases z : m ≤ q ∧ q < m + 16
  · rw [if_pos z, if_pos z]
  · rw [if_neg z, if_neg z, if_neg z]
theorem mdl_of {m : Nat} {M : MSt} {h h' : fmHp} (hm : mdl m M h = h) (hk : ∀ q, m ≤ q ∧ q < m + 16 → ∀ y, h q = some y → h' q = some y) : mdl m M h' = h' := by
  funext q
  by_cases z : m ≤ q ∧ q < m + 16
  · rw [show mdl m M h' q = some (mEnt m M (q - m)) from if_pos z]
    exact (hk q z _ (mdl_q hm z)).symm
  · exact mdl_out z
/-- what holds of the heap between two calls of the law: x the desk, m the reference, o and od the answers' arrays, b the script -/
def LH (G : fmG) (h : fmHp) (x m o od b L : Nat) (xs : Nat → Int32) (a : DA) (S : DS) (M : MSt) : Prop :=
  CC G h ∧ DK G h x a S ∧ mdl m M h = h ∧ (¬ (m ≤ a.far ∧ a.far < m + 16) ∧ ¬ (m ≤ a.qu ∧ a.qu < m + 16)) ∧ (∃ f, h o = some (oLn f)) ∧ (∃ f, h od = some (oDb f)) ∧ h b = some (false, .inl (0, L, .inl xs))
/-- neither the reference's cells nor the answers' arrays nor the script are the desk's own -/
theorem LH.out {G : fmG} {h : fmHp} {x m o od b L : Nat} {xs : Nat → Int32} {a : DA} {S : DS} {M : MSt} (hI : LH G h x m o od b L xs a S M) : (∀ q, m ≤ q ∧ q < m + 16 → ¬ own x a q ∧ q ≠ o ∧ q ≠ od) ∧ ¬ own x a o ∧ ¬ own x a od ∧ ¬ own x a b ∧ o ≠ od ∧ b ≠ o ∧ b ≠ od := by
  obtain ⟨hC, hD, hm, ⟨df, dq⟩, ⟨f, ho⟩, ⟨g, hod⟩, hb⟩ := hI
  refine ⟨fun q hq => ?_, hD.nown ho (by decide), hD.nown hod (by decide), fun z => ?_, fun z => ?_, fun z => ?_, fun z => ?_⟩
  · have hq2 := mdl_q hm hq
    refine ⟨fun z => ?_, fun z => ?_, fun z => ?_⟩
    · obtain ⟨d, dh, w9, pm, X, W, h1, h2, h3, h4, h5, ⟨g6, h6, h6e, h6r⟩, h7, ⟨u, ml, cap, bf, h8, h8v, h8r⟩, h9⟩ := hD
      have h1' : h x = some (xOb a.far a.qu d a.pa a.sb S.fl S.re S.de w9) := h1
      rcases z with rfl | rfl | rfl | rfl | rfl | rfl | rfl
      · rw [hq2] at h1'
        rcases mEnt_k m M (q - m) with ⟨fs, e⟩ | ⟨t, n, w, e, -⟩ <;> rw [e] at h1' <;> cases h1'
      · exact df hq
      · exact dq hq
      · rw [hq2] at h6
        rcases mEnt_k m M (a.pa - m) with ⟨fs, e⟩ | ⟨t, n, w, e, -⟩ <;> rw [e] at h6 <;> cases h6
      · rw [hq2] at h6e
        rcases mEnt_k m M (a.e - m) with ⟨fs, e⟩ | ⟨t, n, w, e, ht⟩ <;> rw [e] at h6e <;> cases h6e
        omega
      · rw [hq2] at h8
        rcases mEnt_k m M (a.sb - m) with ⟨fs, e⟩ | ⟨t, n, w, e, -⟩ <;> rw [e] at h8 <;> cases h8
      · rw [hq2] at h8v
        rcases mEnt_k m M (a.v - m) with ⟨fs, e⟩ | ⟨t, n, w, e, ht⟩ <;> rw [e] at h8v <;> cases h8v
        omega
    · rw [z] at hq2
      rw [ho] at hq2
      rcases mEnt_k m M (o - m) with ⟨fs, e⟩ | ⟨t, n, w, e, ht⟩ <;> rw [e] at hq2 <;> cases hq2
      omega
    · rw [z] at hq2
      rw [hod] at hq2
      rcases mEnt_k m M (od - m) with ⟨fs, e⟩ | ⟨t, n, w, e, ht⟩ <;> rw [e] at hq2 <;> cases hq2
      omega
  · obtain ⟨d, dh, w9, pm, X, W, h1, h2, h3, h4, h5, ⟨g6, h6, h6e, h6r⟩, h7, ⟨u, ml, cap, bf, h8, h8v, h8r⟩, h9⟩ := hD
    have h1' : h x = some (xOb a.far a.qu d a.pa a.sb S.fl S.re S.de w9) := h1
    rcases z with rfl | rfl | rfl | rfl | rfl | rfl | rfl
    · rw [hb] at h1'; cases h1'
    · rw [hb] at h2; cases h2
    · rw [hb] at h3; cases h3
    · rw [hb] at h6; cases h6
    · rw [hb] at h6e; cases h6e
    · rw [hb] at h8; cases h8
    · rw [hb] at h8v; cases h8v
  · rw [z, hod] at ho; cases ho
  · rw [z, ho] at hb; cases hb
  · rw [z, hod] at hb; cases hb
theorem LH.fr {G : fmG} {h h' : fmHp} {x m o od b L : Nat} {xs : Nat → Int32} {a : DA} {S S' : DS} {M : MSt} {v' : Nat} (hI : LH G h x m o od b L xs a S M) (hD' : DK G h' x (upv a v') S') (hfr : ∀ q y, h q = some y → ¬ own x a q → q ≠ o → q ≠ od → h' q = some y) (ho' : ∃ f, h' o = some (oLn f)) (hod' : ∃ f, h' od = some (oDb f)) : LH G h' x m o od b L xs (upv a v') S' M := by
  obtain ⟨k1, k2, k3, k4, k5, k6, k7⟩ := hI.out
  obtain ⟨hC, hD, hm, hdis, ⟨f, ho⟩, ⟨g, hod⟩, hb⟩ := hI
  have hC' : CC G h' := hC.kept (fun q y hq => by
    refine hfr _ _ hq (fun z => ?_) (fun z => ?_) (fun z => ?_)
    · obtain ⟨d, dh, w9, pm, X, W, h1, h2, h3, h4, h5, ⟨g6, h6, h6e, h6r⟩, h7, ⟨u, ml, cap, bf, h8, h8v, h8r⟩, h9⟩ := hD
      have h1' : h x = some (xOb a.far a.qu d a.pa a.sb S.fl S.re S.de w9) := h1
      rcases z with rfl | rfl | rfl | rfl | rfl | rfl | rfl
      · rw [hq] at h1'; cases h1'
      · rw [hq] at h2; cases h2
      · rw [hq] at h3; cases h3
      · rw [hq] at h6; cases h6
      · rw [hq] at h6e; cases h6e
      · rw [hq] at h8; cases h8
      · rw [hq] at h8v; cases h8v
    · rw [z, ho] at hq; cases hq
    · rw [z, hod] at hq; cases hq)
  exact ⟨hC', hD', mdl_of hm (fun q hq y hy => hfr q y hy (k1 q hq).1 (k1 q hq).2.1 (k1 q hq).2.2), hdis, ho', hod', hfr _ _ hb k4 k6 k7⟩
/-- behind a helper of the law -/
theorem LH.w {G : fmG} {h h' : fmHp} {x m o od b L : Nat} {xs : Nat → Int32} {a : DA} {S S' : DS} {M : MSt} {c : Nat} {ans : Int32} (hI : LH G h x m o od b L xs a S M) (hO : OP G h x a o c ans S' h') : ∃ a', LH G h' x m o od b L xs a' S' M ∧ ∃ f, h' o = some (oLn f) ∧ (c = 0 → f 0 = ans.toInt64) := by
  obtain ⟨k1, k2, k3, k4, k5, k6, k7⟩ := hI.out
  obtain ⟨v', f, hD', hfr, ho', hans⟩ := hO
  obtain ⟨g, hod⟩ := hI.2.2.2.2.2.1
  exact ⟨_, hI.fr hD' (fun q y hq h1 h2 _ => hfr q y hq h1 h2) ⟨f, ho'⟩ ⟨g, hfr _ _ hod k3 (fun z => k5 z.symm)⟩, f, ho', hans⟩
/-- behind a call of the desk itself -/
theorem LH.jp {G : fmG} {h h' : fmHp} {x m o od b L : Nat} {xs : Nat → Int32} {a : DA} {S S' : DS} {M : MSt} (hI : LH G h x m o od b L xs a S M) (hJ : JP G h x a S' h') : ∃ a', LH G h' x m o od b L xs a' S' M := by
  obtain ⟨k1, k2, k3, k4, k5, k6, k7⟩ := hI.out
  obtain ⟨v', hD', hfr⟩ := hJ
  obtain ⟨f, ho⟩ := hI.2.2.2.2.1
  obtain ⟨g, hod⟩ := hI.2.2.2.2.2.1
  exact ⟨_, hI.fr hD' (fun q y hq h1 _ _ => hfr q y hq h1) ⟨f, hfr _ _ ho k2⟩ ⟨g, hfr _ _ hod k3⟩⟩
/-- behind a call of the reference -/
theorem LH.m {G : fmG} {h : fmHp} {x m o od b L : Nat} {xs : Nat → Int32} {a : DA} {S : DS} {M : MSt} (hI : LH G h x m o od b L xs a S M) (M' : MSt) : LH G (mdl m M' h) x m o od b L xs a S M' ∧ ∀ q, ¬ (m ≤ q ∧ q < m + 16) → mdl m M' h q = h q := by
  obtain ⟨k1, k2, k3, k4, k5, k6, k7⟩ := hI.out
  obtain ⟨hC, hD, hm, hdis, ⟨f, ho⟩, ⟨g, hod⟩, hb⟩ := hI
  have hn : ∀ q y, h q = some y → (∀ j, mEnt m M j ≠ y) → mdl m M' h q = some y := fun q y hq hy => by
    rw [mdl_out (fun z => ?_)]
    · exact hq
    · have := mdl_q hm z
      rw [hq] at this
      exact hy _ (Option.some.inj this).symm
  refine ⟨⟨hC.kept (fun q y hq => hn q _ hq (fun j e => ?_)), hD.nk (fun q y hq hy => hn q y hq (fun j e => ?_)) (mdl_out hdis.1) (mdl_out hdis.2), mdl_mdl m M' M' h, hdis, ⟨f, ?_⟩, ⟨g, ?_⟩, hn _ _ hb (fun j e => ?_)⟩, fun q hq => mdl_out hq⟩
  · rcases mEnt_k m M j with ⟨fs, w⟩ | ⟨t, n, w9, w, -⟩ <;> rw [w] at e <;> cases e
  · rcases mEnt_k m M j with ⟨fs, w⟩ | ⟨t, n, w9, w, ht⟩
    · rw [w] at e; exact hy.1 _ e.symm
    · rw [w] at e; have := hy.2 _ _ _ _ e.symm; omega
  · exact hn _ _ ho (fun j e => by rcases mEnt_k m M j with ⟨fs, w⟩ | ⟨t, n, w9, w, ht⟩ <;> rw [w] at e <;> cases e; omega)
  · exact hn _ _ hod (fun j e => by rcases mEnt_k m M j with ⟨fs, w⟩ | ⟨t, n, w9, w, ht⟩ <;> rw [w] at e <;> cases e; omega)
  · rcases mEnt_k m M j with ⟨fs, w⟩ | ⟨t, n, w9, w, -⟩ <;> rw [w] at e <;> cases e
theorem LH.o {G : fmG} {h : fmHp} {x m o od b L : Nat} {xs : Nat → Int32} {a : DA} {S : DS} {M : MSt} (hI : LH G h x m o od b L xs a S M) {e : fmEn} (he : h o = some e) (M' : MSt) : mdl m M' h o = some e := by
  have h1 := hI.out.1
  rw [mdl_out (fun z => (h1 o z).2.1 rfl)]
  exact he
theorem LH.od {G : fmG} {h : fmHp} {x m o od b L : Nat} {xs : Nat → Int32} {a : DA} {S : DS} {M : MSt} (hI : LH G h x m o od b L xs a S M) {e : fmEn} (he : h od = some e) (M' : MSt) : mdl m M' h od = some e := by
  have h1 := hI.out.1
  rw [mdl_out (fun z => (h1 od z).2.2 rfl)]
  exact he
/-- with the desk told as the reference -/
def LI (G : fmG) (h : fmHp) (x m o od b L : Nat) (xs : Nat → Int32) (a : DA) (S : DS) (M : MSt) : Prop := LH G h x m o od b L xs a S M ∧ SR S M
/-- the reference's counts -/
theorem LI.k {G : fmG} {h : fmHp} {x m o od b L : Nat} {xs : Nat → Int32} {a : DA} {S : DS} {M : MSt} (hI : LI G h x m o od b L xs a S M) : M.2 1 350 = nI (rK (M.2 1)) ∧ rK (M.2 1) ≤ 8 ∧ M.2 1 351 = nI (rP (M.2 1)) ∧ rP (M.2 1) ≤ 6 ∧ M.2 1 = S.N ∧ S.kp ≤ 8 := by
  obtain ⟨⟨hC, ⟨d, dh, w, pm, X, W, h1, h2, h3, h4, ⟨g, sl, se, pl, pe, gf, sf, pf, K, pk, hM, hR, hse, hpe⟩, -⟩, -⟩, hS⟩ := hI
  obtain ⟨⟨⟨e1, e2⟩, e3, e4⟩, -, -⟩ := RI_of hR.1 hR.2.1 hR.2.2.1 hR.2.2.2.1
  have e := hS.1
  rw [e]
  exact ⟨e1, e2, e3, e4, rfl, hS.2.2.1⟩
theorem kf_0 {a b c i : Nat} (ha : 0 < a ∧ a < 10) (hb : 0 < b ∧ b < 10) (hc : 0 < c ∧ c < 10) (h : nI (kf a b c i) = 0) : i = 0 := by
  have hk := nI_z (by unfold kf; repeat' split
                      all_goals omega) h
  unfold kf at hk
  by_cases z : i = 0
  · exact z
  · rw [if_neg z] at hk
    split at hk
    · omega
    · split at hk <;> omega
theorem lw_go {i L : Nat} (hi : i ≤ 100) (hL : L ≤ 96) (h : ¬ nI L - nI 4 < nI i) : i + 4 ≤ L := by
  by_cases q : 4 ≤ L
  · rw [nI_subI q] at h
    by_cases w : i + 4 ≤ L
    · exact w
    · exact absurd (nI_lt (by omega) (by omega)) h
  · exact absurd (Int32.lt_of_lt_of_le (pk_sneg (by omega) (by omega)) (nI_pos' (by omega))) h
theorem lw_sel (v : Int32) : ∃ k, k < 32 ∧ v &&& nI 31 = nI k := pk_andE v 5 (by decide)

