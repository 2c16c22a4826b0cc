/-! PURE LAW: props of all shafts = cells with a prop -/
theorem sSum_add (f g : Nat → Int32) : ∀ K, sSum (fun k => f k + g k) K = sSum f K + sSum g K
  | 0 => by show (0 : Int32) = 0 + 0; decide
  | K + 1 => by
    show sSum (fun k => f k + g k) K + (f K + g K) = (sSum f K + f K) + (sSum g K + g K)
    rw [sSum_add f g K]
    ac_rfl
theorem sSum_cong {f g : Nat → Int32} : ∀ {K : Nat}, (∀ k, k < K → f k = g k) → sSum f K = sSum g K
  | 0, _ => rfl
  | K + 1, h => by
    show sSum f K + f K = sSum g K + g K
    rw [sSum_cong (fun k hk => h k (by omega)), h K (by omega)]
theorem sSum_zero : ∀ (K : Nat), sSum (fun _ => nI 0) K = nI 0
  | 0 => rfl
  | K + 1 => by
    show sSum (fun _ => nI 0) K + nI 0 = nI 0
    rw [sSum_zero K]; rfl
theorem sSum_one {s : Nat} : ∀ {K : Nat}, s < K → sSum (fun k => if k = s then nI 1 else nI 0) K = nI 1
  | 0, h => absurd h (Nat.not_lt_zero _)
  | K + 1, h => by
    show sSum (fun k => if k = s then nI 1 else nI 0) K + (if K = s then nI 1 else nI 0) = nI 1
    by_cases e : K = s
    · subst e
      rw [if_pos rfl, sSum_cong (g := fun _ => nI 0) (fun k hk => if_neg (by omega)), sSum_zero]; rfl
    · rw [if_neg e, sSum_one (by omega)]; rfl
theorem pset_eq {N : Nat → Int32} {K pk : Nat} (hR : RV N K pk) (hg : ∀ c, c < 64 → (N c = nI 1 ∧ (N (256 + c) = nI 0 ∨ N (256 + c) = nI 1)) ∨ (¬ N c = nI 1 ∧ N (256 + c) = nI 0)) : ∀ m, m ≤ 64 → sSum (fun k => nI (cB N (nI k) m)) K = sSum (fun c => N (256 + c)) m
  | 0, _ => sSum_zero K
  | m + 1, hm => by
    show _ = sSum (fun c => N (256 + c)) m + N (256 + m)
    rw [← pset_eq hR hg m (by omega)]
    have hs : ∀ k, k < K → nI (cB N (nI k) (m + 1)) = nI (cB N (nI k) m) + nI (if (sOpenOf N (some m) (nI k) && !sBare N (some m)) = true then 1 else 0) := fun k _ => (nI_add _ _).symm
    rw [sSum_cong hs, sSum_add]
    congr 1
    have hK := hR.2.1
    rcases hg m (by omega) with ⟨h1, h2 | h2⟩ | ⟨h1, h2⟩
    · rw [h2, sSum_cong (g := fun _ => nI 0) (fun k _ => by
        have hb : sBare N (some m) = true := by show (decide (N m = nI 1) && decide (N (256 + m) = nI 0)) = true; rw [decide_eq_true h1, decide_eq_true h2]; rfl
        rw [hb, if_neg (by rw [Bool.not_true, Bool.and_false]; exact Bool.false_ne_true)]), sSum_zero]
    · obtain ⟨s, hs1, hs2, -⟩ := hR.2.2.2.2.2.2.2 m (by omega) h1
      rw [h2, sSum_cong (g := fun k => if k = s then nI 1 else nI 0) (fun k hk => by
        have hb : sBare N (some m) = false := by show (decide (N m = nI 1) && decide (N (256 + m) = nI 0)) = false; rw [h2, decide_eq_false (by decide : ¬ nI 1 = nI 0), Bool.and_false]
        have ho : sOpenOf N (some m) (nI k) = decide (k = s) := by
          show (decide (N m = nI 1) && decide (N (192 + m) = nI k)) = _
          rw [decide_eq_true h1, Bool.true_and, hs2]
          by_cases e : k = s
          · rw [e, decide_eq_true rfl, decide_eq_true rfl]
          · rw [decide_eq_false e, decide_eq_false (fun z => e ((nI_eq (by omega) (by omega)).mp z).symm)]
        rw [hb, ho]
        by_cases e : k = s
        · rw [if_pos e, decide_eq_true e]; rfl
        · rw [if_neg e, decide_eq_false e]; rfl), sSum_one hs1]
    · rw [h2, sSum_cong (g := fun _ => nI 0) (fun k _ => by
        have ho : sOpenOf N (some m) (nI k) = false := by show (decide (N m = nI 1) && decide (N (192 + m) = nI k)) = false; rw [decide_eq_false h1, Bool.false_and]
        rw [ho, Bool.false_and, if_neg Bool.false_ne_true]), sSum_zero]
theorem MineAt.props {G : fmG} {h : fmHp} {d g sl se pl pe : Nat} {gf sf pf : Nat → Nat} {N : Nat → Int32} {K pk : Nat} (hM : MineAt G h d g sl se pl pe gf sf pf N K pk) (hR : RV N K pk) : sSum (fun k => nI (cB N (nI k) 64)) K = sSum (fun c => N (256 + c)) 64 := by
  obtain ⟨-, -, hgd, -⟩ := hM
  refine pset_eq hR (fun c hc => ?_) 64 (Nat.le_refl _)
  rcases hgd c hc with ⟨e0, -, e2, -⟩ | ⟨p, e0, e2, -⟩ | ⟨e0, e2, -⟩
  · exact Or.inr ⟨by rw [e0]; decide, e2⟩
  · refine Or.inl ⟨e0, ?_⟩
    rw [e2]
    cases p
    · exact Or.inl rfl
    · exact Or.inr rfl
  · exact Or.inr ⟨by rw [e0]; decide, e2⟩
theorem AD.kp {h h' : fmHp} {q e hd n : Nat} {f : Nat → Nat} (hA : AD h q e hd n f) (hk : Kp h h') : AD h' q e hd n f := by
  obtain ⟨g, k1, k2, k3⟩ := hA
  exact ⟨g, hk _ _ k1, hk _ _ k2, k3⟩
