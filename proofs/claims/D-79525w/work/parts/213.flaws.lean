/-! PURE LAWS: the component's search against the reference's -/
theorem sFirK_cl {N : Nat → Int32} {F : Nat → Nat} {s : Int32} (h : ∀ k, k < 64 → sNext N k s = false) : ∀ k, k ≤ 64 → sFirK N F s k = none
  | 0, _ => rfl
  | k + 1, hk => by
    rw [sFirK_no (decide_eq_false (fun z => by have := z.2; rw [h k (by omega)] at this; cases this))]
    exact sFirK_cl h k (by omega)
theorem cFirst_eq {N : Nat → Int32} {K pk j c : Nat} (hR : RV N K pk) (hj : j < K) : sFirK N (cFar N j c K).1 (nI j) 64 = sFirst N j c K := by
  by_cases h : N (328 + j) = nI 0
  · unfold sFirst; rw [cFar_eq h]
  · rw [(reached_closed h).2 c, sFirK_cl (fun k hk => sNext_cl hR hj h hk) 64 (Nat.le_refl _)]
theorem cReach_eq {N : Nat → Int32} {K pk j : Nat} (hR : RV N K pk) (hj : j < K) : sCount (fun c => (sFirK N (cFar N j c K).1 (nI j) 64).isSome) 64 = (bAll N j K).2.2 := by
  rw [sCount_eq (q := fun c => (sFirst N j c K).isSome) (fun c _ => by rw [cFirst_eq hR hj])]
  by_cases h : N (328 + j) = nI 0
  · exact reached_eq h
  · obtain ⟨h1, h2⟩ := reached_closed (K := K) h
    rw [h1]
    exact sCount_z (fun c => by rw [h2 c]; rfl) 64
theorem cFar_ch {N : Nat → Int32} {K j c x : Nat} (hc : c < 64) (h : (cFar N j c K).1 x ≠ 0) : sChalk N x = true := by
  have hs : bSnd (fun x => sFree N x (nI j) K) c (cFar N j c K) := bRun_snd 65 0 (bOK_one hc _) (bOne_snd hc (fun z => z))
  have := inW_P (hs x h).2
  unfold sFree at this
  rw [Bool.and_eq_true] at this
  exact this.1
theorem cProps_eq {N : Nat → Int32} {j : Nat} (hj : j < 8) (hg : ∀ c, c < 64 → (N c = nI 0 ∧ N (192 + c) = -1) ∨ (N c = nI 1 ∧ (N (256 + c) = nI 0 ∨ N (256 + c) = nI 1)) ∨ (¬ N c = nI 1 ∧ N (256 + c) = nI 0)) : ∀ m, m ≤ 64 → nI (cB N (nI j) m) = sSum (fun c => if N (192 + c) = nI j then N (256 + c) else nI 0) m
  | 0, _ => rfl
  | m + 1, hm => by
    show nI (cB N (nI j) m + (if (sOpenOf N (some m) (nI j) && !sBare N (some m)) = true then 1 else 0)) = sSum (fun c => if N (192 + c) = nI j then N (256 + c) else nI 0) m + (if N (192 + m) = nI j then N (256 + m) else nI 0)
    rw [← nI_add, cProps_eq hj hg m (by omega)]
    congr 1
    have hnj : ¬ (-1 : Int32) = nI j := fun z => nI_m (by omega) z.symm
    rcases hg m (by omega) with ⟨h1, h2⟩ | ⟨h1, h2⟩ | ⟨h1, h2⟩
    · rw [h2, if_neg hnj, so0 h1]; rfl
    · rw [so1 h1]
      by_cases e : N (192 + m) = nI j
      · rw [if_pos e, decide_eq_true e]
        rcases h2 with h2 | h2
        · rw [sb1 (p := false) h1 h2, h2]; rfl
        · rw [sb1 (p := true) h1 h2, h2]; rfl
      · rw [if_neg e, decide_eq_false e]; rfl
    · rw [h2]
      have ho : sOpenOf N (some m) (nI j) = false := by show (decide (N m = nI 1) && decide (N (192 + m) = nI j)) = false; rw [decide_eq_false h1, Bool.false_and]
      rw [ho]
      rw [Bool.false_and, if_neg Bool.false_ne_true, ite_self]
theorem MineAt.propsOf {G : fmG} {h : fmHp} {d g sl se pl pe : Nat} {gf sf pf : Nat → Nat} {N : Nat → Int32} {K pk j : Nat} (hM : MineAt G h d g sl se pl pe gf sf pf N K pk) (hj : j < 8) : nI (cB N (nI j) 64) = sSum (fun c => if N (192 + c) = nI j then N (256 + c) else nI 0) 64 := by
  obtain ⟨-, -, hgd, -⟩ := hM
  refine cProps_eq hj (fun c hc => ?_) 64 (Nat.le_refl _)
  rcases hgd c hc with ⟨e0, e1, e2, -⟩ | ⟨p, e0, e2, -⟩ | ⟨e0, e2, -⟩
  · exact Or.inl ⟨e0, e1⟩
  · refine Or.inr (Or.inl ⟨e0, ?_⟩)
    rw [e2]
    cases p
    · exact Or.inl rfl
    · exact Or.inr rfl
  · exact Or.inr (Or.inr ⟨by rw [e0]; decide, e2⟩)
