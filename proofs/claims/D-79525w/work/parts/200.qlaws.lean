/-! PURE LAWS: the questions' two forms -/
theorem sNodB_eq (N : Nat → Int32) (c d : Nat) : sNodB N c d = sNodO N (sBsd c d) := by
  unfold sNodB sNodO
  cases sBsd c d <;> rfl
theorem sOpenOf_cl {N : Nat → Int32} {K pk j c : Nat} (hR : RV N K pk) (hj : j < K) (hcl : ¬ N (328 + j) = nI 0) (hc : c < 64) : sOpenOf N (some c) (nI j) = false := by
  show (decide (N c = nI 1) && decide (N (192 + c) = nI j)) = false
  by_cases h1 : N c = nI 1
  · obtain ⟨s, hs, hs1, hs2⟩ := hR.2.2.2.2.2.2.2 c hc h1
    have hne : ¬ N (192 + c) = nI j := fun z => by
      have hK := hR.2.1
      have : s = j := (nI_eq (by omega) (by omega)).mp (hs1.symm.trans z)
      rw [this] at hs2
      exact hcl hs2
    rw [decide_eq_false hne, Bool.and_false]
  · rw [decide_eq_false h1, Bool.false_and]
theorem sNext_cl {N : Nat → Int32} {K pk j c : Nat} (hR : RV N K pk) (hj : j < K) (hcl : ¬ N (328 + j) = nI 0) (hc : c < 64) : sNext N c (nI j) = false := by
  have h : ∀ d, d < 4 → sOpenOf N (sBsd c d) (nI j) = false := fun d _ => by
    cases e : sBsd c d with
    | none => rfl
    | some x => exact sOpenOf_cl hR hj hcl (sBsd_lt hc e)
  unfold sNext
  simp only [sNextK, h 0 (by omega), h 1 (by omega), h 2 (by omega), h 3 (by omega), Bool.or_false]
theorem sDigs_cl {N : Nat → Int32} {K pk j c : Nat} (hR : RV N K pk) (hj : j < K) (hcl : ¬ N (328 + j) = nI 0) (hc : c < 64) : sDigs N (nI j) c K pk = false := by
  unfold sDigs
  rw [sNext_cl hR hj hcl hc, Bool.false_and, Bool.and_false, Bool.false_and]
theorem sBestK_cl {N : Nat → Int32} {K pk j : Nat} (hR : RV N K pk) (hj : j < K) (hcl : ¬ N (328 + j) = nI 0) : ∀ k, k ≤ 64 → sBestK N j K pk k = none
  | 0, _ => rfl
  | k + 1, h => by rw [sBestK_no (sDigs_cl hR hj hcl (by omega))]; exact sBestK_cl hR hj hcl k (by omega)
theorem sBest_eq {N : Nat → Int32} {K pk j : Nat} (hR : RV N K pk) (hj : j < K) : sBest N j K pk = sBestK N j K pk 64 := by
  unfold sBest
  by_cases h : N (328 + j) = nI 0
  · rw [if_pos h]
  · rw [if_neg h, sBestK_cl hR hj h 64 (by omega)]
theorem sDigs_ch {N : Nat → Int32} {s : Int32} {c K pk : Nat} (h : sDigs N s c K pk = true) : sChalk N c = true := by
  unfold sDigs at h
  rw [Bool.and_eq_true, Bool.and_eq_true] at h
  exact h.1.1
theorem sBestK_ch {N : Nat → Int32} {j K pk : Nat} : ∀ {k x : Nat}, sBestK N j K pk k = some x → sChalk N x = true
  | 0, _, h => by cases h
  | k + 1, x, h => by
    unfold sBestK at h
    split at h
    · rename_i hh
      cases h
      exact sDigs_ch hh.1
    · exact sBestK_ch h
theorem sNodO_ch {N : Nat → Int32} {c : Nat} (h : sChalk N c = true) : sNodO N (some c) = N (128 + c) := if_pos h
theorem sStrO_ch {N : Nat → Int32} {c : Nat} (h : sChalk N c = true) : sStrO N c = sStrokes N c := if_pos h
