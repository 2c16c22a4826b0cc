/-! String.indexOf over the written letters -/
def sdpN : Nat → Nat := fun i => match i with
  | 0 => 115 | 1 => 100 | 2 => 112 | 3 => 117 | 4 => 99 | 5 => 116 | _ => 110
def sdpI (k : Nat) : Int32 := if k = 115 then nI 0 else if k = 100 then nI 1 else if k = 112 then nI 2 else if k = 117 then nI 3 else if k = 99 then nI 4 else if k = 116 then nI 5 else if k = 110 then nI 6 else -1
theorem sdp_eq : ∀ k, k < 256 → ∀ i, i < 7 → (sdpT i = (nI k).toInt8.toInt32 ↔ k = sdpN i) := by decide +kernel
theorem sdpI_big {k : Nat} (h : ¬ k ≤ 255) : sdpI k = -1 := by
  unfold sdpI
  rw [if_neg (by omega), if_neg (by omega), if_neg (by omega), if_neg (by omega), if_neg (by omega), if_neg (by omega), if_neg (by omega)]
theorem sdpI_sLet {k : Nat} (hk : k < 65536) : (0 ≤ sdpI k) ↔ sLet (nI k) = true := by
  unfold sdpI sLet
  rw [Bool.or_eq_true, Bool.or_eq_true, Bool.or_eq_true, Bool.or_eq_true, Bool.or_eq_true, Bool.or_eq_true]
  simp only [decide_eq_true_eq]
  rw [nI_eq (by omega) (by omega), nI_eq (by omega) (by omega), nI_eq (by omega) (by omega), nI_eq (by omega) (by omega), nI_eq (by omega) (by omega), nI_eq (by omega) (by omega), nI_eq (by omega) (by omega)]
  by_cases h1 : k = 115
  · rw [if_pos h1]; exact ⟨fun _ => Or.inl h1, fun _ => by decide⟩
  rw [if_neg h1]
  by_cases h2 : k = 100
  · rw [if_pos h2]; exact ⟨fun _ => Or.inr (Or.inl h2), fun _ => by decide⟩
  rw [if_neg h2]
  by_cases h3 : k = 112
  · rw [if_pos h3]; exact ⟨fun _ => Or.inr (Or.inr (Or.inl h3)), fun _ => by decide⟩
  rw [if_neg h3]
  by_cases h4 : k = 117
  · rw [if_pos h4]; exact ⟨fun _ => Or.inr (Or.inr (Or.inr (Or.inl h4))), fun _ => by decide⟩
  rw [if_neg h4]
  by_cases h5 : k = 99
  · rw [if_pos h5]; exact ⟨fun _ => Or.inr (Or.inr (Or.inr (Or.inr (Or.inl h5)))), fun _ => by decide⟩
  rw [if_neg h5]
  by_cases h6 : k = 116
  · rw [if_pos h6]; exact ⟨fun _ => Or.inr (Or.inr (Or.inr (Or.inr (Or.inr (Or.inl h6))))), fun _ => by decide⟩
  rw [if_neg h6]
  by_cases h7 : k = 110
  · rw [if_pos h7]; exact ⟨fun _ => Or.inr (Or.inr (Or.inr (Or.inr (Or.inr (Or.inr h7))))), fun _ => by decide⟩
  rw [if_neg h7]
  exact ⟨fun z => absurd z (by decide), fun z => by omega⟩
