/-! the first row -/
theorem sIni_RV : RV sIni 0 0 := by
  have h1 : ∀ c, c < 64 → sIni (64 + c) = nI 3 ∧ sIni (128 + c) = nI 0 ∧ sIni c = nI 0 := by decide +kernel
  refine ⟨by decide +kernel, by decide, by decide +kernel, by decide, fun k hk => absurd hk (Nat.not_lt_zero _), fun c hc => ⟨3, 0, by decide, by decide, by decide, (h1 c hc).1, (h1 c hc).2.1⟩, ⟨0, by decide, by decide +kernel⟩, fun c hc z => ?_⟩
  rw [(h1 c hc).2.2] at z
  exact absurd z (by decide)
abbrev DS0 : DS := (sIni, 0, (fun _ _ => 0), false, (fun _ => 0), -1, 0, 0, 0, (fun _ => 0))
