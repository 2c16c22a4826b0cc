theorem Kd.ad {h h' : fmHp} {pa e dh n : Nat} {f : Nat → Nat} (hA : AD h pa e dh n f) (hfr : ∀ z x, h z = some x → z ≠ pa → z ≠ e → h' z = some x) : Kd e h h' := fun q y hq ho => by
  obtain ⟨g, h1, h2, -⟩ := hA
  refine hfr q y hq (fun z => ?_) (fun z => ?_)
  · rw [z, h1] at hq; cases hq; exact ho.2.1 _ rfl
  · rw [z, h2] at hq; cases hq; exact ho.2.2.2.2.2 _ _ _ rfl z
theorem ne_e {G : fmG} {h : fmHp} {pa e dh n s : Nat} {f : Nat → Nat} (hC : CC G h) (hA : AD h pa e dh n f) (hs : h s = none ∨ s = fmAd G 10) : s ≠ e := fun z => by
  obtain ⟨g, -, h2, -⟩ := hA
  rcases hs with h1 | h1
  · rw [z, h2] at h1; cases h1
  · have h3 := hC.2.2.1
    rw [← h1, z, h2] at h3
    cases h3
