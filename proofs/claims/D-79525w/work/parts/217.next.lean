theorem fqH_next {h hh h1 : fmHp} {far qu : Nat} {X W X' W' : Nat → Int32} (hn : far ≠ qu) (hk : Kp (fqH h far qu X W) hh) (hk2 : Kp (fqH hh far qu X' W') h1) : Kp (fqH h far qu X' W') h1 := by
  have := (fqH_kp (far := far) (qu := qu) (X := X') (W := W') hk).trans hk2
  rw [fqH_fq hn] at this
  exact this
