/-! a contract that says less -/
theorem Ct.imp {G : fmG} {y : MethodName} {ws : List Cond} {rm : Room} {args : List Value} {h : fmHp} {post post' : Option Value → fmHp → Prop} {xp xp' : Nat → String → fmHp → Prop} (hC : Ct G y ws rm args h post xp) (hp : ∀ v h', post v h' → post' v h') (hx : ∀ q E h', xp q E h' → xp' q E h') : Ct G y ws rm args h post' xp' := by
  intro p e ha hf hc s m a below hs hon hP
  obtain ⟨n, o, h1, h2, h3, h4⟩ := hC p e ha hf hc s m a below hs hon hP
  refine ⟨n, o, h1, h2, h3, ?_⟩
  rcases h4 with ⟨⟨v, h', e1, e2, e3⟩, hL⟩ | ⟨q, e1, E, ce, L, ⟨h', hx1, hx2⟩, r⟩
  · exact Or.inl ⟨⟨v, h', e1, hp v h' e2, e3⟩, hL⟩
  · exact Or.inr ⟨q, e1, E, ce, L, ⟨h', hx q E h' hx1, hx2⟩, r⟩
