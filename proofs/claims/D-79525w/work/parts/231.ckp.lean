theorem cPost.kp {G : fmG} {h h1 h' : fmHp} {x far qu d pa e sb : Nat} {fl re de : Int32} {sv : Value} {kp : Nat} {pm : Nat → Nat} {r : ARes} {v : Option Value} (hk : Kp h h1) (hp : cPost G h1 x far qu d pa e sb fl re de sv kp pm r v h') : cPost G h x far qu d pa e sb fl re de sv kp pm r v h' := by
  obtain ⟨h1, h2, dn, g1, sl1, se1, pl1, pe1, gf1, sf1, pf1, K1, pk1, hM, hd, hs, hp, h3, h4, h5, h6, h7⟩ := hp
  exact ⟨h1, h2, dn, g1, sl1, se1, pl1, pe1, gf1, sf1, pf1, K1, pk1, hM, hk.none hd, hs, hp, h3, h4, h5, h6, fun q y hq => h7 q y (hk _ _ hq)⟩
theorem cXp.kp {h h1 h' : fmHp} {x far qu d pa sb q : Nat} {fl : Int32} {sv : Value} {r : ARes} {Ex : String} (hk : Kp h h1) (hp : cXp h1 x far qu d pa sb fl sv r q Ex h') : cXp h x far qu d pa sb fl sv r q Ex h' := by
  rcases hp with ⟨a, b, c⟩ | ⟨a, b, c⟩ | ⟨a, b, c, e⟩
  · exact Or.inl ⟨a, b, hk.trans c⟩
  · exact Or.inr (Or.inl ⟨a, b, hk.trans c⟩)
  · exact Or.inr (Or.inr ⟨a, b, c, fun q y hq => e q y (hk _ _ hq)⟩)
