/-! COMMANDS told on the row; the row's own law -/
def rK (N : Nat → Int32) : Nat := cN (N 350)
def rP (N : Nat → Int32) : Nat := cN (N 351)
def RI (N : Nat → Int32) : Prop := (N 350 = nI (rK N) ∧ rK N ≤ 8) ∧ N 351 = nI (rP N) ∧ rP N ≤ 6
theorem RI_of {N : Nat → Int32} {K pk : Nat} (h1 : N 350 = nI K) (h2 : K ≤ 8) (h3 : N 351 = nI pk) (h4 : pk ≤ 6) : RI N ∧ rK N = K ∧ rP N = pk := by
  have e1 : rK N = K := by unfold rK; rw [h1]; exact cN_n (by omega)
  have e2 : rP N = pk := by unfold rP; rw [h3]; exact cN_n (by omega)
  exact ⟨⟨⟨by rw [e1]; exact h1, by rw [e1]; exact h2⟩, by rw [e2]; exact h3, by rw [e2]; exact h4⟩, e1, e2⟩
def aCmd (N : Nat → Int32) (t v u : Int32) (p : Bool) : ARes :=
  if t = nI 115 then aSink N v (rK N) (rP N) else if t = nI 100 then aDig N v u p (rK N) (rP N) else if t = nI 112 then aProp N v
  else if t = nI 117 then aUnprop N v else if t = nI 99 then aClose N v (rK N) else if t = nI 116 then aPick N v (rP N) else aProps N v
theorem aG_0 {b : Bool} {x y : ARes} (hx : x.1 ≠ 0) (h : (aG b x y).1 = 0) : b = false ∧ aG b x y = y := by
  cases b with
  | true => exact absurd h hx
  | false => exact ⟨rfl, rfl⟩
theorem aThr_0 {k : Nat} (h : k ≠ 0) : (aThr k).1 ≠ 0 := h
theorem aRef_0 {w m : Int32} : (aRef w m).1 ≠ 0 := (by decide : (3 : Nat) ≠ 0)
theorem aDon_4 {v : Int32} {N : Nat → Int32} : (aDon v N).2.2.2 = N := rfl
/-- strokes leave the counts but for a pick that is gone -/
theorem sStrike_k {M : Nat → Int32} {x pk : Nat} {n : Int32} (hx : x < pk) (hp : pk ≤ 6) : sStrike M x n pk 350 = M 350 ∧ (sStrike M x n pk 351 = M 351 ∨ sStrike M x n pk 351 = nI (pk - 1)) := by
  have hs : ∀ q, 350 ≤ q → q ≠ 354 → sStr1 M x n q = M q := fun q h1 h2 => by
    unfold sStr1 upd
    rw [if_neg (by omega), if_neg h2]
  unfold sStrike
  split
  · have hu : ∀ q, 350 ≤ q → upd (sShift (upd (sStr1 M x n) 351 (nI (pk - 1))) x (pk - 1)) (344 + (pk - 1)) (nI 0) q = upd (sStr1 M x n) 351 (nI (pk - 1)) q := fun q h1 => by
      rw [show upd (sShift (upd (sStr1 M x n) 351 (nI (pk - 1))) x (pk - 1)) (344 + (pk - 1)) (nI 0) q = sShift (upd (sStr1 M x n) 351 (nI (pk - 1))) x (pk - 1) q from if_neg (by omega)]
      unfold sShift
      rw [if_neg (by omega)]
    rw [hu 350 (by omega), hu 351 (by omega)]
    refine ⟨?_, Or.inr ?_⟩
    · rw [show upd (sStr1 M x n) 351 (nI (pk - 1)) 350 = sStr1 M x n 350 from if_neg (by decide), hs 350 (by omega) (by decide)]
    · exact if_pos rfl
  · exact ⟨hs 350 (by omega) (by decide), Or.inl (hs 351 (by omega) (by decide))⟩
theorem sOpenUp_k {M : Nat → Int32} {c j x pk : Nat} (hx : sPickK M (sStrokes M c) pk = some x) (hc : c < 64) (hj : j < 8) (hp : pk ≤ 6) : sOpenUp M c j pk 350 = M 350 ∧ (sOpenUp M c j pk 351 = M 351 ∨ sOpenUp M c j pk 351 = nI (pk - 1)) := by
  have h := sStrike_k (M := M) (n := sStrokes M c) (sPickK_lt hx) hp
  have ho : ∀ q, q = 350 ∨ q = 351 → sOpenUp M c j pk q = sStrike M x (sStrokes M c) pk q := fun q hq => by
    unfold sOpenUp
    rw [hx]
    simp only [Option.getD_some]
    unfold upd
    rw [if_neg (by omega), if_neg (by omega), if_neg (by omega), if_neg (by omega)]
  rw [ho 350 (Or.inl rfl), ho 351 (Or.inr rfl)]
  exact h
theorem RI_dec {N M : Nat → Int32} {K : Nat} (hN : RI N) (h1 : M 350 = nI K) (h2 : K ≤ 8) (h3 : M 351 = N 351 ∨ M 351 = nI (rP N - 1)) : RI M := by
  have hp := hN.2.2
  cases h3 with
  | inl h => exact (RI_of h1 h2 (h.trans hN.2.1) hp).1
  | inr h => exact (RI_of h1 h2 h (by omega)).1
theorem RI_same {N M : Nat → Int32} (hN : RI N) (h1 : M 350 = N 350) (h2 : M 351 = N 351) : RI M := (RI_of (h1.trans hN.1.1) hN.1.2 (h2.trans hN.2.1) hN.2.2).1
theorem aSink_RI {N : Nat → Int32} {v : Int32} (hN : RI N) (h : (aSink N v (rK N) (rP N)).1 = 0) : RI (aSink N v (rK N) (rP N)).2.2.2 := by
  unfold aSink at h ⊢
  obtain ⟨g1, e⟩ := aG_0 (aThr_0 (by decide)) h; rw [e] at h ⊢
  obtain ⟨g2, e⟩ := aG_0 aRef_0 h; rw [e] at h ⊢
  obtain ⟨g3, e⟩ := aG_0 aRef_0 h; rw [e] at h ⊢
  obtain ⟨g4, e⟩ := aG_0 aRef_0 h; rw [e] at h ⊢
  obtain ⟨g5, e⟩ := aG_0 aRef_0 h; rw [e] at h ⊢
  obtain ⟨c, hc, rfl⟩ := sCell_of g1
  have hcn : cN (nI c) = c := cN_n (by omega)
  rw [hcn] at g5 ⊢
  have hK7 : rK N < 8 := by have := hN.1.2; have := of_decide_eq_false g2; omega
  obtain ⟨x, hx⟩ := Option.isSome_iff_exists.mp (by simpa using g5 : (sPickK N (sStrokes N c) (rP N)).isSome = true)
  have hx2 := (sSink4_p hK7 hc hN.2.2).trans hx
  obtain ⟨k1, k2⟩ := sOpenUp_k hx2 hc hK7 hN.2.2
  rw [aDon_4]
  have q1 : sSink4 N c (rK N) 350 = nI (rK N + 1) := by unfold sSink4 upd; rw [if_pos rfl]
  have q2 : sSink4 N c (rK N) 351 = N 351 := sSink4_o hK7 (by omega) (by omega)
  exact RI_dec hN (k1.trans q1) (by omega) (k2.imp (fun z => z.trans q2) id)
theorem aGO_0 {o : Option (Int32 × Int32)} {y : ARes} (h : (aGO o y).1 = 0) : o = none ∧ aGO o y = y := by
  cases o with
  | none => exact ⟨rfl, rfl⟩
  | some z => exact absurd h (by obtain ⟨w, m⟩ := z; exact aRef_0)
theorem aDig_RI {N : Nat → Int32} {s v : Int32} {p : Bool} (hN : RI N) (h : (aDig N s v p (rK N) (rP N)).1 = 0) : RI (aDig N s v p (rK N) (rP N)).2.2.2 := by
  unfold aDig at h ⊢
  obtain ⟨g1, e⟩ := aG_0 (aThr_0 (by decide)) h; rw [e] at h ⊢
  obtain ⟨g2, e⟩ := aGO_0 h; rw [e] at h ⊢
  have hb : sBetween s (nI 0) (nI (rK N) - nI 1) = true ∧ sBetween v (nI 0) (nI 63) = true := by simpa using g1
  have hK := hN.1.2
  obtain ⟨j, hj, rfl⟩ := sShaft_of (by omega) hb.1
  obtain ⟨c, hc, rfl⟩ := sCell_of (by rw [hb.2]; rfl)
  have hcn : cN (nI c) = c := cN_n (by omega)
  have hjn : cN (nI j) = j := cN_n (by omega)
  rw [hcn, hjn] at g2 ⊢
  obtain ⟨x, hx⟩ := sDigRef_pick g2
  obtain ⟨k1, k2⟩ := sOpenUp_k hx hc (by omega : j < 8) hN.2.2
  rw [aDon_4]
  have ho : ∀ q, q = 350 ∨ q = 351 → sDigRow N j c (rP N) p q = sOpenUp N c j (rP N) q := fun q hq => by
    unfold sDigRow
    unfold upd
    rw [if_neg (by omega), if_neg (by omega)]
  refine RI_dec hN ((ho 350 (Or.inl rfl)).trans (k1.trans hN.1.1)) hK ?_
  rw [ho 351 (Or.inr rfl)]
  exact k2
theorem sAddP_o {N : Nat → Int32} {n : Int32} {q : Nat} (h : q ≠ 352) : sAddP N n q = N q := if_neg h
theorem aProp_RI {N : Nat → Int32} {v : Int32} (hN : RI N) (h : (aProp N v).1 = 0) : RI (aProp N v).2.2.2 := by
  unfold aProp at h ⊢
  obtain ⟨g1, e⟩ := aG_0 (aThr_0 (by decide)) h; rw [e] at h ⊢
  obtain ⟨g2, e⟩ := aG_0 aRef_0 h; rw [e] at h ⊢
  obtain ⟨g3, e⟩ := aG_0 aRef_0 h; rw [e] at h ⊢
  obtain ⟨c, hc, rfl⟩ := sCell_of g1
  have hcn : cN (nI c) = c := cN_n (by omega)
  rw [hcn]
  rw [aDon_4]
  have ho : ∀ q, q = 350 ∨ q = 351 → sPropRow N c q = N q := fun q hq => by
    unfold sPropRow
    unfold upd
    rw [if_neg (by omega), if_neg (by omega)]
  exact RI_same hN (ho 350 (Or.inl rfl)) (ho 351 (Or.inr rfl))
theorem aUnprop_RI {N : Nat → Int32} {v : Int32} (hN : RI N) (h : (aUnprop N v).1 = 0) : RI (aUnprop N v).2.2.2 := by
  unfold aUnprop at h ⊢
  obtain ⟨g1, e⟩ := aG_0 (aThr_0 (by decide)) h; rw [e] at h ⊢
  obtain ⟨g2, e⟩ := aG_0 aRef_0 h; rw [e] at h ⊢
  obtain ⟨g3, e⟩ := aG_0 aRef_0 h; rw [e] at h ⊢
  obtain ⟨c, hc, rfl⟩ := sCell_of g1
  have hcn : cN (nI c) = c := cN_n (by omega)
  rw [hcn]
  rw [aDon_4]
  have ho : ∀ q, q = 350 ∨ q = 351 → sAddP (upd N (256 + c) (nI 0)) (nI 1) q = N q := fun q hq => by
    rw [sAddP_o (by omega)]
    exact if_neg (by omega)
  exact RI_same hN (ho 350 (Or.inl rfl)) (ho 351 (Or.inr rfl))
theorem sFillK_o {N : Nat → Int32} {s : Int32} {q : Nat} (h1 : 320 ≤ q) (h2 : q ≠ 352) : ∀ k, k ≤ 64 → sFillK N s k q = N q
  | 0, _ => rfl
  | k + 1, hk => by
    unfold sFillK
    split
    · rw [show upd (sAddP (upd (sFillK N s k) k (nI 2)) (upd (sFillK N s k) k (nI 2) (256 + k))) (256 + k) (nI 0) q = sAddP (upd (sFillK N s k) k (nI 2)) (upd (sFillK N s k) k (nI 2) (256 + k)) q from if_neg (by omega), sAddP_o h2, show upd (sFillK N s k) k (nI 2) q = sFillK N s k q from if_neg (by omega)]
      exact sFillK_o h1 h2 k (by omega)
    · exact sFillK_o h1 h2 k (by omega)
theorem aClose_RI {N : Nat → Int32} {s : Int32} (hN : RI N) (h : (aClose N s (rK N)).1 = 0) : RI (aClose N s (rK N)).2.2.2 := by
  unfold aClose at h ⊢
  obtain ⟨g1, e⟩ := aG_0 (aThr_0 (by decide)) h; rw [e] at h ⊢
  obtain ⟨g2, e⟩ := aG_0 aRef_0 h; rw [e] at h ⊢
  obtain ⟨g3, e⟩ := aG_0 aRef_0 h; rw [e] at h ⊢
  obtain ⟨j, hj, rfl⟩ := sShaft_f hN.1.2 g1
  have hcn : cN (nI j) = j := cN_n (by have := hN.1.2; omega)
  have hK := hN.1.2
  rw [hcn]
  rw [aDon_4]
  have ho : ∀ q, q = 350 ∨ q = 351 → sCloseRow N j q = N q := fun q hq => by
    unfold sCloseRow
    rw [sFillK_o (by omega) (by omega) 64 (Nat.le_refl _)]
    unfold upd
    rw [if_neg (by omega), if_neg (by omega)]
  exact RI_same hN (ho 350 (Or.inl rfl)) (ho 351 (Or.inr rfl))
theorem aPick_RI {N : Nat → Int32} {v : Int32} (hN : RI N) (h : (aPick N v (rP N)).1 = 0) : RI (aPick N v (rP N)).2.2.2 := by
  unfold aPick at h ⊢
  obtain ⟨g1, e⟩ := aG_0 (aThr_0 (by decide)) h; rw [e] at h ⊢
  obtain ⟨g2, e⟩ := aG_0 aRef_0 h; rw [e] at h ⊢
  have hp := hN.2.2
  have hp5 : rP N < 6 := by have := of_decide_eq_false g2; omega
  rw [aDon_4]
  refine (RI_of (K := rK N) (pk := rP N + 1) ?_ hN.1.2 (if_pos rfl) (by omega)).1
  rw [show upd (upd N (344 + rP N) v) 351 (nI (rP N + 1)) 350 = upd N (344 + rP N) v 350 from if_neg (by decide), show upd N (344 + rP N) v 350 = N 350 from if_neg (by omega)]
  exact hN.1.1
theorem aProps_RI {N : Nat → Int32} {v : Int32} (hN : RI N) (h : (aProps N v).1 = 0) : RI (aProps N v).2.2.2 := by
  unfold aProps at h ⊢
  obtain ⟨g1, e⟩ := aG_0 (aThr_0 (by decide)) h; rw [e] at h ⊢
  rw [aDon_4]
  exact RI_same hN (sAddP_o (by decide)) (sAddP_o (by decide))
theorem aRock_RI {N : Nat → Int32} {v hd nd : Int32} (hN : RI N) (h : (aRock N v hd nd).1 = 0) : RI (aRock N v hd nd).2.2.2 := by
  unfold aRock at h ⊢
  obtain ⟨g1, e⟩ := aG_0 (aThr_0 (by decide)) h; rw [e] at h ⊢
  obtain ⟨g2, e⟩ := aG_0 (aThr_0 (by decide)) h; rw [e] at h ⊢
  obtain ⟨g3, e⟩ := aG_0 aRef_0 h; rw [e] at h ⊢
  obtain ⟨c, hc, rfl⟩ := sCell_of g1
  have hcn : cN (nI c) = c := cN_n (by omega)
  rw [hcn]
  rw [aDon_4]
  have ho : ∀ q, q = 350 ∨ q = 351 → upd (upd N (64 + c) hd) (128 + c) nd q = N q := fun q hq => by
    unfold upd
    rw [if_neg (by omega), if_neg (by omega)]
  exact RI_same hN (ho 350 (Or.inl rfl)) (ho 351 (Or.inr rfl))
theorem aRoof_RI {N : Nat → Int32} {v : Int32} (hN : RI N) (h : (aRoof N v).1 = 0) : RI (aRoof N v).2.2.2 := by
  unfold aRoof at h ⊢
  obtain ⟨g1, e⟩ := aG_0 (aThr_0 (by decide)) h; rw [e] at h ⊢
  obtain ⟨g2, e⟩ := aG_0 aRef_0 h; rw [e] at h ⊢
  rw [aDon_4]
  exact RI_same hN (if_neg (by decide)) (if_neg (by decide))
theorem aCmd_RI {N : Nat → Int32} {t v u : Int32} {p : Bool} (hN : RI N) : (aCmd N t v u p).1 = 0 → RI (aCmd N t v u p).2.2.2 := by
  unfold aCmd
  split
  · exact aSink_RI hN
  · split
    · exact aDig_RI hN
    · split
      · exact aProp_RI hN
      · split
        · exact aUnprop_RI hN
        · split
          · exact aClose_RI hN
          · split
            · exact aPick_RI hN
            · exact aProps_RI hN
/-- which codes come -/
theorem aG_c {P : Nat → Prop} {b : Bool} {x y : ARes} (hx : P x.1) (hy : P y.1) : P (aG b x y).1 := by
  cases b with
  | true => exact hx
  | false => exact hy
theorem aSt_12 {S : MSt} {tx : Bool} {kp k1 k2 k3 : Nat} {r : ARes} (h : r.1 ≠ 2) : aSt S tx kp k1 k2 k3 r = aSt S tx kp k1 1 k3 r := by
  obtain ⟨c, wm, v, N⟩ := r
  match c, h with
  | 0, _ => rfl
  | 1, _ => rfl
  | n + 3, _ => rfl
theorem aSt_21 {S : MSt} {tx : Bool} {kp k1 k2 k3 : Nat} {r : ARes} (h : r.1 ≠ 1) : aSt S tx kp k1 k2 k3 r = aSt S tx kp 1 k2 k3 r := by
  obtain ⟨c, wm, v, N⟩ := r
  match c, h with
  | 0, _ => rfl
  | 2, _ => rfl
  | n + 3, _ => rfl
theorem aSt_3 {S : MSt} {tx : Bool} {kp k1 k2 k3 k : Nat} {r : ARes} (h : r.1 ≤ 2) : aSt S tx kp k1 k2 k3 r = aSt S tx kp k1 k2 k r := by
  obtain ⟨c, wm, v, N⟩ := r
  match c, h with
  | 0, _ => rfl
  | 1, _ => rfl
  | 2, _ => rfl
theorem aSink_c {N : Nat → Int32} {v : Int32} {K pk : Nat} : (aSink N v K pk).1 ≠ 2 := aG_c (P := (· ≠ 2)) (show (1 : Nat) ≠ 2 by decide) (aG_c (P := (· ≠ 2)) (show (3 : Nat) ≠ 2 by decide) (aG_c (P := (· ≠ 2)) (show (3 : Nat) ≠ 2 by decide) (aG_c (P := (· ≠ 2)) (show (3 : Nat) ≠ 2 by decide) (aG_c (P := (· ≠ 2)) (show (3 : Nat) ≠ 2 by decide) ((show (0 : Nat) ≠ 2 by decide))))))
theorem aProp_c {N : Nat → Int32} {v : Int32} : (aProp N v).1 ≠ 2 := aG_c (P := (· ≠ 2)) (show (1 : Nat) ≠ 2 by decide) (aG_c (P := (· ≠ 2)) (show (3 : Nat) ≠ 2 by decide) (aG_c (P := (· ≠ 2)) (show (3 : Nat) ≠ 2 by decide) ((show (0 : Nat) ≠ 2 by decide))))
theorem aUnprop_c {N : Nat → Int32} {v : Int32} : (aUnprop N v).1 ≠ 2 := aG_c (P := (· ≠ 2)) (show (1 : Nat) ≠ 2 by decide) (aG_c (P := (· ≠ 2)) (show (3 : Nat) ≠ 2 by decide) (aG_c (P := (· ≠ 2)) (show (3 : Nat) ≠ 2 by decide) ((show (0 : Nat) ≠ 2 by decide))))
theorem aClose_c {N : Nat → Int32} {v : Int32} {K : Nat} : (aClose N v K).1 ≠ 2 := aG_c (P := (· ≠ 2)) (show (1 : Nat) ≠ 2 by decide) (aG_c (P := (· ≠ 2)) (show (3 : Nat) ≠ 2 by decide) (aG_c (P := (· ≠ 2)) (show (3 : Nat) ≠ 2 by decide) ((show (0 : Nat) ≠ 2 by decide))))
theorem aGO_c {o : Option (Int32 × Int32)} {y : ARes} (h : y.1 ≠ 2) : (aGO o y).1 ≠ 2 := by
  cases o with
  | none => exact h
  | some z => exact (by decide : (3 : Nat) ≠ 2)
theorem aDig_c {N : Nat → Int32} {s v : Int32} {p : Bool} {K pk : Nat} : (aDig N s v p K pk).1 ≠ 2 := aG_c (P := (· ≠ 2)) (show (1 : Nat) ≠ 2 by decide) (aGO_c (show (0 : Nat) ≠ 2 by decide))
theorem aPick_c {N : Nat → Int32} {v : Int32} {pk : Nat} : (aPick N v pk).1 ≠ 1 := aG_c (P := (· ≠ 1)) (show (2 : Nat) ≠ 1 by decide) (aG_c (P := (· ≠ 1)) (show (3 : Nat) ≠ 1 by decide) ((show (0 : Nat) ≠ 1 by decide)))
theorem aProps_c {N : Nat → Int32} {v : Int32} : (aProps N v).1 ≠ 1 ∧ (aProps N v).1 ≤ 2 := ⟨aG_c (P := (· ≠ 1)) (show (2 : Nat) ≠ 1 by decide) ((show (0 : Nat) ≠ 1 by decide)), aG_c (P := (· ≤ 2)) (show (2 : Nat) ≤ 2 by decide) (show (0 : Nat) ≤ 2 by decide)⟩
theorem aSt_s {S : MSt} {tx : Bool} {kp : Nat} {r : ARes} (h : r.1 ≠ 2) : aSt S tx kp 1 9 2 r = aSt S tx kp 1 1 2 r := aSt_12 h
theorem aSt_p {S : MSt} {tx : Bool} {kp : Nat} {r : ARes} (h : r.1 ≠ 1) : aSt S tx kp 9 1 2 r = aSt S tx kp 1 1 2 r := aSt_21 h
theorem aSt_q {S : MSt} {tx : Bool} {kp : Nat} {r : ARes} (h : r.1 ≠ 1 ∧ r.1 ≤ 2) : aSt S tx kp 9 1 9 r = aSt S tx kp 1 1 2 r := (aSt_21 h.1).trans (aSt_3 h.2)
