/-! A DRAFT's changes: what they owe; their rows -/
def dPost (G : fmG) (h0 : fmHp) (d g sl pl : Nat) (r : ARes) : Option Value → fmHp → Prop := fun v h' => r.1 = 0 ∧ v = some (.int r.2.2.1) ∧ ∃ (se pe : Nat) (gf sf pf : Nat → Nat) (K pk : Nat), MineAt G h' d g sl se pl pe gf sf pf r.2.2.2 K pk ∧ Dr G h0 h' d g sl se pl pe ∧ r.2.2.2 350 = nI K ∧ r.2.2.2 351 = nI pk
def dXp (h0 : fmHp) (r : ARes) : Nat → String → fmHp → Prop := fun q Ex h' => Kp h0 h' ∧ ((r.1 = 1 ∧ Ex = "java/lang/IndexOutOfBoundsException") ∨ (r.1 = 2 ∧ Ex = "java/lang/IllegalArgumentException") ∨ (r.1 = 3 ∧ Ex = "FlintMine$Refusal" ∧ h' q = some (true, .inr (.inl (10, [.null, .null, .null, .null, .null, .int 0, .int r.2.1.1, .int r.2.1.2])))))
theorem dXp.ref {h0 h h' : fmHp} {q z : Nat} {Ex : String} {r : ARes} {w m : Int32} (hk : Kp h0 h) (hr : r = aRef w m) (hx : Ex = "FlintMine$Refusal" ∧ h q = none ∧ z ≤ q ∧ h' = fmUp h q (true, .inr (.inl (10, [.null, .null, .null, .null, .null, .int 0, .int w, .int m])))) : dXp h0 r q Ex h' := by
  obtain ⟨rfl, hq, -, rfl⟩ := hx
  subst hr
  exact ⟨hk.trans (Kp.up hq), Or.inr (Or.inr ⟨rfl, rfl, fmUp_s⟩)⟩
theorem dXp.oob {h0 h h' : fmHp} {q z : Nat} {Ex : String} {r : ARes} {e : fmEn} (hk : Kp h0 h) (hr : r = aThr 1) (hx : Ex = "java/lang/IndexOutOfBoundsException" ∧ h q = none ∧ z ≤ q ∧ h' = fmUp h q e) : dXp h0 r q Ex h' := by
  obtain ⟨rfl, hq, -, rfl⟩ := hx
  subst hr
  exact ⟨hk.trans (Kp.up hq), Or.inl ⟨rfl, rfl⟩⟩
theorem dXp.ia {h0 h h' : fmHp} {q z : Nat} {Ex : String} {r : ARes} {e : fmEn} (hk : Kp h0 h) (hr : r = aThr 2) (hx : Ex = "java/lang/IllegalArgumentException" ∧ h q = none ∧ z ≤ q ∧ h' = fmUp h q e) : dXp h0 r q Ex h' := by
  obtain ⟨rfl, hq, -, rfl⟩ := hx
  subst hr
  exact ⟨hk.trans (Kp.up hq), Or.inr (Or.inl ⟨rfl, rfl⟩)⟩
theorem Dr.kp {G : fmG} {h0 h h' : fmHp} {d g sl se pl pe : Nat} (hD : Dr G h0 h d g sl se pl pe) (hk : Kp h h') : Dr G h0 h' d g sl se pl pe := ⟨hD.1.trans hk, hD.2⟩
theorem sStr_cong {N M : Nat → Int32} {j pk : Nat} {n : Int32} (hj : j < pk) (hp : pk ≤ 6) (h : ∀ q, (344 ≤ q ∧ q < 350) ∨ q = 351 ∨ q = 354 → M q = N q) {q : Nat} (hq : (344 ≤ q ∧ q < 350) ∨ q = 351 ∨ q = 354) : sStrike M j n pk q = sStrike N j n pk q := by
  unfold sStrike
  rw [h (344 + j) (by omega)]
  split
  · simp only [upd, sShift, sStr1]
    rw [h (344 + j) (by omega), h 354 (by omega)]
    repeat' split
    all_goals first | rfl | omega | exact h _ (by omega)
  · simp only [upd, sStr1]
    rw [h (344 + j) (by omega), h 354 (by omega)]
    repeat' split
    all_goals first | rfl | omega | exact h _ (by omega)
theorem oW_lo {N : Nat → Int32} {c pk x q : Nat} (hp : pk ≤ 6) (hx : sPickK N (sStrokes N c) pk = some x) (hq : q < 344 ∨ 352 ≤ q) (h4 : q ≠ 354) : oW N c pk q = N q := by
  have hj : oJ N c pk = x := by unfold oJ; rw [hx]; rfl
  unfold oW
  exact sStr_lo (by rw [hj]; exact sPickK_lt hx) hp hq h4
theorem oW_350 {N : Nat → Int32} {c pk x : Nat} (hp : pk ≤ 6) (hx : sPickK N (sStrokes N c) pk = some x) : oW N c pk 350 = N 350 := by
  have hj : oJ N c pk = x := by unfold oJ; rw [hx]; rfl
  unfold oW
  exact sStr_350 (by rw [hj]; exact sPickK_lt hx) hp
theorem oW_351 {N : Nat → Int32} {c pk x : Nat} (hp : pk ≤ 6) (hx : sPickK N (sStrokes N c) pk = some x) (h1 : N 351 = nI pk) : oW N c pk 351 = nI (oPk N c pk) := by
  have hj : oJ N c pk = x := by unfold oJ; rw [hx]; rfl
  unfold oW oPk
  rw [sStr_351 (by rw [hj]; exact sPickK_lt hx) hp, h1]
  split <;> rfl
theorem oU_o {N : Nat → Int32} {c j pk q : Nat} (h1 : q ≠ c) (h2 : q ≠ 192 + c) (h3 : q ≠ 336 + j) (h4 : q ≠ 353) : sOpenUp N c j pk q = oW N c pk q := by
  show upd (upd (upd (upd (oW N c pk) c (nI 1)) (192 + c) (nI j)) (336 + j) _) 353 _ q = _
  rw [upd_ne' h4, upd_ne' h3, upd_ne' h2, upd_ne' h1]
theorem oU_c {N : Nat → Int32} {c j pk : Nat} (hc : c < 64) : sOpenUp N c j pk c = nI 1 := by
  show upd (upd (upd (upd (oW N c pk) c (nI 1)) (192 + c) (nI j)) (336 + j) _) 353 _ c = _
  rw [upd_ne' (by omega), upd_ne' (by omega), upd_ne' (by omega), upd_eq' rfl]
theorem oU_s {N : Nat → Int32} {c j pk : Nat} (hc : c < 64) : sOpenUp N c j pk (192 + c) = nI j := by
  show upd (upd (upd (upd (oW N c pk) c (nI 1)) (192 + c) (nI j)) (336 + j) _) 353 _ (192 + c) = _
  rw [upd_ne' (by omega), upd_ne' (by omega), upd_eq' rfl]
theorem oU_w {N : Nat → Int32} {c j pk : Nat} (hc : c < 64) (hj : j < 8) : sOpenUp N c j pk (336 + j) = oW N c pk (336 + j) + oW N c pk (128 + c) := by
  show upd (upd (upd (upd (oW N c pk) c (nI 1)) (192 + c) (nI j)) (336 + j) _) 353 _ (336 + j) = _
  rw [upd_ne' (by omega), upd_eq' rfl, upd_ne' (by omega), upd_ne' (by omega), upd_ne' (by omega), upd_ne' (by omega)]
  rfl
theorem oU_r {N : Nat → Int32} {c j pk : Nat} (hc : c < 64) (hj : j < 8) : sOpenUp N c j pk 353 = oW N c pk 353 + nI 1 := by
  show upd (upd (upd (upd (oW N c pk) c (nI 1)) (192 + c) (nI j)) (336 + j) _) 353 _ 353 = _
  rw [upd_eq' rfl, upd_ne' (by omega), upd_ne' (by omega), upd_ne' (by omega)]
  rfl
/-- sinking: the reference's row against the one behind the opening -/
theorem sink_oW {N : Nat → Int32} {c K pk x q : Nat} (hc : c < 64) (hK : K < 8) (hp : pk ≤ 6) (hx : sPickK N (sStrokes N c) pk = some x) (hq : (344 ≤ q ∧ q < 350) ∨ q = 351 ∨ q = 354) : oW (sSink4 N c K) c pk q = oW N c pk q := by
  have hs : sStrokes (sSink4 N c K) c = sStrokes N c := by
    unfold sStrokes; rw [sSink4_o hK (by omega) (by omega), sSink4_o hK (by omega) (by omega)]
  have hj : oJ (sSink4 N c K) c pk = oJ N c pk := by
    unfold oJ; rw [sSink4_p hK hc hp]
  have hjx : oJ N c pk = x := by unfold oJ; rw [hx]; rfl
  unfold oW
  rw [hs, hj]
  exact sStr_cong (by rw [hjx]; exact sPickK_lt hx) hp (fun q hq => sSink4_o hK (by omega) (by omega)) hq
theorem sink_x {N : Nat → Int32} {c K pk x : Nat} (hc : c < 64) (hK : K < 8) (hp : pk ≤ 6) (hx : sPickK N (sStrokes N c) pk = some x) : sPickK (sSink4 N c K) (sStrokes (sSink4 N c K) c) pk = some x := (sSink4_p hK hc hp).trans hx
theorem sink_row {N : Nat → Int32} {c K pk x : Nat} (hc : c < 64) (hK : K < 8) (hp : pk ≤ 6) (hx : sPickK N (sStrokes N c) pk = some x) (h0 : N (256 + c) = nI 0) {q : Nat} (hq : q < 320 ∨ (344 ≤ q ∧ q ≠ 350)) : sOpenUp (sSink4 N c K) c K pk q = oRow N c (nI K) false pk q := by
  have hx2 := sink_x hc hK hp hx
  by_cases h1 : q = c
  · rw [h1, oU_c hc, oRow_c]
  · by_cases h2 : q = 192 + c
    · rw [h2, oU_s hc, oRow_s]
    · by_cases h3 : q = 256 + c
      · rw [h3, oRow_p, oU_o (by omega) (by omega) (by omega) (by omega), oW_lo hp hx2 (by omega) (by omega), sSink4_o hK (by omega) (by omega), h0]; rfl
      · by_cases h4 : q = 353
        · rw [h4, oU_r hc hK, oRow_r hc, oW_lo hp hx2 (by omega) (by omega), oW_lo hp hx (by omega) (by omega), sSink4_o hK (by omega) (by omega)]
        · rw [oU_o h1 h2 (by omega) h4, oRow_o h1 h2 h3 h4]
          by_cases h5 : q < 344 ∨ (352 ≤ q ∧ q ≠ 354)
          · rw [oW_lo hp hx2 (by omega) (by omega), oW_lo hp hx (by omega) (by omega), sSink4_o hK (by omega) (by omega)]
          · exact sink_oW hc hK hp hx (by omega)
theorem sink_sh {N : Nat → Int32} {c K pk x k : Nat} (hc : c < 64) (hK : K < 8) (hp : pk ≤ 6) (hx : sPickK N (sStrokes N c) pk = some x) (hk : k < K) : sOpenUp (sSink4 N c K) c K pk (320 + k) = N (320 + k) ∧ sOpenUp (sSink4 N c K) c K pk (328 + k) = N (328 + k) ∧ sOpenUp (sSink4 N c K) c K pk (336 + k) = N (336 + k) := by
  have hx2 := sink_x hc hK hp hx
  refine ⟨?_, ?_, ?_⟩ <;> rw [oU_o (by omega) (by omega) (by omega) (by omega), oW_lo hp hx2 (by omega) (by omega)] <;> unfold sSink4 sSink3 <;> rw [upd_ne' (by omega), upd_ne' (by omega), upd_ne' (by omega), upd_ne' (by omega)]
theorem sink_shK {N : Nat → Int32} {c K pk x : Nat} (hc : c < 64) (hK : K < 8) (hp : pk ≤ 6) (hx : sPickK N (sStrokes N c) pk = some x) : sOpenUp (sSink4 N c K) c K pk (320 + K) = nI c ∧ sOpenUp (sSink4 N c K) c K pk (328 + K) = nI 0 ∧ sOpenUp (sSink4 N c K) c K pk (336 + K) = N (128 + c) := by
  have hx2 := sink_x hc hK hp hx
  refine ⟨?_, ?_, ?_⟩
  · rw [oU_o (by omega) (by omega) (by omega) (by omega), oW_lo hp hx2 (by omega) (by omega)]
    unfold sSink4 sSink3
    rw [upd_ne' (by omega), upd_ne' (by omega), upd_ne' (by omega), upd_eq' rfl]
  · rw [oU_o (by omega) (by omega) (by omega) (by omega), oW_lo hp hx2 (by omega) (by omega)]
    unfold sSink4 sSink3
    rw [upd_ne' (by omega), upd_ne' (by omega), upd_eq' rfl]
  · rw [oU_w hc hK, oW_lo hp hx2 (by omega) (by omega), oW_lo hp hx2 (by omega) (by omega), sSink4_o hK (q := 128 + c) (by omega) (by omega)]
    unfold sSink4 sSink3
    rw [upd_ne' (by omega), upd_eq' rfl, nI_0, Int32.zero_add]
theorem sink_350 {N : Nat → Int32} {c K pk x : Nat} (hc : c < 64) (hK : K < 8) (hp : pk ≤ 6) (hx : sPickK N (sStrokes N c) pk = some x) (h1 : N 351 = nI pk) : sOpenUp (sSink4 N c K) c K pk 350 = nI (K + 1) ∧ sOpenUp (sSink4 N c K) c K pk 351 = nI (oPk N c pk) := by
  have hx2 := sink_x hc hK hp hx
  refine ⟨?_, ?_⟩
  · rw [oU_o (by omega) (by omega) (by omega) (by omega), oW_350 hp hx2]
    unfold sSink4
    rw [upd_eq' rfl]
  · rw [oU_o (by omega) (by omega) (by omega) (by omega), sink_oW hc hK hp hx (by omega), oW_351 hp hx h1]
