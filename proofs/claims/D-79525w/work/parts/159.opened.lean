/-! objects that are kept; ground opened -/
def Ko (h h' : fmHp) : Prop := ∀ (q : Nat) (b : Bool) (ci : Nat) (fs : List Value), h q = some (b, .inr (.inl (ci, fs))) → ci ≠ 2 → ci ≠ 12 → h' q = some (b, .inr (.inl (ci, fs)))
theorem Ko.refl {h : fmHp} : Ko h h := fun _ _ _ _ e _ _ => e
theorem Ko.trans {h1 h2 h3 : fmHp} (p : Ko h1 h2) (q : Ko h2 h3) : Ko h1 h3 := fun a b ci fs e x y => q a b ci fs (p a b ci fs e x y) x y
theorem Ko.upd {h h' : fmHp} (k : Ko h h') {d : Nat} {b : Bool} {fs : List Value} {e : fmEn} (hd : h d = some (b, .inr (.inl (2, fs)))) : Ko h (fmUp h' d e) := fun a b' ci fs' q x y => by
  rw [fmUp_n (fun z => by rw [z, hd] at q; cases q; exact x rfl)]
  exact k a b' ci fs' q x y
theorem Ko.upa {h h' : fmHp} (k : Ko h h') {g : Nat} {b : Bool} {x : Nat × vp_A} {e : fmEn} (hg : h g = some (b, .inl x)) : Ko h (fmUp h' g e) := fun a b' ci fs' q x y => by
  rw [fmUp_n (fun z => by rw [z, hg] at q; cases q)]
  exact k a b' ci fs' q x y
theorem Ko.new {h h' : fmHp} (k : Ko h h') {a : Nat} {e : fmEn} (ha : h a = none) : Ko h (fmUp h' a e) := fun a' b' ci fs' q x y => by
  rw [fmUp_n (fun z => by rw [z, ha] at q; cases q)]
  exact k a' b' ci fs' q x y
theorem Ko.list {h h' : fmHp} {l e : Nat} {b b' : Bool} {fs : List Value} {x : Nat × vp_A} (hl : h l = some (b, .inr (.inl (12, fs)))) (he : h e = some (b', .inl x)) (hfr : ∀ q x, h q = some x → q ≠ l → (q ≠ e ∨ x.1 = false) → h' q = some x) : Ko h h' := fun a b ci fs q _ y =>
  hfr _ _ q (fun z => by rw [z, hl] at q; cases q; exact y rfl) (Or.inl fun z => by rw [z, he] at q; cases q)
theorem sPickK_ge {N : Nat → Int32} {need : Int32} : ∀ {k x : Nat}, sPickK N need k = some x → need ≤ N (344 + x)
  | 0, _, h => by cases h
  | k + 1, x, h => by
    unfold sPickK at h
    split at h
    · rename_i hc; cases h; exact hc.1
    · exact sPickK_ge h
/-- which pick, and how many are left -/
def oJ (N : Nat → Int32) (c pk : Nat) : Nat := (sPickK N (sStrokes N c) pk).getD 0
def oW (N : Nat → Int32) (c pk : Nat) : Nat → Int32 := sStrike N (oJ N c pk) (sStrokes N c) pk
def oPk (N : Nat → Int32) (c pk : Nat) : Nat := if N (344 + oJ N c pk) - sStrokes N c = nI 0 then pk - 1 else pk
/-- the row behind the opening of a cell -/
def oRow (N : Nat → Int32) (c : Nat) (s : Int32) (p : Bool) (pk : Nat) : Nat → Int32 := upd (upd (upd (upd (oW N c pk) 353 (oW N c pk 353 + nI 1)) c (nI 1)) (192 + c) s) (256 + c) (bI p)
theorem oRow_c {N : Nat → Int32} {c : Nat} {s : Int32} {p : Bool} {pk : Nat} : oRow N c s p pk c = nI 1 := by
  unfold oRow; rw [upd_ne' (by omega), upd_ne' (by omega), upd_eq' rfl]
theorem oRow_s {N : Nat → Int32} {c : Nat} {s : Int32} {p : Bool} {pk : Nat} : oRow N c s p pk (192 + c) = s := by
  unfold oRow; rw [upd_ne' (by omega), upd_eq' rfl]
theorem oRow_p {N : Nat → Int32} {c : Nat} {s : Int32} {p : Bool} {pk : Nat} : oRow N c s p pk (256 + c) = bI p := by
  unfold oRow; rw [upd_eq' rfl]
theorem oRow_o {N : Nat → Int32} {c : Nat} {s : Int32} {p : Bool} {pk q : Nat} (h1 : q ≠ c) (h2 : q ≠ 192 + c) (h3 : q ≠ 256 + c) (h4 : q ≠ 353) : oRow N c s p pk q = oW N c pk q := by
  unfold oRow; rw [upd_ne' h3, upd_ne' h2, upd_ne' h1, upd_ne' h4]
theorem oRow_r {N : Nat → Int32} {c : Nat} {s : Int32} {p : Bool} {pk : Nat} (hc : c < 64) : oRow N c s p pk 353 = oW N c pk 353 + nI 1 := by
  unfold oRow; rw [upd_ne' (by omega), upd_ne' (by omega), upd_ne' (by omega), upd_eq' rfl]
/-- the numbers of a strike, out of what holds of every row -/
theorem RV.strike {N : Nat → Int32} {K pk c x : Nat} (hR : RV N K pk) (hc : c < 64) (h : sPickK N (sStrokes N c) pk = some x) : oJ N c pk = x ∧ x < pk ∧ ∃ e n, N (344 + x) = nI e ∧ sStrokes N c = nI n ∧ n ≤ e ∧ 1 ≤ n ∧ e ≤ 99 ∧ n ≤ 27 ∧ oPk N c pk = (if e = n then pk - 1 else pk) := by
  have hx := sPickK_lt h
  have hj : oJ N c pk = x := by unfold oJ; rw [h]; rfl
  obtain ⟨e, e1, e2, e3⟩ := hR.2.2.2.2.1 x hx
  obtain ⟨a, b, a1, a2, b1, h1, h2⟩ := hR.2.2.2.2.2.1 c hc
  have hs : sStrokes N c = nI (2 * a + b) := by
    unfold sStrokes
    rw [h1, h2, pk_mul, nI_add]
  have hge := sPickK_ge h
  rw [hs, e3] at hge
  have hle := (nI_leI (by omega) (by omega)).mp hge
  refine ⟨hj, hx, e, 2 * a + b, e3, hs, hle, by omega, e2, by omega, ?_⟩
  unfold oPk
  rw [hj, e3, hs, nI_subI hle]
  by_cases q : e = 2 * a + b
  · rw [if_pos (by rw [q, Nat.sub_self]), if_pos q]
  · rw [if_neg (fun z => by have := nI_z (k := e - (2 * a + b)) (by omega) (z.trans nI_0); omega), if_neg q]
