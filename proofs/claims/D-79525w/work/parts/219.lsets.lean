/-! SETS OF CELLS in a long; comparing longs -/
theorem lcmpW {p : Program} {l : Launch} {e : Env} {R : Room} {s : State} {m : MethodId} {args : Array Value} {below : List Frame} {meth : Method} {c : Code} {T : State} {locs : List Loc} {cells slots : Nat} (X : Stand p l e R s m args below meth c T locs cells slots) (hexec : p.tables.exec = Jvm.exec) {a b : Int64} {pc : Nat} {ls : Array Slot} {rest : List Value} (hdg : decode c.code pc = .ok (.lcmp, 1)) (target : State)
    (hr : Steps p.tables e below (T.setTop { method := m, pc := pc + 1, locals := ls, stack := .int (if b < a then 1 else if a = b then 0 else -1) :: rest, locked := none }) target) :
    Steps p.tables e below (T.setTop { method := m, pc := pc, locals := ls, stack := .long b :: .long a :: rest, locked := none }) target := by
  by_cases h1 : b < a
  · rw [if_pos h1] at hr
    jvm_step X.here [X.here.top, hexec, hdg, h1]
    exact hr
  · rw [if_neg h1] at hr
    by_cases h2 : a = b
    · rw [if_pos h2] at hr
      jvm_step X.here [X.here.top, hexec, hdg, h1, h2]
      exact hr
    · rw [if_neg h2] at hr
      jvm_step X.here [X.here.top, hexec, hdg, h1, h2]
      exact hr
section LCMP
variable {G : fmG} {Γ : fmC} {cc : ByteArray} {nL : Nat} {own nm : String} {ret : Option FieldType} {RM : Room} {tb : List ExceptionTableEntry} {h : fmHp} {kc ks pc : Nat} {L : List (Option Value)} {st : List Value}
theorem r_lcmp (E : fmE G Γ cc nL own nm ret RM tb) {x y : Int64} (d : decode cc pc = .ok (.lcmp, 1)) (k : fmW G Γ h kc ks (pc + 1) L (.int (if y < x then 1 else if x = y then 0 else -1) :: st)) : fmW G Γ h kc ks pc L (.long y :: .long x :: st) := by
  intro H lo cx sx ls a1 a2 a3 a4 a5
  have hk := k H lo cx sx ls a1 a2 a3 a4 a5
  intro T hT X
  obtain ⟨t, a, b⟩ := hk T hT X
  exact ⟨t, lcmpW X E.x (by rw [E.b]; exact d) t a, b⟩
end LCMP
theorem lcmp_0 {x y : Int64} : (if y < x then (1 : Int32) else if x = y then 0 else -1) = 0 ↔ x = y := by
  by_cases h1 : y < x
  · rw [if_pos h1]
    exact ⟨fun z => absurd z (by decide), fun z => by subst z; exact absurd h1 (Int64.lt_irrefl)⟩
  · rw [if_neg h1]
    by_cases h2 : x = y
    · rw [if_pos h2]; exact ⟨fun _ => h2, fun _ => rfl⟩
    · rw [if_neg h2]; exact ⟨fun z => absurd z (by decide), fun z => absurd z h2⟩
def lb (w : Int64) (i : Nat) : Bool := w.toBitVec.getLsbD i
theorem lb_ext {x y : Int64} (h : ∀ i, i < 64 → lb x i = lb y i) : x = y := Int64.toBitVec_inj.mp (BitVec.eq_of_getLsbD_eq (fun i hi => h i hi))
theorem lb_or (x y : Int64) (i : Nat) : lb (x ||| y) i = (lb x i || lb y i) := by unfold lb; rw [Int64.toBitVec_or, BitVec.getLsbD_or]
theorem lb_and (x y : Int64) (i : Nat) : lb (x &&& y) i = (lb x i && lb y i) := by unfold lb; rw [Int64.toBitVec_and, BitVec.getLsbD_and]
theorem lb_0 (i : Nat) : lb 0 i = false := BitVec.getLsbD_zero
theorem lb_1 : ∀ i, i < 64 → lb 1 i = decide (i = 0) := by decide +kernel
theorem l_sl : ∀ n, n < 64 → (((nI n).toInt64 &&& 63).toBitVec.smod 64).toNat = n := by decide +kernel
theorem lb_sshr (n : Nat) (hn : n < 64) (x : Int64) {i : Nat} (hi : i < 64) : lb (x >>> ((nI n).toInt64 &&& 63)) i = if n + i < 64 then lb x (n + i) else lb x 63 := by
  unfold lb
  rw [Int64.toBitVec_shiftRight]
  show (x.toBitVec.sshiftRight (((nI n).toInt64 &&& 63).toBitVec.smod 64).toNat).getLsbD i = _
  rw [l_sl n hn, BitVec.getLsbD_sshiftRight, BitVec.msb_eq_getLsbD_last]
  simp [hi]
theorem lb_shl1 {n i : Nat} (hn : n < 64) (hi : i < 64) : lb ((1 : Int64) <<< ((nI n).toInt64 &&& 63)) i = decide (i = n) := by
  unfold lb
  rw [Int64.toBitVec_shiftLeft]
  show ((1 : Int64).toBitVec <<< (((nI n).toInt64 &&& 63).toBitVec.smod 64).toNat).getLsbD i = _
  rw [l_sl n hn, BitVec.getLsbD_shiftLeft]
  have h1 : ∀ k, k < 64 → (1 : Int64).toBitVec.getLsbD k = decide (k = 0) := lb_1
  by_cases h : i < n
  · rw [decide_eq_true h, decide_eq_false (by omega : ¬ i = n)]; simp
  · rw [decide_eq_false h, decide_eq_true hi, h1 _ (by omega)]
    simp only [Bool.not_false, Bool.true_and]
    exact decide_eq_decide.mpr (by omega)
theorem lb_bit {w : Int64} {n : Nat} (hn : n < 64) : (w >>> ((nI n).toInt64 &&& 63)) &&& 1 = if lb w n = true then 1 else 0 := by
  apply lb_ext
  intro i hi
  rw [lb_and, lb_1 i hi, lb_sshr n hn w hi]
  by_cases h0 : i = 0
  · subst h0
    rw [if_pos (by omega), Nat.add_zero, decide_eq_true rfl, Bool.and_true]
    by_cases hb : lb w n = true
    · rw [if_pos hb, hb]; rfl
    · rw [if_neg hb, Bool.eq_false_iff.mpr hb]; rfl
  · rw [decide_eq_false h0, Bool.and_false]
    split
    · rw [lb_1 i hi, decide_eq_false h0]
    · exact (lb_0 i).symm
theorem lb_is1 {w : Int64} {n : Nat} (hn : n < 64) : (w >>> ((nI n).toInt64 &&& 63)) &&& 1 = 1 ↔ lb w n = true := by
  rw [lb_bit hn]
  by_cases hb : lb w n = true
  · rw [if_pos hb]; exact ⟨fun _ => hb, fun _ => rfl⟩
  · rw [if_neg hb]; exact ⟨fun z => absurd z (by decide), fun z => absurd z hb⟩
theorem lb_is0 {w : Int64} {n : Nat} (hn : n < 64) : (w >>> ((nI n).toInt64 &&& 63)) &&& 1 = 0 ↔ lb w n = false := by
  rw [lb_bit hn]
  by_cases hb : lb w n = true
  · rw [if_pos hb, hb]; exact ⟨fun z => absurd z (by decide), fun z => by cases z⟩
  · rw [if_neg hb]; exact ⟨fun _ => Bool.eq_false_iff.mpr hb, fun _ => rfl⟩
/-- next to the start or to the set, d sides seen -/
def nearK (w : Int64) (s : Bool) (c : Nat) : Nat → Bool
  | 0 => s
  | d + 1 => nearK w s c d || (match sBsd c d with | none => false | some y => lb w y)
theorem nearK_n {w : Int64} {s : Bool} {c d : Nat} (h : sBsd c d = none) : nearK w s c (d + 1) = (nearK w s c d || false) := by
  show (nearK w s c d || (match sBsd c d with | none => false | some y => lb w y)) = _
  rw [h]
theorem nearK_s {w : Int64} {s : Bool} {c d y : Nat} (h : sBsd c d = some y) : nearK w s c (d + 1) = (nearK w s c d || lb w y) := by
  show (nearK w s c d || (match sBsd c d with | none => false | some y => lb w y)) = _
  rw [h]
theorem nearK_iff {w : Int64} {s : Bool} {c : Nat} : ∀ {k : Nat}, nearK w s c k = true ↔ (s = true ∨ ∃ d y, d < k ∧ sBsd c d = some y ∧ lb w y = true)
  | 0 => ⟨fun h => Or.inl h, fun h => h.elim id (fun ⟨d, _, hd, _⟩ => absurd hd (Nat.not_lt_zero _))⟩
  | k + 1 => by
    cases e : sBsd c k with
    | none =>
      rw [nearK_n e, Bool.or_false, nearK_iff]
      exact ⟨fun h => h.imp id (fun ⟨d, y, hd, h1⟩ => ⟨d, y, by omega, h1⟩), fun h => h.imp id (fun ⟨d, y, hd, h1, h2⟩ => ⟨d, y, by
        by_cases q : d = k
        · subst q; rw [e] at h1; cases h1
        · omega, h1, h2⟩)⟩
    | some z =>
      rw [nearK_s e, Bool.or_eq_true, nearK_iff]
      constructor
      · rintro ((h | ⟨d, y, hd, h1⟩) | h)
        · exact Or.inl h
        · exact Or.inr ⟨d, y, by omega, h1⟩
        · exact Or.inr ⟨k, z, by omega, e, h⟩
      · rintro (h | ⟨d, y, hd, h1, h2⟩)
        · exact Or.inl (Or.inl h)
        · by_cases q : d = k
          · subst q; rw [e] at h1; cases h1; exact Or.inr h2
          · exact Or.inl (Or.inr ⟨d, y, by omega, h1, h2⟩)
/-- the set that one step more reaches -/
def spr (N : Nat → Int32) (j K : Nat) (w w' : Int64) : Prop := ∀ c, c < 64 → lb w' c = (lb w c || (nearK w (sNext N c (nI j)) c 4 && sFree N c (nI j) K))
abbrev lyP (N : Nat → Int32) (j K : Nat) : Nat → Bool := fun z => sFree N z (nI j) K
abbrev lyS (N : Nat → Int32) (j : Nat) : Nat → Bool := fun z => sNext N z (nI j)
def lyB (N : Nat → Int32) (j K k : Nat) (w : Int64) : Prop := ∀ c, c < 64 → (lb w c = true ↔ lay (lyP N j K) (lyS N j) k c)
theorem lyB_0 {N : Nat → Int32} {j K : Nat} : lyB N j K 0 0 := fun c _ => ⟨fun h => by rw [lb_0] at h; (cases h), fun h => h.elim⟩
theorem lyB_s {N : Nat → Int32} {j K k : Nat} {w w' : Int64} (h : lyB N j K k w) (hs : spr N j K w w') : lyB N j K (k + 1) w' := fun c hc => by
  rw [hs c hc, Bool.or_eq_true, Bool.and_eq_true, h c hc, nearK_iff]
  constructor
  · rintro (h1 | ⟨h1 | ⟨d, y, hd, h1, h2⟩, h3⟩)
    · exact Or.inl h1
    · exact Or.inr ⟨h3, Or.inl h1⟩
    · exact Or.inr ⟨h3, Or.inr ⟨y, (h y (sBsd_lt hc h1)).mp h2, d, hd, h1⟩⟩
  · rintro (h1 | ⟨h3, h1 | ⟨y, h2, d, hd, h1⟩⟩)
    · exact Or.inl h1
    · exact Or.inr ⟨Or.inl h1, h3⟩
    · exact Or.inr ⟨Or.inr ⟨d, y, hd, h1, (h y (sBsd_lt hc h1)).mpr h2⟩, h3⟩
/-- nothing new: no layer more brings anything -/
theorem lay_fix {P S : Nat → Bool} {k : Nat} (h : ∀ c, c < 64 → (lay P S (k + 1) c ↔ lay P S k c)) : ∀ n c, c < 64 → (lay P S (k + n) c ↔ lay P S k c)
  | 0, _, _ => Iff.rfl
  | n + 1, c, hc => by
    have ih := lay_fix h n
    rw [← h c hc]
    show (lay P S (k + n) c ∨ (P c = true ∧ (S c = true ∨ ∃ y, lay P S (k + n) y ∧ adj c y))) ↔ (lay P S k c ∨ (P c = true ∧ (S c = true ∨ ∃ y, lay P S k y ∧ adj c y)))
    rw [ih c hc]
    constructor
    · rintro (h1 | ⟨h3, h1 | ⟨y, h2, ha⟩⟩)
      · exact Or.inl h1
      · exact Or.inr ⟨h3, Or.inl h1⟩
      · exact Or.inr ⟨h3, Or.inr ⟨y, (ih y (adj_lt hc ha)).mp h2, ha⟩⟩
    · rintro (h1 | ⟨h3, h1 | ⟨y, h2, ha⟩⟩)
      · exact Or.inl h1
      · exact Or.inr ⟨h3, Or.inl h1⟩
      · exact Or.inr ⟨h3, Or.inr ⟨y, (ih y (adj_lt hc ha)).mpr h2, ha⟩⟩
theorem ly_none {N : Nat → Int32} {j c K k : Nat} {w : Int64} (hc : c < 64) (ho : N (328 + j) = nI 0) (h : lyB N j K k w) (hs : spr N j K w w) (hb : lb w c = false) : sFirst N j c K = none := by
  have hf := lay_fix (P := lyP N j K) (S := lyS N j) (k := k) (fun c hc => ((lyB_s h hs) c hc).symm.trans (h c hc))
  have hn : ∀ i, ¬ lay (lyP N j K) (lyS N j) i c := fun i hi => by
    have h1 : lay (lyP N j K) (lyS N j) (k + i) c := lay_up (by omega) hi
    have h2 := (h c hc).mpr ((hf i c hc).mp h1)
    rw [hb] at h2
    cases h2
  cases e : sFirst N j c K with
  | none => rfl
  | some x => exact absurd ((way_lay hc ho).1 x e).1 (hn _)
theorem ly_some {N : Nat → Int32} {j c K k : Nat} {w : Int64} (hc : c < 64) (ho : N (328 + j) = nI 0) (h : lyB N j K k w) (hb : lb w c = true) (hk : ∀ i, i < k → ¬ lay (lyP N j K) (lyS N j) i c) : ∃ x, sFirst N j c K = some x ∧ (bFar N j c K).1 x = k := by
  have hl := (h c hc).mp hb
  cases e : sFirst N j c K with
  | none => exact absurd hl ((way_lay hc ho).2 e k)
  | some x =>
    obtain ⟨h1, h2⟩ := (way_lay hc ho).1 x e
    refine ⟨x, rfl, ?_⟩
    have h3 : ¬ k < (bFar N j c K).1 x := fun z => h2 k z hl
    have h4 : ¬ (bFar N j c K).1 x < k := fun z => hk _ z h1
    omega
/-- a set that grows -/
theorem sCount_mono {p q : Nat → Bool} (h : ∀ c, p c = true → q c = true) : ∀ m, sCount p m ≤ sCount q m
  | 0 => Nat.le_refl _
  | m + 1 => by
    show sCount p m + _ ≤ sCount q m + _
    have := sCount_mono h m
    by_cases h1 : p m = true
    · rw [if_pos h1, if_pos (h m h1)]; omega
    · rw [if_neg h1]; split <;> omega
theorem sCount_grow {p q : Nat → Bool} {x : Nat} (h : ∀ c, p c = true → q c = true) (h1 : p x = false) (h2 : q x = true) : ∀ m, x < m → sCount p m < sCount q m
  | 0, hm => absurd hm (Nat.not_lt_zero _)
  | m + 1, hm => by
    show sCount p m + _ < sCount q m + _
    by_cases e : m = x
    · subst e
      have := sCount_mono h m
      rw [h1, h2]
      show sCount p m + 0 < sCount q m + 1
      omega
    · have := sCount_grow h h1 h2 m (by omega)
      by_cases h3 : p m = true
      · rw [if_pos h3, if_pos (h m h3)]; omega
      · rw [if_neg h3]; split <;> omega
theorem spr_grow {N : Nat → Int32} {j K : Nat} {w w' : Int64} (hs : spr N j K w w') (hne : ¬ w' = w) : sCount (fun c => lb w c) 64 < sCount (fun c => lb w' c) 64 := by
  have hx : ∃ x, x < 64 ∧ lb w' x ≠ lb w x := Classical.byContradiction fun z => hne (lb_ext fun i hi => Classical.byContradiction fun q => z ⟨i, hi, q⟩)
  obtain ⟨x, hx, hd⟩ := hx
  have hup : ∀ c, c < 64 → lb w c = true → lb w' c = true := fun c hc h => by rw [hs c hc, h]; rfl
  have h0 : lb w x = false := by
    cases e : lb w x with
    | false => rfl
    | true => exact absurd (by rw [e]; exact hup x hx e) hd
  have h1 : lb w' x = true := by
    cases e : lb w' x with
    | true => rfl
    | false => exact absurd (by rw [e, h0]) hd
  rw [sCount_eq (m := 64) (p := fun c => lb w c) (q := fun c => lb w c && decide (c < 64)) (fun c hc => by rw [decide_eq_true hc, Bool.and_true]), sCount_eq (m := 64) (p := fun c => lb w' c) (q := fun c => lb w' c && decide (c < 64)) (fun c hc => by rw [decide_eq_true hc, Bool.and_true])]
  refine sCount_grow (x := x) (fun c hc => ?_) (by rw [h0]; rfl) (by rw [h1, decide_eq_true hx]; rfl) 64 hx
  rw [Bool.and_eq_true] at hc ⊢
  exact ⟨hup c (of_decide_eq_true hc.2) hc.1, hc.2⟩
theorem lb_full {w : Int64} {c : Nat} (hc : c < 64) (h : 64 ≤ sCount (fun c => lb w c) 64) : lb w c = true := by
  cases e : lb w c with
  | true => rfl
  | false => have := sCount_lt (p := fun c => lb w c) e 64 hc; omega
