/-! A STRINGBUILDER in the heap: len signs T, 16 bits each -/
def SBt (h : fmHp) (sb v len : Nat) (T : Nat → Int32) : Prop := ∃ (u ml : Bool) (cap : Nat) (bf : Nat → Int32), h sb = some (true, .inr (.inl (15, [.ref v, .int (bI u), .int (bI ml), .int (nI len)]))) ∧ h v = some (true, .inl (3, cap, .inl bf)) ∧ sb_Fit bf ∧
  (u = false → len ≤ cap ∧ cap ≤ 250 ∧ ∀ i, i < len → bf i &&& 255 = T i) ∧ (u = true → 2 * len ≤ cap ∧ cap ≤ 500 ∧ ∀ i, i < len → bf (2 * i) &&& 255 = T i &&& 255 ∧ bf (2 * i + 1) &&& 255 = (T i >>> ((8 : Int32) &&& 31)) &&& 255)
theorem SBt.ne {h : fmHp} {sb v len : Nat} {T : Nat → Int32} (hS : SBt h sb v len T) : sb ≠ v := fun z => by
  obtain ⟨u, ml, cap, bf, h1, h2, -⟩ := hS
  rw [z, h2] at h1
  cases h1
theorem SBt.kept {h h' : fmHp} {sb v len : Nat} {T : Nat → Int32} (hS : SBt h sb v len T) (h1 : ∀ x, h sb = some x → h' sb = some x) (h2 : ∀ x, h v = some x → h' v = some x) : SBt h' sb v len T := by
  obtain ⟨u, ml, cap, bf, a1, a2, r⟩ := hS
  exact ⟨u, ml, cap, bf, h1 _ a1, h2 _ a2, r⟩
theorem u16_b {k : Nat} (hk : k < 65536) : ∀ i, 16 ≤ i → bt (nI k) i = false := fun i hi => by
  rw [← nx_m16 hk, b_and, b_65535, decide_eq_false (by omega), Bool.and_false]
theorem u16_and {k : Nat} (hk : k < 65536) : nI k &&& 65535 = nI k := nx_m16 hk
theorem i2c_of {k : Nat} (hk : k < 65536) : ((nI k).toUInt32 % 65536).toInt32 = nI k := by
  exact (lg_i2c_nf _).trans ((lg_i2c_mask _).trans (nx_m16 hk))
/-- two bytes make their sign -/
theorem u16_join {k : Nat} (hk : k < 65536) {a b : Int32} (ha : a &&& 255 = nI k &&& 255) (hb : b &&& 255 = (nI k >>> ((8 : Int32) &&& 31)) &&& 255) : (((a &&& 255) <<< ((0 : Int32) &&& 31) ||| (b &&& 255) <<< ((8 : Int32) &&& 31)).toUInt32 % 65536).toInt32 = nI k := by
  have e : (a &&& 255) <<< ((0 : Int32) &&& 31) ||| (b &&& 255) <<< ((8 : Int32) &&& 31) = nI k := by
    rw [ha, hb]
    apply b_ext
    intro i hi
    rw [b_or, b_shl8 _ hi, show ((0 : Int32) &&& 31) = (nI 0 &&& 31) from rfl, b_shl 0 (by omega) _ hi, b_and, b_and, b_255, b_255, b_sshr8 _ (by omega)]
    simp only [Nat.sub_zero, Nat.zero_le, decide_true, Bool.true_and]
    by_cases h8 : i < 8
    · rw [decide_eq_true h8, decide_eq_false (by omega : ¬ 8 ≤ i), Bool.and_true, Bool.false_and, Bool.or_false]
    · rw [decide_eq_false h8, decide_eq_true (by omega : 8 ≤ i), Bool.and_false, Bool.false_or, Bool.true_and, if_pos (by omega), show 8 + (i - 8) = i by omega]
      by_cases h16 : i < 16
      · rw [decide_eq_true (by omega : i - 8 < 8), Bool.and_true]
      · rw [u16_b hk i (by omega), Bool.false_and]
  rw [e]
  exact i2c_of hk
theorem byte_2 (x : Int32) : x.toInt8.toInt32.toInt8.toInt32 &&& 255 = x &&& 255 := by rw [bp_b, bp_b]
theorem sb_fitU8 {a : Nat → Int32} {k : Nat} {x : Int32} (h : sb_Fit a) : sb_Fit (upd a k x.toInt8.toInt32) := sb_fitU h (pk_fb x)
theorem nI_b255 {k : Nat} (hk : k < 256) : nI k &&& 255 = nI k := by
  show nI k &&& nI 255 = _
  rw [nx_and, show (255 : Nat) = 2 ^ 8 - 1 from rfl, Nat.and_two_pow_sub_one_eq_mod, Nat.mod_eq_of_lt hk]
theorem sshr0 (x : Int32) : x >>> ((0 : Int32) &&& 31) = x := sb_shr0 x
theorem shl1_a : ∀ m, m < 1024 → nI m <<< (nI 1 &&& 31) = nI (2 * m) := by decide +kernel
theorem shl1 {m : Nat} (h : m ≤ 1000) : nI m <<< (nI 1 &&& 31) = nI (2 * m) := shl1_a m (by omega)
theorem z_aB (n : Nat) (cA : ClassId) : vp_cell cA (n, .inl (fun _ => 0)) = arrV cA n (fun _ => defaultValue (newarray.typeOf .byte)) := rfl
theorem nar_c {k : Nat} (hk : k < 65536) : narrow .char (.int (nI k)) = .int (nI k) := by
  show Value.int ((nI k).toUInt32 % 65536).toInt32 = _
  rw [i2c_of hk]
theorem sub_le0 {a b : Nat} (h : a ≤ b) (hb : b < 2 ^ 20) : nI a - nI b ≤ 0 := by
  by_cases q : a = b
  · rw [q, Int32.sub_self]; exact Int32.le_refl _
  · have := nI_lt0 (a := a) (b := b) (by omega) hb
    exact Int32.le_of_lt (Int32.not_le.mp this)
theorem nx_or (a b : Nat) : nI a ||| nI b = nI (a ||| b) := by
  apply Int32.toBitVec_inj.1
  show BitVec.ofNat 32 a ||| BitVec.ofNat 32 b = BitVec.ofNat 32 (a ||| b)
  apply BitVec.eq_of_getLsbD_eq
  intro i hi
  simp [hi]
theorem or3 {m n : Nat} (hm : m < 1024) (hn : n < 1024) : m ||| 0 ||| n < 1024 := Nat.or_lt_two_pow (n := 10) (Nat.or_lt_two_pow (n := 10) hm (by decide)) hn
/-- the bytes of Latin-1 signs as 16 bits each -/
def infl (bf : Nat → Int32) : Nat → Nat → Int32
  | 0 => fun _ => 0
  | k + 1 => upd (upd (infl bf k) (2 * k) ((bf k &&& nI 255) >>> ((0 : Int32) &&& 31)).toInt8.toInt32.toInt8.toInt32) (2 * k + 1) ((bf k &&& nI 255) >>> ((8 : Int32) &&& 31)).toInt8.toInt32.toInt8.toInt32
theorem infl_fit (bf : Nat → Int32) : ∀ k, sb_Fit (infl bf k)
  | 0 => sb_fit0
  | k + 1 => sb_fitU8 (sb_fitU8 (infl_fit bf k))
theorem infl_v {bf : Nat → Int32} {i : Nat} : ∀ {k : Nat}, i < k → infl bf k (2 * i) &&& 255 = (bf i &&& nI 255) &&& 255 ∧ infl bf k (2 * i + 1) &&& 255 = ((bf i &&& nI 255) >>> ((8 : Int32) &&& 31)) &&& 255
  | 0, h => absurd h (Nat.not_lt_zero _)
  | k + 1, h => by
    unfold infl
    by_cases q : i = k
    · subst q
      rw [upd_ne' (j := 2 * i) (by omega), upd_eq' (j := 2 * i) rfl, upd_eq' (j := 2 * i + 1) rfl, byte_2, byte_2, sshr0]
      exact ⟨rfl, rfl⟩
    · rw [upd_ne' (j := 2 * i) (by omega), upd_ne' (j := 2 * i) (by omega), upd_ne' (j := 2 * i + 1) (by omega), upd_ne' (j := 2 * i + 1) (by omega)]
      exact infl_v (by omega)
