/-! BASE 1: the abstract heap h, what holds all through a run (fmV), contracts (Ct), the judgement fmW -/
abbrev vwCl : List vw_C := [(RX4, TX4, 21), (RX1, TX1, 9), (RX2, TX2, 7), (RX3, TX3, 2), (RX6, TX6, 2), (RX8, TX8, 1), (RX7, TX7, 3), (RX9, TX9, 3), (RX10, TX10, 2), (RX12, TX12, 2), (RX5, TX5, 8), (RX11, TX11, 7), (RJ2, TJ2, 3), (RJ13, TJ13, 4), (RJ3, TJ3, 3), (RJ5, TJ5, 4), (RJ6, TJ6, 4), (RJ20, TJ20, 1), (RJ11, TJ11, 0), (RJ18, TJ18, 0), (RJ23, TJ23, 0), (RJ14, TJ14, 0), (RJ24, TJ24, 0), (RJ25, TJ25, 0)]
abbrev fmX : Type := (Nat × vp_A) ⊕ ((Nat × List Value) ⊕ Nat)
abbrev fmEn : Type := Bool × fmX
abbrev fmHp : Type := Nat → Option fmEn
/-- class ids and slots; ids of the array types; ids of opaque classes; the heap at the start; constants' addresses; a static's value; the launch -/
abbrev fmG : Type := va_G × (Nat → ClassId) × (Nat → ClassId) × Heap × (Nat → Nat) × Value × Launch
abbrev fmK0 (G : fmG) : Heap := G.2.2.2.1
abbrev fmAd (G : fmG) : Nat → Nat := G.2.2.2.2.1
abbrev fmSv (G : fmG) : Value := G.2.2.2.2.2.1
abbrev fmLn (G : fmG) : Launch := G.2.2.2.2.2.2
abbrev fmTy : List FieldType := [.int, .long, .double, .byte, .char, .boolean, .object "java/lang/Object", .object "FlintMine$Ground", .array .int]
abbrev fmOc : List String := ["FlintMine$Act$1", "FlintMine$Act$2", "FlintMine$Act$3", "FlintMine$Act$4", "FlintMine$Act$5", "FlintMine$Act$6", "FlintMine$Act$7", "FlintMine$Act$8", "FlintMine$Act$9"]
def fmAt (G : fmG) (H : Heap) (a : Nat) (x : fmX) : Prop := match x with
  | .inl b => H[a]? = some (vp_cell (G.2.1 b.1) b.2)
  | .inr (.inl o) => ∃ r : vw_C, vwCl[o.1]? = some r ∧ t_OB a (G.1.1 o.1) r.2.2 (G.1.2 o.1) H (vp_V o.2)
  | .inr (.inr k) => ∃ cell : Cell, H[a]? = some cell ∧ cell.vm.isStatics = false ∧ cell.cls = G.2.2.1 k
theorem fmAt.kept {G : fmG} {H H1 : Heap} {a : Nat} {x : fmX} (h : fmAt G H a x) (hq : H1[a]? = H[a]?) : fmAt G H1 a x := by
  match x, h with
  | .inl b, h => exact hq.trans h
  | .inr (.inl o), h => obtain ⟨r, h1, h2⟩ := h; exact ⟨r, h1, h2.kept hq⟩
  | .inr (.inr k), h => obtain ⟨c, h1, h2⟩ := h; exact ⟨c, hq.trans h1, h2⟩
theorem fmAt.lt {G : fmG} {H : Heap} {a : Nat} {x : fmX} (h : fmAt G H a x) : a < H.size := by
  match x, h with
  | .inl b, h => exact (Array.getElem?_eq_some_iff.mp h).1
  | .inr (.inl o), h => obtain ⟨r, h1, c, h2, -⟩ := h; exact (Array.getElem?_eq_some_iff.mp h2).1
  | .inr (.inr k), h => obtain ⟨c, h1, -⟩ := h; exact (Array.getElem?_eq_some_iff.mp h1).1
def fmB (G : fmG) (H : Heap) : Prop := (fmK0 G).size ≤ H.size ∧ ∀ q : Nat, q < (fmK0 G).size → H[q]? = (fmK0 G)[q]?
/-- the heap H holds what h says, and is the start's heap below -/
def fmH (G : fmG) (h : fmHp) (H : Heap) : Prop := (∀ (a : Nat) (b : Bool) (x : fmX), h a = some (b, x) → fmAt G H a x ∧ (b = true → (fmK0 G).size ≤ a)) ∧ fmB G H
def fmUp (h : fmHp) (a : Nat) (e : fmEn) : fmHp := fun q => if q = a then some e else h q
theorem fmUp_s {h : fmHp} {a : Nat} {e : fmEn} : fmUp h a e a = some e := if_pos rfl
theorem fmUp_n {h : fmHp} {a q : Nat} {e : fmEn} (hq : q ≠ a) : fmUp h a e q = h q := if_neg hq
theorem fmUp_uu (h : fmHp) (a : Nat) (e e' : fmEn) : fmUp (fmUp h a e) a e' = fmUp h a e' := by
  funext q
  unfold fmUp
  by_cases hq : q = a
  · rw [if_pos hq, if_pos hq]
  · rw [if_neg hq, if_neg hq, if_neg hq]
theorem fmUp_c (h : fmHp) {a b : Nat} (hab : a ≠ b) (e e' : fmEn) : fmUp (fmUp h a e) b e' = fmUp (fmUp h b e') a e := by
  funext q
  unfold fmUp
  by_cases h1 : q = a
  · subst h1
    rw [if_neg hab, if_pos rfl, if_pos rfl]
  · rw [if_neg h1, if_neg h1]
theorem fmUp_id {h : fmHp} {a : Nat} {e : fmEn} (he : h a = some e) : fmUp h a e = h := by
  funext q
  unfold fmUp
  by_cases hq : q = a
  · rw [if_pos hq, hq, he]
  · rw [if_neg hq]
theorem fmUp_of {h : fmHp} {a q : Nat} {e e' : fmEn} (hq : h q = some e') (ha : h a = none) : fmUp h a e q = some e' := by
  rw [fmUp_n (fun z => by rw [z, ha] at hq; cases hq)]; exact hq
theorem fmH.none {G : fmG} {h : fmHp} {H : Heap} (hH : fmH G h H) : h H.size = none := by
  cases e : h H.size with
  | none => rfl
  | some y =>
    obtain ⟨b, x⟩ := y
    exact absurd ((hH.1 _ _ _ e).1.lt) (Nat.lt_irrefl _)
theorem fmH.up {G : fmG} {h : fmHp} {H H1 : Heap} {a : Nat} {x : fmX} (hH : fmH G h H) (hx : fmAt G H1 a x) (ha : (fmK0 G).size ≤ a) (hz : H.size ≤ H1.size) (ho : ∀ q : Nat, q < H.size → q ≠ a → H1[q]? = H[q]?) : fmH G (fmUp h a (true, x)) H1 := by
  refine ⟨fun q b y hq => ?_, Nat.le_trans hH.2.1 hz, fun q hq => ?_⟩
  · by_cases hqa : q = a
    · subst hqa
      rw [fmUp_s] at hq
      cases hq
      exact ⟨hx, fun _ => ha⟩
    · rw [fmUp_n hqa] at hq
      obtain ⟨h1, h2⟩ := hH.1 q b y hq
      exact ⟨h1.kept (ho q h1.lt hqa), h2⟩
  · rw [ho q (Nat.lt_of_lt_of_le hq hH.2.1) (fun e => by rw [e] at hq; exact absurd hq (Nat.not_lt.mpr ha))]
    exact hH.2.2 q hq
theorem fm_ovA {t : FieldType} {u U : State} (hvm : u.vm.Alike U.vm) (h : va_Nw (.arrayOver (.array t)) u) : va_Nw (.arrayOver (.array t)) U := by
  have hs : ∃ comp c k, u.vm.findClass (FieldType.array t).toString = some comp ∧ (u.vm.classes.findIdx? fun (x : Class) => match x.kind with | .array component _ => component == comp | _ => false) = some c ∧ u.vm.classes[c]? = some k ∧ k.kind = .array comp (.array t) ∧ u.vm.findClass ("[" ++ (FieldType.array t).toString) = some c := by
    unfold va_Nw Cond.before at h
    simp only [Cond.holds, Cond.value, beq_iff_eq] at h
    cases hc : u.vm.findClass (FieldType.array t).toString with
    | none => simp [hc] at h
    | some comp =>
      simp only [hc, Option.bind_some, Option.bind_eq_some_iff, Option.map_eq_some_iff] at h
      obtain ⟨c, hi, k, hk, hb⟩ := h
      obtain ⟨hlt, hp, -⟩ := Array.findIdx?_eq_some_iff_getElem.mp hi
      have hkk : u.vm.classes[c] = k := (Array.getElem?_eq_some_iff.mp hk).2
      rw [hkk] at hp
      cases hkind : k.kind with
      | array component ty =>
        rw [hkind] at hb hp
        simp at hb hp
        exact ⟨comp, c, k, rfl, hi, hk, by rw [hkind, hp, hb.1], hb.2⟩
      | _ => rw [hkind] at hb; simp at hb
  obtain ⟨comp, c, k, h1, h2, h3, h4, h5⟩ := hs
  obtain ⟨k', hk', he⟩ := hvm.2.2 _ _ h3
  have hi : (U.vm.classes.findIdx? fun (x : Class) => match x.kind with | .array component _ => component == comp | _ => false) = some c := by
    have e1 := va_idx_bare U.vm comp
    have e2 := va_idx_bare u.vm comp
    first | rw [hvm.bare_eq] at e1 | rw [← hvm.bare_eq] at e1
    exact (e1.symm.trans e2).trans h2
  have hkind : k'.kind = .array comp (.array t) := by rw [he]; exact h4
  have f1 : U.vm.findClass (FieldType.array t).toString = some comp := by rw [hvm.findClass]; exact h1
  have f2 : U.vm.findClass ("[" ++ (FieldType.array t).toString) = some c := by rw [hvm.findClass]; exact h5
  unfold va_Nw Cond.before Cond.holds
  simp only [Cond.value]
  rw [f1, Option.bind_some]
  refine (congrArg (fun o : Option Nat => (o.bind (fun c => (U.vm.classes[c]?).map fun (k : Class) => match k.kind with | .array _ ty => decide (ty = FieldType.array t) && decide (U.vm.findClass ("[" ++ (FieldType.array t).toString) = some c) | _ => false) == some true)) hi).trans ?_
  simp [hk', hkind, f2]
/-- words of the tables that don't ride in lw_all, and are taken along -/
def fmNwOk : Cond → Bool
  | .castable _ _ => true
  | .fieldLinkNest _ _ _ _ _ _ => true
  | .methodLinkNest _ _ _ _ => true
  | .arrayOver (.object _) => true
  | .declares _ => true
  | .privateMethod _ => true
  | .arrayOver (.array _) => true
  | _ => false
theorem fmNw_warm {w : Cond} {s U : State} (hW : s.WarmedH U.vm) (hw : fmNwOk w = true) (h : va_Nw w s) : va_Nw w U := by
  match w, hw with
  | .castable _ _, _ => exact va_Nw.warmC hW h
  | .fieldLinkNest _ _ _ _ _ _, _ => exact va_Nw.warmF hW h
  | .methodLinkNest _ _ _ _, _ => exact va_Nw.warmM hW h
  | .arrayOver (.object C), _ => exact va_AO.moved (C := C) hW.alike h
  | .declares _, _ => exact va_Nw.warmD hW h
  | .privateMethod _, _ => exact va_tabs rfl (rfl : (s.setVm U.vm).vm = U.vm) (by rw [Cond.privateMethod_setVm hW.alike]; exact h)
  | .arrayOver (.array t), _ => exact fm_ovA (t := t) hW.alike h
def fmList : MethodName → MethodName := fun y => ⟨"java/util/List", y.name, y.desc⟩
/-- calls through an interface: the receiver's class, the method named, the method run -/
abbrev fmFw : List (String × MethodName × MethodName) := [
  ("java/util/ArrayList", ⟨"java/util/List", "iterator", "()Ljava/util/Iterator;"⟩, ⟨"java/util/ArrayList", "iterator", "()Ljava/util/Iterator;"⟩),
  ("java/util/ArrayList", ⟨"java/util/List", "add", "(Ljava/lang/Object;)Z"⟩, ⟨"java/util/ArrayList", "add", "(Ljava/lang/Object;)Z"⟩),
  ("java/util/ArrayList", ⟨"java/util/List", "get", "(I)Ljava/lang/Object;"⟩, ⟨"java/util/ArrayList", "get", "(I)Ljava/lang/Object;"⟩),
  ("java/util/ArrayList", ⟨"java/util/List", "size", "()I"⟩, ⟨"java/util/ArrayList", "size", "()I"⟩),
  ("java/util/ArrayList", ⟨"java/util/List", "set", "(ILjava/lang/Object;)Ljava/lang/Object;"⟩, ⟨"java/util/ArrayList", "set", "(ILjava/lang/Object;)Ljava/lang/Object;"⟩),
  ("java/util/ArrayList", ⟨"java/util/List", "remove", "(I)Ljava/lang/Object;"⟩, ⟨"java/util/ArrayList", "remove", "(I)Ljava/lang/Object;"⟩),
  ("java/util/ArrayList$Itr", ⟨"java/util/Iterator", "hasNext", "()Z"⟩, ⟨"java/util/ArrayList$Itr", "hasNext", "()Z"⟩),
  ("java/util/ArrayList$Itr", ⟨"java/util/Iterator", "next", "()Ljava/lang/Object;"⟩, ⟨"java/util/ArrayList$Itr", "next", "()Ljava/lang/Object;"⟩),
  ("FlintMine$Open", ⟨"FlintMine$Ground", "isBare", "()Z"⟩, ⟨"FlintMine$Open", "isBare", "()Z"⟩),
  ("FlintMine$Open", ⟨"FlintMine$Ground", "shaft", "()I"⟩, ⟨"FlintMine$Open", "shaft", "()I"⟩),
  ("FlintMine$Chalk", ⟨"FlintMine$Ground", "shaft", "()I"⟩, ⟨"FlintMine$Chalk", "shaft", "()I"⟩),
  ("FlintMine$Filled", ⟨"FlintMine$Ground", "shaft", "()I"⟩, ⟨"FlintMine$Filled", "shaft", "()I"⟩)]
theorem fmFw_ok : ∀ t ∈ fmFw, t.2.1.cls ≠ "java/lang/invoke/MethodHandle" ∧ t.2.1.cls ≠ "java/lang/invoke/VarHandle" := by decide +kernel
/-- classes that don't cast to one another -/
abbrev fmNc : List (String × String) := [("FlintMine$Chalk", "FlintMine$FaultException"), ("FlintMine$Chalk", "FlintMine$Open"), ("FlintMine$Chalk", "FlintMine$Refusal"), ("FlintMine$Chalk", "[I"), ("FlintMine$Chalk", "java/lang/ArithmeticException"), ("FlintMine$Chalk", "java/lang/IllegalArgumentException"), ("FlintMine$Chalk", "java/lang/IllegalStateException"), ("FlintMine$Chalk", "java/lang/IndexOutOfBoundsException"), ("FlintMine$Chalk", "java/lang/UnsupportedOperationException"), ("FlintMine$Chalk", "java/util/NoSuchElementException"), ("FlintMine$FaultException", "FlintMine$Chalk"), ("FlintMine$FaultException", "FlintMine$Ground"), ("FlintMine$FaultException", "FlintMine$Open"), ("FlintMine$FaultException", "FlintMine$Refusal"), ("FlintMine$FaultException", "[I"), ("FlintMine$FaultException", "java/lang/ArithmeticException"), ("FlintMine$FaultException", "java/lang/IllegalArgumentException"), ("FlintMine$FaultException", "java/lang/IllegalStateException"), ("FlintMine$FaultException", "java/lang/IndexOutOfBoundsException"), ("FlintMine$FaultException", "java/lang/UnsupportedOperationException"), ("FlintMine$FaultException", "java/util/NoSuchElementException"), ("FlintMine$Filled", "FlintMine$Chalk"), ("FlintMine$Filled", "FlintMine$FaultException"), ("FlintMine$Filled", "FlintMine$Open"), ("FlintMine$Filled", "FlintMine$Refusal"), ("FlintMine$Filled", "[I"), ("FlintMine$Filled", "java/lang/ArithmeticException"), ("FlintMine$Filled", "java/lang/IllegalArgumentException"), ("FlintMine$Filled", "java/lang/IllegalStateException"), ("FlintMine$Filled", "java/lang/IndexOutOfBoundsException"), ("FlintMine$Filled", "java/lang/UnsupportedOperationException"), ("FlintMine$Filled", "java/util/NoSuchElementException"), ("FlintMine$Open", "FlintMine$Chalk"), ("FlintMine$Open", "FlintMine$FaultException"), ("FlintMine$Open", "FlintMine$Refusal"), ("FlintMine$Open", "[I"), ("FlintMine$Open", "java/lang/ArithmeticException"), ("FlintMine$Open", "java/lang/IllegalArgumentException"), ("FlintMine$Open", "java/lang/IllegalStateException"), ("FlintMine$Open", "java/lang/IndexOutOfBoundsException"), ("FlintMine$Open", "java/lang/UnsupportedOperationException"), ("FlintMine$Open", "java/util/NoSuchElementException"), ("FlintMine$Refusal", "FlintMine$Chalk"), ("FlintMine$Refusal", "FlintMine$FaultException"), ("FlintMine$Refusal", "FlintMine$Ground"), ("FlintMine$Refusal", "FlintMine$Open"), ("FlintMine$Refusal", "[I"), ("FlintMine$Refusal", "java/lang/ArithmeticException"), ("FlintMine$Refusal", "java/lang/IllegalArgumentException"), ("FlintMine$Refusal", "java/lang/IllegalStateException"), ("FlintMine$Refusal", "java/lang/IndexOutOfBoundsException"), ("FlintMine$Refusal", "java/lang/UnsupportedOperationException"), ("FlintMine$Refusal", "java/util/NoSuchElementException"), ("java/lang/ArithmeticException", "FlintMine$Chalk"), ("java/lang/ArithmeticException", "FlintMine$FaultException"), ("java/lang/ArithmeticException", "FlintMine$Ground"), ("java/lang/ArithmeticException", "FlintMine$Open"), ("java/lang/ArithmeticException", "FlintMine$Refusal"), ("java/lang/ArithmeticException", "[I"), ("java/lang/ArithmeticException", "java/lang/IllegalArgumentException"), ("java/lang/ArithmeticException", "java/lang/IllegalStateException"), ("java/lang/ArithmeticException", "java/lang/IndexOutOfBoundsException"), ("java/lang/ArithmeticException", "java/lang/UnsupportedOperationException"), ("java/lang/ArithmeticException", "java/util/NoSuchElementException"), ("java/lang/IllegalArgumentException", "FlintMine$Chalk"), ("java/lang/IllegalArgumentException", "FlintMine$FaultException"), ("java/lang/IllegalArgumentException", "FlintMine$Ground"), ("java/lang/IllegalArgumentException", "FlintMine$Open"), ("java/lang/IllegalArgumentException", "FlintMine$Refusal"), ("java/lang/IllegalArgumentException", "[I"), ("java/lang/IllegalArgumentException", "java/lang/ArithmeticException"), ("java/lang/IllegalArgumentException", "java/lang/IllegalStateException"), ("java/lang/IllegalArgumentException", "java/lang/IndexOutOfBoundsException"), ("java/lang/IllegalArgumentException", "java/lang/UnsupportedOperationException"), ("java/lang/IllegalArgumentException", "java/util/NoSuchElementException"), ("java/lang/IllegalStateException", "FlintMine$Chalk"), ("java/lang/IllegalStateException", "FlintMine$FaultException"), ("java/lang/IllegalStateException", "FlintMine$Ground"), ("java/lang/IllegalStateException", "FlintMine$Open"), ("java/lang/IllegalStateException", "FlintMine$Refusal"), ("java/lang/IllegalStateException", "[I"), ("java/lang/IllegalStateException", "java/lang/ArithmeticException"), ("java/lang/IllegalStateException", "java/lang/IllegalArgumentException"), ("java/lang/IllegalStateException", "java/lang/IndexOutOfBoundsException"), ("java/lang/IllegalStateException", "java/lang/UnsupportedOperationException"), ("java/lang/IllegalStateException", "java/util/NoSuchElementException"), ("java/lang/IndexOutOfBoundsException", "FlintMine$Chalk"), ("java/lang/IndexOutOfBoundsException", "FlintMine$FaultException"), ("java/lang/IndexOutOfBoundsException", "FlintMine$Ground"), ("java/lang/IndexOutOfBoundsException", "FlintMine$Open"), ("java/lang/IndexOutOfBoundsException", "FlintMine$Refusal"), ("java/lang/IndexOutOfBoundsException", "[I"), ("java/lang/IndexOutOfBoundsException", "java/lang/ArithmeticException"), ("java/lang/IndexOutOfBoundsException", "java/lang/IllegalArgumentException"), ("java/lang/IndexOutOfBoundsException", "java/lang/IllegalStateException"), ("java/lang/IndexOutOfBoundsException", "java/lang/UnsupportedOperationException"), ("java/lang/IndexOutOfBoundsException", "java/util/NoSuchElementException"), ("java/lang/UnsupportedOperationException", "FlintMine$Chalk"), ("java/lang/UnsupportedOperationException", "FlintMine$FaultException"), ("java/lang/UnsupportedOperationException", "FlintMine$Ground"), ("java/lang/UnsupportedOperationException", "FlintMine$Open"), ("java/lang/UnsupportedOperationException", "FlintMine$Refusal"), ("java/lang/UnsupportedOperationException", "[I"), ("java/lang/UnsupportedOperationException", "java/lang/ArithmeticException"), ("java/lang/UnsupportedOperationException", "java/lang/IllegalArgumentException"), ("java/lang/UnsupportedOperationException", "java/lang/IllegalStateException"), ("java/lang/UnsupportedOperationException", "java/lang/IndexOutOfBoundsException"), ("java/lang/UnsupportedOperationException", "java/util/NoSuchElementException"), ("java/util/NoSuchElementException", "FlintMine$Chalk"), ("java/util/NoSuchElementException", "FlintMine$FaultException"), ("java/util/NoSuchElementException", "FlintMine$Ground"), ("java/util/NoSuchElementException", "FlintMine$Open"), ("java/util/NoSuchElementException", "FlintMine$Refusal"), ("java/util/NoSuchElementException", "[I"), ("java/util/NoSuchElementException", "java/lang/ArithmeticException"), ("java/util/NoSuchElementException", "java/lang/IllegalArgumentException"), ("java/util/NoSuchElementException", "java/lang/IllegalStateException"), ("java/util/NoSuchElementException", "java/lang/IndexOutOfBoundsException"), ("java/util/NoSuchElementException", "java/lang/UnsupportedOperationException")]

/-- statics of which the value is known -/
def fmZl (ad : Nat → Nat) (sv : Value) : List (String × String × String × Value) := [
  ("FlintMine", "BESIDE", "[I", .ref (ad 0)),
  ("FlintMine$Act", "ROCK", "LFlintMine$Act;", .ref (ad 1)), ("FlintMine$Act", "ROOF", "LFlintMine$Act;", .ref (ad 2)), ("FlintMine$Act", "PROPS", "LFlintMine$Act;", .ref (ad 3)),
  ("FlintMine$Act", "PICK", "LFlintMine$Act;", .ref (ad 4)), ("FlintMine$Act", "SINK", "LFlintMine$Act;", .ref (ad 5)), ("FlintMine$Act", "DIG", "LFlintMine$Act;", .ref (ad 6)),
  ("FlintMine$Act", "PROP", "LFlintMine$Act;", .ref (ad 7)), ("FlintMine$Act", "UNPROP", "LFlintMine$Act;", .ref (ad 8)), ("FlintMine$Act", "CLOSE", "LFlintMine$Act;", .ref (ad 9)),
  ("java/util/ArrayList", "DEFAULTCAPACITY_EMPTY_ELEMENTDATA", "[Ljava/lang/Object;", .ref (ad 10)),
  ("java/lang/Integer$IntegerCache", "cache", "[Ljava/lang/Integer;", .ref (ad 11)),
  ("java/lang/Integer$IntegerCache", "high", "I", .int 127),
  ("java/lang/String", "COMPACT_STRINGS", "Z", .int 1),
  ("java/lang/StringUTF16", "HI_BYTE_SHIFT", "I", .int 0),
  ("java/lang/StringUTF16", "LO_BYTE_SHIFT", "I", .int 8),
  ("java/lang/StringUTF16", "$assertionsDisabled", "Z", .int 1),
  ("jdk/internal/util/Preconditions", "SIOOBE_FORMATTER", "Ljava/util/function/BiFunction;", sv)]
abbrev fmOld (G : fmG) : Nat → Prop := fun q => (fmK0 G).size ≤ q
abbrev fmLd : List (String × MethodName × MethodName) := [("FlintMine$Chalk", ⟨"FlintMine$Ground", "isBare", "()Z"⟩, ⟨"FlintMine$Ground", "isBare", "()Z"⟩), ("FlintMine$Filled", ⟨"FlintMine$Ground", "isBare", "()Z"⟩, ⟨"FlintMine$Ground", "isBare", "()Z"⟩)]
/-- what an interface's default asks -/
def fmDf (C : String) (x y : MethodName) (U : State) : Prop := (Cond.declares x).before #[] U = true ∧ (Cond.interfaceMethod x.cls x.cls x.name x.desc).before #[] U = true ∧ (Cond.publicMethod y).before #[] U = true ∧ (Cond.landsInDefault C x y).before #[] U = true ∧ (Cond.castable C x.cls).before #[] U = true
theorem fmDf.moved {C : String} {x y : MethodName} (hx : x.cls ≠ "java/lang/invoke/MethodHandle" ∧ x.cls ≠ "java/lang/invoke/VarHandle") {u U : State} (hvm : u.vm.Alike U.vm) (h : fmDf C x y u) : fmDf C x y U := by
  obtain ⟨h1, h2, h3, h4, h5⟩ := h
  obtain ⟨r, meth, hn, -⟩ := Cond.declares_spec h1
  have tr : ∀ {c : Cond}, c.onTables = true → c.before #[] (u.setVm U.vm) = true → c.before #[] U = true := by
    intro c hc h
    have e := Cond.onTables_vm (A := #[]) (A' := #[]) (U := u) (U' := U) U.vm c hc
    have hU : U.setVm U.vm = U := rfl
    rw [hU] at e
    rw [← e]
    exact h
  exact ⟨tr rfl (by rw [Cond.declares_setVm hvm]; exact h1), tr rfl (by rw [Cond.interfaceMethod_setVm hvm (r := r) hn hx]; exact h2), tr rfl (by rw [Cond.publicMethod_setVm hvm]; exact h3), (Cond.landsInDefault_setVm hvm (args' := #[]) (State.methodFound?_setVm hvm _ _ _)).trans h4, tr rfl (by rw [Cond.castable_setVm hvm]; exact h5)⟩
/-- what holds of the machine's tables, all through a run -/
def fmV (G : fmG) (U : State) : Prop :=
  va_K G.1 vwCl (fmTy.zipIdx.map fun q => (G.2.1 q.2, q.1)) U ∧ (∀ w ∈ lw_tbl, fmNwOk w = true → va_Nw w U) ∧ (∀ t ∈ fmFw, va_Fw t.1 t.2.1 t.2.2 U) ∧ (∀ q ∈ fmNc, va_Nc q.1 q.2 U) ∧
  (∀ z ∈ fmZl (fmAd G) (fmSv G), va_Z z.1 z.2.1 z.2.2.1 z.2.2.2 (fmOld G) U (fmK0 G)) ∧
  (vx_Zq Bundle.tN "UNASSIGNED_STACK" Bundle.steD (fmOld G) U (fmK0 G) ∧ vx_Zq Bundle.tN "SUPPRESSED_SENTINEL" Bundle.listD (fmOld G) U (fmK0 G)) ∧
  (∀ (k : Nat) (C : String), fmOc[k]? = some C → U.vm.findClass C = some (G.2.2.1 k)) ∧
  vk_R "FlintMine$Parser" 64 "sdpuctn" (fmAd G 12) U ∧ va_Mi "[Ljava/lang/Object;" (fmAd G 13) U ∧ (∀ t ∈ fmLd, fmDf t.1 t.2.1 t.2.2 U) ∧ ArrOfT U (G.2.1 9) (.object "java/lang/Integer")
theorem fmLd_ok : ∀ t ∈ fmLd, t.2.1.cls ≠ "java/lang/invoke/MethodHandle" ∧ t.2.1.cls ≠ "java/lang/invoke/VarHandle" := by decide +kernel
theorem fmV.warm {G : fmG} {s U : State} (hW : s.WarmedH U.vm) (h : fmV G s) : fmV G U := by
  obtain ⟨h1, h2, h3, h4, h5, ⟨h6, h7⟩, h8, h9, h10, h11, h12⟩ := h
  have hv := hW.alike
  exact ⟨h1.moved hv, fun w hw hk => fmNw_warm hW hk (h2 w hw hk), fun t ht => va_Fw.moved (fmFw_ok t ht) hv (h3 t ht), fun q hq => va_Nc.moved hv (h4 q hq), fun z hz => va_Z.moved hv (h5 z hz), ⟨vx_Zq.moved hv h6, vx_Zq.moved hv h7⟩, fun k C hk => by rw [hv.findClass]; exact h8 k C hk, h9.warm hW, va_Mi.moved hv h10, fun t ht => fmDf.moved (fmLd_ok t ht) hv (h11 t ht), arrOfT_moved hv h12⟩
def fmPc (G : fmG) (args : List Value) (h : fmHp) : Array Value → State → Prop := fun a U => a = args.toArray ∧ fmV G U ∧ fmH G h U.heap
def fmRc (G : fmG) (post : Option Value → fmHp → Prop) : Array Value → State → Outcome → State → Prop := fun _ _ o t => ∃ (v : Option Value) (h' : fmHp), o = .returned v ∧ post v h' ∧ fmH G h' t.heap
def fmXc (G : fmG) (xp : Nat → String → fmHp → Prop) : Addr → String → State → State → Prop := fun q E _ t => ∃ h' : fmHp, xp q E h' ∧ fmH G h' t.heap
/-- a CONTRACT: with these words and this room, called with args in any heap that holds h: it returns (post: the answer, the heap then) or throws (xp: the exception, its class, the heap then) -/
def Ct (G : fmG) (y : MethodName) (ws : List Cond) (rm : Room) (args : List Value) (h : fmHp) (post : Option Value → fmHp → Prop) (xp : Nat → String → fmHp → Prop) : Prop :=
  vx_Met (fmLn G) y ws rm (fmPc G args h) (fmRc G post) (fmXc G xp) rm.cells rm.slots (fmOld G)
theorem fmPc.blind {G : fmG} {args : List Value} {h : fmHp} : FrameBlind (fmPc G args h) := fun a U g mk q => ⟨q.1, q.2.1.warm (U := U.calling g mk a) (State.WarmedH.refl U), q.2.2⟩
/-- the locals, by their numbers -/
def fmA : Nat → List (Option Value) → List (Nat × Value)
  | _, [] => []
  | i, none :: t => fmA (i + 1) t
  | i, some v :: t => (i, v) :: fmA (i + 1) t
theorem fmA_in : ∀ (L : List (Option Value)) (i k : Nat) (v : Value), L[k]? = some (some v) → (i + k, v) ∈ fmA i L
  | [], _, _, _, h => by simp at h
  | none :: t, i, 0, v, h => by simp at h
  | none :: t, i, k + 1, v, h => by
    have h1 := fmA_in t (i + 1) k v (by simpa using h)
    rw [show i + (k + 1) = i + 1 + k by omega]
    exact h1
  | some w :: t, i, 0, v, h => by
    have : w = v := by simpa using h
    subst this
    exact List.mem_cons_self
  | some w :: t, i, k + 1, v, h => by
    have h1 := fmA_in t (i + 1) k v (by simpa using h)
    rw [show i + (k + 1) = i + 1 + k by omega]
    exact List.mem_cons_of_mem _ h1
theorem fmA_of : ∀ (L : List (Option Value)) (i j : Nat) (v : Value), (j, v) ∈ fmA i L → ∃ k, j = i + k ∧ L[k]? = some (some v)
  | [], _, _, _, h => by cases h
  | none :: t, i, j, v, h => by
    obtain ⟨k, h1, h2⟩ := fmA_of t (i + 1) j v h
    exact ⟨k + 1, by omega, by simpa using h2⟩
  | some w :: t, i, j, v, h => by
    rcases List.mem_cons.mp h with e | e
    · cases e
      exact ⟨0, rfl, rfl⟩
    · obtain ⟨k, h1, h2⟩ := fmA_of t (i + 1) j v e
      exact ⟨k + 1, by omega, by simpa using h2⟩
theorem fm_ld {ls : Array Slot} {n : Nat} {L : List (Option Value)} (h : lv_has ls n (fmA 0 L)) {i : Nat} {v : Value} (hi : L[i]? = some (some v)) : ls[i]? = some (.val v) := by
  have h1 := h.2.2 _ (fmA_in L 0 i v hi)
  rwa [Nat.zero_add] at h1
/-- storing a value of one slot at i: the local ahead isn't a long or a double -/
def fmSt1 (L : List (Option Value)) (i n : Nat) : Bool := decide (i < n) && (match i with
  | 0 => true
  | j + 1 => match L[j]? with
    | some (some w) => w.category != 2
    | _ => true)
def fmSt2 (L : List (Option Value)) (i n : Nat) : Bool := decide (i + 1 < n) && fmSt1 L i n
theorem fm_st1 {ls : Array Slot} {n i : Nat} {L L' : List (Option Value)} {v : Value} (hok : fmSt1 L i n = true) (hL : L.set i (some v) = L') (h : lv_has ls n ((i, v) :: (fmA 0 L).filter (fun q => !(q.1 == i) && !(q.1 + 1 == i && q.2.category == 2)))) : lv_has ls n (fmA 0 L') := by
  subst hL
  refine ⟨h.1, h.2.1, fun q hq => h.2.2 q ?_⟩
  obtain ⟨j, w⟩ := q
  obtain ⟨k, hk, hw⟩ := fmA_of _ _ _ _ hq
  rw [Nat.zero_add] at hk
  subst hk
  by_cases hi : j = i
  · subst hi
    rw [List.getElem?_set] at hw
    simp only [if_true] at hw
    split at hw
    · cases hw; exact List.mem_cons_self
    · cases hw
  · rw [List.getElem?_set_ne (fun e => hi e.symm)] at hw
    have h0 := fmA_in L 0 j w hw
    rw [Nat.zero_add] at h0
    refine List.mem_cons_of_mem _ (List.mem_filter.mpr ⟨h0, ?_⟩)
    simp only [Bool.and_eq_true, Bool.not_eq_true', beq_eq_false_iff_ne, ne_eq]
    refine ⟨hi, ?_⟩
    by_cases h1 : j + 1 = i
    · subst h1
      simp only [fmSt1, Bool.and_eq_true] at hok
      have h2 := hok.2
      rw [hw] at h2
      simpa using h2
    · simp [h1]
theorem fm_st2 {ls : Array Slot} {n i : Nat} {L L' : List (Option Value)} {v : Value} (hok : fmSt2 L i n = true) (hL : (L.set i (some v)).set (i + 1) none = L') (h : lv_has ls n ((i, v) :: (fmA 0 L).filter (fun q => !(q.1 == i) && (!(q.1 == i + 1) && !(q.1 + 1 == i && q.2.category == 2))))) : lv_has ls n (fmA 0 L') := by
  subst hL
  refine ⟨h.1, h.2.1, fun q hq => h.2.2 q ?_⟩
  obtain ⟨j, w⟩ := q
  obtain ⟨k, hk, hw⟩ := fmA_of _ _ _ _ hq
  rw [Nat.zero_add] at hk
  subst hk
  by_cases hi1 : j = i + 1
  · subst hi1
    rw [List.getElem?_set] at hw
    simp only [if_true] at hw
    split at hw <;> cases hw
  · rw [List.getElem?_set_ne (fun e => hi1 e.symm)] at hw
    by_cases hi : j = i
    · subst hi
      rw [List.getElem?_set] at hw
      simp only [if_true] at hw
      split at hw
      · cases hw; exact List.mem_cons_self
      · cases hw
    · rw [List.getElem?_set_ne (fun e => hi e.symm)] at hw
      have h0 := fmA_in L 0 j w hw
      rw [Nat.zero_add] at h0
      refine List.mem_cons_of_mem _ (List.mem_filter.mpr ⟨h0, ?_⟩)
      simp only [Bool.and_eq_true, Bool.not_eq_true', beq_eq_false_iff_ne, ne_eq]
      refine ⟨hi, hi1, ?_⟩
      by_cases h1 : j + 1 = i
      · subst h1
        simp only [fmSt2, fmSt1, Bool.and_eq_true] at hok
        have h2 := hok.2.2
        rw [hw] at h2
        simpa using h2
      · simp [h1]
/-- fewer locals known -/
def fmFew (L' L : List (Option Value)) : Prop := ∀ (i : Nat) (v : Value), L'[i]? = some (some v) → L[i]? = some (some v)
theorem fm_few {ls : Array Slot} {n : Nat} {L L' : List (Option Value)} (hf : fmFew L' L) (h : lv_has ls n (fmA 0 L)) : lv_has ls n (fmA 0 L') := by
  refine ⟨h.1, h.2.1, fun q hq => ?_⟩
  obtain ⟨j, w⟩ := q
  obtain ⟨k, hk, hw⟩ := fmA_of _ _ _ _ hq
  rw [Nat.zero_add] at hk
  subst hk
  exact fm_ld h (hf _ _ hw)
/-- the locals at a method's entry -/
def fmIn : List Value → List (Option Value)
  | [] => []
  | v :: t => if v.category = 2 then some v :: none :: fmIn t else some v :: fmIn t
theorem fmA_in_args : ∀ (vs : List Value) (i : Nat), fmA i (fmIn vs) = lv_args i vs
  | [], _ => rfl
  | v :: t, i => by
    unfold fmIn lv_args
    by_cases hc : v.category = 2
    · rw [if_pos hc, if_pos hc]
      show (i, v) :: fmA (i + 1 + 1) (fmIn t) = _
      rw [fmA_in_args t (i + 1 + 1)]
    · rw [if_neg hc, if_neg hc]
      show (i, v) :: fmA (i + 1) (fmIn t) = _
      rw [fmA_in_args t (i + 1)]
abbrev fmC : Type := Program × Env × Room × State × MethodId × Array Value × List Frame × Method × Code × (State → Prop)
abbrev fmC.p (Γ : fmC) : Program := Γ.1
abbrev fmC.e (Γ : fmC) : Env := Γ.2.1
abbrev fmC.R (Γ : fmC) : Room := Γ.2.2.1
abbrev fmC.s (Γ : fmC) : State := Γ.2.2.2.1
abbrev fmC.m (Γ : fmC) : MethodId := Γ.2.2.2.2.1
abbrev fmC.args (Γ : fmC) : Array Value := Γ.2.2.2.2.2.1
abbrev fmC.below (Γ : fmC) : List Frame := Γ.2.2.2.2.2.2.1
abbrev fmC.meth (Γ : fmC) : Method := Γ.2.2.2.2.2.2.2.1
abbrev fmC.c (Γ : fmC) : Code := Γ.2.2.2.2.2.2.2.2.1
abbrev fmC.Q (Γ : fmC) : State → Prop := Γ.2.2.2.2.2.2.2.2.2
/-- where a body runs -/
def fmE (G : fmG) (Γ : fmC) (cc : ByteArray) (nL : Nat) (own nm : String) (ret : Option FieldType) (RM : Room) (tb : List ExceptionTableEntry) : Prop :=
  Γ.p.tables.exec = Jvm.exec ∧ Γ.c.code = cc ∧ Γ.c.maxLocals = nL ∧ Γ.s.vm.findClass own = some Γ.m.cls ∧ Γ.meth.sig.returnType = ret ∧ Γ.meth.locks = false ∧ Γ.meth.name = nm ∧ (∀ w ∈ lw_all, w.before Γ.args Γ.s = true) ∧ fmV G Γ.s ∧ Γ.c.exceptionTable.toList = tb ∧ Γ.R = RM ∧ (fmLn G).stackTraces = false ∧ fmB G Γ.s.heap
/-- what it owes at its end -/
def fmP (G : fmG) (Γ : fmC) (post : Option Value → fmHp → Prop) (xp : Nat → String → fmHp → Prop) : Prop := Γ.Q = vx_MQ Γ.below (fmRc G post) (fmXc G xp) Γ.args Γ.s Γ.R.cells Γ.R.slots (fmOld G)
/-- THE JUDGEMENT: at pc, with these locals and this stack, in any heap that holds h, with kc cells and ks slots to go -/
def fmW (G : fmG) (Γ : fmC) (h : fmHp) (kc ks pc : Nat) (L : List (Option Value)) (st : List Value) : Prop :=
  ∀ (H : Heap) (locs : List Loc) (cells slots : Nat) (ls : Array Slot), fmH G h H → (∀ z ∈ locs, (fmK0 G).size ≤ z.base) → cells + kc ≤ Γ.R.cells → slots + ks ≤ Γ.R.slots → lv_has ls Γ.c.maxLocals (fmA 0 L) →
    W Γ.p (fmLn G) Γ.e Γ.R Γ.s Γ.m Γ.args Γ.below Γ.meth Γ.c H locs cells slots Γ.Q (F0 Γ.m pc ls st)
/-- .. with q of class E thrown at pc -/
def fmT (G : fmG) (Γ : fmC) (h : fmHp) (kc ks pc : Nat) (L : List (Option Value)) (E : String) (q : Nat) : Prop :=
  ∀ (H : Heap) (locs : List Loc) (cells slots : Nat) (ls : Array Slot) (rest : List Value) (ce : Cell), fmH G h H → (∀ z ∈ locs, (fmK0 G).size ≤ z.base) → cells + kc ≤ Γ.R.cells → slots + ks ≤ Γ.R.slots → lv_has ls Γ.c.maxLocals (fmA 0 L) → H[q]? = some ce → ce.vm = .none → Γ.s.vm.findClass E = some ce.cls →
    vx_W Γ.p (fmLn G) Γ.e Γ.R Γ.s Γ.m Γ.args Γ.below Γ.meth Γ.c H locs cells slots Γ.Q (F0 Γ.m pc ls rest) q
theorem fmW.less {G : fmG} {Γ : fmC} {h : fmHp} {kc ks kc' ks' pc : Nat} {L : List (Option Value)} {st : List Value} (h1 : kc' ≤ kc) (h2 : ks' ≤ ks) (k : fmW G Γ h kc' ks' pc L st) : fmW G Γ h kc ks pc L st :=
  fun H lo c s ls a1 a2 a3 a4 a5 => k H lo c s ls a1 a2 (Nat.le_trans (Nat.add_le_add_left h1 c) a3) (Nat.le_trans (Nat.add_le_add_left h2 s) a4) a5
theorem fmW.few {G : fmG} {Γ : fmC} {h : fmHp} {kc ks pc : Nat} {L L' : List (Option Value)} {st : List Value} (hf : fmFew L' L) (k : fmW G Γ h kc ks pc L' st) : fmW G Γ h kc ks pc L st :=
  fun H lo c s ls a1 a2 a3 a4 a5 => k H lo c s ls a1 a2 a3 a4 (fm_few hf a5)
/-- a contract out of a walk of the body -/
theorem Ct.of {G : fmG} {y : MethodName} {cc : ByteArray} {nL : Nat} {ret : Option FieldType} {rm : Room} {args : List Value} {h : fmHp} {post : Option Value → fmHp → Prop} {xp : Nat → String → fmHp → Prop} (hl : (fmLn G).stackTraces = false) (hy : plainName y.cls = true) (hn : (lg_sl args).length ≤ nL)
    (body : ∀ Γ : fmC, fmE G Γ cc nL y.cls y.name ret rm [] → fmP G Γ post xp → fmW G Γ h rm.cells rm.slots 0 (fmIn args ++ List.replicate (nL - (fmIn args).length) none) []) : Ct G y (ws_ y cc nL ret) rm args h post xp := by
  have hw : ∀ (args' : Array Value) (s : State) (m : MethodId), (headSpec (ws_ y cc nL ret) rm).pre.before args' s = true → s.methodNamed? y = some m → ∃ meth c, s.vm.method? m = some meth ∧ meth.code = some c ∧ c.code = cc ∧ c.maxLocals = nL ∧ meth.sig.returnType = ret ∧ meth.locks = false ∧ c.exceptionTable.isEmpty = true := by
    intro args' s m h hn
    obtain ⟨meth, c, h1, h2, h3, h4, h5, h6, h7, -⟩ := Cond.code_spec hn (atoms_spec (ws := ws_ y cc nL ret) h _ List.mem_cons_self)
    exact ⟨meth, c, h1, h2, h3, h4, h5, h6, h7⟩
  refine fmFree.of_body (code := cc) (maxLocals := nL) (ret := ret) hy (fun args' s m h hn => by obtain ⟨a, b, h1, h2, h3, h4, h5, h6, -⟩ := hw args' s m h hn; exact ⟨a, b, h1, h2, h3, h4, h5, h6⟩) ?_
  intro p e s m av below meth c s₁ Bx Bb hml Br Bl Bn Bm Bp hh0 X hv
  obtain ⟨rfl, hV, hH⟩ := hv
  have hts := atoms_spec (ws := ws_ y cc nL ret) Bp
  have hE : fmE G (p, e, rm, s, m, args.toArray, below, meth, c, vx_MQ below (fmRc G post) (fmXc G xp) args.toArray s rm.cells rm.slots (fmOld G)) cc nL y.cls y.name ret rm [] :=
    ⟨Bx, Bb, hml, findClass_of_methodNamed Bn, Br, Bl, (name_of_methodNamed Bn Bm).1, fun w h => hts w (List.mem_cons_of_mem _ h), hV, by
      obtain ⟨meth9, c9, h1, h2, -, -, -, -, h7⟩ := hw _ s m Bp Bn
      cases Option.some.inj (h1.symm.trans Bm)
      cases Option.some.inj (h2.symm.trans X.code)
      show c.exceptionTable.toList = []
      rw [Array.isEmpty_iff.mp h7], rfl, hl, hH.2⟩
  have k := body _ hE rfl s.heap [] 0 0 ((lg_sl args ++ List.replicate (nL - (lg_sl args).length) Slot.unset).toArray) hH (fun _ h => by cases h) (Nat.le_of_eq (Nat.zero_add _)) (Nat.le_of_eq (Nat.zero_add _)) (by
    show lv_has _ c.maxLocals _
    rw [hml]
    have h1 := lv_entry args (n := nL) hn
    refine ⟨h1.1, h1.2.1, fun q hq => h1.2.2 q ?_⟩
    rw [← fmA_in_args args 0]
    obtain ⟨j, w⟩ := q
    obtain ⟨k, hk, hw⟩ := fmA_of _ _ _ _ hq
    rw [Nat.zero_add] at hk
    subst hk
    by_cases hlt : j < (fmIn args).length
    · rw [List.getElem?_append_left hlt] at hw
      have h3 := fmA_in (fmIn args) 0 j w hw
      rwa [Nat.zero_add] at h3
    · rw [List.getElem?_append_right (Nat.not_lt.mp hlt)] at hw
      have := List.eq_of_mem_replicate (List.mem_of_getElem? hw)
      cases this)
  obtain ⟨t, a1, o, b1, b2, b3⟩ := k s₁ hh0 X
  rw [← lg_entry_eq] at a1
  exact ⟨t, o, a1, b1, b2, b3⟩
/-- .. with handlers -/
theorem Ct.ofH {G : fmG} {y : MethodName} {cc : ByteArray} {nL : Nat} {ret : Option FieldType} {hh : List (Nat × Nat × Nat × Nat)} {rm : Room} {args : List Value} {h : fmHp} {post : Option Value → fmHp → Prop} {xp : Nat → String → fmHp → Prop} (hl : (fmLn G).stackTraces = false) (hy : plainName y.cls = true) (hn : (lg_sl args).length ≤ nL)
    (body : ∀ Γ : fmC, fmE G Γ cc nL y.cls y.name ret rm (tableOf hh) → fmP G Γ post xp → fmW G Γ h rm.cells rm.slots 0 (fmIn args ++ List.replicate (nL - (fmIn args).length) none) []) : Ct G y (wsW_ y cc nL ret hh) rm args h post xp := by
  have hw : ∀ (args' : Array Value) (s : State) (m : MethodId), (headSpec (wsW_ y cc nL ret hh) rm).pre.before args' s = true → s.methodNamed? y = some m → ∃ meth c, s.vm.method? m = some meth ∧ meth.code = some c ∧ c.code = cc ∧ c.maxLocals = nL ∧ meth.sig.returnType = ret ∧ meth.locks = false ∧ c.exceptionTable.toList = tableOf hh := by
    intro args' s m h hn
    obtain ⟨m9, meth, c, hn9, h1, h2, h3, h4, h7, h5, h6, -⟩ := Cond.codeWith_spec (atoms_spec (ws := wsW_ y cc nL ret hh) h _ List.mem_cons_self)
    cases hn.symm.trans hn9
    exact ⟨meth, c, h1, h2, h3, h4, h5, h6, by rw [← h7, table_eq]⟩
  refine fmFree.of_body (code := cc) (maxLocals := nL) (ret := ret) hy (fun args' s m h hn => by obtain ⟨a, b, h1, h2, h3, h4, h5, h6, -⟩ := hw args' s m h hn; exact ⟨a, b, h1, h2, h3, h4, h5, h6⟩) ?_
  intro p e s m av below meth c s₁ Bx Bb hml Br Bl Bn Bm Bp hh0 X hv
  obtain ⟨rfl, hV, hH⟩ := hv
  have hts := atoms_spec (ws := wsW_ y cc nL ret hh) Bp
  have hE : fmE G (p, e, rm, s, m, args.toArray, below, meth, c, vx_MQ below (fmRc G post) (fmXc G xp) args.toArray s rm.cells rm.slots (fmOld G)) cc nL y.cls y.name ret rm (tableOf hh) :=
    ⟨Bx, Bb, hml, findClass_of_methodNamed Bn, Br, Bl, (name_of_methodNamed Bn Bm).1, fun w h => hts w (List.mem_cons_of_mem _ h), hV, by
      obtain ⟨meth9, c9, h1, h2, -, -, -, -, h7⟩ := hw _ s m Bp Bn
      cases Option.some.inj (h1.symm.trans Bm)
      cases Option.some.inj (h2.symm.trans X.code)
      exact h7, rfl, hl, hH.2⟩
  have k := body _ hE rfl s.heap [] 0 0 ((lg_sl args ++ List.replicate (nL - (lg_sl args).length) Slot.unset).toArray) hH (fun _ h => by cases h) (Nat.le_of_eq (Nat.zero_add _)) (Nat.le_of_eq (Nat.zero_add _)) (by
    show lv_has _ c.maxLocals _
    rw [hml]
    have h1 := lv_entry args (n := nL) hn
    refine ⟨h1.1, h1.2.1, fun q hq => h1.2.2 q ?_⟩
    rw [← fmA_in_args args 0]
    obtain ⟨j, w⟩ := q
    obtain ⟨k, hk, hw⟩ := fmA_of _ _ _ _ hq
    rw [Nat.zero_add] at hk
    subst hk
    by_cases hlt : j < (fmIn args).length
    · rw [List.getElem?_append_left hlt] at hw
      have h3 := fmA_in (fmIn args) 0 j w hw
      rwa [Nat.zero_add] at h3
    · rw [List.getElem?_append_right (Nat.not_lt.mp hlt)] at hw
      have := List.eq_of_mem_replicate (List.mem_of_getElem? hw)
      cases this)
  obtain ⟨t, a1, o, b1, b2, b3⟩ := k s₁ hh0 X
  rw [← lg_entry_eq] at a1
  exact ⟨t, o, a1, b1, b2, b3⟩
