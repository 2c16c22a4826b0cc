/-! THE MINE in the heap: cells, shafts, picks; constants; what is kept -/
def Kp (h h' : fmHp) : Prop := ∀ (a : Nat) (x : fmEn), h a = some x → h' a = some x
theorem Kp.refl {h : fmHp} : Kp h h := fun _ _ e => e
theorem Kp.trans {h1 h2 h3 : fmHp} (p : Kp h1 h2) (q : Kp h2 h3) : Kp h1 h3 := fun a x e => q a x (p a x e)
theorem Kp.up {h : fmHp} {a : Nat} {e : fmEn} (ha : h a = none) : Kp h (fmUp h a e) := fun _ _ q => fmUp_of q ha
theorem Kp.none {h h' : fmHp} (p : Kp h h') {a : Nat} (ha : h' a = none) : h a = none := by
  cases e : h a with
  | none => rfl
  | some x => rw [p a x e] at ha; cases ha
theorem AL.o {G : fmG} {h : fmHp} {l e n : Nat} {f : Nat → Nat} (hA : AL G h l e n f) : ∃ mc : Int32, h l = some (true, .inr (.inl (12, [.int mc, .ref e, .int (nI n)]))) := by
  obtain ⟨mc, cap, fe, g, h1, -⟩ := hA
  exact ⟨mc, h1⟩
theorem AL.kp {G : fmG} {h h' : fmHp} {l e n : Nat} {f : Nat → Nat} (hA : AL G h l e n f) (hk : Kp h h') : AL G h' l e n f := by
  obtain ⟨mc, cap, fe, g, h1, h2, r⟩ := hA
  exact ⟨mc, cap, fe, g, hk _ _ h1, hk _ _ h2, r⟩
theorem AL.el {G : fmG} {h : fmHp} {l e n : Nat} {f : Nat → Nat} (hA : AL G h l e n f) : ∃ (fe : Bool) (cap : Nat) (g : Nat → Option Nat), h e = some (fe, .inl (6, cap, .inr (.inr (.inr (.inr g))))) := by
  obtain ⟨mc, cap, fe, g, h1, h2, r⟩ := hA
  exact ⟨fe, cap, g, h2⟩
/-- the object at a tells of the ground of cell c -/
def Gd (h : fmHp) (N : Nat → Int32) (c a : Nat) : Prop :=
  (N c = nI 0 ∧ N (192 + c) = -1 ∧ N (256 + c) = nI 0 ∧ h a = some (true, .inr (.inl (3, [.int (N (64 + c)), .int (N (128 + c))])))) ∨
  (∃ p : Bool, N c = nI 1 ∧ N (256 + c) = bI p ∧ h a = some (true, .inr (.inl (4, [.int (N (192 + c)), .int (bI p)])))) ∨
  (N c = nI 2 ∧ N (256 + c) = nI 0 ∧ h a = some (true, .inr (.inl (5, [.int (N (192 + c))]))))
def Sh (h : fmHp) (N : Nat → Int32) (k a : Nat) : Prop := ∃ cl : Bool, N (328 + k) = bI cl ∧ h a = some (true, .inr (.inl (6, [.int (N (320 + k)), .int (N (336 + k)), .int (bI cl)])))
def Pk (h : fmHp) (N : Nat → Int32) (k a : Nat) : Prop := h a = some (false, .inr (.inl (17, [.int (N (344 + k))])))
def sdpT : Nat → Int32 := fun i => match i with
  | 0 => 115 | 1 => 100 | 2 => 112 | 3 => 117 | 4 => 99 | 5 => 116 | _ => 110
/-- the constants -/
def CC (G : fmG) (h : fmHp) : Prop :=
  (∃ bf : Nat → Int32, h (fmAd G 0) = some (false, .inl (0, 256, .inl bf)) ∧ ∀ c d, c < 64 → d < 4 → bf (4 * c + d) = cI (sBsd c d)) ∧
  (∀ k, k < 9 → h (fmAd G (1 + k)) = some (false, .inr (.inr k))) ∧
  h (fmAd G 10) = some (false, .inl (6, 0, .inr (.inr (.inr (.inr (fun _ => none)))))) ∧
  h (fmAd G 11) = some (false, .inl (9, 256, .inr (.inr (.inr (.inr (fun i => some (fmAd G (100 + i)))))))) ∧
  (∀ i, i < 256 → h (fmAd G (100 + i)) = some (false, .inr (.inl (17, [.int (nI i - nI 128)])))) ∧
  (∃ v1 v2 : Value, h (fmAd G 12) = some (false, .inr (.inl (16, [.ref (fmAd G 14), .int 0, v1, v2])))) ∧ h (fmAd G 14) = some (false, .inl (3, 7, .inl sdpT)) ∧ (fmSv G = .null ∨ ∃ t, fmSv G = .ref t)
theorem CC.kept {G : fmG} {h h' : fmHp} (hC : CC G h) (hk : ∀ (a : Nat) (x : fmX), h a = some (false, x) → h' a = some (false, x)) : CC G h' := by
  obtain ⟨⟨bf, h1, h2⟩, h3, h4, h5, h6, ⟨v1, v2, h7⟩, h8, h9⟩ := hC
  exact ⟨⟨bf, hk _ _ h1, h2⟩, fun k q => hk _ _ (h3 k q), hk _ _ h4, hk _ _ h5, fun i q => hk _ _ (h6 i q), ⟨v1, v2, hk _ _ h7⟩, hk _ _ h8, h9⟩
theorem CC.kp {G : fmG} {h h' : fmHp} (hC : CC G h) (hk : Kp h h') : CC G h' := hC.kept fun a x e => hk a _ e
def MineAt (G : fmG) (h : fmHp) (d g sl se pl pe : Nat) (gf sf pf : Nat → Nat) (N : Nat → Int32) (K P : Nat) : Prop :=
  h d = some (true, .inr (.inl (2, [.ref g, .ref sl, .ref pl, .int (N 355), .int (N 352), .int (N 353), .int (N 354)]))) ∧
  (∃ gq : Nat → Option Nat, h g = some (true, .inl (7, 64, .inr (.inr (.inr (.inr gq))))) ∧ ∀ c, c < 64 → gq c = some (gf c)) ∧
  (∀ c, c < 64 → Gd h N c (gf c)) ∧ AL G h sl se K sf ∧ (∀ k, k < K → Sh h N k (sf k)) ∧ AL G h pl pe P pf ∧ (∀ k, k < P → Pk h N k (pf k)) ∧ K ≤ 8 ∧ P ≤ 6 ∧ sl ≠ pl ∧ (se = pe → se = fmAd G 10)
theorem Gd.kp {h h' : fmHp} {N : Nat → Int32} {c a : Nat} (hk : Kp h h') (hG : Gd h N c a) : Gd h' N c a := by
  rcases hG with ⟨h1, h2, h3, h4⟩ | ⟨p, h1, h2, h4⟩ | ⟨h1, h2, h4⟩
  · exact Or.inl ⟨h1, h2, h3, hk _ _ h4⟩
  · exact Or.inr (Or.inl ⟨p, h1, h2, hk _ _ h4⟩)
  · exact Or.inr (Or.inr ⟨h1, h2, hk _ _ h4⟩)
theorem Sh.kp {h h' : fmHp} {N : Nat → Int32} {c a : Nat} (hk : Kp h h') (hS : Sh h N c a) : Sh h' N c a := by
  obtain ⟨cl, h1, h2⟩ := hS
  exact ⟨cl, h1, hk _ _ h2⟩
theorem MineAt.kp {G : fmG} {h h' : fmHp} {d g sl se pl pe : Nat} {gf sf pf : Nat → Nat} {N : Nat → Int32} {K P : Nat} (hM : MineAt G h d g sl se pl pe gf sf pf N K P) (hk : Kp h h') : MineAt G h' d g sl se pl pe gf sf pf N K P := by
  obtain ⟨h1, ⟨gq, h2, h3⟩, h4, h5, h6, h7, h8, r⟩ := hM
  exact ⟨hk _ _ h1, ⟨gq, hk _ _ h2, h3⟩, fun c hc => (h4 c hc).kp hk, h5.kp hk, fun k q => (h6 k q).kp hk, h7.kp hk, fun k q => hk _ _ (h8 k q), r⟩
theorem Sh.isO {h : fmHp} {N : Nat → Int32} {c a : Nat} (hS : Sh h N c a) : isO h a := by
  obtain ⟨cl, h1, h2⟩ := hS
  exact ⟨6, RX7, TX7, 3, true, _, rfl, h2, q2326⟩
theorem Pk.isO {h : fmHp} {N : Nat → Int32} {c a : Nat} (hS : Pk h N c a) : isO h a := ⟨17, RJ20, TJ20, 1, false, _, rfl, hS, q2324⟩
theorem so0 {N : Nat → Int32} {c : Nat} {s : Int32} (h : N c = nI 0) : sOpenOf N (some c) s = false := by
  show (decide (N c = nI 1) && _) = false
  rw [h, decide_eq_false (by decide)]; rfl
theorem so2 {N : Nat → Int32} {c : Nat} {s : Int32} (h : N c = nI 2) : sOpenOf N (some c) s = false := by
  show (decide (N c = nI 1) && _) = false
  rw [h, decide_eq_false (by decide)]; rfl
theorem so1 {N : Nat → Int32} {c : Nat} {s : Int32} (h : N c = nI 1) : sOpenOf N (some c) s = decide (N (192 + c) = s) := by
  show (decide (N c = nI 1) && _) = _
  rw [h, decide_eq_true rfl]; rfl
theorem sb0 {N : Nat → Int32} {c : Nat} (h : N c = nI 0) : sBare N (some c) = false := by
  show (decide (N c = nI 1) && _) = false
  rw [h, decide_eq_false (by decide)]; rfl
theorem sb2 {N : Nat → Int32} {c : Nat} (h : N c = nI 2) : sBare N (some c) = false := by
  show (decide (N c = nI 1) && _) = false
  rw [h, decide_eq_false (by decide)]; rfl
theorem sb1 {N : Nat → Int32} {c : Nat} {p : Bool} (h : N c = nI 1) (h2 : N (256 + c) = bI p) : sBare N (some c) = !p := by
  show (decide (N c = nI 1) && decide (N (256 + c) = nI 0)) = _
  rw [h, h2, decide_eq_true rfl]
  cases p <;> decide
theorem sc0 {N : Nat → Int32} {c : Nat} (h : N c = nI 0) : sChalk N c = true := decide_eq_true h
theorem sc1 {N : Nat → Int32} {c : Nat} (h : N c = nI 1) : sChalk N c = false := decide_eq_false (by rw [h]; decide)
theorem sc2 {N : Nat → Int32} {c : Nat} (h : N c = nI 2) : sChalk N c = false := decide_eq_false (by rw [h]; decide)
def sNodO (N : Nat → Int32) (o : Option Nat) : Int32 := match o with
  | none => nI 0
  | some c => if sChalk N c = true then N (128 + c) else nI 0
def sStrO (N : Nat → Int32) (c : Nat) : Int32 := if sChalk N c = true then sStrokes N c else nI 0
theorem nI_m {c : Nat} (h : c < 2 ^ 31) : ¬ nI c = -1 := fun q => by
  have h1 := nI_pos' h
  rw [q] at h1
  exact absurd h1 (by decide)
theorem cI_m {o : Option Nat} (ho : ∀ x, o = some x → x < 2 ^ 31) : cI o = -1 ↔ o = none := by
  cases o with
  | none => exact ⟨fun _ => rfl, fun _ => rfl⟩
  | some c => exact ⟨fun q => absurd q (nI_m (ho c rfl)), fun q => by cases q⟩
theorem fx_0 : ((⟨"java/util/List", "iterator", "()Ljava/util/Iterator;"⟩ : MethodName).cls ≠ "java/lang/invoke/MethodHandle" ∧ (⟨"java/util/List", "iterator", "()Ljava/util/Iterator;"⟩ : MethodName).cls ≠ "java/lang/invoke/VarHandle") ∧ (parseMethodDescriptor (⟨"java/util/List", "iterator", "()Ljava/util/Iterator;"⟩ : MethodName).desc).map (fun d => d.parameters.length) = some 0 := ⟨by decide +kernel, by decide +kernel⟩
theorem fx_1 : ((⟨"java/util/List", "add", "(Ljava/lang/Object;)Z"⟩ : MethodName).cls ≠ "java/lang/invoke/MethodHandle" ∧ (⟨"java/util/List", "add", "(Ljava/lang/Object;)Z"⟩ : MethodName).cls ≠ "java/lang/invoke/VarHandle") ∧ (parseMethodDescriptor (⟨"java/util/List", "add", "(Ljava/lang/Object;)Z"⟩ : MethodName).desc).map (fun d => d.parameters.length) = some 1 := ⟨by decide +kernel, by decide +kernel⟩
theorem fx_2 : ((⟨"java/util/List", "get", "(I)Ljava/lang/Object;"⟩ : MethodName).cls ≠ "java/lang/invoke/MethodHandle" ∧ (⟨"java/util/List", "get", "(I)Ljava/lang/Object;"⟩ : MethodName).cls ≠ "java/lang/invoke/VarHandle") ∧ (parseMethodDescriptor (⟨"java/util/List", "get", "(I)Ljava/lang/Object;"⟩ : MethodName).desc).map (fun d => d.parameters.length) = some 1 := ⟨by decide +kernel, by decide +kernel⟩
theorem fx_3 : ((⟨"java/util/List", "size", "()I"⟩ : MethodName).cls ≠ "java/lang/invoke/MethodHandle" ∧ (⟨"java/util/List", "size", "()I"⟩ : MethodName).cls ≠ "java/lang/invoke/VarHandle") ∧ (parseMethodDescriptor (⟨"java/util/List", "size", "()I"⟩ : MethodName).desc).map (fun d => d.parameters.length) = some 0 := ⟨by decide +kernel, by decide +kernel⟩
theorem fx_4 : ((⟨"java/util/List", "set", "(ILjava/lang/Object;)Ljava/lang/Object;"⟩ : MethodName).cls ≠ "java/lang/invoke/MethodHandle" ∧ (⟨"java/util/List", "set", "(ILjava/lang/Object;)Ljava/lang/Object;"⟩ : MethodName).cls ≠ "java/lang/invoke/VarHandle") ∧ (parseMethodDescriptor (⟨"java/util/List", "set", "(ILjava/lang/Object;)Ljava/lang/Object;"⟩ : MethodName).desc).map (fun d => d.parameters.length) = some 2 := ⟨by decide +kernel, by decide +kernel⟩
theorem fx_5 : ((⟨"java/util/List", "remove", "(I)Ljava/lang/Object;"⟩ : MethodName).cls ≠ "java/lang/invoke/MethodHandle" ∧ (⟨"java/util/List", "remove", "(I)Ljava/lang/Object;"⟩ : MethodName).cls ≠ "java/lang/invoke/VarHandle") ∧ (parseMethodDescriptor (⟨"java/util/List", "remove", "(I)Ljava/lang/Object;"⟩ : MethodName).desc).map (fun d => d.parameters.length) = some 1 := ⟨by decide +kernel, by decide +kernel⟩
theorem fx_6 : ((⟨"java/util/Iterator", "hasNext", "()Z"⟩ : MethodName).cls ≠ "java/lang/invoke/MethodHandle" ∧ (⟨"java/util/Iterator", "hasNext", "()Z"⟩ : MethodName).cls ≠ "java/lang/invoke/VarHandle") ∧ (parseMethodDescriptor (⟨"java/util/Iterator", "hasNext", "()Z"⟩ : MethodName).desc).map (fun d => d.parameters.length) = some 0 := ⟨by decide +kernel, by decide +kernel⟩
theorem fx_7 : ((⟨"java/util/Iterator", "next", "()Ljava/lang/Object;"⟩ : MethodName).cls ≠ "java/lang/invoke/MethodHandle" ∧ (⟨"java/util/Iterator", "next", "()Ljava/lang/Object;"⟩ : MethodName).cls ≠ "java/lang/invoke/VarHandle") ∧ (parseMethodDescriptor (⟨"java/util/Iterator", "next", "()Ljava/lang/Object;"⟩ : MethodName).desc).map (fun d => d.parameters.length) = some 0 := ⟨by decide +kernel, by decide +kernel⟩
theorem fx_8 : ((⟨"FlintMine$Ground", "isBare", "()Z"⟩ : MethodName).cls ≠ "java/lang/invoke/MethodHandle" ∧ (⟨"FlintMine$Ground", "isBare", "()Z"⟩ : MethodName).cls ≠ "java/lang/invoke/VarHandle") ∧ (parseMethodDescriptor (⟨"FlintMine$Ground", "isBare", "()Z"⟩ : MethodName).desc).map (fun d => d.parameters.length) = some 0 := ⟨by decide +kernel, by decide +kernel⟩
theorem fx_9 : ((⟨"FlintMine$Ground", "shaft", "()I"⟩ : MethodName).cls ≠ "java/lang/invoke/MethodHandle" ∧ (⟨"FlintMine$Ground", "shaft", "()I"⟩ : MethodName).cls ≠ "java/lang/invoke/VarHandle") ∧ (parseMethodDescriptor (⟨"FlintMine$Ground", "shaft", "()I"⟩ : MethodName).desc).map (fun d => d.parameters.length) = some 0 := ⟨by decide +kernel, by decide +kernel⟩
theorem fx_10 : ((⟨"FlintMine$Ground", "shaft", "()I"⟩ : MethodName).cls ≠ "java/lang/invoke/MethodHandle" ∧ (⟨"FlintMine$Ground", "shaft", "()I"⟩ : MethodName).cls ≠ "java/lang/invoke/VarHandle") ∧ (parseMethodDescriptor (⟨"FlintMine$Ground", "shaft", "()I"⟩ : MethodName).desc).map (fun d => d.parameters.length) = some 0 := ⟨by decide +kernel, by decide +kernel⟩
theorem fx_11 : ((⟨"FlintMine$Ground", "shaft", "()I"⟩ : MethodName).cls ≠ "java/lang/invoke/MethodHandle" ∧ (⟨"FlintMine$Ground", "shaft", "()I"⟩ : MethodName).cls ≠ "java/lang/invoke/VarHandle") ∧ (parseMethodDescriptor (⟨"FlintMine$Ground", "shaft", "()I"⟩ : MethodName).desc).map (fun d => d.parameters.length) = some 0 := ⟨by decide +kernel, by decide +kernel⟩
theorem fx_d : ((⟨"FlintMine$Ground", "isBare", "()Z"⟩ : MethodName).cls ≠ "java/lang/invoke/MethodHandle" ∧ (⟨"FlintMine$Ground", "isBare", "()Z"⟩ : MethodName).cls ≠ "java/lang/invoke/VarHandle") ∧ (parseMethodDescriptor (⟨"FlintMine$Ground", "isBare", "()Z"⟩ : MethodName).desc).map (fun d => d.parameters.length) = some 0 := ⟨by decide +kernel, by decide +kernel⟩
theorem fx_a : ((⟨"FlintMine$Act", "done", "(LFlintMine$Mine;[I)I"⟩ : MethodName).cls ≠ "java/lang/invoke/MethodHandle" ∧ (⟨"FlintMine$Act", "done", "(LFlintMine$Mine;[I)I"⟩ : MethodName).cls ≠ "java/lang/invoke/VarHandle") ∧ (parseMethodDescriptor (⟨"FlintMine$Act", "done", "(LFlintMine$Mine;[I)I"⟩ : MethodName).desc).map (fun d => d.parameters.length) = some 2 := ⟨by decide +kernel, by decide +kernel⟩
section QROW
variable {G : fmG} {Γ : fmC} {cc : ByteArray} {nL : Nat} {own nm : String} {ret : Option FieldType} {RM : Room} {tb : List ExceptionTableEntry} {h : fmHp} {kc ks pc : Nat} {L : List (Option Value)} {st : List Value}
theorem r_icmpC_eq (E : fmE G Γ cc nL own nm ret RM tb) {o : Option Nat} {off : Int} {tgt : Nat} (d : decode cc pc = .ok (.if_icmp .eq off, 3)) (ht : (pc : Int) + off = (tgt : Int)) (ho : ∀ x, o = some x → x < 2 ^ 31) (kt : o = none → fmW G Γ h kc ks tgt L st) (kf : ¬ o = none → fmW G Γ h kc ks (pc + 3) L st) : fmW G Γ h kc ks pc L (.int (-1) :: .int (cI o) :: st) :=
  r_icmp_eq E d ht (fun q => kt ((cI_m ho).mp q)) (fun q => kf fun z => q ((cI_m ho).mpr z))
theorem r_icmpC_ne (E : fmE G Γ cc nL own nm ret RM tb) {o : Option Nat} {off : Int} {tgt : Nat} (d : decode cc pc = .ok (.if_icmp .ne off, 3)) (ht : (pc : Int) + off = (tgt : Int)) (ho : ∀ x, o = some x → x < 2 ^ 31) (kt : ¬ o = none → fmW G Γ h kc ks tgt L st) (kf : o = none → fmW G Γ h kc ks (pc + 3) L st) : fmW G Γ h kc ks pc L (.int (-1) :: .int (cI o) :: st) :=
  r_icmp_ne E d ht (fun q => kt fun z => q ((cI_m ho).mpr z)) (fun q => kf ((cI_m ho).mp q))
theorem r_getsQ (E : fmE G Γ cc nL own nm ret RM tb) {index : Nat} {Cs n ds : String} (hz : va_Zq Cs n ds (fmOld G) Γ.s (fmK0 G)) (hlink : Cond.fieldLink own index Cs n ds ∈ lw_all) (d : decode cc pc = .ok (.getstatic index, 3)) (k : ∀ v : Value, (v = .null ∨ ∃ t, v = .ref t) → fmW G Γ h kc ks (pc + 3) L (v :: st)) : fmW G Γ h kc ks pc L st := by
  intro H lo cx sx ls a1 a2 a3 a4 a5
  rcases hz with hz | ⟨t, hz⟩
  · obtain ⟨cf, kf, fi, f, a, cell, h1, h2, h3, h4, h5, h6, h7, h8⟩ := hz
    exact W.gets E.x E.b E.xown (E.ts _ hlink) h1 h2 h3 h4 (by rw [a1.2.2 a (Nat.not_le.mp h8)]; exact h5) (fun e => by rw [e] at h6; cases h6) h7 rfl d (k _ (Or.inl rfl) H lo cx sx ls a1 a2 a3 a4 a5)
  · obtain ⟨cf, kf, fi, f, a, cell, h1, h2, h3, h4, h5, h6, h7, h8⟩ := hz
    exact W.gets E.x E.b E.xown (E.ts _ hlink) h1 h2 h3 h4 (by rw [a1.2.2 a (Nat.not_le.mp h8)]; exact h5) (fun e => by rw [e] at h6; cases h6) h7 rfl d (k _ (Or.inr ⟨t, rfl⟩) H lo cx sx ls a1 a2 a3 a4 a5)
end QROW
