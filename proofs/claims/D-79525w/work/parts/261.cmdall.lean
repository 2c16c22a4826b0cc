/-! the parser's command in one contract, by the reference's pCmd -/
theorem ctA_X10_command (G : fmG) (hl : (fmLn G).stackTraces = false) (h : fmHp) {x far qu d pa sb : Nat} {fl re de : Int32} {sv : Value} (hC : CC G h) (hx : DkO h x far qu d pa sb fl re de sv) (p a : Nat) (hp : h p = some (true, .inr (.inl (8, [.int (nI a), .ref x])))) (v len : Nat) (T : Nat → Int32) (hS : SBt h sb v len T) (hlen : len ≤ 60) (hch : ∀ i, i < len → ∃ k, k < 65536 ∧ T i = nI k) (ha : a ≤ 1000) (ha9 : a ≤ 800) : Ct G yX10_command (ws_ yX10_command cX10_command 1 (some (.object "FlintMine$Command"))) { frames := 12, cells := 5, slots := 30, locals := 400 } [.ref p] h (fun v0 h' => (pCmd T len a false 0).2.2.2.2.2 = false ∧ ∃ c, v0 = some (.ref c) ∧ CmdAt G h' c (pCmd T len a false 0).1 (pCmd T len a false 0).2.1 (pCmd T len a false 0).2.2.1 (pCmd T len a false 0).2.2.2.1 ∧ h' p = some (true, .inr (.inl (8, [.int (nI (pCmd T len a false 0).2.2.2.2.1), .ref x]))) ∧ FrX p h h' ∧ h c = none) (fun q Ex h' => (pCmd T len a false 0).2.2.2.2.2 = true ∧ Ex = "FlintMine$FaultException" ∧ h' q = some (true, .inr (.inl (11, [.null, .null, .null, .null, .null, .int 0, .int (nI (pCmd T len a false 0).2.2.2.2.1)]))) ∧ FrX p h h') := by
  by_cases hno : a < len ∧ sLet (T a) = true
  · by_cases ht : T a = nI 100
    · exact (ct2_X10_command G hl h hC hx p a hp v len T hS hlen hch ha ha9 hno.1 ht).imp (fun v0 h' q => by rw [pCmd_dig hno.1 ht]; exact q) (fun q E h' z => by rw [pCmd_dig hno.1 ht]; exact z)
    · exact (ct1_X10_command G hl h hC hx p a hp v len T hS hlen hch ha hno.1 hno.2 ht).imp (fun v0 h' q => by rw [pCmd_one hno.1 hno.2 ht]; exact q) (fun q E h' z => by rw [pCmd_one hno.1 hno.2 ht]; exact z)
  · refine (ctF_X10_command G hl h hC hx p a hp v len T hS hlen hch ha hno).imp (fun _ _ q => q.elim) (fun q E h' z => ?_)
    obtain ⟨e1, e2⟩ := pCmd_bad (u := 0) hno
    obtain ⟨z1, z2, rfl⟩ := z
    exact ⟨e1, z1, by rw [e2]; exact fmUp_s, fun q9 y hq hn => fmUp_of hq z2⟩
