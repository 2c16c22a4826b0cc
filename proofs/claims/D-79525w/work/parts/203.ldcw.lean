/-! a float constant by ldc_w -/
theorem ldcwC {p : Program} {l : Launch} {e : Env} {R : Room} {s : State} {m : MethodId} {args : Array Value} {below : List Frame} {meth : Method} {c : Code} {T : State} {locs : List Loc} {cells slots : Nat} (X : Stand p l e R s m args below meth c T locs cells slots) (hexec : p.tables.exec = Jvm.exec) {own : String} {index : Nat} {b : UInt32} (hown : s.vm.findClass own = some m.cls) (hconst : (Jvm.Cond.constantFloat own index b).before args s = true) {g : JFrame} (hg : g.method = m) (hdg : decode c.code g.pc = .ok (.ldc_w index, 3)) :
    ∀ target, Steps p.tables e below (T.setTop { g with pc := g.pc + 3, stack := .float b :: g.stack }) target → Steps p.tables e below (T.setTop g) target := by
  obtain ⟨k, cf, hk, hcf, hc⟩ := Cond.constantFloat_spec hown hconst
  obtain ⟨k', hk', he⟩ := X.warmed.alike.2.2 _ _ hk
  intro target hrest
  subst hg
  jvm_step X.here [hexec, hdg, Op.ldc_w.wp_float (s := T) (f := g) X.here.top hk' (by rw [he]; exact hcf) hc]
  exact hrest
section LDCW
variable {G : fmG} {Γ : fmC} {cc : ByteArray} {nL : Nat} {own nm : String} {ret : Option FieldType} {RM : Room} {tb : List ExceptionTableEntry} {h : fmHp} {kc ks pc : Nat} {L : List (Option Value)} {st : List Value}
variable {y : MethodName} {bytes : ByteArray} {ml n index : Nat} {rt : Option FieldType} {rm : Room} {As : List Value} {b : Nat} {rest : List Value} {cpost : Option Value → fmHp → Prop} {cxp : Nat → String → fmHp → Prop} {hh : List (Nat × Nat × Nat × Nat)}
variable {ci N : Nat} {C : String} {T : u_T}
theorem r_ldcwf (E : fmE G Γ cc nL own nm ret RM tb) {index : Nat} {v : UInt32} (w : Jvm.Cond.constantFloat own index v ∈ lw_all) (d : decode cc pc = .ok (.ldc_w index, 3)) (k : fmW G Γ h kc ks (pc + 3) L (.float v :: st)) : fmW G Γ h kc ks pc L st := by
  intro H lo cx sx ls a1 a2 a3 a4 a5
  have hk := k H lo cx sx ls a1 a2 a3 a4 a5
  intro T hT X
  obtain ⟨t, a, b⟩ := hk T hT X
  exact ⟨t, ldcwC X E.x E.xown (E.ts _ w) (g := F0 _ pc ls st) rfl (by rw [E.b]; exact d) t a, b⟩
end LDCW
