/-! THE REFERENCE IS MADE -/
def mNew : List Value := [.int 0, .null, .null, .null, .int 0, .int 0, .int 0, .int 0, .int 0, .null, .null, .null, .int 0, .int 0, .int 0, .int 0, .int 0, .int 0, .int 0, .int 0, .null]
theorem fmRows_lo {h : fmHp} {z n k q : Nat} (hq : q < z) : fmRows h z n k q = h q := by
  unfold fmRows
  rw [if_neg (by omega), if_neg (by omega)]
def sZero : MSt := (upd (fun _ => 0) 14 (-1), fun _ _ => 0)
def sIniK : Nat → Nat → Int32
  | 0 => fun _ => 0
  | k + 1 => upd (upd (sIniK k) (64 + k) (nI 3)) (192 + k) (-1)
def sIni : Nat → Int32 := upd (sIniK 64) 355 (nI 3)
def mIni : MSt := (sZero.1, va_up sZero.2 1 sIni)
theorem z_ai (n : Nat) (cA : ClassId) : vp_cell cA (n, .inl (fun _ => 0)) = arrV cA n (fun _ => defaultValue (newarray.typeOf .int)) := rfl
theorem z_ac (n : Nat) (cA : ClassId) : vp_cell cA (n, .inl (fun _ => 0)) = arrV cA n (fun _ => defaultValue (newarray.typeOf .char)) := rfl
