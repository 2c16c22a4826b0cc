/-! THE DESK's calls, told on the reference's state -/
theorem nI_z {k : Nat} (hk : k < 2 ^ 31) (h : nI k = 0) : k = 0 := (nI_eq hk (by decide)).mp (h.trans nI_0.symm)
def uUndo (S : MSt) (kp : Nat) : MSt := if kp = 0 then sThr S 1 else (upd (upd S.1 0 (nI 0)) 4 (nI (kp - 1)), va_up S.2 1 (S.2 (4 + (kp - 1))))
def uSave (S : MSt) : MSt := (upd (upd S.1 0 (nI 0)) 7 (bI true), va_up S.2 2 (S.2 1))
def uBack (S : MSt) (sv : Bool) : MSt := if sv = true then (upd (upd S.1 0 (nI 0)) 4 (nI 0), va_up S.2 1 (S.2 2)) else sThr S 1
def uFeed (S : MSt) (len : Nat) (ch : Int32) : MSt := if len = 60 then sThr S 1 else (upd (upd S.1 0 (nI 0)) 12 (nI (len + 1)), va_up S.2 14 (upd (S.2 14) len ((ch.toUInt32 % 65536).toInt32)))
def aFault (S : MSt) (fo : Option Nat) : ARes := aG fo.isNone (aThr 1) (aDon (cI fo) (S.2 1))
def aRefusal (S : MSt) (b : Bool) : ARes := aG (decide (S.1 5 = nI 0)) (aThr 1) (aDon (if b = true then S.1 5 else S.1 6) (S.2 1))
def sSt (N : Nat → Int32) (s : Int32) : Nat := sCount (fun c => decide (N c = s)) 64
def sWon (N : Nat → Int32) (K : Nat) : Int32 := sSum (fun k => N (336 + k)) K
def sNumQ (N : Nat → Int32) (K pk kp len : Nat) : Nat → Int32
  | 0 => nI K
  | 1 => sSum (fun k => N (328 + k)) K
  | 2 => nI (sSt N (nI 1))
  | 3 => nI (sSt N (nI 2))
  | 4 => N 352
  | 5 => sSum (fun k => N (256 + k)) 64
  | 6 => N 353
  | 7 => sWon N K
  | 8 => N 354
  | 9 => nI pk
  | 10 => sSum (fun k => N (344 + k)) pk
  | 11 => N 355
  | 12 => sSum (fun c => if sChalk N c = true then N (128 + c) else nI 0) 64
  | 13 => nI kp
  | _ => nI len
def aNumber (N : Nat → Int32) (v : Int32) (K pk kp len : Nat) : ARes := aG (!sBetween v (nI 0) (nI 14)) (aThr 1) (aDon (sNumQ N K pk kp len (cN v)) N)
