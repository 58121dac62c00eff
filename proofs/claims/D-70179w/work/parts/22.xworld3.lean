theorem x_lt {P : PS} {n : Nat} (hn : xOk P n) : 0 < n := by have := hn.2.2.1; omega
theorem xa_lt {P : PS} {n p : Nat} (hn : xOk P n) (hp : p ≤ 25) : p < n := by have := hn.2.2.1; omega
theorem pN_le {P : PS} {n : Nat} (hn : xOk P n) : pN P 1 ≤ 6 := hn.2.2.2
theorem xB_B (X : XS) (k i v f j : Nat) : xB (xSetB X k i v) f j = if f = k ∧ j = i then v else xB X f j := rfl
theorem xA_A (X : XS) (k i : Nat) (v : Int32) (f j : Nat) : xA (xSetA X k i v) f j = if f = k ∧ j = i then v else xA X f j := rfl
theorem xN_N (X : XS) (k j v : Nat) : xN (xSetN X k v) j = if j = k then v else xN X j := rfl
theorem xI_I (X : XS) (k j : Nat) (v : Int32) : xI (xSetI X k v) j = if j = k then v else xI X j := rfl
theorem sN_N (X : XS) (k j v : Nat) : sN (sSetN X k v) j = if j = k then v else sN X j := rfl
theorem sI_I (X : XS) (k i : Nat) (v : Int32) (f j : Nat) : sI (sSetI X k i v) f j = if f = k ∧ j = i then v else sI X f j := rfl
theorem sA_A (X : XS) (k i a : Nat) (v : Int32) (f j b : Nat) : sA (sSetA X k i a v) f j b = if f = k ∧ j = i ∧ b = a then v else sA X f j b := rfl
theorem sA_P (X : XS) (k i : Nat) (g : Nat → Int32) (f j b : Nat) : sA (sPutA X k i g) f j b = if f = k ∧ j = i then g b else sA X f j b := rfl
theorem cpy_nI (f g : Nat → Nat) (a b k : Nat) : va_cpy (fun j => nI (f j)) (fun j => nI (g j)) a b k = fun j => nI (va_cpy f g a b k j) := by
  funext j
  unfold va_cpy
  split <;> rfl
