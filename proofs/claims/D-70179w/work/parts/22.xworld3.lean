theorem x_lt {P : PS} {n : Nat} (hn : xOk P n) : 0 < n := by have := hn.2.2.1; omega
theorem xa_lt {P : PS} {n p : Nat} (hn : xOk P n) (hp : p ≤ 25) : p < n := by have := hn.2.2.1; omega
theorem pN_le {P : PS} {n : Nat} (hn : xOk P n) : pN P 1 ≤ 6 := hn.2.2.2
theorem xB_B (X : XS) (k i v f j : Nat) : xB (xSetB X k i v) f j = if f = k ∧ j = i then v else xB X f j := rfl
theorem xA_A (X : XS) (k i : Nat) (v : Int32) (f j : Nat) : xA (xSetA X k i v) f j = if f = k ∧ j = i then v else xA X f j := rfl
theorem xN_N (X : XS) (k j v : Nat) : xN (xSetN X k v) j = if j = k then v else xN X j := rfl
theorem xI_I (X : XS) (k j : Nat) (v : Int32) : xI (xSetI X k v) j = if j = k then v else xI X j := rfl
theorem sN_N (X : XS) (k j v : Nat) : sN (sSetN X k v) j = if j = k then v else sN X j := rfl
theorem sI_I (X : XS) (k i : Nat) (v : Int32) (f j : Nat) : sI (sSetI X k i v) f j = if f = k ∧ j = i then v else sI X f j := rfl
theorem sA_A (X : XS) (k i a : Nat) (v : Int32) (f j b : Nat) : sA (sSetA X k i a v) f j b = if f = k ∧ j = i ∧ b = a then v else sA X f j b := rfl
theorem sA_P (X : XS) (k i : Nat) (g : Nat → Int32) (f j b : Nat) : sA (sPutA X k i g) f j b = if f = k ∧ j = i then g b else sA X f j b := rfl
theorem cpy_nI (f g : Nat → Nat) (a b k : Nat) : va_cpy (fun j => nI (f j)) (fun j => nI (g j)) a b k = fun j => nI (va_cpy f g a b k j) := by
  funext j
  unfold va_cpy
  split <;> rfl
theorem rxN_xSetI (X : XS) (k : Nat) (v : Int32) (j : Nat) : xN (xSetI X k v) j = xN X j := rfl
theorem rxN_xSetB (X : XS) (k i v : Nat) (j : Nat) : xN (xSetB X k i v) j = xN X j := rfl
theorem rxN_xSetA (X : XS) (k i : Nat) (v : Int32) (j : Nat) : xN (xSetA X k i v) j = xN X j := rfl
theorem rxN_sSetN (X : XS) (k v : Nat) (j : Nat) : xN (sSetN X k v) j = xN X j := rfl
theorem rxN_sSetI (X : XS) (k i : Nat) (v : Int32) (j : Nat) : xN (sSetI X k i v) j = xN X j := rfl
theorem rxN_sSetA (X : XS) (k i a : Nat) (v : Int32) (j : Nat) : xN (sSetA X k i a v) j = xN X j := rfl
theorem rxN_sPutA (X : XS) (k i : Nat) (g : Nat → Int32) (j : Nat) : xN (sPutA X k i g) j = xN X j := rfl
theorem rxN_xPutB (X : XS) (k : Nat) (g : Nat → Nat) (j : Nat) : xN (xPutB X k g) j = xN X j := rfl
theorem rxN_xPutA (X : XS) (k : Nat) (g : Nat → Int32) (j : Nat) : xN (xPutA X k g) j = xN X j := rfl
theorem rxI_xSetN (X : XS) (k v : Nat) (j : Nat) : xI (xSetN X k v) j = xI X j := rfl
theorem rxI_xSetB (X : XS) (k i v : Nat) (j : Nat) : xI (xSetB X k i v) j = xI X j := rfl
theorem rxI_xSetA (X : XS) (k i : Nat) (v : Int32) (j : Nat) : xI (xSetA X k i v) j = xI X j := rfl
theorem rxI_sSetN (X : XS) (k v : Nat) (j : Nat) : xI (sSetN X k v) j = xI X j := rfl
theorem rxI_sSetI (X : XS) (k i : Nat) (v : Int32) (j : Nat) : xI (sSetI X k i v) j = xI X j := rfl
theorem rxI_sSetA (X : XS) (k i a : Nat) (v : Int32) (j : Nat) : xI (sSetA X k i a v) j = xI X j := rfl
theorem rxI_sPutA (X : XS) (k i : Nat) (g : Nat → Int32) (j : Nat) : xI (sPutA X k i g) j = xI X j := rfl
theorem rxI_xPutB (X : XS) (k : Nat) (g : Nat → Nat) (j : Nat) : xI (xPutB X k g) j = xI X j := rfl
theorem rxI_xPutA (X : XS) (k : Nat) (g : Nat → Int32) (j : Nat) : xI (xPutA X k g) j = xI X j := rfl
theorem rxB_xSetN (X : XS) (k v : Nat) (f j : Nat) : xB (xSetN X k v) f j = xB X f j := rfl
theorem rxB_xSetI (X : XS) (k : Nat) (v : Int32) (f j : Nat) : xB (xSetI X k v) f j = xB X f j := rfl
theorem rxB_xSetA (X : XS) (k i : Nat) (v : Int32) (f j : Nat) : xB (xSetA X k i v) f j = xB X f j := rfl
theorem rxB_sSetN (X : XS) (k v : Nat) (f j : Nat) : xB (sSetN X k v) f j = xB X f j := rfl
theorem rxB_sSetI (X : XS) (k i : Nat) (v : Int32) (f j : Nat) : xB (sSetI X k i v) f j = xB X f j := rfl
theorem rxB_sSetA (X : XS) (k i a : Nat) (v : Int32) (f j : Nat) : xB (sSetA X k i a v) f j = xB X f j := rfl
theorem rxB_sPutA (X : XS) (k i : Nat) (g : Nat → Int32) (f j : Nat) : xB (sPutA X k i g) f j = xB X f j := rfl
theorem rxB_xPutA (X : XS) (k : Nat) (g : Nat → Int32) (f j : Nat) : xB (xPutA X k g) f j = xB X f j := rfl
theorem rxA_xSetN (X : XS) (k v : Nat) (f j : Nat) : xA (xSetN X k v) f j = xA X f j := rfl
theorem rxA_xSetI (X : XS) (k : Nat) (v : Int32) (f j : Nat) : xA (xSetI X k v) f j = xA X f j := rfl
theorem rxA_xSetB (X : XS) (k i v : Nat) (f j : Nat) : xA (xSetB X k i v) f j = xA X f j := rfl
theorem rxA_sSetN (X : XS) (k v : Nat) (f j : Nat) : xA (sSetN X k v) f j = xA X f j := rfl
theorem rxA_sSetI (X : XS) (k i : Nat) (v : Int32) (f j : Nat) : xA (sSetI X k i v) f j = xA X f j := rfl
theorem rxA_sSetA (X : XS) (k i a : Nat) (v : Int32) (f j : Nat) : xA (sSetA X k i a v) f j = xA X f j := rfl
theorem rxA_sPutA (X : XS) (k i : Nat) (g : Nat → Int32) (f j : Nat) : xA (sPutA X k i g) f j = xA X f j := rfl
theorem rxA_xPutB (X : XS) (k : Nat) (g : Nat → Nat) (f j : Nat) : xA (xPutB X k g) f j = xA X f j := rfl
theorem rsN_xSetN (X : XS) (k v : Nat) (j : Nat) : sN (xSetN X k v) j = sN X j := rfl
theorem rsN_xSetI (X : XS) (k : Nat) (v : Int32) (j : Nat) : sN (xSetI X k v) j = sN X j := rfl
theorem rsN_xSetB (X : XS) (k i v : Nat) (j : Nat) : sN (xSetB X k i v) j = sN X j := rfl
theorem rsN_xSetA (X : XS) (k i : Nat) (v : Int32) (j : Nat) : sN (xSetA X k i v) j = sN X j := rfl
theorem rsN_sSetI (X : XS) (k i : Nat) (v : Int32) (j : Nat) : sN (sSetI X k i v) j = sN X j := rfl
theorem rsN_sSetA (X : XS) (k i a : Nat) (v : Int32) (j : Nat) : sN (sSetA X k i a v) j = sN X j := rfl
theorem rsN_sPutA (X : XS) (k i : Nat) (g : Nat → Int32) (j : Nat) : sN (sPutA X k i g) j = sN X j := rfl
theorem rsN_xPutB (X : XS) (k : Nat) (g : Nat → Nat) (j : Nat) : sN (xPutB X k g) j = sN X j := rfl
theorem rsN_xPutA (X : XS) (k : Nat) (g : Nat → Int32) (j : Nat) : sN (xPutA X k g) j = sN X j := rfl
theorem rsI_xSetN (X : XS) (k v : Nat) (f j : Nat) : sI (xSetN X k v) f j = sI X f j := rfl
theorem rsI_xSetI (X : XS) (k : Nat) (v : Int32) (f j : Nat) : sI (xSetI X k v) f j = sI X f j := rfl
theorem rsI_xSetB (X : XS) (k i v : Nat) (f j : Nat) : sI (xSetB X k i v) f j = sI X f j := rfl
theorem rsI_xSetA (X : XS) (k i : Nat) (v : Int32) (f j : Nat) : sI (xSetA X k i v) f j = sI X f j := rfl
theorem rsI_sSetN (X : XS) (k v : Nat) (f j : Nat) : sI (sSetN X k v) f j = sI X f j := rfl
theorem rsI_sSetA (X : XS) (k i a : Nat) (v : Int32) (f j : Nat) : sI (sSetA X k i a v) f j = sI X f j := rfl
theorem rsI_sPutA (X : XS) (k i : Nat) (g : Nat → Int32) (f j : Nat) : sI (sPutA X k i g) f j = sI X f j := rfl
theorem rsI_xPutB (X : XS) (k : Nat) (g : Nat → Nat) (f j : Nat) : sI (xPutB X k g) f j = sI X f j := rfl
theorem rsI_xPutA (X : XS) (k : Nat) (g : Nat → Int32) (f j : Nat) : sI (xPutA X k g) f j = sI X f j := rfl
theorem rsA_xSetN (X : XS) (k v : Nat) (f j b : Nat) : sA (xSetN X k v) f j b = sA X f j b := rfl
theorem rsA_xSetI (X : XS) (k : Nat) (v : Int32) (f j b : Nat) : sA (xSetI X k v) f j b = sA X f j b := rfl
theorem rsA_xSetB (X : XS) (k i v : Nat) (f j b : Nat) : sA (xSetB X k i v) f j b = sA X f j b := rfl
theorem rsA_xSetA (X : XS) (k i : Nat) (v : Int32) (f j b : Nat) : sA (xSetA X k i v) f j b = sA X f j b := rfl
theorem rsA_sSetN (X : XS) (k v : Nat) (f j b : Nat) : sA (sSetN X k v) f j b = sA X f j b := rfl
theorem rsA_sSetI (X : XS) (k i : Nat) (v : Int32) (f j b : Nat) : sA (sSetI X k i v) f j b = sA X f j b := rfl
theorem rsA_xPutB (X : XS) (k : Nat) (g : Nat → Nat) (f j b : Nat) : sA (xPutB X k g) f j b = sA X f j b := rfl
theorem rsA_xPutA (X : XS) (k : Nat) (g : Nat → Int32) (f j b : Nat) : sA (xPutA X k g) f j b = sA X f j b := rfl
theorem xB_P (X : XS) (k : Nat) (g : Nat → Nat) (f j : Nat) : xB (xPutB X k g) f j = if f = k then g j else xB X f j := rfl
theorem xA_P (X : XS) (k : Nat) (g : Nat → Int32) (f j : Nat) : xA (xPutA X k g) f j = if f = k then g j else xA X f j := rfl
