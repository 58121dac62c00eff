/-! THE CLASS'S WORLD: the object in cell 0, its arrays, 23 states (0 now, 1 2 images, 3.. undone), a port with its limbs -/
/-- a port: its first cell, naturals of its int fields, its arrays, its limbs' ints (length 0, heir 2), what a season adds -/
abbrev PS : Type := Nat × (Nat → Nat) × (Nat → Nat → Nat) × (Nat → Nat → Int32) × (Nat → Nat → Int32)
def pb (P : PS) : Nat := P.1
def pN (P : PS) (k : Nat) : Nat := P.2.1 k
def pB (P : PS) (k j : Nat) : Nat := P.2.2.1 k j
def lI (P : PS) (k f : Nat) : Int32 := P.2.2.2.1 k f
def lA (P : PS) (k q : Nat) : Int32 := P.2.2.2.2 k q
abbrev XS : Type := (Nat → Nat) × (Nat → Int32) × (Nat → Nat → Nat) × (Nat → Nat → Int32) × (Nat → Nat) × (Nat → Nat → Int32) × (Nat → Nat → Nat → Int32)
def xN (X : XS) (k : Nat) : Nat := X.1 k
def xI (X : XS) (k : Nat) : Int32 := X.2.1 k
def xB (X : XS) (k j : Nat) : Nat := X.2.2.1 k j
def xA (X : XS) (k j : Nat) : Int32 := X.2.2.2.1 k j
def sN (X : XS) (j : Nat) : Nat := X.2.2.2.2.1 j
def sI (X : XS) (j f : Nat) : Int32 := X.2.2.2.2.2.1 j f
def sA (X : XS) (j a i : Nat) : Int32 := X.2.2.2.2.2.2 j a i
def up3 {α : Type} (f : Nat → Nat → Nat → α) (k j i : Nat) (v : α) : Nat → Nat → Nat → α := fun a b c => if a = k ∧ b = j ∧ c = i then v else f a b c
def xSetN (X : XS) (k v : Nat) : XS := (up1 X.1 k v, X.2)
def xSetI (X : XS) (k : Nat) (v : Int32) : XS := (X.1, up1 X.2.1 k v, X.2.2)
def xSetB (X : XS) (k j v : Nat) : XS := (X.1, X.2.1, up2 X.2.2.1 k j v, X.2.2.2)
def xSetA (X : XS) (k j : Nat) (v : Int32) : XS := (X.1, X.2.1, X.2.2.1, up2 X.2.2.2.1 k j v, X.2.2.2.2)
def sSetN (X : XS) (j v : Nat) : XS := (X.1, X.2.1, X.2.2.1, X.2.2.2.1, up1 X.2.2.2.2.1 j v, X.2.2.2.2.2)
def sSetI (X : XS) (j f : Nat) (v : Int32) : XS := (X.1, X.2.1, X.2.2.1, X.2.2.2.1, X.2.2.2.2.1, up2 X.2.2.2.2.2.1 j f v, X.2.2.2.2.2.2)
def sSetA (X : XS) (j a i : Nat) (v : Int32) : XS := (X.1, X.2.1, X.2.2.1, X.2.2.2.1, X.2.2.2.2.1, X.2.2.2.2.2.1, up3 X.2.2.2.2.2.2 j a i v)
/-- a whole array of a state -/
def sPutA (X : XS) (j a : Nat) (g : Nat → Int32) : XS := (X.1, X.2.1, X.2.2.1, X.2.2.2.1, X.2.2.2.2.1, X.2.2.2.2.2.1, fun b c i => if b = j ∧ c = a then g i else X.2.2.2.2.2.2 b c i)
/-- a whole array of naturals of the object -/
def xPutB (X : XS) (k : Nat) (g : Nat → Nat) : XS := (X.1, X.2.1, fun b i => if b = k then g i else X.2.2.1 b i, X.2.2.2)
def xPutA (X : XS) (k : Nat) (g : Nat → Int32) : XS := (X.1, X.2.1, X.2.2.1, fun b i => if b = k then g i else X.2.2.2.1 b i, X.2.2.2.2)
/-- the cell of state j -/
def sAd (j : Nat) : Nat := if j = 0 then 10 else 22 + 4 * j
/-- the object's arrays: cell, length, kind (0 ints, 1 naturals, 2 bytes) -/
def xAr (k : Nat) : Option (Nat × Nat × Nat) := match k with
  | 4 => some (15, 8, 0)
  | 5 => some (16, 8, 0)
  | 7 => some (17, 15, 1)
  | 8 => some (18, 15, 0)
  | 10 => some (19, 250, 2)
  | 13 => some (20, 6, 1)
  | 14 => some (21, 6, 1)
  | 17 => some (22, 4, 1)
  | 19 => some (23, 6, 0)
  | 20 => some (24, 6, 0)
  | _ => none
def xFd (p : Nat) : Nat := match p with
  | 15 => 4 | 16 => 5 | 17 => 7 | 18 => 8 | 19 => 10 | 20 => 13 | 21 => 14 | 22 => 17 | 23 => 19 | _ => 20
def xIs (k : Nat) : Bool := match k with
  | 12 => true | 21 => true | _ => false
def xfv (N0 : Nat) (P : PS) (X : XS) (k : Nat) : Value := match k with
  | 0 => .ref (N0 + pb P)
  | 1 => .ref (N0 + sAd 0)
  | 2 => .ref (N0 + 14)
  | 22 => .ref (N0 + 25)
  | k => match xAr k with
    | some q => .ref (N0 + q.1)
    | none => cond (xIs k) (.int (xI X k)) (.int (nI (xN X k)))
def xfs (N0 : Nat) (P : PS) (X : XS) : List Value := (List.range 23).map (xfv N0 P X)
def xArc (N0 : Nat) (kA : Nat → ClassId) (X : XS) (p : Nat) : va_E := match p with
  | 14 => .inl (kA 4, 20, .inr (.inr (.inr (.inr (fun i => some (N0 + sAd (i + 3)))))))
  | 25 => .inl (kA 4, 2, .inr (.inr (.inr (.inr (fun i => some (N0 + sAd (i + 1)))))))
  | p => match xAr (xFd p) with
    | some (_, len, kd) => .inl (kA (cond (Nat.beq kd 2) 1 0), len, .inl (cond (Nat.beq kd 1) (fun j => nI (xB X (xFd p) j)) (xA X (xFd p))))
    | none => .inr (0, [])
def sfv (N0 : Nat) (X : XS) (j k : Nat) : Value := match k with
  | 0 => .ref (N0 + (sAd j + 1))
  | 1 => .ref (N0 + (sAd j + 2))
  | 2 => .ref (N0 + (sAd j + 3))
  | 5 => .int (nI (sN X j))
  | 9 => .ref (N0 + 0)
  | k => .int (sI X j k)
def sfs (N0 : Nat) (X : XS) (j : Nat) : List Value := (List.range 10).map (sfv N0 X j)
def sCell (N0 : Nat) (kA : Nat → ClassId) (X : XS) (j r : Nat) : va_E := match r with
  | 0 => .inr (2, sfs N0 X j)
  | r + 1 => .inl (kA 0, 6, .inl (sA X j r))
def pfv (N0 : Nat) (P : PS) (k : Nat) : Value := match k with
  | 0 => .ref (N0 + (pb P + 1))
  | 2 => .ref (N0 + (pb P + 2))
  | 3 => .ref (N0 + (pb P + 3))
  | 4 => .ref (N0 + (pb P + 4))
  | 6 => .ref (N0 + (pb P + 5))
  | 7 => .ref (N0 + (pb P + 6))
  | 8 => .ref (N0 + (pb P + 7))
  | 9 => .ref (N0 + (pb P + 8))
  | k => .int (nI (pN P k))
def pfs (N0 : Nat) (P : PS) : List Value := (List.range 11).map (pfv N0 P)
def lfs (N0 : Nat) (P : PS) (k : Nat) : List Value := [.int (lI P k 0), .ref (N0 + (pb P + (10 + 2 * k))), .int (lI P k 2)]
/-- the limbs that a port's array holds -/
def pLim (N0 : Nat) (P : PS) (k : Nat) : Option Nat := if k < pN P 1 then some (N0 + (pb P + (9 + 2 * k))) else none
def pCell (N0 : Nat) (kA : Nat → ClassId) (P : PS) (r : Nat) : va_E :=
  if r = 0 then .inr (1, pfs N0 P) else if r = 1 then .inl (kA 3, 6, .inr (.inr (.inr (.inr (pLim N0 P))))) else
  if r < 5 then .inl (kA 0, 6, .inl (fun j => nI (pB P r j))) else if r < 9 then .inl (kA 0, 8, .inl (fun j => nI (pB P (r + 1) j))) else
  if (r - 9) % 2 = 0 then .inr (6, lfs N0 P ((r - 9) / 2)) else .inl (kA 0, 4, .inl (lA P ((r - 9) / 2)))
def pOr (N0 : Nat) (kA : Nat → ClassId) (hs : hT) (P : PS) (a : Nat) : va_E := if pb P ≤ a ∧ a < pb P + 9 + 2 * pN P 1 then pCell N0 kA P (a - pb P) else hs a
def xH (N0 : Nat) (kA : Nat → ClassId) (hs : hT) (P : PS) (X : XS) : hT := fun a =>
  if a = 0 then .inr (0, xfs N0 P X) else if a < 10 then pOr N0 kA hs P a else if a < 14 then sCell N0 kA X 0 (a - 10) else
  if a < 26 then xArc N0 kA X a else if a < 114 then sCell N0 kA X ((a - 26) / 4 + 1) ((a - 26) % 4) else pOr N0 kA hs P a
/-- where a port may lie -/
def xOk (P : PS) (n : Nat) : Prop := ((pb P = 1 ∧ pN P 1 = 0) ∨ 114 ≤ pb P) ∧ pb P + 9 + 2 * pN P 1 ≤ n ∧ 114 ≤ n ∧ pN P 1 ≤ 6
section XW
variable {N0 n : Nat} {kA : Nat → ClassId} {hs : hT} {P : PS} {X : XS}
theorem xf_get (N0 : Nat) (P : PS) (X : XS) {k : Nat} (hk : k < 23) : (xfs N0 P X)[k]? = some (xfv N0 P X k) := by simp [xfs, hk]
theorem xf_len : (xfs N0 P X).length = 23 := by simp [xfs]
theorem sf_get (N0 : Nat) (X : XS) (j : Nat) {k : Nat} (hk : k < 10) : (sfs N0 X j)[k]? = some (sfv N0 X j k) := by simp [sfs, hk]
theorem sf_len {j : Nat} : (sfs N0 X j).length = 10 := by simp [sfs]
theorem pf_get (N0 : Nat) (P : PS) {k : Nat} (hk : k < 11) : (pfs N0 P)[k]? = some (pfv N0 P k) := by simp [pfs, hk]
theorem xc_o : xH N0 kA hs P X 0 = .inr (0, xfs N0 P X) := by simp [xH]
theorem xc_a {p : Nat} (h1 : 14 ≤ p) (h2 : p ≤ 25) : xH N0 kA hs P X p = xArc N0 kA X p := by
  rw [xH, if_neg (by omega), if_neg (by omega), if_neg (by omega), if_pos (by omega)]
theorem sAd_lt {j : Nat} (hj : j < 23) : sAd j + 3 < 114 := by unfold sAd; split <;> omega
theorem xc_s {j r : Nat} (hj : j < 23) (hr : r < 4) : xH N0 kA hs P X (sAd j + r) = sCell N0 kA X j r := by
  unfold sAd
  by_cases h : j = 0
  · subst h
    rw [if_pos rfl, xH, if_neg (by omega), if_neg (by omega), if_pos (by omega), Nat.add_sub_cancel_left]
  · rw [if_neg h, xH, if_neg (by omega), if_neg (by omega), if_neg (by omega), if_neg (by omega), if_pos (by omega)]
    have e1 : (22 + 4 * j + r - 26) / 4 + 1 = j := by omega
    have e2 : (22 + 4 * j + r - 26) % 4 = r := by omega
    rw [e1, e2]
theorem xc_so {j : Nat} (hj : j < 23) : xH N0 kA hs P X (sAd j) = .inr (2, sfs N0 X j) := xc_s (r := 0) hj (by decide)
theorem s_lt {j r : Nat} (hn : xOk P n) (hj : j < 23) (hr : r < 4) : sAd j + r < n := by
  have := sAd_lt hj
  have := hn.2.2.1
  omega
theorem s_lt0 {j : Nat} (hn : xOk P n) (hj : j < 23) : sAd j < n := s_lt (r := 0) hn hj (by decide)
theorem xc_p {r : Nat} (hn : xOk P n) (hr : r < 9 + 2 * pN P 1) : xH N0 kA hs P X (pb P + r) = pCell N0 kA P r := by
  obtain ⟨h1, h2, h3, h4⟩ := hn
  have e : pOr N0 kA hs P (pb P + r) = pCell N0 kA P r := by
    rw [pOr, if_pos (by omega), Nat.add_sub_cancel_left]
  rcases h1 with h1 | h1
  · rw [xH, if_neg (by omega), if_pos (by omega), e]
  · rw [xH, if_neg (by omega), if_neg (by omega), if_neg (by omega), if_neg (by omega), if_neg (by omega), e]
theorem xc_po (hn : xOk P n) : xH N0 kA hs P X (pb P) = .inr (1, pfs N0 P) := by
  have := xc_p (N0 := N0) (kA := kA) (hs := hs) (X := X) (r := 0) hn (by omega)
  exact this
theorem p_lt {r : Nat} (hn : xOk P n) (hr : r < 9 + 2 * pN P 1) : pb P + r < n := by
  have := hn.2.1
  omega
theorem p_lt0 (hn : xOk P n) : pb P < n := p_lt (r := 0) hn (by omega)
theorem xc_l {k : Nat} (hn : xOk P n) (hk : k < pN P 1) : xH N0 kA hs P X (pb P + (9 + 2 * k)) = .inr (6, lfs N0 P k) := by
  rw [xc_p hn (by omega), pCell, if_neg (by omega), if_neg (by omega), if_neg (by omega), if_neg (by omega), if_pos (by omega)]
  have e : (9 + 2 * k - 9) / 2 = k := by omega
  rw [e]
theorem xc_by {k : Nat} (hn : xOk P n) (hk : k < pN P 1) : xH N0 kA hs P X (pb P + (10 + 2 * k)) = .inl (kA 0, 4, .inl (lA P k)) := by
  rw [xc_p hn (by omega), pCell, if_neg (by omega), if_neg (by omega), if_neg (by omega), if_neg (by omega), if_neg (by omega)]
  have e : (10 + 2 * k - 9) / 2 = k := by omega
  rw [e]
theorem l_lt {k : Nat} (hn : xOk P n) (hk : k < pN P 1) : pb P + (9 + 2 * k) < n ∧ pb P + (10 + 2 * k) < n := ⟨p_lt hn (by omega), p_lt hn (by omega)⟩
theorem lim_at {k : Nat} (hk : k < pN P 1) : va_rf (pLim N0 P k) = .ref (N0 + (pb P + (9 + 2 * k))) := by
  rw [pLim, if_pos hk]
  rfl
/-- an update that shows in one cell -/
theorem xu_g {i : Nat} {x : va_E} {X' : XS} (h1 : xH N0 kA hs P X' i = x) (h2 : ∀ a, a ≠ i → xH N0 kA hs P X' a = xH N0 kA hs P X a) : va_up (xH N0 kA hs P X) i x = xH N0 kA hs P X' := by
  funext a
  by_cases e : a = i
  · subst e
    rw [va_up, if_pos rfl, h1]
  · rw [va_up, if_neg e, h2 a e]
/-- two states of the same cells but for those told -/
theorem xH_c {X' : XS} {a : Nat} (h0 : a = 0 → xfs N0 P X' = xfs N0 P X) (h1 : ∀ j r, j < 23 → r < 4 → a = sAd j + r → sCell N0 kA X' j r = sCell N0 kA X j r) (h2 : 14 ≤ a → a < 26 → xArc N0 kA X' a = xArc N0 kA X a) : xH N0 kA hs P X' a = xH N0 kA hs P X a := by
  unfold xH
  by_cases e0 : a = 0
  · rw [if_pos e0, if_pos e0, h0 e0]
  · rw [if_neg e0, if_neg e0]
    by_cases e1 : a < 10
    · rw [if_pos e1, if_pos e1]
    · rw [if_neg e1, if_neg e1]
      by_cases e2 : a < 14
      · rw [if_pos e2, if_pos e2]
        exact h1 0 (a - 10) (by decide) (by omega) (by simp [sAd]; omega)
      · rw [if_neg e2, if_neg e2]
        by_cases e3 : a < 26
        · rw [if_pos e3, if_pos e3]
          exact h2 (by omega) e3
        · rw [if_neg e3, if_neg e3]
          by_cases e4 : a < 114
          · rw [if_pos e4, if_pos e4]
            exact h1 _ _ (by omega) (by omega) (by rw [sAd, if_neg (by omega)]; omega)
          · rw [if_neg e4, if_neg e4]
theorem f_set {L : List Value} {f g : Nat → Value} {m k : Nat} {v : Value} (hL : L = (List.range m).map f) (hk : k < m) (h1 : g k = v) (h2 : ∀ j, j < m → j ≠ k → g j = f j) : L.set k v = (List.range m).map g := by
  subst hL
  apply List.ext_getElem?
  intro j
  by_cases hj : j < m
  · by_cases e : j = k
    · subst e
      rw [List.getElem?_set_self (by simp [hj])]
      simp [hj, h1]
    · rw [List.getElem?_set_ne (Ne.symm e)]
      simp [hj, h2 j hj e]
  · rw [List.getElem?_eq_none (by simp; omega), List.getElem?_eq_none (by simp; omega)]
theorem xu_N {k v : Nat} (hk : k < 23) (h0 : k ≠ 0) (h1 : k ≠ 1) (h2 : k ≠ 2) (h22 : k ≠ 22) (ha : xAr k = none) (hi : xIs k = false) : va_up (xH N0 kA hs P X) 0 (.inr (0, (xfs N0 P X).set k (.int (nI v)))) = xH N0 kA hs P (xSetN X k v) := by
  refine xu_g ?_ (fun a ha0 => xH_c (fun z => absurd z ha0) (fun j r _ _ _ => rfl) (fun _ _ => rfl))
  rw [xc_o]
  congr 2
  refine (f_set rfl hk ?_ (fun j hj hne => ?_)).symm
  · simp only [xfv, ha, hi, cond, xN, xSetN, up1, if_true]
  · unfold xfv
    split <;> first | rfl | (split <;> first | rfl | (simp [xN, xI, xSetN, up1, hne]))
theorem xu_I {k : Nat} {v : Int32} (hk : k < 23) (h0 : k ≠ 0) (h1 : k ≠ 1) (h2 : k ≠ 2) (h22 : k ≠ 22) (ha : xAr k = none) (hi : xIs k = true) : va_up (xH N0 kA hs P X) 0 (.inr (0, (xfs N0 P X).set k (.int v))) = xH N0 kA hs P (xSetI X k v) := by
  refine xu_g ?_ (fun a ha0 => xH_c (fun z => absurd z ha0) (fun j r _ _ _ => rfl) (fun _ _ => rfl))
  rw [xc_o]
  congr 2
  refine (f_set rfl hk ?_ (fun j hj hne => ?_)).symm
  · simp only [xfv, ha, hi, cond, xI, xSetI, up1, if_true]
  · unfold xfv
    split <;> first | rfl | (split <;> first | rfl | (simp [xN, xI, xSetI, up1, hne]))
end XW
