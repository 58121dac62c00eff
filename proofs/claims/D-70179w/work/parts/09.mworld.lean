/-! THE REFERENCE'S WORLD: one object and its arrays, from the cell mb on -/
def bI (b : Bool) : Int32 := cond b (nI 1) (nI 0)
/-- naturals of the int fields, ints, arrays of naturals, arrays of ints: by the field's number -/
abbrev MS : Type := (Nat → Nat) × (Nat → Int32) × (Nat → Nat → Nat) × (Nat → Nat → Int32)
def mN (M : MS) (k : Nat) : Nat := M.1 k
def mI (M : MS) (k : Nat) : Int32 := M.2.1 k
def mB (M : MS) (k j : Nat) : Nat := M.2.2.1 k j
def mA (M : MS) (k j : Nat) : Int32 := M.2.2.2 k j
def up1 {α : Type} (f : Nat → α) (k : Nat) (v : α) : Nat → α := fun a => if a = k then v else f a
def up2 {α : Type} (f : Nat → Nat → α) (k j : Nat) (v : α) : Nat → Nat → α := fun a b => if a = k ∧ b = j then v else f a b
def mSetN (M : MS) (k v : Nat) : MS := (up1 M.1 k v, M.2.1, M.2.2.1, M.2.2.2)
def mSetI (M : MS) (k : Nat) (v : Int32) : MS := (M.1, up1 M.2.1 k v, M.2.2.1, M.2.2.2)
def mSetB (M : MS) (k j v : Nat) : MS := (M.1, M.2.1, up2 M.2.2.1 k j v, M.2.2.2)
def mSetA (M : MS) (k j : Nat) (v : Int32) : MS := (M.1, M.2.1, M.2.2.1, up2 M.2.2.2 k j v)
/-- which field is an array: its cell behind mb, its length, its kind (0 ints, 1 naturals, 2 booleans) -/
def mAr (k : Nat) : Option (Nat × Nat × Nat) := match k with
  | 1 => some (1, 24, 0)
  | 2 => some (2, 6, 0)
  | 4 => some (3, 6, 1)
  | 5 => some (4, 6, 1)
  | 6 => some (5, 6, 1)
  | 8 => some (6, 8, 1)
  | 9 => some (7, 8, 1)
  | 10 => some (8, 8, 1)
  | 11 => some (9, 8, 1)
  | 12 => some (10, 22, 0)
  | 14 => some (11, 250, 1)
  | 21 => some (12, 6, 1)
  | 22 => some (13, 24, 1)
  | 23 => some (14, 6, 0)
  | 25 => some (15, 6, 1)
  | 26 => some (16, 6, 1)
  | 27 => some (17, 6, 1)
  | 29 => some (18, 8, 1)
  | 30 => some (19, 8, 1)
  | 31 => some (20, 8, 1)
  | 32 => some (21, 8, 1)
  | 34 => some (22, 440, 0)
  | 38 => some (23, 8, 0)
  | 39 => some (24, 8, 0)
  | 41 => some (25, 15, 1)
  | 42 => some (26, 15, 0)
  | 43 => some (27, 46, 0)
  | 44 => some (28, 2, 2)
  | _ => none
/-- the field of the array in the cell p behind mb -/
def mFd (p : Nat) : Nat := match p with
  | 1 => 1 | 2 => 2 | 3 => 4 | 4 => 5 | 5 => 6 | 6 => 8 | 7 => 9 | 8 => 10 | 9 => 11 | 10 => 12 | 11 => 14 | 12 => 21 | 13 => 22 | 14 => 23 | 15 => 25 | 16 => 26 | 17 => 27 | 18 => 29 | 19 => 30 | 20 => 31 | 21 => 32 | 22 => 34 | 23 => 38 | 24 => 39 | 25 => 41 | 26 => 42 | 27 => 43 | _ => 44
/-- the int fields that hold other than naturals -/
def mIs (k : Nat) : Bool := match k with
  | 13 => true | 16 => true | 35 => true | _ => false
def mfv (N0 mb : Nat) (M : MS) (k : Nat) : Value := match mAr k with
  | some q => .ref (N0 + (mb + q.1))
  | none => cond (mIs k) (.int (mI M k)) (.int (nI (mN M k)))
def mfs (N0 mb : Nat) (M : MS) : List Value := (List.range 45).map (mfv N0 mb M)
def mArc (kA : Nat → ClassId) (M : MS) (k : Nat) : va_E := match mAr k with
  | some (_, len, kd) => .inl (kA (cond (Nat.beq kd 2) 2 0), len, .inl (cond (Nat.beq kd 1) (fun j => nI (mB M k j)) (mA M k)))
  | none => .inr (0, [])
def mH (N0 mb : Nat) (kA : Nat → ClassId) (hs : hT) (M : MS) : hT := fun a =>
  if a = mb then .inr (3, mfs N0 mb M) else if mb < a ∧ a ≤ mb + 28 then mArc kA M (mFd (a - mb)) else hs a
section MW
variable {N0 mb : Nat} {kA : Nat → ClassId} {hs : hT} {M : MS}
theorem mArc_c {M' : MS} {k : Nat} (h1 : ∀ j, mB M' k j = mB M k j) (h2 : ∀ j, mA M' k j = mA M k j) : mArc kA M' k = mArc kA M k := by
  have e : mA M' k = mA M k := funext h2
  simp only [mArc, e, h1]
theorem mf_get (N0 mb : Nat) (M : MS) {k : Nat} (hk : k < 45) : (mfs N0 mb M)[k]? = some (mfv N0 mb M k) := by simp [mfs, hk]
theorem mf_len : (mfs N0 mb M).length = 45 := by simp [mfs]
theorem mc_o : mH N0 mb kA hs M mb = .inr (3, mfs N0 mb M) := by simp [mH]
theorem mc_a {p : Nat} (h1 : 1 ≤ p) (h2 : p ≤ 28) : mH N0 mb kA hs M (mb + p) = mArc kA M (mFd p) := by
  rw [mH, if_neg (by omega), if_pos (by omega), Nat.add_sub_cancel_left]
theorem mf_set {k : Nat} {M' : MS} {v : Value} (hk : k < 45) (h1 : mfv N0 mb M' k = v) (h2 : ∀ j, j < 45 → j ≠ k → mfv N0 mb M' j = mfv N0 mb M j) : (mfs N0 mb M).set k v = mfs N0 mb M' := by
  apply List.ext_getElem?
  intro j
  by_cases hj : j < 45
  · by_cases e : j = k
    · subst e
      rw [List.getElem?_set_self (by rw [mf_len]; exact hj), mf_get _ _ _ hj, h1]
    · rw [List.getElem?_set_ne (Ne.symm e), mf_get _ _ _ hj, mf_get _ _ _ hj, h2 j hj e]
  · rw [List.getElem?_eq_none (by rw [List.length_set, mf_len]; omega), List.getElem?_eq_none (by rw [mf_len]; omega)]
theorem mu_o {fs : List Value} {M' : MS} (h1 : fs = mfs N0 mb M') (h2 : ∀ k, mArc kA M' k = mArc kA M k) : va_up (mH N0 mb kA hs M) mb (.inr (3, fs)) = mH N0 mb kA hs M' := by
  funext a
  by_cases e : a = mb
  · subst e
    simp [va_up, mH, h1]
  · rw [va_up, if_neg e, mH, mH, if_neg e, if_neg e, h2]
theorem mu_N {k v : Nat} (hk : k < 45) (h1 : mAr k = none) (h2 : mIs k = false) : va_up (mH N0 mb kA hs M) mb (.inr (3, (mfs N0 mb M).set k (.int (nI v)))) = mH N0 mb kA hs (mSetN M k v) := by
  refine mu_o (mf_set hk (by simp [mfv, h1, h2, mN, mSetN, up1]) (fun j _ hj => by simp [mfv, mN, mI, mSetN, up1, hj])) (fun j => mArc_c (fun _ => rfl) (fun _ => rfl))
theorem mu_I {k : Nat} {v : Int32} (hk : k < 45) (h1 : mAr k = none) (h2 : mIs k = true) : va_up (mH N0 mb kA hs M) mb (.inr (3, (mfs N0 mb M).set k (.int v))) = mH N0 mb kA hs (mSetI M k v) := by
  refine mu_o (mf_set hk (by simp [mfv, h1, h2, mI, mSetI, up1]) (fun j _ hj => by simp [mfv, mN, mI, mSetI, up1, hj])) (fun j => mArc_c (fun _ => rfl) (fun _ => rfl))
theorem mu_a {p : Nat} {x : va_E} {M' : MS} (h1 : 1 ≤ p) (h2 : p ≤ 28) (h3 : mArc kA M' (mFd p) = x) (h4 : ∀ q, 1 ≤ q → q ≤ 28 → q ≠ p → mArc kA M' (mFd q) = mArc kA M (mFd q)) (h5 : mfs N0 mb M' = mfs N0 mb M) : va_up (mH N0 mb kA hs M) (mb + p) x = mH N0 mb kA hs M' := by
  funext a
  by_cases e : a = mb + p
  · subst e
    rw [mc_a h1 h2, h3]
    simp [va_up]
  · rw [va_up, if_neg e, mH, mH, h5]
    by_cases e1 : a = mb
    · rw [if_pos e1, if_pos e1]
    · rw [if_neg e1, if_neg e1]
      by_cases e2 : mb < a ∧ a ≤ mb + 28
      · rw [if_pos e2, if_pos e2, h4 (a - mb) (by omega) (by omega) (by omega)]
      · rw [if_neg e2, if_neg e2]
theorem mFd_inj : ∀ p, p < 29 → ∀ q, q < 29 → 1 ≤ p → 1 ≤ q → mFd p = mFd q → p = q := by decide +kernel
theorem mu_B {k p len j v : Nat} (hk : mAr k = some (p, len, 1)) (hp : mFd p = k) (h1 : 1 ≤ p) (h2 : p ≤ 28) : va_up (mH N0 mb kA hs M) (mb + p) (.inl (kA 0, len, .inl (upd (fun j => nI (mB M k j)) j (nI v)))) = mH N0 mb kA hs (mSetB M k j v) := by
  refine mu_a h1 h2 ?_ (fun q q1 q2 q3 => ?_) (by simp [mfs, mfv, mSetB, mN, mI])
  · rw [hp]
    simp only [mArc, hk]
    congr 3
    simp only [mSetB, mB, up2, cond, Nat.beq]
    congr 1
    funext a
    by_cases e : a = j <;> simp [upd, e]
  · have hne : mFd q ≠ k := fun z => q3 (mFd_inj q (by omega) p (by omega) q1 h1 (by rw [z, hp]))
    exact mArc_c (fun j => by simp [mSetB, mB, up2, hne]) (fun j => rfl)
theorem mu_A {k p len kd j : Nat} {v : Int32} (hk : mAr k = some (p, len, kd)) (hkd : Nat.beq kd 1 = false) (hp : mFd p = k) (h1 : 1 ≤ p) (h2 : p ≤ 28) : va_up (mH N0 mb kA hs M) (mb + p) (.inl (kA (cond (Nat.beq kd 2) 2 0), len, .inl (upd (mA M k) j v))) = mH N0 mb kA hs (mSetA M k j v) := by
  refine mu_a h1 h2 ?_ (fun q q1 q2 q3 => ?_) (by simp [mfs, mfv, mSetA, mN, mI])
  · rw [hp]
    simp only [mArc, hk, hkd, cond]
    congr 3
    congr 1
    funext a
    by_cases e : a = j <;> simp [upd, e, mSetA, mA, up2]
  · have hne : mFd q ≠ k := fun z => q3 (mFd_inj q (by omega) p (by omega) q1 h1 (by rw [z, hp]))
    exact mArc_c (fun j => rfl) (fun j => by simp [mSetA, mA, up2, hne])
end MW
section SIMPM
theorem mN_N (M : MS) (k j v : Nat) : mN (mSetN M k v) j = if j = k then v else mN M j := rfl
theorem mN_I (M : MS) (k j : Nat) (v : Int32) : mN (mSetI M k v) j = mN M j := rfl
theorem mN_B (M : MS) (k i v j : Nat) : mN (mSetB M k i v) j = mN M j := rfl
theorem mN_A (M : MS) (k i : Nat) (v : Int32) (j : Nat) : mN (mSetA M k i v) j = mN M j := rfl
theorem mI_N (M : MS) (k j v : Nat) : mI (mSetN M k v) j = mI M j := rfl
theorem mI_I (M : MS) (k j : Nat) (v : Int32) : mI (mSetI M k v) j = if j = k then v else mI M j := rfl
theorem mI_B (M : MS) (k i v j : Nat) : mI (mSetB M k i v) j = mI M j := rfl
theorem mI_A (M : MS) (k i : Nat) (v : Int32) (j : Nat) : mI (mSetA M k i v) j = mI M j := rfl
theorem mB_N (M : MS) (k v f j : Nat) : mB (mSetN M k v) f j = mB M f j := rfl
theorem mB_I (M : MS) (k : Nat) (v : Int32) (f j : Nat) : mB (mSetI M k v) f j = mB M f j := rfl
theorem mB_B (M : MS) (k i v f j : Nat) : mB (mSetB M k i v) f j = if f = k ∧ j = i then v else mB M f j := rfl
theorem mB_A (M : MS) (k i : Nat) (v : Int32) (f j : Nat) : mB (mSetA M k i v) f j = mB M f j := rfl
theorem mA_N (M : MS) (k v f j : Nat) : mA (mSetN M k v) f j = mA M f j := rfl
theorem mA_I (M : MS) (k : Nat) (v : Int32) (f j : Nat) : mA (mSetI M k v) f j = mA M f j := rfl
theorem mA_B (M : MS) (k i v f j : Nat) : mA (mSetB M k i v) f j = mA M f j := rfl
theorem mA_A (M : MS) (k i : Nat) (v : Int32) (f j : Nat) : mA (mSetA M k i v) f j = if f = k ∧ j = i then v else mA M f j := rfl
end SIMPM
