/-! updates of the class's arrays and states -/
section XU
variable {N0 n : Nat} {kA : Nat → ClassId} {hs : hT} {P : PS} {X : XS}
theorem xFd_inj : ∀ p, p < 25 → ∀ q, q < 25 → 15 ≤ p → 15 ≤ q → xFd p = xFd q → p = q := by decide +kernel
theorem xArc_e {p : Nat} (h14 : p ≠ 14) (h25 : p ≠ 25) {len kd q : Nat} (hk : xAr (xFd p) = some (q, len, kd)) : xArc N0 kA X p = .inl (kA (cond (Nat.beq kd 2) 1 0), len, .inl (cond (Nat.beq kd 1) (fun j => nI (xB X (xFd p) j)) (xA X (xFd p)))) := by
  unfold xArc
  split
  · exact absurd rfl h14
  · exact absurd rfl h25
  · rw [hk]
theorem xArc_c {X' : XS} {p : Nat} (h1 : ∀ j, xB X' (xFd p) j = xB X (xFd p) j) (h2 : ∀ j, xA X' (xFd p) j = xA X (xFd p) j) : xArc N0 kA X' p = xArc N0 kA X p := by
  unfold xArc
  split
  · rfl
  · rfl
  · have e : xA X' (xFd p) = xA X (xFd p) := funext h2
    simp only [e, h1]
theorem xu_ar {p : Nat} {x : va_E} {X' : XS} (h1 : 15 ≤ p) (h2 : p ≤ 24) (h3 : xArc N0 kA X' p = x) (h4 : ∀ q, 15 ≤ q → q ≤ 24 → q ≠ p → xArc N0 kA X' q = xArc N0 kA X q) (h5 : xfs N0 P X' = xfs N0 P X) (h6 : ∀ j r, sCell N0 kA X' j r = sCell N0 kA X j r) : va_up (xH N0 kA hs P X) p x = xH N0 kA hs P X' := by
  refine xu_g (by rw [xc_a (by omega) (by omega)]; exact h3) (fun a ha => xH_c (fun _ => h5) (fun j r _ _ _ => h6 j r) (fun g1 g2 => ?_))
  by_cases e14 : a = 14
  · subst e14; rfl
  · by_cases e25 : a = 25
    · subst e25; rfl
    · exact h4 a (by omega) (by omega) ha
theorem xu_B {k p len j v : Nat} (hk : xAr k = some (p, len, 1)) (hp : xFd p = k) (h1 : 15 ≤ p) (h2 : p ≤ 24) : va_up (xH N0 kA hs P X) p (.inl (kA 0, len, .inl (upd (fun j => nI (xB X k j)) j (nI v)))) = xH N0 kA hs P (xSetB X k j v) := by
  subst hp
  refine xu_ar h1 h2 ?_ (fun q q1 q2 q3 => ?_) rfl (fun _ _ => rfl)
  · rw [xArc_e (by omega) (by omega) hk]
    congr 3
    simp only [cond, Nat.beq]
    congr 1
    funext a
    by_cases e : a = j <;> simp [upd, e, xSetB, xB, up2]
  · have hne : xFd q ≠ xFd p := fun z => q3 (xFd_inj q (by omega) p (by omega) q1 h1 z)
    exact xArc_c (fun j => by simp [xSetB, xB, up2, hne]) (fun j => rfl)
theorem xu_A {k p len kd j : Nat} {v : Int32} (hk : xAr k = some (p, len, kd)) (hkd : Nat.beq kd 1 = false) (hp : xFd p = k) (h1 : 15 ≤ p) (h2 : p ≤ 24) : va_up (xH N0 kA hs P X) p (.inl (kA (cond (Nat.beq kd 2) 1 0), len, .inl (upd (xA X k) j v))) = xH N0 kA hs P (xSetA X k j v) := by
  subst hp
  refine xu_ar h1 h2 ?_ (fun q q1 q2 q3 => ?_) rfl (fun _ _ => rfl)
  · rw [xArc_e (by omega) (by omega) hk, hkd]
    congr 3
    simp only [cond]
    congr 1
    funext a
    by_cases e : a = j <;> simp [upd, e, xSetA, xA, up2]
  · have hne : xFd q ≠ xFd p := fun z => q3 (xFd_inj q (by omega) p (by omega) q1 h1 z)
    exact xArc_c (fun j => rfl) (fun j => by simp [xSetA, xA, up2, hne])
theorem xu_PB {k p len : Nat} {g : Nat → Nat} (hk : xAr k = some (p, len, 1)) (hp : xFd p = k) (h1 : 15 ≤ p) (h2 : p ≤ 24) : va_up (xH N0 kA hs P X) p (.inl (kA 0, len, .inl (fun j => nI (g j)))) = xH N0 kA hs P (xPutB X k g) := by
  subst hp
  refine xu_ar h1 h2 ?_ (fun q q1 q2 q3 => ?_) rfl (fun _ _ => rfl)
  · rw [xArc_e (by omega) (by omega) hk]
    congr 3
    simp only [cond, Nat.beq]
    congr 1
    funext a
    simp [xPutB, xB]
  · have hne : xFd q ≠ xFd p := fun z => q3 (xFd_inj q (by omega) p (by omega) q1 h1 z)
    exact xArc_c (fun j => by simp [xPutB, xB, hne]) (fun j => rfl)
theorem xu_PA {k p len : Nat} {g : Nat → Int32} (hk : xAr k = some (p, len, 0)) (hp : xFd p = k) (h1 : 15 ≤ p) (h2 : p ≤ 24) : va_up (xH N0 kA hs P X) p (.inl (kA 0, len, .inl g)) = xH N0 kA hs P (xPutA X k g) := by
  subst hp
  refine xu_ar h1 h2 ?_ (fun q q1 q2 q3 => ?_) rfl (fun _ _ => rfl)
  · rw [xArc_e (by omega) (by omega) hk]
    congr 3
    simp only [cond, Nat.beq]
    congr 1
    funext a
    simp [xPutA, xA]
  · have hne : xFd q ≠ xFd p := fun z => q3 (xFd_inj q (by omega) p (by omega) q1 h1 z)
    exact xArc_c (fun j => rfl) (fun j => by simp [xPutA, xA, hne])
theorem sAd_inj {j r j' r' : Nat} (hr : r < 4) (hr' : r' < 4) (h : sAd j + r = sAd j' + r') : j = j' ∧ r = r' := by
  unfold sAd at h
  split at h <;> split at h <;> omega
theorem sAd_ge {j r : Nat} (hr : r < 4) : sAd j + r ≠ 0 ∧ (sAd j + r < 14 ∨ 26 ≤ sAd j + r) := by
  unfold sAd
  split <;> omega
theorem xu_s {j r : Nat} {x : va_E} {X' : XS} (hj : j < 23) (hr : r < 4) (h1 : sCell N0 kA X' j r = x) (h2 : ∀ j' r', r' < 4 → ¬ (j' = j ∧ r' = r) → sCell N0 kA X' j' r' = sCell N0 kA X j' r') (h3 : xfs N0 P X' = xfs N0 P X) (h4 : ∀ p, xArc N0 kA X' p = xArc N0 kA X p) : va_up (xH N0 kA hs P X) (sAd j + r) x = xH N0 kA hs P X' := by
  refine xu_g (by rw [xc_s hj hr]; exact h1) (fun a ha => xH_c (fun _ => h3) (fun j' r' _ q1 q2 => h2 j' r' q1 (fun z => ha (by rw [q2, z.1, z.2]))) (fun _ _ => h4 a))
theorem sfs_c {X' : XS} {j : Nat} (h1 : sN X' j = sN X j) (h2 : ∀ f, sI X' j f = sI X j f) : sfs N0 X' j = sfs N0 X j := by
  unfold sfs
  apply List.map_congr_left
  intro k _
  unfold sfv
  split <;> first | rfl | rw [h1] | rw [h2]
theorem sCell_c {X' : XS} {j r : Nat} (h1 : sN X' j = sN X j) (h2 : ∀ f, sI X' j f = sI X j f) (h3 : ∀ a i, sA X' j a i = sA X j a i) : sCell N0 kA X' j r = sCell N0 kA X j r := by
  unfold sCell
  split
  · rw [sfs_c h1 h2]
  · next r => rw [show sA X' j r = sA X j r from funext (h3 r)]
theorem su_N {j v : Nat} (hj : j < 23) : va_up (xH N0 kA hs P X) (sAd j) (.inr (2, (sfs N0 X j).set 5 (.int (nI v)))) = xH N0 kA hs P (sSetN X j v) := by
  refine xu_s (r := 0) hj (by decide) ?_ (fun j' r' q1 q2 => ?_) rfl (fun _ => rfl)
  · show Sum.inr (2, _) = _
    congr 2
    refine (f_set rfl (by decide) ?_ (fun i hi hne => ?_)).symm
    · simp [sfv, sN, sSetN, up1]
    · unfold sfv
      split <;> first | rfl | exact absurd rfl hne
  · by_cases e : j' = j
    · subst e
      cases r' with
      | zero => exact absurd ⟨rfl, rfl⟩ q2
      | succ r' => rfl
    · exact sCell_c (by simp [sN, sSetN, up1, e]) (fun _ => rfl) (fun _ _ => rfl)
theorem su_I {j f : Nat} {v : Int32} (hj : j < 23) (hf : f = 3 ∨ f = 4 ∨ f = 6 ∨ f = 7 ∨ f = 8) : va_up (xH N0 kA hs P X) (sAd j) (.inr (2, (sfs N0 X j).set f (.int v))) = xH N0 kA hs P (sSetI X j f v) := by
  refine xu_s (r := 0) hj (by decide) ?_ (fun j' r' q1 q2 => ?_) rfl (fun _ => rfl)
  · show Sum.inr (2, _) = _
    congr 2
    refine (f_set rfl (by omega) ?_ (fun i hi hne => ?_)).symm
    · rcases hf with rfl | rfl | rfl | rfl | rfl <;> simp [sfv, sI, sSetI, up2]
    · unfold sfv
      split <;> first | rfl | (simp [sI, sSetI, up2, hne])
  · by_cases e : j' = j
    · subst e
      cases r' with
      | zero => exact absurd ⟨rfl, rfl⟩ q2
      | succ r' => rfl
    · exact sCell_c rfl (fun f' => by simp [sI, sSetI, up2, e]) (fun _ _ => rfl)
theorem su_A {j a i : Nat} {v : Int32} (hj : j < 23) (ha : a < 3) : va_up (xH N0 kA hs P X) (sAd j + (a + 1)) (.inl (kA 0, 6, .inl (upd (sA X j a) i v))) = xH N0 kA hs P (sSetA X j a i v) := by
  refine xu_s (r := a + 1) hj (by omega) ?_ (fun j' r' q1 q2 => ?_) rfl (fun _ => rfl)
  · show Sum.inl _ = _
    congr 3
    congr 1
    funext b
    by_cases e : b = i <;> simp [upd, e, sA, sSetA, up3]
  · cases r' with
    | zero => rfl
    | succ r' =>
      show Sum.inl _ = Sum.inl _
      congr 3
      congr 1
      funext b
      simp only [sA, sSetA, up3]
      rw [if_neg (by omega)]
theorem su_P {j a : Nat} {g : Nat → Int32} (hj : j < 23) (ha : a < 3) : va_up (xH N0 kA hs P X) (sAd j + (a + 1)) (.inl (kA 0, 6, .inl g)) = xH N0 kA hs P (sPutA X j a g) := by
  refine xu_s (r := a + 1) hj (by omega) ?_ (fun j' r' q1 q2 => ?_) rfl (fun _ => rfl)
  · show Sum.inl _ = _
    congr 3
    congr 1
    funext b
    simp [sA, sPutA]
  · cases r' with
    | zero => rfl
    | succ r' =>
      show Sum.inl _ = Sum.inl _
      congr 3
      congr 1
      funext b
      simp only [sA, sPutA]
      rw [if_neg (by omega)]
end XU
section NCP
variable {p : Program} {l : Launch} {e : Env} {R : Room} {s : State} {m : MethodId} {args : Array Value} {below : List Frame} {meth : Method} {c : Code} {Q : State → Prop} {D : va_G} {N0 nL pc : Nat} {L : List (Nat × Value)} {st : List Value} {h : hT} {n kc ks : Nat} {own : String} {cc : ByteArray} {ret : Option FieldType} {eb : Bool} {kA : Nat → ClassId}
/-- System.arraycopy of the first k ints of one array onto another's -/
theorem n_copyi (C : nC p s m args meth c own cc nL ret eb D N0 kA) {index i j A B k : Nat} {f g : Nat → Int32} (hlink : Cond.methodLink own index arraycopyName ∈ lw_all) (hnat : Cond.native arraycopyName ∈ lw_all) (hstat : Cond.static arraycopyName ∈ lw_all) (hini : Cond.initialized "java/lang/System" ∈ lw_all)
    (he0 : h i = .inl (kA 0, A, .inl f)) (hi : i < n) (he1 : h j = .inl (kA 0, B, .inl g)) (hj : j < n) (hA : k ≤ A) (hB : k ≤ B) (hk : k < 2 ^ 31) (hf : 1 ≤ R.frames) (hlo : (st.map fun v => v.category).sum + (nativeFrameWords "java/lang/System" "arraycopy" 5 + 11) ≤ R.locals) (hd : decode cc pc = .ok (.invokestatic index, 3))
    {h' : hT} (hh : va_up h j (.inl (kA 0, B, .inl (va_cpy f g 0 0 k))) = h') (K : nW p l e R s m args below meth c Q D N0 nL (pc + 3) L st h' n kc ks) : nW p l e R s m args below meth c Q D N0 nL pc L (.int (nI k) :: .int (nI 0) :: .ref (N0 + j) :: .int (nI 0) :: .ref (N0 + i) :: st) h n kc ks := fun ls H locs hl hR hS => by
  subst hh
  intro T hT X
  have ha0 : (wl N0 h n)[i]? = some (N0 + i, .inl (kA 0, A, .inl f)) := by rw [wl_get hi, he0]
  have ha1 : (wl N0 h n)[j]? = some (N0 + j, .inl (kA 0, B, .inl g)) := by rw [wl_get hj, he1]
  have hc0 : H[N0 + i]? = some (vp_cell (kA 0) (A, .inl f)) := hR.2 i _ ha0
  have hc1 : H[N0 + j]? = some (vp_cell (kA 0) (B, .inl g)) := hR.2 j _ ha1
  obtain ⟨-, k0, hk0, cm0, hkk0⟩ := (C.2.2.2.2.2.1.1.2 0 _ rfl).1 A (fun j => .int (f j))
  obtain ⟨-, k1, hk1, cm1, hkk1⟩ := (C.2.2.2.2.2.1.1.2 0 _ rfl).1 B (fun j => .int (g j))
  have z0 : (nI 0).toNatClampNeg = 0 := nI_clamp (by decide)
  have zk : (nI k).toNatClampNeg = k := nI_clamp hk
  have i0 : (nI 0).toInt = ((0 : Nat) : Int) := nI_toInt (by decide)
  have ik : (nI k).toInt = (k : Int) := nI_toInt hk
  obtain ⟨vm', X', step⟩ := X.arraycopy C.1 C.2.2.2.1 (C.2.2.2.2.1 _ hlink) (C.2.2.2.2.1 _ hnat) (C.2.2.2.2.1 _ hstat) (C.2.2.2.2.1 _ hini) (src := N0 + i) (dst := N0 + j) (cs := vp_cell (kA 0) (A, .inl f)) (cd := vp_cell (kA 0) (B, .inl g)) (srcPos := nI 0) (destPos := nI 0) (n := nI k) (by rw [hT]; exact hc0) (by rw [hT]; exact hc1)
    (fun _ h => by cases h) (fun _ h => by cases h) (fun h => by cases h) (fun h => by cases h) hk0 hk1 hkk0 hkk1 (by simp [refKind]) (nI_pos (by decide)) (nI_pos (by decide)) (nI_pos hk)
    (by rw [i0, ik]; show ¬ _ > ((arrV (kA 0) A (fun j => .int (f j))).slots.size : Int); rw [arrV_size]; omega)
    (by rw [i0, ik]; show ¬ _ > ((arrV (kA 0) B (fun j => .int (g j))).slots.size : Int); rw [arrV_size]; omega)
    (fun vm₁ _ q hq => by
      rw [zk] at hq
      have e : (vp_cell (kA 0) (A, .inl f)).slots.getD ((nI 0).toNatClampNeg + q) .null = .int (f q) := by
        show (arrV (kA 0) A (fun j => .int (f j))).slots.getD _ _ = _
        rw [z0, Nat.zero_add, Array.getD_eq_getD_getElem?, arrV_read _ _ (by omega)]
        rfl
      refine ⟨?_, ?_⟩
      · rw [e]
        rfl
      · rw [e]
        exact trivial)
    (g := F0 m pc ls (.int (nI k) :: .int (nI 0) :: .ref (N0 + j) :: .int (nI 0) :: .ref (N0 + i) :: st)) rfl (by rw [C.2.2.1]; exact hl.1) (rest := st) rfl (by rw [C.2.1]; exact hd) hf (by show 2 * 0 + _ + _ ≤ _; omega)
  have e1 : copied (vp_cell (kA 0) (A, .inl f)) (vp_cell (kA 0) (B, .inl g)) (nI 0) (nI 0) (nI k) = vp_cell (kA 0) (B, .inl (va_cpy f g 0 0 k)) := by
    have := va_copied (n1 := B) (sp := (nI 0).toNatClampNeg) (dp := (nI 0).toNatClampNeg) (n := (nI k).toNatClampNeg) (n0 := A) (fun z : Int32 => Value.int z) (kA 0) (kA 0) f g (by rw [z0, zk]; omega)
    rw [z0, zk] at this
    show Cell.storeRun _ _ _ = _
    rw [z0, zk]
    exact this
  rw [e1] at X' step
  have hlt : N0 + j < H.size := (Array.getElem?_eq_some_iff.mp hc1).1
  have hheap : ((T.setVm vm').setCell (N0 + j) (vp_cell (kA 0) (B, .inl (va_cpy f g 0 0 k)))).heap = H.setIfInBounds (N0 + j) (vp_cell (kA 0) (B, .inl (va_cpy f g 0 0 k))) := by rw [← hT]; rfl
  have oq : ∀ q : Nat, q ≠ N0 + j → (H.setIfInBounds (N0 + j) (vp_cell (kA 0) (B, .inl (va_cpy f g 0 0 k))))[q]? = H[q]? := fun q hq => by simp [Array.getElem?_setIfInBounds, Ne.symm hq]
  obtain ⟨t, a1, b1⟩ := K ls _ _ hl (rp_set hR (by simp) (hR.2.set wl_D ha1 (show (H.setIfInBounds (N0 + j) _)[N0 + j]? = some _ by simp [Array.getElem?_setIfInBounds, hlt]) oq)) ⟨by simp; exact hS.1, fun q g1 g2 => by
      rw [oq q (fun e => g2 (by rw [e]; exact Nat.le_add_right _ _))]
      exact hS.2.1 q g1 g2, fun q hq => by
      rcases List.mem_append.mp hq with h | h
      · exact hS.2.2 q h
      · obtain ⟨z, -, hz⟩ := List.mem_map.mp h
        rw [← hz]
        exact Nat.le_add_right _ _⟩ _ hheap X'
  exact ⟨t, step t a1, b1⟩
end NCP
