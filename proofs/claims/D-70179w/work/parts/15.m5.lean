/-! what remember and pass keep -/
theorem rem12_K : ∀ (fu : Nat) (M : MS) (k : Nat), (∀ j, mI (m_remember_L12 fu M k) j = mI M j) ∧ (∀ f j, mB (m_remember_L12 fu M k) f j = mB M f j) ∧ (∀ f j, f ≠ 34 → mA (m_remember_L12 fu M k) f j = mA M f j) := by
  intro fu
  induction fu with
  | zero => intro M k; exact ⟨fun _ => rfl, fun _ _ => rfl, fun _ _ _ => rfl⟩
  | succ fu ih =>
    intro M k
    rw [m_remember_L12]
    split
    · exact ⟨fun _ => rfl, fun _ _ => rfl, fun _ _ _ => rfl⟩
    · obtain ⟨h1, h2, h3⟩ := ih (mSetA M 34 (k - 22) (mA M 34 k)) (k + 1)
      exact ⟨fun j => h1 j, fun f j => h2 f j, fun f j hf => by rw [h3 f j hf, mA_A, if_neg (fun z => hf z.1)]⟩
theorem rem52_K : ∀ (fu : Nat) (M : MS) (k : Nat), (∀ j, mN (m_remember_L52 fu M k) j = mN M j) ∧ (∀ j, mI (m_remember_L52 fu M k) j = mI M j) ∧ (∀ f j, mB (m_remember_L52 fu M k) f j = mB M f j) ∧ (∀ f j, f ≠ 34 → mA (m_remember_L52 fu M k) f j = mA M f j) := by
  intro fu
  induction fu with
  | zero => intro M k; exact ⟨fun _ => rfl, fun _ => rfl, fun _ _ => rfl, fun _ _ _ => rfl⟩
  | succ fu ih =>
    intro M k
    rw [m_remember_L52]
    split
    · exact ⟨fun _ => rfl, fun _ => rfl, fun _ _ => rfl, fun _ _ _ => rfl⟩
    · obtain ⟨h0, h1, h2, h3⟩ := ih (mSetA M 34 ((22 * (mN M 33)) + k) (mA M 12 k)) (k + 1)
      exact ⟨fun j => h0 j, fun j => h1 j, fun f j => h2 f j, fun f j hf => by rw [h3 f j hf, mA_A, if_neg (fun z => hf z.1)]⟩
theorem rem_K (M : MS) : (∀ j, j ≠ 33 → mN (m_remember M) j = mN M j) ∧ (∀ j, mI (m_remember M) j = mI M j) ∧ (∀ f j, mB (m_remember M) f j = mB M f j) ∧ (∀ f j, f ≠ 34 → mA (m_remember M) f j = mA M f j) := by
  unfold m_remember
  split
  · refine ⟨fun j hj => ?_, fun j => ?_, fun f j => ?_, fun f j hf => ?_⟩
    · rw [mN_N, if_neg hj, (rem52_K _ _ _).1]
    · rw [mI_N, (rem52_K _ _ _).2.1]
    · rw [mB_N, (rem52_K _ _ _).2.2.1]
    · rw [mA_N, (rem52_K _ _ _).2.2.2 _ _ hf]
  · refine ⟨fun j hj => ?_, fun j => ?_, fun f j => ?_, fun f j hf => ?_⟩
    · rw [mN_N, if_neg hj, (rem52_K _ _ _).1, mN_N, if_neg hj, rem12_N]
    · rw [mI_N, (rem52_K _ _ _).2.1, mI_N, (rem12_K _ _ _).1]
    · rw [mB_N, (rem52_K _ _ _).2.2.1, mB_N, (rem12_K _ _ _).2.1]
    · rw [mA_N, (rem52_K _ _ _).2.2.2 _ _ hf, mA_N, (rem12_K _ _ _).2.2 _ _ hf]
theorem rem_N {M : MS} {j : Nat} (h : j ≠ 33) : mN (m_remember M) j = mN M j := (rem_K M).1 j h
theorem rem_I {M : MS} {j : Nat} : mI (m_remember M) j = mI M j := (rem_K M).2.1 j
theorem rem_B {M : MS} {f j : Nat} : mB (m_remember M) f j = mB M f j := (rem_K M).2.2.1 f j
theorem rem_A {M : MS} {f j : Nat} (h : f ≠ 34) : mA (m_remember M) f j = mA M f j := (rem_K M).2.2.2 f j h
theorem rem_he {M : MS} (h : mHe M) : mHe (m_remember M) := fun a ha h1 => by
  rw [rem_A (by decide)] at h1 ⊢
  exact h a ha h1
theorem rem_se {M : MS} (h : mSe M) : mSe (m_remember M) := by
  unfold mSe
  rw [rem_A (by decide)]
  exact h
theorem rem_co {M : MS} (h : mCo M) : mCo (m_remember M) := by
  unfold mCo
  rw [rem_N (by decide)]
  exact ⟨h.1, fun c hc => by rw [rem_B, rem_B]; exact h.2 c hc⟩
theorem pass_K : ∀ (fu : Nat) (M : MS) (i : Nat), (∀ j, mN (m_pass_L2 fu M i) j = mN M j) ∧ (∀ j, mI (m_pass_L2 fu M i) j = mI M j) ∧ (∀ f j, mB (m_pass_L2 fu M i) f j = mB M f j) ∧ (∀ f j, f ≠ 12 → mA (m_pass_L2 fu M i) f j = mA M f j) ∧ (mN M 3 ≤ 6 → ∀ j, j < 12 ∨ j = 18 → mA (m_pass_L2 fu M i) 12 j = mA M 12 j) ∧ (mN M 3 < i + fu → i ≤ mN M 3 → mN M 3 ≤ 6 → mA (m_pass_L2 fu M i) 12 19 = nI (cl (mA M 12 19) + 1)) := by
  intro fu
  induction fu with
  | zero => intro M i; exact ⟨fun _ => rfl, fun _ => rfl, fun _ _ => rfl, fun _ _ _ => rfl, fun _ _ _ => rfl, fun h1 h2 => absurd h1 (by omega)⟩
  | succ fu ih =>
    intro M i
    rw [m_pass_L2]
    split
    · exact ⟨fun _ => rfl, fun _ => rfl, fun _ _ => rfl, fun f j hf => by rw [mA_A, if_neg (fun z => hf z.1)], fun _ j hj => by rw [mA_A, if_neg (by omega)], fun _ _ _ => by rw [mA_A, if_pos ⟨rfl, rfl⟩]⟩
    · next h3 =>
      split
      · obtain ⟨a0, a1, a2, a3, a4, a5⟩ := ih M (i + 1)
        exact ⟨a0, a1, a2, a3, a4, fun h1 h2 h6 => a5 (by omega) (by omega) h6⟩
      · split
        · obtain ⟨a0, a1, a2, a3, a4, a5⟩ := ih _ (i + 1)
          refine ⟨fun j => (a0 j).trans rfl, fun j => (a1 j).trans rfl, fun f j => (a2 f j).trans rfl, fun f j hf => ?_, fun h6 j hj => ?_, fun h1 h2 h6 => ?_⟩
          · rw [a3 f j hf]; simp [mA_A, hf]
          · rw [a4 h6 j hj]; simp only [mA_A]; rw [if_neg (by omega), if_neg (by omega), if_neg (by omega)]
          · rw [a5 (by show mN M 3 < _; omega) (by show _ ≤ mN M 3; omega) h6]; simp only [mA_A]; rw [if_neg (by omega), if_neg (by omega), if_neg (by omega)]
        · obtain ⟨a0, a1, a2, a3, a4, a5⟩ := ih _ (i + 1)
          refine ⟨fun j => (a0 j).trans rfl, fun j => (a1 j).trans rfl, fun f j => (a2 f j).trans rfl, fun f j hf => ?_, fun h6 j hj => ?_, fun h1 h2 h6 => ?_⟩
          · rw [a3 f j hf]; simp [mA_A, hf]
          · rw [a4 h6 j hj]; simp only [mA_A]; rw [if_neg (by omega), if_neg (by omega), if_neg (by omega)]
          · rw [a5 (by show mN M 3 < _; omega) (by show _ ≤ mN M 3; omega) h6]; simp only [mA_A]; rw [if_neg (by omega), if_neg (by omega), if_neg (by omega)]
theorem pass_N {M : MS} {j : Nat} : mN (m_pass M) j = mN M j := (pass_K _ M _).1 j
theorem pass_I {M : MS} {j : Nat} : mI (m_pass M) j = mI M j := (pass_K _ M _).2.1 j
theorem pass_B {M : MS} {f j : Nat} : mB (m_pass M) f j = mB M f j := (pass_K _ M _).2.2.1 f j
theorem pass_A {M : MS} {f j : Nat} (h : f ≠ 12) : mA (m_pass M) f j = mA M f j := (pass_K _ M _).2.2.2.1 f j h
theorem pass_19 {M : MS} (h : mCo M) : mA (m_pass M) 12 19 = nI (cl (mA M 12 19) + 1) := (pass_K _ M _).2.2.2.2.2 (by omega) (by omega) h.1
theorem pass_he {M : MS} (h : mHe M) : mHe (m_pass M) := fun a ha h1 => by
  rw [pass_A (by decide)] at h1 ⊢
  exact h a ha h1
theorem pass_co {M : MS} (h : mCo M) : mCo (m_pass M) := by
  unfold mCo
  rw [pass_N]
  exact ⟨h.1, fun c hc => by rw [pass_B, pass_B]; exact h.2 c hc⟩
theorem pass_s0 {M : MS} (h : mCo M) (hS : cl (mA M 12 19) < 30000) : 0 ≤ mA (m_pass M) 12 19 := by
  rw [pass_19 h]
  exact nI_pos' (by omega)
theorem pass_s1 {M : MS} (h : mCo M) (hS : cl (mA M 12 19) < 30000) : cl (mA (m_pass M) 12 19) = cl (mA M 12 19) + 1 := by
  rw [pass_19 h, cl_nI (by omega)]
theorem sr_zero {M : MS} {v : Int32} (hS : mSe M) (h : m_seasonsRefused M v = 0) : (v = nI (cl v) ∧ 1 ≤ cl v ∧ cl v ≤ 40) ∧ mN M 0 ≠ 0 ∧ cl (mA M 12 19) ≤ 9000 := by
  unfold m_seasonsRefused at h
  split at h
  · next h1 =>
    split at h
    · cases h
    · next h2 =>
      split at h
      · next h3 =>
        have := (in_cst (x := v) 1 40 rfl rfl).mp h1
        exact ⟨⟨nI_cl this.1, this.2⟩, h2, h3⟩
      · cases h
  · cases h
/-! the reference: what is done, by its callers -/
def m_season_L18 : Nat → MS → Int32 → Nat → Int32 × MS
  | 0, M, _, _ => (0, M)
  | fu + 1, M, v, i => (if (cl v) ≤ i then ((mA M 12 19), M) else m_season_L18 fu (m_pass M) v (i + 1))
def m_season (M : MS) (v : Int32) : Int32 × MS := (if (m_seasonsRefused M v) = 0 then m_season_L18 (cl v + 1) (m_remember M) v 0 else ((m_seasonsRefused M v), M))
theorem bX3_season : nBV RX3 yX3_season cX3_season 4 (some .int) 1 := ⟨q924, q925, q55, q926, by decide, by decide +kernel⟩
set_option maxRecDepth 100000 in
set_option maxHeartbeats 4000000 in
theorem t_m_season_L18 {p : Program} {l : Launch} {e : Env} {s : State} {m : MethodId} {args : Array Value} {below : List Frame} {meth : Method} {c : Code} {D : va_G} {N0 : Nat} {kA : Nat → ClassId} {mb : Nat} {hs : hT} {n : Nat} (hn : mb + 28 < n) {v : Int32} (hC : nC p s m args meth c RX3 cX3_season 4 (some .int) true D N0 kA)  : ∀ (fu : Nat) (M : MS) (i : Nat) (hv1 : v = nI (cl v)) (hv2 : cl v ≤ 40) (hh : mHe M) (hc : mCo M) (hS0 : 0 ≤ mA M 12 19) (hS1 : cl (mA M 12 19) ≤ 9000 + i) (hi : i ≤ cl v) (hf : cl v < i + fu), nW p l e (nRm 5 0 0) s m args below meth c (nQ below (nX (some (.int ((m_season_L18 fu M v i).1))) (mH N0 mb kA hs ((m_season_L18 fu M v i).2)) n) D N0 s 0 0) D N0 4 18 [(0, .ref (N0 + mb)), (1, .int v), (3, .int (nI i))] [] (mH N0 mb kA hs M) n 0 0 := by
  intro fu
  induction fu with
  | zero =>
    intro M i hv1 hv2 hh hc hS0 hS1 hi hf
    exfalso; omega
  | succ fu ih =>
    intro M i hv1 hv2 hh hc hS0 hS1 hi hf
    refine n_iload_n hC dX3_season_18 rfl ?_
    refine n_iload_n hC dX3_season_19 rfl ?_
    refine n_top (cl v) hv1 ?_
    refine n_icmp_geN (tgt := 33) hC i (cl v) rfl rfl (by omega) (by omega) dX3_season_20 (by decide) (fun c20 => ?_) (fun c20 => ?_)
    · refine n_aload_n hC dX3_season_33 rfl ?_
      refine n_get hC cl3 (k := 12) (v := .ref (N0 + (mb + 10))) mc_o (by omega) (by decide) q692 (mf_get N0 mb M (by decide)) dX3_season_34 ?_
      refine n_bipush (v := (nI 19)) hC dX3_season_37 (by decide) ?_
      refine n_iald hC (f := mA M 12) (mc_a (p := 10) (by decide) (by decide)) (by omega) 19 rfl (by omega) (by decide) dX3_season_39 ?_
      have eq_ : m_season_L18 (fu + 1) M v i = ((mA M 12 19), M) := by rw [m_season_L18, if_pos c20]
      refine n_iret hC dX3_season_40 (Nat.le_of_ble_eq_true rfl) (Nat.le_of_ble_eq_true rfl) ?_
      rw [eq_]
      dsimp only
      exact ⟨rfl, rfl, rfl⟩
    · refine n_aload_n hC dX3_season_23 rfl ?_
      refine n_callV1 hC (As := []) (rest := []) mc_o (by omega) rfl bX3_pass (t_m_pass l D N0 kA mb hs M n hn  hh ⟨hS0, by omega⟩ hc) (by decide) (by decide) q937 rfl (Nat.le_of_ble_eq_true rfl) dX3_season_24 (Nat.le_of_ble_eq_true rfl) (Nat.le_of_ble_eq_true rfl) ?_
      refine n_stk (st' := []) rfl ?_
      refine n_iincN (a := i) (L' := [(0, .ref (N0 + mb)), (1, .int v), (3, .int (nI (i + 1)))]) hC dX3_season_27 rfl (by decide) rfl ?_
      refine n_goto (tgt := 18) hC dX3_season_30 (by decide) ?_
      rw [show m_season_L18 (fu + 1) M v i = m_season_L18 fu (m_pass M) v (i + 1) from by rw [m_season_L18, if_neg (Nat.not_le.mpr c20)]]
      exact ih (m_pass M) (i + 1) hv1 hv2 (pass_he hh) (pass_co hc) (pass_s0 hc (by omega)) (by rw [pass_s1 hc (by omega)]; omega) (by omega) (by omega)
set_option maxRecDepth 100000 in
set_option maxHeartbeats 4000000 in
theorem t_m_season (l : Launch) (D : va_G) (N0 : Nat) (kA : Nat → ClassId) (mb : Nat) (hs : hT) (M : MS) (n : Nat) (hn : mb + 28 < n) (v : Int32) (h0 : mN M 0 ≤ 6) (hh : mHe M) (hS : mSe M) (hc : mCo M) (h33 : mN M 33 ≤ 20) : nE l yX3_season cX3_season 4 (some .int) D N0 kA 5 0 0 [.ref (N0 + mb), .int v] (mH N0 mb kA hs M) n (nX (some (.int ((m_season M v).1))) (mH N0 mb kA hs ((m_season M v).2)) n) := by
  refine nE_of (by decide) (Nat.le_of_ble_eq_true rfl) ?_
  intro p e s m args below meth c hC hnm
  refine n_loc (L' := [(0, .ref (N0 + mb)), (1, .int v)]) rfl ?_
  refine n_aload_n hC dX3_season_0 rfl ?_
  refine n_iload_n hC dX3_season_1 rfl ?_
  refine n_callV1 hC (As := [.int v]) (rest := []) mc_o (by omega) rfl bX3_seasonsRefused (t_m_seasonsRefused l D N0 kA mb hs M n hn v h0 hS) (by decide) (by decide) q927 rfl (Nat.le_of_ble_eq_true rfl) dX3_season_2 (Nat.le_of_ble_eq_true rfl) (Nat.le_of_ble_eq_true rfl) ?_
  refine n_stk (st' := [.int (m_seasonsRefused M v)]) rfl ?_
  refine n_istore_n (L' := [(0, .ref (N0 + mb)), (1, .int v), (2, .int (m_seasonsRefused M v))]) hC dX3_season_5 (by decide) rfl ?_
  refine n_iload_n hC dX3_season_6 rfl ?_
  refine n_if_eq (tgt := 12) hC dX3_season_7 (by decide) (fun c7 => ?_) (fun c7 => ?_)
  · have hz := sr_zero hS c7
    have hv1 := hz.1.1
    have hv2 := hz.1.2
    refine n_aload_n hC dX3_season_12 rfl ?_
    refine n_callV1 hC (As := []) (rest := []) mc_o (by omega) rfl bX3_remember (t_m_remember l D N0 kA mb hs M n hn  (by omega)) (by decide) (by decide) q933 rfl (Nat.le_of_ble_eq_true rfl) dX3_season_13 (Nat.le_of_ble_eq_true rfl) (Nat.le_of_ble_eq_true rfl) ?_
    refine n_stk (st' := []) rfl ?_
    refine n_iconst (v := (nI 0)) hC dX3_season_16 (by decide) ?_
    refine n_istore_n (L' := [(0, .ref (N0 + mb)), (1, .int v), (2, .int (m_seasonsRefused M v)), (3, .int (nI 0))]) hC dX3_season_17 (by decide) rfl ?_
    refine n_drop [0, 1, 3] (L' := [(0, .ref (N0 + mb)), (1, .int v), (3, .int (nI 0))]) rfl ?_
    rw [show m_season M v = m_season_L18 (cl v + 1) (m_remember M) v 0 from by rw [m_season, if_pos c7]]
    exact t_m_season_L18 hn hC  (cl v + 1) (m_remember M) 0 hv1 hv2.2 (rem_he hh) (rem_co hc) (rem_se hS).1 (by rw [rem_A (by decide)]; exact hz.2.2) (by first | omega | (simp [mN_A, mN_B, mN_I, mN_N] <;> omega)) (by first | omega | (simp [mN_A, mN_B, mN_I, mN_N] <;> omega))
  · refine n_iload_n hC dX3_season_10 rfl ?_
    have eq_ : m_season M v = ((m_seasonsRefused M v), M) := by rw [m_season, if_neg c7]
    refine n_iret hC dX3_season_11 (Nat.le_of_ble_eq_true rfl) (Nat.le_of_ble_eq_true rfl) ?_
    rw [eq_]
    dsimp only
    exact ⟨rfl, rfl, rfl⟩
def m_gout (M : MS) (k : Int32) (v : Int32) : Int32 × MS := (if (m_isLimb M k) = true then (if (m_in v.toInt64 1 (20)) = true then (if (m_lives M (cl k)) = true then ((mA (m_swell (m_remember M) (cl k) v) 12 (cl k)), (m_swell (m_remember M) (cl k) v)) else ((-1000000003), M)) else ((-1000000002), M)) else ((-1000000001), M))
theorem bX3_gout : nBV RX3 yX3_gout cX3_gout 3 (some .int) 2 := ⟨q942, q943, q55, q944, by decide, by decide +kernel⟩
set_option maxRecDepth 100000 in
set_option maxHeartbeats 4000000 in
theorem t_m_gout (l : Launch) (D : va_G) (N0 : Nat) (kA : Nat → ClassId) (mb : Nat) (hs : hT) (M : MS) (n : Nat) (hn : mb + 28 < n) (k : Int32) (v : Int32) (h0 : mN M 0 ≤ 6) (h33 : mN M 33 ≤ 20) : nE l yX3_gout cX3_gout 3 (some .int) D N0 kA 3 0 0 [.ref (N0 + mb), .int k, .int v] (mH N0 mb kA hs M) n (nX (some (.int ((m_gout M k v).1))) (mH N0 mb kA hs ((m_gout M k v).2)) n) := by
  refine nE_of (by decide) (Nat.le_of_ble_eq_true rfl) ?_
  intro p e s m args below meth c hC hnm
  refine n_loc (L' := [(0, .ref (N0 + mb)), (1, .int k), (2, .int v)]) rfl ?_
  refine n_aload_n hC dX3_gout_0 rfl ?_
  refine n_iload_n hC dX3_gout_1 rfl ?_
  refine n_callV1 hC (As := [.int k]) (rest := []) mc_o (by omega) rfl bX3_isLimb (t_m_isLimb l D N0 kA mb hs M n hn k ) (by decide) (by decide) q889 rfl (Nat.le_of_ble_eq_true rfl) dX3_gout_2 (Nat.le_of_ble_eq_true rfl) (Nat.le_of_ble_eq_true rfl) ?_
  refine n_stk (st' := [.int (bI (m_isLimb M k))]) rfl ?_
  refine n_if_neB (tgt := 11) hC dX3_gout_5 (by decide) (fun c5 => ?_) (fun c5 => ?_)
  · have hk := isLimb_nat h0 c5
    have hk2 := hk.2
    refine n_iload_n hC dX3_gout_11 rfl ?_
    refine n_i2l hC dX3_gout_12 ?_
    refine n_lconst (v := 1) hC dX3_gout_13 (by decide) ?_
    refine n_ldc2 hC dX3_gout_14 q945 ?_
    refine n_callS1 hC (As := [.long v.toInt64, .long 1, .long (20)]) (rest := []) bX3_in (t_m_in l D N0 kA (mH N0 mb kA hs M) n v.toInt64 1 (20) ) (by decide) (by decide) q822 rfl (Nat.le_of_ble_eq_true rfl) dX3_gout_17 (Nat.le_of_ble_eq_true rfl) (Nat.le_of_ble_eq_true rfl) ?_
    refine n_stk (st' := [.int (bI (m_in v.toInt64 1 (20)))]) rfl ?_
    refine n_if_neB (tgt := 26) hC dX3_gout_20 (by decide) (fun c20 => ?_) (fun c20 => ?_)
    · refine n_aload_n hC dX3_gout_26 rfl ?_
      refine n_iload_n hC dX3_gout_27 rfl ?_
      refine n_top (cl k) hk.1 ?_
      refine n_callV1 hC (As := [.int (nI (cl k))]) (rest := []) mc_o (by omega) rfl bX3_lives (t_m_lives l D N0 kA mb hs M n hn (cl k) ) (by decide) (by decide) q902 rfl (Nat.le_of_ble_eq_true rfl) dX3_gout_28 (Nat.le_of_ble_eq_true rfl) (Nat.le_of_ble_eq_true rfl) ?_
      refine n_stk (st' := [.int (bI (m_lives M (cl k)))]) rfl ?_
      refine n_if_neB (tgt := 37) hC dX3_gout_31 (by decide) (fun c31 => ?_) (fun c31 => ?_)
      · refine n_aload_n hC dX3_gout_37 rfl ?_
        refine n_callV1 hC (As := []) (rest := []) mc_o (by omega) rfl bX3_remember (t_m_remember l D N0 kA mb hs M n hn  (by omega)) (by decide) (by decide) q933 rfl (Nat.le_of_ble_eq_true rfl) dX3_gout_38 (Nat.le_of_ble_eq_true rfl) (Nat.le_of_ble_eq_true rfl) ?_
        refine n_stk (st' := []) rfl ?_
        refine n_aload_n hC dX3_gout_41 rfl ?_
        refine n_iload_n hC dX3_gout_42 rfl ?_
        refine n_top (cl k) hk.1 ?_
        refine n_iload_n hC dX3_gout_43 rfl ?_
        refine n_callV1 hC (As := [.int (nI (cl k)), .int v]) (rest := []) mc_o (by omega) rfl bX3_swell (t_m_swell l D N0 kA mb hs (m_remember M) n hn (cl k) v (by omega)) (by decide) (by decide) q946 rfl (Nat.le_of_ble_eq_true rfl) dX3_gout_44 (Nat.le_of_ble_eq_true rfl) (Nat.le_of_ble_eq_true rfl) ?_
        refine n_stk (st' := []) rfl ?_
        refine n_aload_n hC dX3_gout_47 rfl ?_
        refine n_get hC cl3 (k := 12) (v := .ref (N0 + (mb + 10))) mc_o (by omega) (by decide) q692 (mf_get N0 mb (m_swell (m_remember M) (cl k) v) (by decide)) dX3_gout_48 ?_
        refine n_iload_n hC dX3_gout_51 rfl ?_
        refine n_top (cl k) hk.1 ?_
        refine n_iald hC (f := mA (m_swell (m_remember M) (cl k) v) 12) (mc_a (p := 10) (by decide) (by decide)) (by omega) (cl k) rfl (by omega) (by decide) dX3_gout_52 ?_
        have eq_ : m_gout M k v = ((mA (m_swell (m_remember M) (cl k) v) 12 (cl k)), (m_swell (m_remember M) (cl k) v)) := by rw [m_gout, if_pos c5, if_pos c20, if_pos c31]
        refine n_iret hC dX3_gout_53 (Nat.le_of_ble_eq_true rfl) (Nat.le_of_ble_eq_true rfl) ?_
        rw [eq_]
        dsimp only
        exact ⟨rfl, rfl, rfl⟩
      · refine n_ldc hC dX3_gout_34 q932 ?_
        have eq_ : m_gout M k v = ((-1000000003), M) := by rw [m_gout, if_pos c5, if_pos c20, if_neg (by rw [c31]; decide)]
        refine n_iret hC dX3_gout_36 (Nat.le_of_ble_eq_true rfl) (Nat.le_of_ble_eq_true rfl) ?_
        rw [eq_]
        dsimp only
        exact ⟨rfl, rfl, rfl⟩
    · refine n_ldc hC dX3_gout_23 q825 ?_
      have eq_ : m_gout M k v = ((-1000000002), M) := by rw [m_gout, if_pos c5, if_neg (by rw [c20]; decide)]
      refine n_iret hC dX3_gout_25 (Nat.le_of_ble_eq_true rfl) (Nat.le_of_ble_eq_true rfl) ?_
      rw [eq_]
      dsimp only
      exact ⟨rfl, rfl, rfl⟩
  · refine n_ldc hC dX3_gout_8 q893 ?_
    have eq_ : m_gout M k v = ((-1000000001), M) := by rw [m_gout, if_neg (by rw [c5]; decide)]
    refine n_iret hC dX3_gout_10 (Nat.le_of_ble_eq_true rfl) (Nat.le_of_ble_eq_true rfl) ?_
    rw [eq_]
    dsimp only
    exact ⟨rfl, rfl, rfl⟩
def m_stub (M : MS) (k : Int32) : Int32 × MS := (if (m_isLimb M k) = true then (if (m_lives M (cl k)) = true then ((mA (m_shrink (m_remember M) (cl k)) 12 (cl k)), (m_shrink (m_remember M) (cl k))) else ((-1000000003), M)) else ((-1000000001), M))
theorem bX3_stub : nBV RX3 yX3_stub cX3_stub 2 (some .int) 1 := ⟨q951, q952, q55, q953, by decide, by decide +kernel⟩
set_option maxRecDepth 100000 in
set_option maxHeartbeats 4000000 in
theorem t_m_stub (l : Launch) (D : va_G) (N0 : Nat) (kA : Nat → ClassId) (mb : Nat) (hs : hT) (M : MS) (n : Nat) (hn : mb + 28 < n) (k : Int32) (h0 : mN M 0 ≤ 6) (h33 : mN M 33 ≤ 20) : nE l yX3_stub cX3_stub 2 (some .int) D N0 kA 3 0 0 [.ref (N0 + mb), .int k] (mH N0 mb kA hs M) n (nX (some (.int ((m_stub M k).1))) (mH N0 mb kA hs ((m_stub M k).2)) n) := by
  refine nE_of (by decide) (Nat.le_of_ble_eq_true rfl) ?_
  intro p e s m args below meth c hC hnm
  refine n_loc (L' := [(0, .ref (N0 + mb)), (1, .int k)]) rfl ?_
  refine n_aload_n hC dX3_stub_0 rfl ?_
  refine n_iload_n hC dX3_stub_1 rfl ?_
  refine n_callV1 hC (As := [.int k]) (rest := []) mc_o (by omega) rfl bX3_isLimb (t_m_isLimb l D N0 kA mb hs M n hn k ) (by decide) (by decide) q889 rfl (Nat.le_of_ble_eq_true rfl) dX3_stub_2 (Nat.le_of_ble_eq_true rfl) (Nat.le_of_ble_eq_true rfl) ?_
  refine n_stk (st' := [.int (bI (m_isLimb M k))]) rfl ?_
  refine n_if_neB (tgt := 11) hC dX3_stub_5 (by decide) (fun c5 => ?_) (fun c5 => ?_)
  · have hk := isLimb_nat h0 c5
    have hk2 := hk.2
    refine n_aload_n hC dX3_stub_11 rfl ?_
    refine n_iload_n hC dX3_stub_12 rfl ?_
    refine n_top (cl k) hk.1 ?_
    refine n_callV1 hC (As := [.int (nI (cl k))]) (rest := []) mc_o (by omega) rfl bX3_lives (t_m_lives l D N0 kA mb hs M n hn (cl k) ) (by decide) (by decide) q902 rfl (Nat.le_of_ble_eq_true rfl) dX3_stub_13 (Nat.le_of_ble_eq_true rfl) (Nat.le_of_ble_eq_true rfl) ?_
    refine n_stk (st' := [.int (bI (m_lives M (cl k)))]) rfl ?_
    refine n_if_neB (tgt := 22) hC dX3_stub_16 (by decide) (fun c16 => ?_) (fun c16 => ?_)
    · refine n_aload_n hC dX3_stub_22 rfl ?_
      refine n_callV1 hC (As := []) (rest := []) mc_o (by omega) rfl bX3_remember (t_m_remember l D N0 kA mb hs M n hn  (by omega)) (by decide) (by decide) q933 rfl (Nat.le_of_ble_eq_true rfl) dX3_stub_23 (Nat.le_of_ble_eq_true rfl) (Nat.le_of_ble_eq_true rfl) ?_
      refine n_stk (st' := []) rfl ?_
      refine n_aload_n hC dX3_stub_26 rfl ?_
      refine n_iload_n hC dX3_stub_27 rfl ?_
      refine n_top (cl k) hk.1 ?_
      refine n_callV1 hC (As := [.int (nI (cl k))]) (rest := []) mc_o (by omega) rfl bX3_shrink (t_m_shrink l D N0 kA mb hs (m_remember M) n hn (cl k) (by omega)) (by decide) (by decide) q954 rfl (Nat.le_of_ble_eq_true rfl) dX3_stub_28 (Nat.le_of_ble_eq_true rfl) (Nat.le_of_ble_eq_true rfl) ?_
      refine n_stk (st' := []) rfl ?_
      refine n_aload_n hC dX3_stub_31 rfl ?_
      refine n_get hC cl3 (k := 12) (v := .ref (N0 + (mb + 10))) mc_o (by omega) (by decide) q692 (mf_get N0 mb (m_shrink (m_remember M) (cl k)) (by decide)) dX3_stub_32 ?_
      refine n_iload_n hC dX3_stub_35 rfl ?_
      refine n_top (cl k) hk.1 ?_
      refine n_iald hC (f := mA (m_shrink (m_remember M) (cl k)) 12) (mc_a (p := 10) (by decide) (by decide)) (by omega) (cl k) rfl (by omega) (by decide) dX3_stub_36 ?_
      have eq_ : m_stub M k = ((mA (m_shrink (m_remember M) (cl k)) 12 (cl k)), (m_shrink (m_remember M) (cl k))) := by rw [m_stub, if_pos c5, if_pos c16]
      refine n_iret hC dX3_stub_37 (Nat.le_of_ble_eq_true rfl) (Nat.le_of_ble_eq_true rfl) ?_
      rw [eq_]
      dsimp only
      exact ⟨rfl, rfl, rfl⟩
    · refine n_ldc hC dX3_stub_19 q932 ?_
      have eq_ : m_stub M k = ((-1000000003), M) := by rw [m_stub, if_pos c5, if_neg (by rw [c16]; decide)]
      refine n_iret hC dX3_stub_21 (Nat.le_of_ble_eq_true rfl) (Nat.le_of_ble_eq_true rfl) ?_
      rw [eq_]
      dsimp only
      exact ⟨rfl, rfl, rfl⟩
  · refine n_ldc hC dX3_stub_8 q893 ?_
    have eq_ : m_stub M k = ((-1000000001), M) := by rw [m_stub, if_neg (by rw [c5]; decide)]
    refine n_iret hC dX3_stub_10 (Nat.le_of_ble_eq_true rfl) (Nat.le_of_ble_eq_true rfl) ?_
    rw [eq_]
    dsimp only
    exact ⟨rfl, rfl, rfl⟩
def m_dies (M : MS) (k : Int32) : Int32 × MS := (if (m_isLimb M k) = true then (if (m_lives M (cl k)) = true then ((m_measureNow (mSetA (m_remember M) 12 18 ((mA (m_remember M) 12 18) &&& (((nI 1) <<< ((nI (cl k)) &&& 31)) ^^^ (-1)))) (cl k)), mSetA (m_remember M) 12 18 ((mA (m_remember M) 12 18) &&& (((nI 1) <<< ((nI (cl k)) &&& 31)) ^^^ (-1)))) else ((-1000000003), M)) else ((-1000000001), M))
theorem bX3_dies : nBV RX3 yX3_dies cX3_dies 2 (some .int) 1 := ⟨q959, q960, q55, q961, by decide, by decide +kernel⟩
set_option maxRecDepth 100000 in
set_option maxHeartbeats 4000000 in
theorem t_m_dies (l : Launch) (D : va_G) (N0 : Nat) (kA : Nat → ClassId) (mb : Nat) (hs : hT) (M : MS) (n : Nat) (hn : mb + 28 < n) (k : Int32) (h0 : mN M 0 ≤ 6) (hh : mHe M) (hS : mSe M) (h33 : mN M 33 ≤ 20) : nE l yX3_dies cX3_dies 2 (some .int) D N0 kA 4 0 0 [.ref (N0 + mb), .int k] (mH N0 mb kA hs M) n (nX (some (.int ((m_dies M k).1))) (mH N0 mb kA hs ((m_dies M k).2)) n) := by
  refine nE_of (by decide) (Nat.le_of_ble_eq_true rfl) ?_
  intro p e s m args below meth c hC hnm
  refine n_loc (L' := [(0, .ref (N0 + mb)), (1, .int k)]) rfl ?_
  refine n_aload_n hC dX3_dies_0 rfl ?_
  refine n_iload_n hC dX3_dies_1 rfl ?_
  refine n_callV1 hC (As := [.int k]) (rest := []) mc_o (by omega) rfl bX3_isLimb (t_m_isLimb l D N0 kA mb hs M n hn k ) (by decide) (by decide) q889 rfl (Nat.le_of_ble_eq_true rfl) dX3_dies_2 (Nat.le_of_ble_eq_true rfl) (Nat.le_of_ble_eq_true rfl) ?_
  refine n_stk (st' := [.int (bI (m_isLimb M k))]) rfl ?_
  refine n_if_neB (tgt := 11) hC dX3_dies_5 (by decide) (fun c5 => ?_) (fun c5 => ?_)
  · have hk := isLimb_nat h0 c5
    have hk2 := hk.2
    refine n_aload_n hC dX3_dies_11 rfl ?_
    refine n_iload_n hC dX3_dies_12 rfl ?_
    refine n_top (cl k) hk.1 ?_
    refine n_callV1 hC (As := [.int (nI (cl k))]) (rest := []) mc_o (by omega) rfl bX3_lives (t_m_lives l D N0 kA mb hs M n hn (cl k) ) (by decide) (by decide) q902 rfl (Nat.le_of_ble_eq_true rfl) dX3_dies_13 (Nat.le_of_ble_eq_true rfl) (Nat.le_of_ble_eq_true rfl) ?_
    refine n_stk (st' := [.int (bI (m_lives M (cl k)))]) rfl ?_
    refine n_if_neB (tgt := 22) hC dX3_dies_16 (by decide) (fun c16 => ?_) (fun c16 => ?_)
    · refine n_aload_n hC dX3_dies_22 rfl ?_
      refine n_callV1 hC (As := []) (rest := []) mc_o (by omega) rfl bX3_remember (t_m_remember l D N0 kA mb hs M n hn  (by omega)) (by decide) (by decide) q933 rfl (Nat.le_of_ble_eq_true rfl) dX3_dies_23 (Nat.le_of_ble_eq_true rfl) (Nat.le_of_ble_eq_true rfl) ?_
      refine n_stk (st' := []) rfl ?_
      refine n_aload_n hC dX3_dies_26 rfl ?_
      refine n_get hC cl3 (k := 12) (v := .ref (N0 + (mb + 10))) mc_o (by omega) (by decide) q692 (mf_get N0 mb (m_remember M) (by decide)) dX3_dies_27 ?_
      refine n_bipush (v := (nI 18)) hC dX3_dies_30 (by decide) ?_
      refine n_dup2 hC dX3_dies_32 rfl rfl ?_
      refine n_iald hC (f := mA (m_remember M) 12) (mc_a (p := 10) (by decide) (by decide)) (by omega) 18 rfl (by omega) (by decide) dX3_dies_33 ?_
      refine n_iconst (v := (nI 1)) hC dX3_dies_34 (by decide) ?_
      refine n_iload_n hC dX3_dies_35 rfl ?_
      refine n_top (cl k) hk.1 ?_
      refine n_ishl hC dX3_dies_36 ?_
      refine n_iconst (v := (-1)) hC dX3_dies_37 (by decide) ?_
      refine n_ixor hC dX3_dies_38 ?_
      refine n_iand hC dX3_dies_39 ?_
      refine n_iast hC (f := mA (m_remember M) 12) (mc_a (p := 10) (by decide) (by decide)) (by omega) 18 rfl (by omega) (by decide) dX3_dies_40 (mu_A (M := (m_remember M)) (k := 12) (len := 22) (kd := 0) rfl rfl rfl (by decide) (by decide)) ?_
      refine n_aload_n hC dX3_dies_41 rfl ?_
      refine n_iload_n hC dX3_dies_42 rfl ?_
      refine n_top (cl k) hk.1 ?_
      refine n_callV1 hC (As := [.int (nI (cl k))]) (rest := []) mc_o (by omega) rfl bX3_measureNow (t_m_measureNow l D N0 kA mb hs (mSetA (m_remember M) 12 18 ((mA (m_remember M) 12 18) &&& (((nI 1) <<< ((nI (cl k)) &&& 31)) ^^^ (-1)))) n hn (cl k) (by omega) (mHe_12 (rem_he hh)) (mSe_12 (by decide) (rem_se hS))) (by decide) (by decide) q894 rfl (Nat.le_of_ble_eq_true rfl) dX3_dies_43 (Nat.le_of_ble_eq_true rfl) (Nat.le_of_ble_eq_true rfl) ?_
      refine n_stk (st' := [.int (m_measureNow (mSetA (m_remember M) 12 18 ((mA (m_remember M) 12 18) &&& (((nI 1) <<< ((nI (cl k)) &&& 31)) ^^^ (-1)))) (cl k))]) rfl ?_
      have eq_ : m_dies M k = ((m_measureNow (mSetA (m_remember M) 12 18 ((mA (m_remember M) 12 18) &&& (((nI 1) <<< ((nI (cl k)) &&& 31)) ^^^ (-1)))) (cl k)), mSetA (m_remember M) 12 18 ((mA (m_remember M) 12 18) &&& (((nI 1) <<< ((nI (cl k)) &&& 31)) ^^^ (-1)))) := by rw [m_dies, if_pos c5, if_pos c16]
      refine n_iret hC dX3_dies_46 (Nat.le_of_ble_eq_true rfl) (Nat.le_of_ble_eq_true rfl) ?_
      rw [eq_]
      dsimp only
      exact ⟨rfl, rfl, rfl⟩
    · refine n_ldc hC dX3_dies_19 q932 ?_
      have eq_ : m_dies M k = ((-1000000003), M) := by rw [m_dies, if_pos c5, if_neg (by rw [c16]; decide)]
      refine n_iret hC dX3_dies_21 (Nat.le_of_ble_eq_true rfl) (Nat.le_of_ble_eq_true rfl) ?_
      rw [eq_]
      dsimp only
      exact ⟨rfl, rfl, rfl⟩
  · refine n_ldc hC dX3_dies_8 q893 ?_
    have eq_ : m_dies M k = ((-1000000001), M) := by rw [m_dies, if_neg (by rw [c5]; decide)]
    refine n_iret hC dX3_dies_10 (Nat.le_of_ble_eq_true rfl) (Nat.le_of_ble_eq_true rfl) ?_
    rw [eq_]
    dsimp only
    exact ⟨rfl, rfl, rfl⟩
def m_copy (M : MS) (k : Int32) : Int32 × MS := (if (m_isLimb M k) = true then (if (m_lives M (cl k)) = true then ((m_grown (m_remember M) (cl k) (cl (mA (m_remember M) 12 19))), mSetA (m_remember M) 12 (6 + (cl k)) (m_grown (m_remember M) (cl k) (cl (mA (m_remember M) 12 19)))) else ((-1000000003), M)) else ((-1000000001), M))
theorem bX3_copy : nBV RX3 yX3_copy cX3_copy 2 (some .int) 1 := ⟨q963, q964, q55, q965, by decide, by decide +kernel⟩
set_option maxRecDepth 100000 in
set_option maxHeartbeats 4000000 in
theorem t_m_copy (l : Launch) (D : va_G) (N0 : Nat) (kA : Nat → ClassId) (mb : Nat) (hs : hT) (M : MS) (n : Nat) (hn : mb + 28 < n) (k : Int32) (h0 : mN M 0 ≤ 6) (hS : mSe M) (h33 : mN M 33 ≤ 20) : nE l yX3_copy cX3_copy 2 (some .int) D N0 kA 3 0 0 [.ref (N0 + mb), .int k] (mH N0 mb kA hs M) n (nX (some (.int ((m_copy M k).1))) (mH N0 mb kA hs ((m_copy M k).2)) n) := by
  refine nE_of (by decide) (Nat.le_of_ble_eq_true rfl) ?_
  intro p e s m args below meth c hC hnm
  refine n_loc (L' := [(0, .ref (N0 + mb)), (1, .int k)]) rfl ?_
  refine n_aload_n hC dX3_copy_0 rfl ?_
  refine n_iload_n hC dX3_copy_1 rfl ?_
  refine n_callV1 hC (As := [.int k]) (rest := []) mc_o (by omega) rfl bX3_isLimb (t_m_isLimb l D N0 kA mb hs M n hn k ) (by decide) (by decide) q889 rfl (Nat.le_of_ble_eq_true rfl) dX3_copy_2 (Nat.le_of_ble_eq_true rfl) (Nat.le_of_ble_eq_true rfl) ?_
  refine n_stk (st' := [.int (bI (m_isLimb M k))]) rfl ?_
  refine n_if_neB (tgt := 11) hC dX3_copy_5 (by decide) (fun c5 => ?_) (fun c5 => ?_)
  · have hk := isLimb_nat h0 c5
    have hk2 := hk.2
    refine n_aload_n hC dX3_copy_11 rfl ?_
    refine n_iload_n hC dX3_copy_12 rfl ?_
    refine n_top (cl k) hk.1 ?_
    refine n_callV1 hC (As := [.int (nI (cl k))]) (rest := []) mc_o (by omega) rfl bX3_lives (t_m_lives l D N0 kA mb hs M n hn (cl k) ) (by decide) (by decide) q902 rfl (Nat.le_of_ble_eq_true rfl) dX3_copy_13 (Nat.le_of_ble_eq_true rfl) (Nat.le_of_ble_eq_true rfl) ?_
    refine n_stk (st' := [.int (bI (m_lives M (cl k)))]) rfl ?_
    refine n_if_neB (tgt := 22) hC dX3_copy_16 (by decide) (fun c16 => ?_) (fun c16 => ?_)
    · refine n_aload_n hC dX3_copy_22 rfl ?_
      refine n_callV1 hC (As := []) (rest := []) mc_o (by omega) rfl bX3_remember (t_m_remember l D N0 kA mb hs M n hn  (by omega)) (by decide) (by decide) q933 rfl (Nat.le_of_ble_eq_true rfl) dX3_copy_23 (Nat.le_of_ble_eq_true rfl) (Nat.le_of_ble_eq_true rfl) ?_
      refine n_stk (st' := []) rfl ?_
      refine n_aload_n hC dX3_copy_26 rfl ?_
      refine n_get hC cl3 (k := 12) (v := .ref (N0 + (mb + 10))) mc_o (by omega) (by decide) q692 (mf_get N0 mb (m_remember M) (by decide)) dX3_copy_27 ?_
      refine n_bipush (v := (nI 6)) hC dX3_copy_30 (by decide) ?_
      refine n_iload_n hC dX3_copy_32 rfl ?_
      refine n_top (cl k) hk.1 ?_
      refine n_iaddN hC dX3_copy_33 ?_
      refine n_aload_n hC dX3_copy_34 rfl ?_
      refine n_iload_n hC dX3_copy_35 rfl ?_
      refine n_top (cl k) hk.1 ?_
      have hR := rem_se hS
      have hR2 := hR.2
      refine n_aload_n hC dX3_copy_36 rfl ?_
      refine n_get hC cl3 (k := 12) (v := .ref (N0 + (mb + 10))) mc_o (by omega) (by decide) q692 (mf_get N0 mb (m_remember M) (by decide)) dX3_copy_37 ?_
      refine n_bipush (v := (nI 19)) hC dX3_copy_40 (by decide) ?_
      refine n_iald hC (f := mA (m_remember M) 12) (mc_a (p := 10) (by decide) (by decide)) (by omega) 19 rfl (by omega) (by decide) dX3_copy_42 ?_
      refine n_top (cl (mA (m_remember M) 12 19)) (nI_cl hR.1) ?_
      refine n_callV1 hC (As := [.int (nI (cl k)), .int (nI (cl (mA (m_remember M) 12 19)))]) (rest := [.int (nI (6 + (cl k))), .ref (N0 + (mb + 10))]) mc_o (by omega) rfl bX3_grown (t_m_grown l D N0 kA mb hs (m_remember M) n hn (cl k) (cl (mA (m_remember M) 12 19)) (by omega) (by omega)) (by decide) (by decide) q909 rfl (Nat.le_of_ble_eq_true rfl) dX3_copy_43 (Nat.le_of_ble_eq_true rfl) (Nat.le_of_ble_eq_true rfl) ?_
      refine n_stk (st' := [.int (m_grown (m_remember M) (cl k) (cl (mA (m_remember M) 12 19))), .int (nI (6 + (cl k))), .ref (N0 + (mb + 10))]) rfl ?_
      refine n_iast hC (f := mA (m_remember M) 12) (mc_a (p := 10) (by decide) (by decide)) (by omega) (6 + (cl k)) rfl (by omega) (by decide) dX3_copy_46 (mu_A (M := (m_remember M)) (k := 12) (len := 22) (kd := 0) rfl rfl rfl (by decide) (by decide)) ?_
      refine n_aload_n hC dX3_copy_47 rfl ?_
      refine n_get hC cl3 (k := 12) (v := .ref (N0 + (mb + 10))) mc_o (by omega) (by decide) q692 (mf_get N0 mb (mSetA (m_remember M) 12 (6 + (cl k)) (m_grown (m_remember M) (cl k) (cl (mA (m_remember M) 12 19)))) (by decide)) dX3_copy_48 ?_
      refine n_bipush (v := (nI 6)) hC dX3_copy_51 (by decide) ?_
      refine n_iload_n hC dX3_copy_53 rfl ?_
      refine n_top (cl k) hk.1 ?_
      refine n_iaddN hC dX3_copy_54 ?_
      refine n_iald hC (f := mA (mSetA (m_remember M) 12 (6 + (cl k)) (m_grown (m_remember M) (cl k) (cl (mA (m_remember M) 12 19)))) 12) (mc_a (p := 10) (by decide) (by decide)) (by omega) (6 + (cl k)) rfl (by omega) (by decide) dX3_copy_55 ?_
      refine n_stk (st' := [.int (m_grown (m_remember M) (cl k) (cl (mA (m_remember M) 12 19)))]) (by first | rfl | simp [mA_A, mB_B]) ?_
      have eq_ : m_copy M k = ((m_grown (m_remember M) (cl k) (cl (mA (m_remember M) 12 19))), mSetA (m_remember M) 12 (6 + (cl k)) (m_grown (m_remember M) (cl k) (cl (mA (m_remember M) 12 19)))) := by rw [m_copy, if_pos c5, if_pos c16]
      refine n_iret hC dX3_copy_56 (Nat.le_of_ble_eq_true rfl) (Nat.le_of_ble_eq_true rfl) ?_
      rw [eq_]
      dsimp only
      exact ⟨rfl, rfl, rfl⟩
    · refine n_ldc hC dX3_copy_19 q932 ?_
      have eq_ : m_copy M k = ((-1000000003), M) := by rw [m_copy, if_pos c5, if_neg (by rw [c16]; decide)]
      refine n_iret hC dX3_copy_21 (Nat.le_of_ble_eq_true rfl) (Nat.le_of_ble_eq_true rfl) ?_
      rw [eq_]
      dsimp only
      exact ⟨rfl, rfl, rfl⟩
  · refine n_ldc hC dX3_copy_8 q893 ?_
    have eq_ : m_copy M k = ((-1000000001), M) := by rw [m_copy, if_neg (by rw [c5]; decide)]
    refine n_iret hC dX3_copy_10 (Nat.le_of_ble_eq_true rfl) (Nat.le_of_ble_eq_true rfl) ?_
    rw [eq_]
    dsimp only
    exact ⟨rfl, rfl, rfl⟩
theorem draw_lt {M : MS} {z : Nat} (hz : 0 < z) : (m_draw M z).1 < z := Nat.mod_lt _ hz
theorem draw_sd {M : MS} {z : Nat} : 0 ≤ mI (m_draw M z).2 13 := by
  show 0 ≤ nI (nxS _)
  exact nI_pos' (by have := nxS_lt (cl (mI M 13)); omega)
def m_drawn (M : MS) : MS := (if ((m_draw M 6).1) ≤ 1 then (if ((m_draw M 6).1) = 0 then (if (m_lives ((m_draw ((m_draw ((m_draw M 6).2) (mN ((m_draw M 6).2) 0)).2) 20).2) ((m_draw ((m_draw M 6).2) (mN ((m_draw M 6).2) 0)).1)) = true then (m_swell ((m_draw ((m_draw ((m_draw M 6).2) (mN ((m_draw M 6).2) 0)).2) 20).2) ((m_draw ((m_draw M 6).2) (mN ((m_draw M 6).2) 0)).1) (nI (((m_draw ((m_draw ((m_draw M 6).2) (mN ((m_draw M 6).2) 0)).2) 20).1) + 1))) else (m_draw ((m_draw ((m_draw M 6).2) (mN ((m_draw M 6).2) 0)).2) 20).2) else (if (m_lives ((m_draw ((m_draw M 6).2) (mN ((m_draw M 6).2) 0)).2) ((m_draw ((m_draw M 6).2) (mN ((m_draw M 6).2) 0)).1)) = true then (m_shrink ((m_draw ((m_draw M 6).2) (mN ((m_draw M 6).2) 0)).2) ((m_draw ((m_draw M 6).2) (mN ((m_draw M 6).2) 0)).1)) else (m_draw ((m_draw M 6).2) (mN ((m_draw M 6).2) 0)).2)) else (m_draw M 6).2)
theorem bX3_drawn : nBV RX3 yX3_drawn cX3_drawn 4 none 0 := ⟨q972, qs40, q55, q973, by decide, by decide +kernel⟩
set_option maxRecDepth 100000 in
set_option maxHeartbeats 4000000 in
theorem t_m_drawn (l : Launch) (D : va_G) (N0 : Nat) (kA : Nat → ClassId) (mb : Nat) (hs : hT) (M : MS) (n : Nat) (hn : mb + 28 < n)  (h0 : mN M 0 ≤ 6) (hd : 0 ≤ mI M 13) (hp : 0 < mN M 0) : nE l yX3_drawn cX3_drawn 4 none D N0 kA 2 0 0 [.ref (N0 + mb)] (mH N0 mb kA hs M) n (nX none (mH N0 mb kA hs (m_drawn M)) n) := by
  refine nE_of (by decide) (Nat.le_of_ble_eq_true rfl) ?_
  intro p e s m args below meth c hC hnm
  refine n_loc (L' := [(0, .ref (N0 + mb))]) rfl ?_
  refine n_aload_n hC dX3_drawn_0 rfl ?_
  refine n_bipush (v := (nI 6)) hC dX3_drawn_1 (by decide) ?_
  refine n_callV1 hC (As := [.int (nI 6)]) (rest := []) mc_o (by omega) rfl bX3_draw (t_m_draw l D N0 kA mb hs M n hn 6 hd (by omega) (by omega)) (by decide) (by decide) q974 rfl (Nat.le_of_ble_eq_true rfl) dX3_drawn_3 (Nat.le_of_ble_eq_true rfl) (Nat.le_of_ble_eq_true rfl) ?_
  refine n_stk (st' := [.int (nI ((m_draw M 6).1))]) rfl ?_
  have w1 := draw_lt (M := M) (z := 6) (by decide)
  refine n_istore_n (L' := [(0, .ref (N0 + mb)), (1, .int (nI ((m_draw M 6).1)))]) hC dX3_drawn_6 (by decide) rfl ?_
  refine n_iload_n hC dX3_drawn_7 rfl ?_
  refine n_iconst (v := (nI 1)) hC dX3_drawn_8 (by decide) ?_
  refine n_icmp_leN (tgt := 13) hC ((m_draw M 6).1) 1 rfl rfl (by omega) (by omega) dX3_drawn_9 (by decide) (fun c9 => ?_) (fun c9 => ?_)
  · refine n_aload_n hC dX3_drawn_13 rfl ?_
    refine n_aload_n hC dX3_drawn_14 rfl ?_
    refine n_get hC cl3 (k := 0) (v := .int (nI (mN ((m_draw M 6).2) 0))) mc_o (by omega) (by decide) q680 (mf_get N0 mb ((m_draw M 6).2) (by decide)) dX3_drawn_15 ?_
    refine n_callV1 hC (As := [.int (nI (mN ((m_draw M 6).2) 0))]) (rest := []) mc_o (by omega) rfl bX3_draw (t_m_draw l D N0 kA mb hs ((m_draw M 6).2) n hn (mN ((m_draw M 6).2) 0) draw_sd hp (by show mN M 0 < _; omega)) (by decide) (by decide) q974 rfl (Nat.le_of_ble_eq_true rfl) dX3_drawn_18 (Nat.le_of_ble_eq_true rfl) (Nat.le_of_ble_eq_true rfl) ?_
    refine n_stk (st' := [.int (nI ((m_draw ((m_draw M 6).2) (mN ((m_draw M 6).2) 0)).1))]) rfl ?_
    have w2 := draw_lt (M := (m_draw M 6).2) (z := mN ((m_draw M 6).2) 0) hp
    have w3 : mN ((m_draw M 6).2) 0 = mN M 0 := rfl
    refine n_istore_n (L' := [(0, .ref (N0 + mb)), (1, .int (nI ((m_draw M 6).1))), (2, .int (nI ((m_draw ((m_draw M 6).2) (mN ((m_draw M 6).2) 0)).1)))]) hC dX3_drawn_21 (by decide) rfl ?_
    refine n_iload_n hC dX3_drawn_22 rfl ?_
    refine n_if_neN (tgt := 37) hC (by omega) dX3_drawn_23 (by decide) (fun c23 => ?_) (fun c23 => ?_)
    · refine n_iconst (v := (nI 0)) hC dX3_drawn_37 (by decide) ?_
      refine n_istore_n (L' := [(0, .ref (N0 + mb)), (1, .int (nI ((m_draw M 6).1))), (2, .int (nI ((m_draw ((m_draw M 6).2) (mN ((m_draw M 6).2) 0)).1))), (3, .int (nI 0))]) hC dX3_drawn_38 (by decide) rfl ?_
      refine n_aload_n hC dX3_drawn_39 rfl ?_
      refine n_iload_n hC dX3_drawn_40 rfl ?_
      refine n_callV1 hC (As := [.int (nI ((m_draw ((m_draw M 6).2) (mN ((m_draw M 6).2) 0)).1))]) (rest := []) mc_o (by omega) rfl bX3_lives (t_m_lives l D N0 kA mb hs ((m_draw ((m_draw M 6).2) (mN ((m_draw M 6).2) 0)).2) n hn ((m_draw ((m_draw M 6).2) (mN ((m_draw M 6).2) 0)).1) ) (by decide) (by decide) q902 rfl (Nat.le_of_ble_eq_true rfl) dX3_drawn_41 (Nat.le_of_ble_eq_true rfl) (Nat.le_of_ble_eq_true rfl) ?_
      refine n_stk (st' := [.int (bI (m_lives ((m_draw ((m_draw M 6).2) (mN ((m_draw M 6).2) 0)).2) ((m_draw ((m_draw M 6).2) (mN ((m_draw M 6).2) 0)).1)))]) rfl ?_
      refine n_if_eqB (tgt := 60) hC dX3_drawn_44 (by decide) (fun c44 => ?_) (fun c44 => ?_)
      · refine n_aload_n hC dX3_drawn_60 rfl ?_
        refine n_iload_n hC dX3_drawn_61 rfl ?_
        refine n_callV1 hC (As := [.int (nI ((m_draw ((m_draw M 6).2) (mN ((m_draw M 6).2) 0)).1))]) (rest := []) mc_o (by omega) rfl bX3_lives (t_m_lives l D N0 kA mb hs ((m_draw ((m_draw M 6).2) (mN ((m_draw M 6).2) 0)).2) n hn ((m_draw ((m_draw M 6).2) (mN ((m_draw M 6).2) 0)).1) ) (by decide) (by decide) q902 rfl (Nat.le_of_ble_eq_true rfl) dX3_drawn_62 (Nat.le_of_ble_eq_true rfl) (Nat.le_of_ble_eq_true rfl) ?_
        refine n_stk (st' := [.int (bI (m_lives ((m_draw ((m_draw M 6).2) (mN ((m_draw M 6).2) 0)).2) ((m_draw ((m_draw M 6).2) (mN ((m_draw M 6).2) 0)).1)))]) rfl ?_
        refine n_if_eqT (tgt := 73) hC dX3_drawn_65 (by decide) (bI_1.mpr c44) ?_
        have eq_ : m_drawn M = (m_draw ((m_draw M 6).2) (mN ((m_draw M 6).2) 0)).2 := by rw [m_drawn, if_pos c9, if_neg c23, if_neg (by rw [c44]; decide)]
        refine n_vret hC dX3_drawn_73 (Nat.le_of_ble_eq_true rfl) (Nat.le_of_ble_eq_true rfl) ?_
        rw [eq_]
        exact ⟨rfl, rfl, rfl⟩
      · refine n_iload_n hC dX3_drawn_47 rfl ?_
        refine n_if_neN (tgt := 60) hC (by omega) dX3_drawn_48 (by decide) (fun _ => ?_) (fun c_ => False.elim (by omega))
        refine n_aload_n hC dX3_drawn_60 rfl ?_
        refine n_iload_n hC dX3_drawn_61 rfl ?_
        refine n_callV1 hC (As := [.int (nI ((m_draw ((m_draw M 6).2) (mN ((m_draw M 6).2) 0)).1))]) (rest := []) mc_o (by omega) rfl bX3_lives (t_m_lives l D N0 kA mb hs ((m_draw ((m_draw M 6).2) (mN ((m_draw M 6).2) 0)).2) n hn ((m_draw ((m_draw M 6).2) (mN ((m_draw M 6).2) 0)).1) ) (by decide) (by decide) q902 rfl (Nat.le_of_ble_eq_true rfl) dX3_drawn_62 (Nat.le_of_ble_eq_true rfl) (Nat.le_of_ble_eq_true rfl) ?_
        refine n_stk (st' := [.int (bI (m_lives ((m_draw ((m_draw M 6).2) (mN ((m_draw M 6).2) 0)).2) ((m_draw ((m_draw M 6).2) (mN ((m_draw M 6).2) 0)).1)))]) rfl ?_
        refine n_if_eqF (tgt := 73) hC dX3_drawn_65 (by decide) (by rw [c44]; decide) ?_
        refine n_aload_n hC dX3_drawn_68 rfl ?_
        refine n_iload_n hC dX3_drawn_69 rfl ?_
        refine n_callV1 hC (As := [.int (nI ((m_draw ((m_draw M 6).2) (mN ((m_draw M 6).2) 0)).1))]) (rest := []) mc_o (by omega) rfl bX3_shrink (t_m_shrink l D N0 kA mb hs ((m_draw ((m_draw M 6).2) (mN ((m_draw M 6).2) 0)).2) n hn ((m_draw ((m_draw M 6).2) (mN ((m_draw M 6).2) 0)).1) (by omega)) (by decide) (by decide) q954 rfl (Nat.le_of_ble_eq_true rfl) dX3_drawn_70 (Nat.le_of_ble_eq_true rfl) (Nat.le_of_ble_eq_true rfl) ?_
        refine n_stk (st' := []) rfl ?_
        have eq_ : m_drawn M = (m_shrink ((m_draw ((m_draw M 6).2) (mN ((m_draw M 6).2) 0)).2) ((m_draw ((m_draw M 6).2) (mN ((m_draw M 6).2) 0)).1)) := by rw [m_drawn, if_pos c9, if_neg c23, if_pos c44]
        refine n_vret hC dX3_drawn_73 (Nat.le_of_ble_eq_true rfl) (Nat.le_of_ble_eq_true rfl) ?_
        rw [eq_]
        exact ⟨rfl, rfl, rfl⟩
    · refine n_aload_n hC dX3_drawn_26 rfl ?_
      refine n_bipush (v := (nI 20)) hC dX3_drawn_27 (by decide) ?_
      refine n_callV1 hC (As := [.int (nI 20)]) (rest := []) mc_o (by omega) rfl bX3_draw (t_m_draw l D N0 kA mb hs ((m_draw ((m_draw M 6).2) (mN ((m_draw M 6).2) 0)).2) n hn 20 draw_sd (by omega) (by omega)) (by decide) (by decide) q974 rfl (Nat.le_of_ble_eq_true rfl) dX3_drawn_29 (Nat.le_of_ble_eq_true rfl) (Nat.le_of_ble_eq_true rfl) ?_
      refine n_stk (st' := [.int (nI ((m_draw ((m_draw ((m_draw M 6).2) (mN ((m_draw M 6).2) 0)).2) 20).1))]) rfl ?_
      refine n_iconst (v := (nI 1)) hC dX3_drawn_32 (by decide) ?_
      refine n_iaddN hC dX3_drawn_33 ?_
      refine n_goto (tgt := 38) hC dX3_drawn_34 (by decide) ?_
      refine n_istore_n (L' := [(0, .ref (N0 + mb)), (1, .int (nI ((m_draw M 6).1))), (2, .int (nI ((m_draw ((m_draw M 6).2) (mN ((m_draw M 6).2) 0)).1))), (3, .int (nI (((m_draw ((m_draw ((m_draw M 6).2) (mN ((m_draw M 6).2) 0)).2) 20).1) + 1)))]) hC dX3_drawn_38 (by decide) rfl ?_
      refine n_aload_n hC dX3_drawn_39 rfl ?_
      refine n_iload_n hC dX3_drawn_40 rfl ?_
      refine n_callV1 hC (As := [.int (nI ((m_draw ((m_draw M 6).2) (mN ((m_draw M 6).2) 0)).1))]) (rest := []) mc_o (by omega) rfl bX3_lives (t_m_lives l D N0 kA mb hs ((m_draw ((m_draw ((m_draw M 6).2) (mN ((m_draw M 6).2) 0)).2) 20).2) n hn ((m_draw ((m_draw M 6).2) (mN ((m_draw M 6).2) 0)).1) ) (by decide) (by decide) q902 rfl (Nat.le_of_ble_eq_true rfl) dX3_drawn_41 (Nat.le_of_ble_eq_true rfl) (Nat.le_of_ble_eq_true rfl) ?_
      refine n_stk (st' := [.int (bI (m_lives ((m_draw ((m_draw ((m_draw M 6).2) (mN ((m_draw M 6).2) 0)).2) 20).2) ((m_draw ((m_draw M 6).2) (mN ((m_draw M 6).2) 0)).1)))]) rfl ?_
      refine n_if_eqB (tgt := 60) hC dX3_drawn_44 (by decide) (fun c44 => ?_) (fun c44 => ?_)
      · refine n_aload_n hC dX3_drawn_60 rfl ?_
        refine n_iload_n hC dX3_drawn_61 rfl ?_
        refine n_callV1 hC (As := [.int (nI ((m_draw ((m_draw M 6).2) (mN ((m_draw M 6).2) 0)).1))]) (rest := []) mc_o (by omega) rfl bX3_lives (t_m_lives l D N0 kA mb hs ((m_draw ((m_draw ((m_draw M 6).2) (mN ((m_draw M 6).2) 0)).2) 20).2) n hn ((m_draw ((m_draw M 6).2) (mN ((m_draw M 6).2) 0)).1) ) (by decide) (by decide) q902 rfl (Nat.le_of_ble_eq_true rfl) dX3_drawn_62 (Nat.le_of_ble_eq_true rfl) (Nat.le_of_ble_eq_true rfl) ?_
        refine n_stk (st' := [.int (bI (m_lives ((m_draw ((m_draw ((m_draw M 6).2) (mN ((m_draw M 6).2) 0)).2) 20).2) ((m_draw ((m_draw M 6).2) (mN ((m_draw M 6).2) 0)).1)))]) rfl ?_
        refine n_if_eqT (tgt := 73) hC dX3_drawn_65 (by decide) (bI_1.mpr c44) ?_
        have eq_ : m_drawn M = (m_draw ((m_draw ((m_draw M 6).2) (mN ((m_draw M 6).2) 0)).2) 20).2 := by rw [m_drawn, if_pos c9, if_pos c23, if_neg (by rw [c44]; decide)]
        refine n_vret hC dX3_drawn_73 (Nat.le_of_ble_eq_true rfl) (Nat.le_of_ble_eq_true rfl) ?_
        rw [eq_]
        exact ⟨rfl, rfl, rfl⟩
      · refine n_iload_n hC dX3_drawn_47 rfl ?_
        refine n_if_neN (tgt := 60) hC (by omega) dX3_drawn_48 (by decide) (fun c_ => False.elim (by omega)) (fun _ => ?_)
        refine n_aload_n hC dX3_drawn_51 rfl ?_
        refine n_iload_n hC dX3_drawn_52 rfl ?_
        refine n_iload_n hC dX3_drawn_53 rfl ?_
        refine n_callV1 hC (As := [.int (nI ((m_draw ((m_draw M 6).2) (mN ((m_draw M 6).2) 0)).1)), .int (nI (((m_draw ((m_draw ((m_draw M 6).2) (mN ((m_draw M 6).2) 0)).2) 20).1) + 1))]) (rest := []) mc_o (by omega) rfl bX3_swell (t_m_swell l D N0 kA mb hs ((m_draw ((m_draw ((m_draw M 6).2) (mN ((m_draw M 6).2) 0)).2) 20).2) n hn ((m_draw ((m_draw M 6).2) (mN ((m_draw M 6).2) 0)).1) (nI (((m_draw ((m_draw ((m_draw M 6).2) (mN ((m_draw M 6).2) 0)).2) 20).1) + 1)) (by omega)) (by decide) (by decide) q946 rfl (Nat.le_of_ble_eq_true rfl) dX3_drawn_54 (Nat.le_of_ble_eq_true rfl) (Nat.le_of_ble_eq_true rfl) ?_
        refine n_stk (st' := []) rfl ?_
        refine n_goto (tgt := 73) hC dX3_drawn_57 (by decide) ?_
        have eq_ : m_drawn M = (m_swell ((m_draw ((m_draw ((m_draw M 6).2) (mN ((m_draw M 6).2) 0)).2) 20).2) ((m_draw ((m_draw M 6).2) (mN ((m_draw M 6).2) 0)).1) (nI (((m_draw ((m_draw ((m_draw M 6).2) (mN ((m_draw M 6).2) 0)).2) 20).1) + 1))) := by rw [m_drawn, if_pos c9, if_pos c23, if_pos c44]
        refine n_vret hC dX3_drawn_73 (Nat.le_of_ble_eq_true rfl) (Nat.le_of_ble_eq_true rfl) ?_
        rw [eq_]
        exact ⟨rfl, rfl, rfl⟩
  · have eq_ : m_drawn M = (m_draw M 6).2 := by rw [m_drawn, if_neg (Nat.not_le.mpr c9)]
    refine n_vret hC dX3_drawn_12 (Nat.le_of_ble_eq_true rfl) (Nat.le_of_ble_eq_true rfl) ?_
    rw [eq_]
    exact ⟨rfl, rfl, rfl⟩
