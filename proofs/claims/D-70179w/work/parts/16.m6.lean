/-! what drawn keeps -/
theorem swell_K (M : MS) (k : Nat) (v : Int32) : (∀ j, mN (m_swell M k v) j = mN M j) ∧ (∀ j, mI (m_swell M k v) j = mI M j) ∧ (∀ f j, mB (m_swell M k v) f j = mB M f j) ∧ (∀ f j, f ≠ 12 ∨ j ≠ k → mA (m_swell M k v) f j = mA M f j) := by
  unfold m_swell
  split <;> exact ⟨fun _ => rfl, fun _ => rfl, fun _ _ => rfl, fun f j h => by rw [mA_A, if_neg (by omega)]⟩
theorem shrink_K (M : MS) (k : Nat) : (∀ j, mN (m_shrink M k) j = mN M j) ∧ (∀ j, mI (m_shrink M k) j = mI M j) ∧ (∀ f j, mB (m_shrink M k) f j = mB M f j) ∧ (∀ f j, f ≠ 12 ∨ j ≠ k → mA (m_shrink M k) f j = mA M f j) := by
  unfold m_shrink
  split <;> exact ⟨fun _ => rfl, fun _ => rfl, fun _ _ => rfl, fun f j h => by rw [mA_A, if_neg (by omega)]⟩
def keep12 (M M' : MS) : Prop := (∀ j, mN M' j = mN M j) ∧ (∀ f j, mB M' f j = mB M f j) ∧ (∀ f j, f ≠ 12 → mA M' f j = mA M f j) ∧ (∀ j, 6 ≤ j → mA M' 12 j = mA M 12 j) ∧ 0 ≤ mI M' 13
theorem keep12_d {M : MS} {z : Nat} : keep12 M (m_draw M z).2 := ⟨fun _ => rfl, fun _ _ => rfl, fun _ _ _ => rfl, fun _ _ => rfl, draw_sd⟩
theorem keep12_t {A B C : MS} (h1 : keep12 A B) (h2 : keep12 B C) : keep12 A C := ⟨fun j => (h2.1 j).trans (h1.1 j), fun f j => (h2.2.1 f j).trans (h1.2.1 f j), fun f j h => (h2.2.2.1 f j h).trans (h1.2.2.1 f j h), fun j h => (h2.2.2.2.1 j h).trans (h1.2.2.2.1 j h), h2.2.2.2.2⟩
theorem keep12_w {A B : MS} {k : Nat} {v : Int32} (h1 : keep12 A B) (hk : k < 6) : keep12 A (m_swell B k v) := by
  obtain ⟨a1, a2, a3, a4⟩ := swell_K B k v
  exact ⟨fun j => (a1 j).trans (h1.1 j), fun f j => (a3 f j).trans (h1.2.1 f j), fun f j h => (a4 f j (Or.inl h)).trans (h1.2.2.1 f j h), fun j h => (a4 12 j (Or.inr (by omega))).trans (h1.2.2.2.1 j h), by rw [a2]; exact h1.2.2.2.2⟩
theorem keep12_s {A B : MS} {k : Nat} (h1 : keep12 A B) (hk : k < 6) : keep12 A (m_shrink B k) := by
  obtain ⟨a1, a2, a3, a4⟩ := shrink_K B k
  exact ⟨fun j => (a1 j).trans (h1.1 j), fun f j => (a3 f j).trans (h1.2.1 f j), fun f j h => (a4 f j (Or.inl h)).trans (h1.2.2.1 f j h), fun j h => (a4 12 j (Or.inr (by omega))).trans (h1.2.2.2.1 j h), by rw [a2]; exact h1.2.2.2.2⟩
theorem drawn_K {M : MS} (h0 : mN M 0 ≤ 6) (hp : 0 < mN M 0) : keep12 M (m_drawn M) := by
  have w2 := draw_lt (M := (m_draw M 6).2) (z := mN ((m_draw M 6).2) 0) hp
  have w3 : mN ((m_draw M 6).2) 0 = mN M 0 := rfl
  have k1 : keep12 M (m_draw M 6).2 := keep12_d
  have k2 : keep12 M (m_draw (m_draw M 6).2 (mN ((m_draw M 6).2) 0)).2 := keep12_t k1 keep12_d
  have k3 : keep12 M (m_draw (m_draw (m_draw M 6).2 (mN ((m_draw M 6).2) 0)).2 20).2 := keep12_t k2 keep12_d
  unfold m_drawn
  generalize m_draw M 6 = A at *
  generalize m_draw A.2 (mN A.2 0) = B at *
  generalize m_draw B.2 20 = C at *
  have w4 : B.1 < 6 := by omega
  split
  · split
    · split
      · exact keep12_w k3 w4
      · exact k3
    · split
      · exact keep12_s k2 w4
      · exact k2
  · exact k1
theorem k12_he {M M' : MS} (hk : keep12 M M') (h : mHe M) : mHe M' := fun a ha h1 => by
  rw [hk.2.2.1 2 a (by decide)] at h1 ⊢
  exact h a ha h1
theorem k12_co {M M' : MS} (hk : keep12 M M') (h : mCo M) : mCo M' := by
  unfold mCo
  rw [hk.1]
  exact ⟨h.1, fun c hc => by rw [hk.2.1, hk.2.1]; exact h.2 c hc⟩
def m_drift_L18 : Nat → MS → Int32 → Nat → Int32 × MS
  | 0, M, _, _ => (0, M)
  | fu + 1, M, v, i => (if (cl v) ≤ i then ((mA M 12 19), M) else m_drift_L18 fu (m_pass (m_drawn M)) v (i + 1))
def m_drift (M : MS) (v : Int32) : Int32 × MS := (if (m_seasonsRefused M v) = 0 then m_drift_L18 (cl v + 1) (m_remember M) v 0 else ((m_seasonsRefused M v), M))
theorem bX3_drift : nBV RX3 yX3_drift cX3_drift 4 (some .int) 1 := ⟨q967, q968, q55, q969, by decide, by decide +kernel⟩
set_option maxRecDepth 100000 in
set_option maxHeartbeats 4000000 in
theorem t_m_drift_L18 {p : Program} {l : Launch} {e : Env} {s : State} {m : MethodId} {args : Array Value} {below : List Frame} {meth : Method} {c : Code} {D : va_G} {N0 : Nat} {kA : Nat → ClassId} {mb : Nat} {hs : hT} {n : Nat} (hn : mb + 28 < n) {v : Int32} (hC : nC p s m args meth c RX3 cX3_drift 4 (some .int) true D N0 kA)  : ∀ (fu : Nat) (M : MS) (i : Nat) (h0 : mN M 0 ≤ 6) (hp : 0 < mN M 0) (hd : 0 ≤ mI M 13) (hv1 : v = nI (cl v)) (hv2 : cl v ≤ 40) (hh : mHe M) (hc : mCo M) (hS0 : 0 ≤ mA M 12 19) (hS1 : cl (mA M 12 19) ≤ 9000 + i) (hi : i ≤ cl v) (hf : cl v < i + fu), nW p l e (nRm 5 0 0) s m args below meth c (nQ below (nX (some (.int ((m_drift_L18 fu M v i).1))) (mH N0 mb kA hs ((m_drift_L18 fu M v i).2)) n) D N0 s 0 0) D N0 4 18 [(0, .ref (N0 + mb)), (1, .int v), (3, .int (nI i))] [] (mH N0 mb kA hs M) n 0 0 := by
  intro fu
  induction fu with
  | zero =>
    intro M i h0 hp hd hv1 hv2 hh hc hS0 hS1 hi hf
    exfalso; omega
  | succ fu ih =>
    intro M i h0 hp hd hv1 hv2 hh hc hS0 hS1 hi hf
    refine n_iload_n hC dX3_drift_18 rfl ?_
    refine n_iload_n hC dX3_drift_19 rfl ?_
    refine n_top (cl v) hv1 ?_
    refine n_icmp_geN (tgt := 37) hC i (cl v) rfl rfl (by omega) (by omega) dX3_drift_20 (by decide) (fun c20 => ?_) (fun c20 => ?_)
    · refine n_aload_n hC dX3_drift_37 rfl ?_
      refine n_get hC cl3 (k := 12) (v := .ref (N0 + (mb + 10))) mc_o (by omega) (by decide) q692 (mf_get N0 mb M (by decide)) dX3_drift_38 ?_
      refine n_bipush (v := (nI 19)) hC dX3_drift_41 (by decide) ?_
      refine n_iald hC (f := mA M 12) (mc_a (p := 10) (by decide) (by decide)) (by omega) 19 rfl (by omega) (by decide) dX3_drift_43 ?_
      have eq_ : m_drift_L18 (fu + 1) M v i = ((mA M 12 19), M) := by rw [m_drift_L18, if_pos c20]
      refine n_iret hC dX3_drift_44 (Nat.le_of_ble_eq_true rfl) (Nat.le_of_ble_eq_true rfl) ?_
      rw [eq_]
      dsimp only
      exact ⟨rfl, rfl, rfl⟩
    · refine n_aload_n hC dX3_drift_23 rfl ?_
      refine n_callV1 hC (As := []) (rest := []) mc_o (by omega) rfl bX3_drawn (t_m_drawn l D N0 kA mb hs M n hn  h0 hd hp) (by decide) (by decide) q970 rfl (Nat.le_of_ble_eq_true rfl) dX3_drift_24 (Nat.le_of_ble_eq_true rfl) (Nat.le_of_ble_eq_true rfl) ?_
      refine n_stk (st' := []) rfl ?_
      have k1 := drawn_K h0 hp
      have k19 := k1.2.2.2.1 19 (by decide)
      refine n_aload_n hC dX3_drift_27 rfl ?_
      refine n_callV1 hC (As := []) (rest := []) mc_o (by omega) rfl bX3_pass (t_m_pass l D N0 kA mb hs (m_drawn M) n hn  (k12_he k1 hh) (by unfold mSe; rw [k19]; exact ⟨hS0, by omega⟩) (k12_co k1 hc)) (by decide) (by decide) q937 rfl (Nat.le_of_ble_eq_true rfl) dX3_drift_28 (Nat.le_of_ble_eq_true rfl) (Nat.le_of_ble_eq_true rfl) ?_
      refine n_stk (st' := []) rfl ?_
      refine n_iincN (a := i) (L' := [(0, .ref (N0 + mb)), (1, .int v), (3, .int (nI (i + 1)))]) hC dX3_drift_31 rfl (by decide) rfl ?_
      refine n_goto (tgt := 18) hC dX3_drift_34 (by decide) ?_
      rw [show m_drift_L18 (fu + 1) M v i = m_drift_L18 fu (m_pass (m_drawn M)) v (i + 1) from by rw [m_drift_L18, if_neg (Nat.not_le.mpr c20)]]
      exact ih (m_pass (m_drawn M)) (i + 1) (by rw [pass_N, k1.1]; exact h0) (by rw [pass_N, k1.1]; exact hp) (by rw [pass_I]; exact k1.2.2.2.2) hv1 hv2 (pass_he (k12_he k1 hh)) (pass_co (k12_co k1 hc)) (pass_s0 (k12_co k1 hc) (by rw [k19]; omega)) (by rw [pass_s1 (k12_co k1 hc) (by rw [k19]; omega), k19]; omega) (by omega) (by omega)
set_option maxRecDepth 100000 in
set_option maxHeartbeats 4000000 in
theorem t_m_drift (l : Launch) (D : va_G) (N0 : Nat) (kA : Nat → ClassId) (mb : Nat) (hs : hT) (M : MS) (n : Nat) (hn : mb + 28 < n) (v : Int32) (h0 : mN M 0 ≤ 6) (hh : mHe M) (hS : mSe M) (hc : mCo M) (hd : 0 ≤ mI M 13) (h33 : mN M 33 ≤ 20) : nE l yX3_drift cX3_drift 4 (some .int) D N0 kA 5 0 0 [.ref (N0 + mb), .int v] (mH N0 mb kA hs M) n (nX (some (.int ((m_drift M v).1))) (mH N0 mb kA hs ((m_drift M v).2)) n) := by
  refine nE_of (by decide) (Nat.le_of_ble_eq_true rfl) ?_
  intro p e s m args below meth c hC hnm
  refine n_loc (L' := [(0, .ref (N0 + mb)), (1, .int v)]) rfl ?_
  refine n_aload_n hC dX3_drift_0 rfl ?_
  refine n_iload_n hC dX3_drift_1 rfl ?_
  refine n_callV1 hC (As := [.int v]) (rest := []) mc_o (by omega) rfl bX3_seasonsRefused (t_m_seasonsRefused l D N0 kA mb hs M n hn v h0 hS) (by decide) (by decide) q927 rfl (Nat.le_of_ble_eq_true rfl) dX3_drift_2 (Nat.le_of_ble_eq_true rfl) (Nat.le_of_ble_eq_true rfl) ?_
  refine n_stk (st' := [.int (m_seasonsRefused M v)]) rfl ?_
  refine n_istore_n (L' := [(0, .ref (N0 + mb)), (1, .int v), (2, .int (m_seasonsRefused M v))]) hC dX3_drift_5 (by decide) rfl ?_
  refine n_iload_n hC dX3_drift_6 rfl ?_
  refine n_if_eq (tgt := 12) hC dX3_drift_7 (by decide) (fun c7 => ?_) (fun c7 => ?_)
  · have hz := sr_zero hS c7
    have hv1 := hz.1.1
    have hv2 := hz.1.2
    refine n_aload_n hC dX3_drift_12 rfl ?_
    refine n_callV1 hC (As := []) (rest := []) mc_o (by omega) rfl bX3_remember (t_m_remember l D N0 kA mb hs M n hn  (by omega)) (by decide) (by decide) q933 rfl (Nat.le_of_ble_eq_true rfl) dX3_drift_13 (Nat.le_of_ble_eq_true rfl) (Nat.le_of_ble_eq_true rfl) ?_
    refine n_stk (st' := []) rfl ?_
    refine n_iconst (v := (nI 0)) hC dX3_drift_16 (by decide) ?_
    refine n_istore_n (L' := [(0, .ref (N0 + mb)), (1, .int v), (2, .int (m_seasonsRefused M v)), (3, .int (nI 0))]) hC dX3_drift_17 (by decide) rfl ?_
    refine n_drop [0, 1, 3] (L' := [(0, .ref (N0 + mb)), (1, .int v), (3, .int (nI 0))]) rfl ?_
    rw [show m_drift M v = m_drift_L18 (cl v + 1) (m_remember M) v 0 from by rw [m_drift, if_pos c7]]
    exact t_m_drift_L18 hn hC  (cl v + 1) (m_remember M) 0 (by rw [rem_N (by decide)]; exact h0) (by rw [rem_N (by decide)]; exact Nat.pos_of_ne_zero hz.2.1) (by rw [rem_I]; exact hd) hv1 hv2.2 (rem_he hh) (rem_co hc) (rem_se hS).1 (by rw [rem_A (by decide)]; exact hz.2.2) (by first | omega | (simp [mN_A, mN_B, mN_I, mN_N] <;> omega)) (by first | omega | (simp [mN_A, mN_B, mN_I, mN_N] <;> omega))
  · refine n_iload_n hC dX3_drift_10 rfl ?_
    have eq_ : m_drift M v = ((m_seasonsRefused M v), M) := by rw [m_drift, if_neg c7]
    refine n_iret hC dX3_drift_11 (Nat.le_of_ble_eq_true rfl) (Nat.le_of_ble_eq_true rfl) ?_
    rw [eq_]
    dsimp only
    exact ⟨rfl, rfl, rfl⟩
def m_basket (M : MS) (k : Int32) : Int32 × MS := (if k = (-1) then (if 0 ≤ (mI (m_findBasket M) 35) then ((nI (m_timesOf (cl (mI (m_findBasket M) 35)))), (m_findBasket M)) else ((-1), (m_findBasket M))) else (if (m_isLimb M k) = true then (if 0 ≤ (mI (m_findBasket M) 35) then (if (nI (cl k)) = (-1) then ((nI (m_timesOf (cl (mI (m_findBasket M) 35)))), (m_findBasket M)) else ((nI (m_times (cl (mI (m_findBasket M) 35)) (cl k))), (m_findBasket M))) else ((-1), (m_findBasket M))) else ((-1000000001), M)))
theorem bX3_basket : nBV RX3 yX3_basket cX3_basket 2 (some .int) 1 := ⟨q996, q997, q55, q998, by decide, by decide +kernel⟩
set_option maxRecDepth 100000 in
set_option maxHeartbeats 4000000 in
theorem t_m_basket (l : Launch) (D : va_G) (N0 : Nat) (kA : Nat → ClassId) (mb : Nat) (hs : hT) (M : MS) (n : Nat) (hn : mb + 28 < n) (k : Int32) (h0 : mN M 0 ≤ 6) : nE l yX3_basket cX3_basket 2 (some .int) D N0 kA 5 0 0 [.ref (N0 + mb), .int k] (mH N0 mb kA hs M) n (nX (some (.int ((m_basket M k).1))) (mH N0 mb kA hs ((m_basket M k).2)) n) := by
  refine nE_of (by decide) (Nat.le_of_ble_eq_true rfl) ?_
  intro p e s m args below meth c hC hnm
  refine n_loc (L' := [(0, .ref (N0 + mb)), (1, .int k)]) rfl ?_
  refine n_iload_n hC dX3_basket_0 rfl ?_
  refine n_iconst (v := (-1)) hC dX3_basket_1 (by decide) ?_
  refine n_icmp_eq (tgt := 16) hC dX3_basket_2 (by decide) (fun c2 => ?_) (fun c2 => ?_)
  · refine n_aload_n hC dX3_basket_16 rfl ?_
    refine n_callV1 hC (As := []) (rest := []) mc_o (by omega) rfl bX3_findBasket (t_m_findBasket l D N0 kA mb hs M n hn  h0) (by decide) (by decide) q999 rfl (Nat.le_of_ble_eq_true rfl) dX3_basket_17 (Nat.le_of_ble_eq_true rfl) (Nat.le_of_ble_eq_true rfl) ?_
    refine n_stk (st' := []) rfl ?_
    refine n_aload_n hC dX3_basket_20 rfl ?_
    refine n_get hC cl3 (k := 35) (v := .int (mI (m_findBasket M) 35)) mc_o (by omega) (by decide) q715 (mf_get N0 mb (m_findBasket M) (by decide)) dX3_basket_21 ?_
    refine n_if_ge (tgt := 31) hC dX3_basket_24 (by decide) (fun c24 => ?_) (fun c24 => ?_)
    · have hb := nI_cl c24
      refine n_iload_n hC dX3_basket_31 rfl ?_
      refine n_iconst (v := (-1)) hC dX3_basket_32 (by decide) ?_
      refine n_icmp_neF (tgt := 46) hC dX3_basket_33 (by decide) c2 ?_
      refine n_aload_n hC dX3_basket_36 rfl ?_
      refine n_get hC cl3 (k := 35) (v := .int (mI (m_findBasket M) 35)) mc_o (by omega) (by decide) q715 (mf_get N0 mb (m_findBasket M) (by decide)) dX3_basket_37 ?_
      refine n_top (cl (mI (m_findBasket M) 35)) hb ?_
      refine n_callS1 hC (As := [.int (nI (cl (mI (m_findBasket M) 35)))]) (rest := []) bX3_timesOf (t_m_timesOf l D N0 kA (mH N0 mb kA hs (m_findBasket M)) n (cl (mI (m_findBasket M) 35)) (cl_lt _)) (by decide) (by decide) q1022 rfl (Nat.le_of_ble_eq_true rfl) dX3_basket_40 (Nat.le_of_ble_eq_true rfl) (Nat.le_of_ble_eq_true rfl) ?_
      refine n_stk (st' := [.int (nI (m_timesOf (cl (mI (m_findBasket M) 35))))]) rfl ?_
      refine n_goto (tgt := 54) hC dX3_basket_43 (by decide) ?_
      have eq_ : m_basket M k = ((nI (m_timesOf (cl (mI (m_findBasket M) 35)))), (m_findBasket M)) := by rw [m_basket, if_pos c2, if_pos c24]
      refine n_iret hC dX3_basket_54 (Nat.le_of_ble_eq_true rfl) (Nat.le_of_ble_eq_true rfl) ?_
      rw [eq_]
      dsimp only
      exact ⟨rfl, rfl, rfl⟩
    · refine n_iconst (v := (-1)) hC dX3_basket_27 (by decide) ?_
      refine n_goto (tgt := 54) hC dX3_basket_28 (by decide) ?_
      have eq_ : m_basket M k = ((-1), (m_findBasket M)) := by rw [m_basket, if_pos c2, if_neg c24]
      refine n_iret hC dX3_basket_54 (Nat.le_of_ble_eq_true rfl) (Nat.le_of_ble_eq_true rfl) ?_
      rw [eq_]
      dsimp only
      exact ⟨rfl, rfl, rfl⟩
  · refine n_aload_n hC dX3_basket_5 rfl ?_
    refine n_iload_n hC dX3_basket_6 rfl ?_
    refine n_callV1 hC (As := [.int k]) (rest := []) mc_o (by omega) rfl bX3_isLimb (t_m_isLimb l D N0 kA mb hs M n hn k ) (by decide) (by decide) q889 rfl (Nat.le_of_ble_eq_true rfl) dX3_basket_7 (Nat.le_of_ble_eq_true rfl) (Nat.le_of_ble_eq_true rfl) ?_
    refine n_stk (st' := [.int (bI (m_isLimb M k))]) rfl ?_
    refine n_if_neB (tgt := 16) hC dX3_basket_10 (by decide) (fun c10 => ?_) (fun c10 => ?_)
    · have hk := isLimb_nat h0 c10
      have hk2 := hk.2
      refine n_aload_n hC dX3_basket_16 rfl ?_
      refine n_callV1 hC (As := []) (rest := []) mc_o (by omega) rfl bX3_findBasket (t_m_findBasket l D N0 kA mb hs M n hn  h0) (by decide) (by decide) q999 rfl (Nat.le_of_ble_eq_true rfl) dX3_basket_17 (Nat.le_of_ble_eq_true rfl) (Nat.le_of_ble_eq_true rfl) ?_
      refine n_stk (st' := []) rfl ?_
      refine n_aload_n hC dX3_basket_20 rfl ?_
      refine n_get hC cl3 (k := 35) (v := .int (mI (m_findBasket M) 35)) mc_o (by omega) (by decide) q715 (mf_get N0 mb (m_findBasket M) (by decide)) dX3_basket_21 ?_
      refine n_if_ge (tgt := 31) hC dX3_basket_24 (by decide) (fun c24 => ?_) (fun c24 => ?_)
      · have hb := nI_cl c24
        refine n_iload_n hC dX3_basket_31 rfl ?_
        refine n_top (cl k) hk.1 ?_
        refine n_iconst (v := (-1)) hC dX3_basket_32 (by decide) ?_
        refine n_icmp_ne (tgt := 46) hC dX3_basket_33 (by decide) (fun c33 => ?_) (fun c33 => ?_)
        · refine n_aload_n hC dX3_basket_46 rfl ?_
          refine n_get hC cl3 (k := 35) (v := .int (mI (m_findBasket M) 35)) mc_o (by omega) (by decide) q715 (mf_get N0 mb (m_findBasket M) (by decide)) dX3_basket_47 ?_
          refine n_top (cl (mI (m_findBasket M) 35)) hb ?_
          refine n_iload_n hC dX3_basket_50 rfl ?_
          refine n_top (cl k) hk.1 ?_
          refine n_callS1 hC (As := [.int (nI (cl (mI (m_findBasket M) 35))), .int (nI (cl k))]) (rest := []) bX3_times (t_m_times l D N0 kA (mH N0 mb kA hs (m_findBasket M)) n (cl (mI (m_findBasket M) 35)) (cl k) (cl_lt _) (by omega)) (by decide) (by decide) q1007 rfl (Nat.le_of_ble_eq_true rfl) dX3_basket_51 (Nat.le_of_ble_eq_true rfl) (Nat.le_of_ble_eq_true rfl) ?_
          refine n_stk (st' := [.int (nI (m_times (cl (mI (m_findBasket M) 35)) (cl k)))]) rfl ?_
          have eq_ : m_basket M k = ((nI (m_times (cl (mI (m_findBasket M) 35)) (cl k))), (m_findBasket M)) := by rw [m_basket, if_neg c2, if_pos c10, if_pos c24, if_neg c33]
          refine n_iret hC dX3_basket_54 (Nat.le_of_ble_eq_true rfl) (Nat.le_of_ble_eq_true rfl) ?_
          rw [eq_]
          dsimp only
          exact ⟨rfl, rfl, rfl⟩
        · refine n_aload_n hC dX3_basket_36 rfl ?_
          refine n_get hC cl3 (k := 35) (v := .int (mI (m_findBasket M) 35)) mc_o (by omega) (by decide) q715 (mf_get N0 mb (m_findBasket M) (by decide)) dX3_basket_37 ?_
          refine n_top (cl (mI (m_findBasket M) 35)) hb ?_
          refine n_callS1 hC (As := [.int (nI (cl (mI (m_findBasket M) 35)))]) (rest := []) bX3_timesOf (t_m_timesOf l D N0 kA (mH N0 mb kA hs (m_findBasket M)) n (cl (mI (m_findBasket M) 35)) (cl_lt _)) (by decide) (by decide) q1022 rfl (Nat.le_of_ble_eq_true rfl) dX3_basket_40 (Nat.le_of_ble_eq_true rfl) (Nat.le_of_ble_eq_true rfl) ?_
          refine n_stk (st' := [.int (nI (m_timesOf (cl (mI (m_findBasket M) 35))))]) rfl ?_
          refine n_goto (tgt := 54) hC dX3_basket_43 (by decide) ?_
          have eq_ : m_basket M k = ((nI (m_timesOf (cl (mI (m_findBasket M) 35)))), (m_findBasket M)) := by rw [m_basket, if_neg c2, if_pos c10, if_pos c24, if_pos c33]
          refine n_iret hC dX3_basket_54 (Nat.le_of_ble_eq_true rfl) (Nat.le_of_ble_eq_true rfl) ?_
          rw [eq_]
          dsimp only
          exact ⟨rfl, rfl, rfl⟩
      · refine n_iconst (v := (-1)) hC dX3_basket_27 (by decide) ?_
        refine n_goto (tgt := 54) hC dX3_basket_28 (by decide) ?_
        have eq_ : m_basket M k = ((-1), (m_findBasket M)) := by rw [m_basket, if_neg c2, if_pos c10, if_neg c24]
        refine n_iret hC dX3_basket_54 (Nat.le_of_ble_eq_true rfl) (Nat.le_of_ble_eq_true rfl) ?_
        rw [eq_]
        dsimp only
        exact ⟨rfl, rfl, rfl⟩
    · refine n_ldc hC dX3_basket_13 q893 ?_
      have eq_ : m_basket M k = ((-1000000001), M) := by rw [m_basket, if_neg c2, if_neg (by rw [c10]; decide)]
      refine n_iret hC dX3_basket_15 (Nat.le_of_ble_eq_true rfl) (Nat.le_of_ble_eq_true rfl) ?_
      rw [eq_]
      dsimp only
      exact ⟨rfl, rfl, rfl⟩
theorem p3_sh : ∀ z, z < 5 → ((nI 1) <<< ((nI (3 * z)) &&& 31)) = nI (2 ^ (3 * z)) := by decide +kernel
theorem p3_le : ∀ z, z < 5 → 2 ^ (3 * z) ≤ 4096 := by decide
def m_findRing_L14 : Nat → MS → Nat → Nat → Option Nat
  | 0, _, _, _ => none
  | fu + 1, M, z, code => (if (2 ^ (3 * z)) ≤ code then none else (if (m_isRow M code z) = true then (if (m_gains M code z (-1)) = true then some code else m_findRing_L14 fu M z (code + 1)) else m_findRing_L14 fu M z (code + 1)))
def m_findRing (M : MS) : Int32 × MS := (match m_findRing_L14 (4097 + mN (mSetN M 36 2) 7) (mSetN M 36 2) 2 0 with | some y => ((nI y), mSetN M 36 2) | none => (match m_findRing_L14 (4097 + mN (mSetN (mSetN M 36 2) 36 3) 7) (mSetN (mSetN M 36 2) 36 3) 3 0 with | some y => ((nI y), mSetN (mSetN M 36 2) 36 3) | none => (match m_findRing_L14 (4097 + mN (mSetN (mSetN (mSetN M 36 2) 36 3) 36 4) 7) (mSetN (mSetN (mSetN M 36 2) 36 3) 36 4) 4 0 with | some y => ((nI y), mSetN (mSetN (mSetN M 36 2) 36 3) 36 4) | none => ((-1), mSetN (mSetN (mSetN M 36 2) 36 3) 36 4))))
theorem bX3_findRing : nBV RX3 yX3_findRing cX3_findRing 3 (some .int) 0 := ⟨q1034, qs46, q55, q1035, by decide, by decide +kernel⟩
set_option maxRecDepth 100000 in
set_option maxHeartbeats 4000000 in
theorem t_m_findRing_L14 {p : Program} {l : Launch} {e : Env} {s : State} {m : MethodId} {args : Array Value} {below : List Frame} {meth : Method} {c : Code} {PX : nP} {D : va_G} {N0 : Nat} {kA : Nat → ClassId} {mb : Nat} {hs : hT} {M : MS} {n : Nat} (hn : mb + 28 < n)  (hC : nC p s m args meth c RX3 cX3_findRing 3 (some .int) true D N0 kA) (hr : mRa M) : ∀ (fu : Nat) (z : Nat) (code : Nat) (hz : z ≤ 4) (hi : code ≤ 2 ^ (3 * z)) (hf : 2 ^ (3 * z) < code + fu) (hK : match m_findRing_L14 fu M z code with | some y => PX (.returned (some (.int (nI y)))) (mH N0 mb kA hs M) n | none => nW p l e (nRm 2 0 0) s m args below meth c (nQ below PX D N0 s 0 0) D N0 3 50 [(0, .ref (N0 + mb)), (1, .int (nI z))] [] (mH N0 mb kA hs M) n 0 0), nW p l e (nRm 2 0 0) s m args below meth c (nQ below PX D N0 s 0 0) D N0 3 14 [(0, .ref (N0 + mb)), (1, .int (nI z)), (2, .int (nI code))] [] (mH N0 mb kA hs M) n 0 0 := by
  intro fu
  induction fu with
  | zero =>
    intro z code hz hi hf hK
    have hp3 := p3_le z (by omega)
    exfalso; omega
  | succ fu ih =>
    intro z code hz hi hf hK
    have hp3 := p3_le z (by omega)
    refine n_iload_n hC dX3_findRing_14 rfl ?_
    refine n_iconst (v := (nI 1)) hC dX3_findRing_15 (by decide) ?_
    refine n_iconst (v := (nI 3)) hC dX3_findRing_16 (by decide) ?_
    refine n_iload_n hC dX3_findRing_17 rfl ?_
    refine n_imulN hC dX3_findRing_18 ?_
    refine n_ishl hC dX3_findRing_19 ?_
    refine n_top (2 ^ (3 * z)) (p3_sh z (by omega)) ?_
    refine n_icmp_geN (tgt := 50) hC code (2 ^ (3 * z)) rfl rfl (by omega) (by omega) dX3_findRing_20 (by decide) (fun c20 => ?_) (fun c20 => ?_)
    · refine n_drop [0, 1] (L' := [(0, .ref (N0 + mb)), (1, .int (nI z))]) rfl ?_
      rw [m_findRing_L14, if_pos c20] at hK
      dsimp only at hK
      exact hK
    · refine n_aload_n hC dX3_findRing_23 rfl ?_
      refine n_iload_n hC dX3_findRing_24 rfl ?_
      refine n_iload_n hC dX3_findRing_25 rfl ?_
      refine n_callV1 hC (As := [.int (nI code), .int (nI z)]) (rest := []) mc_o (by omega) rfl bX3_isRow (t_m_isRow l D N0 kA mb hs M n hn code z (by omega) (by omega) hr) (by decide) (by decide) q1036 rfl (Nat.le_of_ble_eq_true rfl) dX3_findRing_26 (Nat.le_of_ble_eq_true rfl) (Nat.le_of_ble_eq_true rfl) ?_
      refine n_stk (st' := [.int (bI (m_isRow M code z))]) rfl ?_
      refine n_if_eqB (tgt := 44) hC dX3_findRing_29 (by decide) (fun c29 => ?_) (fun c29 => ?_)
      · refine n_iincN (a := code) (L' := [(0, .ref (N0 + mb)), (1, .int (nI z)), (2, .int (nI (code + 1)))]) hC dX3_findRing_44 rfl (by decide) rfl ?_
        refine n_goto (tgt := 14) hC dX3_findRing_47 (by decide) ?_
        rw [m_findRing_L14, if_neg (Nat.not_le.mpr c20), if_neg (by rw [c29]; decide)] at hK
        exact ih z (code + 1) hz (by first | omega | (simp [mN_A, mN_B, mN_I, mN_N] <;> omega)) (by first | omega | (simp [mN_A, mN_B, mN_I, mN_N] <;> omega)) hK
      · refine n_aload_n hC dX3_findRing_32 rfl ?_
        refine n_iload_n hC dX3_findRing_33 rfl ?_
        refine n_iload_n hC dX3_findRing_34 rfl ?_
        refine n_iconst (v := (-1)) hC dX3_findRing_35 (by decide) ?_
        refine n_callV1 hC (As := [.int (nI code), .int (nI z), .int (-1)]) (rest := []) mc_o (by omega) rfl bX3_gains (t_m_gains l D N0 kA mb hs M n hn code z (-1) (by omega) (by omega) hr) (by decide) (by decide) q1043 rfl (Nat.le_of_ble_eq_true rfl) dX3_findRing_36 (Nat.le_of_ble_eq_true rfl) (Nat.le_of_ble_eq_true rfl) ?_
        refine n_stk (st' := [.int (bI (m_gains M code z (-1)))]) rfl ?_
        refine n_if_eqB (tgt := 44) hC dX3_findRing_39 (by decide) (fun c39 => ?_) (fun c39 => ?_)
        · refine n_iincN (a := code) (L' := [(0, .ref (N0 + mb)), (1, .int (nI z)), (2, .int (nI (code + 1)))]) hC dX3_findRing_44 rfl (by decide) rfl ?_
          refine n_goto (tgt := 14) hC dX3_findRing_47 (by decide) ?_
          rw [m_findRing_L14, if_neg (Nat.not_le.mpr c20), if_pos c29, if_neg (by rw [c39]; decide)] at hK
          exact ih z (code + 1) hz (by first | omega | (simp [mN_A, mN_B, mN_I, mN_N] <;> omega)) (by first | omega | (simp [mN_A, mN_B, mN_I, mN_N] <;> omega)) hK
        · refine n_iload_n hC dX3_findRing_42 rfl ?_
          rw [m_findRing_L14, if_neg (Nat.not_le.mpr c20), if_pos c29, if_pos c39] at hK
          dsimp only at hK
          exact n_iret hC dX3_findRing_43 (Nat.le_of_ble_eq_true rfl) (Nat.le_of_ble_eq_true rfl) hK
set_option maxRecDepth 100000 in
set_option maxHeartbeats 4000000 in
theorem t_m_findRing (l : Launch) (D : va_G) (N0 : Nat) (kA : Nat → ClassId) (mb : Nat) (hs : hT) (M : MS) (n : Nat) (hn : mb + 28 < n)  (hr : mRa M) : nE l yX3_findRing cX3_findRing 3 (some .int) D N0 kA 2 0 0 [.ref (N0 + mb)] (mH N0 mb kA hs M) n (nX (some (.int ((m_findRing M).1))) (mH N0 mb kA hs ((m_findRing M).2)) n) := by
  refine nE_of (by decide) (Nat.le_of_ble_eq_true rfl) ?_
  intro p e s m args below meth c hC hnm
  refine n_loc (L' := [(0, .ref (N0 + mb))]) rfl ?_
  refine n_iconst (v := (nI 2)) hC dX3_findRing_0 (by decide) ?_
  refine n_istore_n (L' := [(0, .ref (N0 + mb)), (1, .int (nI 2))]) hC dX3_findRing_1 (by decide) rfl ?_
  refine n_iload_n hC dX3_findRing_2 rfl ?_
  refine n_iconst (v := (nI 5)) hC dX3_findRing_3 (by decide) ?_
  refine n_icmp_geF (tgt := 56) hC dX3_findRing_4 (by decide) (by decide) ?_
  refine n_aload_n hC dX3_findRing_7 rfl ?_
  refine n_iload_n hC dX3_findRing_8 rfl ?_
  refine n_put hC cl3 (k := 36) mc_o (by omega) (by decide) q716 rfl rfl rfl (by rw [mf_len]; decide) dX3_findRing_9 (mu_N (M := M) (k := 36) (by decide) rfl rfl) ?_
  refine n_iconst (v := (nI 0)) hC dX3_findRing_12 (by decide) ?_
  refine n_istore_n (L' := [(0, .ref (N0 + mb)), (1, .int (nI 2)), (2, .int (nI 0))]) hC dX3_findRing_13 (by decide) rfl ?_
  refine t_m_findRing_L14 (M := mSetN M 36 2) hn hC hr (4097 + mN (mSetN M 36 2) 7) 2 0 (by decide) (by decide) (Nat.lt_of_lt_of_le (by decide) (Nat.le_trans (Nat.le_add_right 4097 _) (Nat.le_add_left _ _))) ?_
  cases hz14_0 : m_findRing_L14 (4097 + mN (mSetN M 36 2) 7) (mSetN M 36 2) 2 0 with
  | some y =>
    have eq_ : m_findRing M = ((nI y), mSetN M 36 2) := by rw [m_findRing, hz14_0]
    rw [eq_]
    dsimp only
    exact ⟨rfl, rfl, rfl⟩
  | none =>
    show nW p l e (nRm 2 0 0) s m args below meth c (nQ below (nX (some (.int ((m_findRing M).1))) (mH N0 mb kA hs ((m_findRing M).2)) n) D N0 s 0 0) D N0 3 50 [(0, .ref (N0 + mb)), (1, .int (nI 2))] [] (mH N0 mb kA hs (mSetN M 36 2)) n 0 0
    refine n_iincN (a := 2) (L' := [(0, .ref (N0 + mb)), (1, .int (nI 3))]) hC dX3_findRing_50 rfl (by decide) rfl ?_
    refine n_goto (tgt := 2) hC dX3_findRing_53 (by decide) ?_
    refine n_iload_n hC dX3_findRing_2 rfl ?_
    refine n_iconst (v := (nI 5)) hC dX3_findRing_3 (by decide) ?_
    refine n_icmp_geF (tgt := 56) hC dX3_findRing_4 (by decide) (by decide) ?_
    refine n_aload_n hC dX3_findRing_7 rfl ?_
    refine n_iload_n hC dX3_findRing_8 rfl ?_
    refine n_put hC cl3 (k := 36) mc_o (by omega) (by decide) q716 rfl rfl rfl (by rw [mf_len]; decide) dX3_findRing_9 (mu_N (M := (mSetN M 36 2)) (k := 36) (by decide) rfl rfl) ?_
    refine n_iconst (v := (nI 0)) hC dX3_findRing_12 (by decide) ?_
    refine n_istore_n (L' := [(0, .ref (N0 + mb)), (1, .int (nI 3)), (2, .int (nI 0))]) hC dX3_findRing_13 (by decide) rfl ?_
    refine t_m_findRing_L14 (M := mSetN (mSetN M 36 2) 36 3) hn hC hr (4097 + mN (mSetN (mSetN M 36 2) 36 3) 7) 3 0 (by decide) (by decide) (Nat.lt_of_lt_of_le (by decide) (Nat.le_trans (Nat.le_add_right 4097 _) (Nat.le_add_left _ _))) ?_
    cases hz14_1 : m_findRing_L14 (4097 + mN (mSetN (mSetN M 36 2) 36 3) 7) (mSetN (mSetN M 36 2) 36 3) 3 0 with
    | some y =>
      have eq_ : m_findRing M = ((nI y), mSetN (mSetN M 36 2) 36 3) := by rw [m_findRing, hz14_0, hz14_1]
      rw [eq_]
      dsimp only
      exact ⟨rfl, rfl, rfl⟩
    | none =>
      show nW p l e (nRm 2 0 0) s m args below meth c (nQ below (nX (some (.int ((m_findRing M).1))) (mH N0 mb kA hs ((m_findRing M).2)) n) D N0 s 0 0) D N0 3 50 [(0, .ref (N0 + mb)), (1, .int (nI 3))] [] (mH N0 mb kA hs (mSetN (mSetN M 36 2) 36 3)) n 0 0
      refine n_iincN (a := 3) (L' := [(0, .ref (N0 + mb)), (1, .int (nI 4))]) hC dX3_findRing_50 rfl (by decide) rfl ?_
      refine n_goto (tgt := 2) hC dX3_findRing_53 (by decide) ?_
      refine n_iload_n hC dX3_findRing_2 rfl ?_
      refine n_iconst (v := (nI 5)) hC dX3_findRing_3 (by decide) ?_
      refine n_icmp_geF (tgt := 56) hC dX3_findRing_4 (by decide) (by decide) ?_
      refine n_aload_n hC dX3_findRing_7 rfl ?_
      refine n_iload_n hC dX3_findRing_8 rfl ?_
      refine n_put hC cl3 (k := 36) mc_o (by omega) (by decide) q716 rfl rfl rfl (by rw [mf_len]; decide) dX3_findRing_9 (mu_N (M := (mSetN (mSetN M 36 2) 36 3)) (k := 36) (by decide) rfl rfl) ?_
      refine n_iconst (v := (nI 0)) hC dX3_findRing_12 (by decide) ?_
      refine n_istore_n (L' := [(0, .ref (N0 + mb)), (1, .int (nI 4)), (2, .int (nI 0))]) hC dX3_findRing_13 (by decide) rfl ?_
      refine t_m_findRing_L14 (M := mSetN (mSetN (mSetN M 36 2) 36 3) 36 4) hn hC hr (4097 + mN (mSetN (mSetN (mSetN M 36 2) 36 3) 36 4) 7) 4 0 (by decide) (by decide) (Nat.lt_of_lt_of_le (by decide) (Nat.le_trans (Nat.le_add_right 4097 _) (Nat.le_add_left _ _))) ?_
      cases hz14_2 : m_findRing_L14 (4097 + mN (mSetN (mSetN (mSetN M 36 2) 36 3) 36 4) 7) (mSetN (mSetN (mSetN M 36 2) 36 3) 36 4) 4 0 with
      | some y =>
        have eq_ : m_findRing M = ((nI y), mSetN (mSetN (mSetN M 36 2) 36 3) 36 4) := by rw [m_findRing, hz14_0, hz14_1, hz14_2]
        rw [eq_]
        dsimp only
        exact ⟨rfl, rfl, rfl⟩
      | none =>
        show nW p l e (nRm 2 0 0) s m args below meth c (nQ below (nX (some (.int ((m_findRing M).1))) (mH N0 mb kA hs ((m_findRing M).2)) n) D N0 s 0 0) D N0 3 50 [(0, .ref (N0 + mb)), (1, .int (nI 4))] [] (mH N0 mb kA hs (mSetN (mSetN (mSetN M 36 2) 36 3) 36 4)) n 0 0
        refine n_iincN (a := 4) (L' := [(0, .ref (N0 + mb)), (1, .int (nI 5))]) hC dX3_findRing_50 rfl (by decide) rfl ?_
        refine n_goto (tgt := 2) hC dX3_findRing_53 (by decide) ?_
        refine n_iload_n hC dX3_findRing_2 rfl ?_
        refine n_iconst (v := (nI 5)) hC dX3_findRing_3 (by decide) ?_
        refine n_icmp_geT (tgt := 56) hC dX3_findRing_4 (by decide) (by decide) ?_
        refine n_iconst (v := (-1)) hC dX3_findRing_56 (by decide) ?_
        have eq_ : m_findRing M = ((-1), mSetN (mSetN (mSetN M 36 2) 36 3) 36 4) := by rw [m_findRing, hz14_0, hz14_1, hz14_2]
        refine n_iret hC dX3_findRing_57 (Nat.le_of_ble_eq_true rfl) (Nat.le_of_ble_eq_true rfl) ?_
        rw [eq_]
        dsimp only
        exact ⟨rfl, rfl, rfl⟩
