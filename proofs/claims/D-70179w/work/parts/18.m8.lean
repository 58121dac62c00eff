/-- what reading a number keeps -/
def kR (M M' : MS) : Prop := (∀ j, j ≠ 17 → j ≠ 18 → j ≠ 19 → mN M' j = mN M j) ∧ (∀ j, j ≠ 16 → mI M' j = mI M j) ∧ (∀ f j, mB M' f j = mB M f j) ∧ (∀ f j, mA M' f j = mA M f j) ∧ mTx M' ∧ mN M 17 ≤ mN M' 17
/-- what a word's reading keeps -/
def kS (M M' : MS) : Prop := mTx M' ∧ mN M 17 ≤ mN M' 17 ∧ ∀ j, j ≠ 17 → j ≠ 18 → j ≠ 19 → mN M' j = mN M j
theorem kR.kS {M M' : MS} (h : kR M M') : kS M M' := ⟨h.2.2.2.2.1, h.2.2.2.2.2, h.1⟩
theorem kS.t {A B C : MS} (h1 : kS A B) (h2 : kS B C) : kS A C := ⟨h2.1, Nat.le_trans h1.2.1 h2.2.1, fun j a b c => (h2.2.2 j a b c).trans (h1.2.2 j a b c)⟩
theorem num42_K : ∀ (fu : Nat) (M : MS) (a b : Int32), mTx M → mN M 18 ≤ 100009 → 250 < mN M 17 + fu → (∀ j, j ≠ 17 → j ≠ 18 → mN (m_takeNumber_L42 fu M a b) j = mN M j) ∧ (∀ j, mI (m_takeNumber_L42 fu M a b) j = mI M j) ∧ (∀ f j, mB (m_takeNumber_L42 fu M a b) f j = mB M f j) ∧ (∀ f j, mA (m_takeNumber_L42 fu M a b) f j = mA M f j) ∧ mTx (m_takeNumber_L42 fu M a b) ∧ mN M 17 ≤ mN (m_takeNumber_L42 fu M a b) 17 ∧ mN (m_takeNumber_L42 fu M a b) 18 ≤ 100009 := by
  intro fu
  induction fu with
  | zero => intro M a b hx hN hf; exact absurd hf (by have := hx.1; have := hx.2.1; omega)
  | succ fu ih =>
    intro M a b hx hN hf
    have hx1 := hx.1
    have hx2 := hx.2.1
    rw [m_takeNumber_L42]
    split
    · exact ⟨fun _ _ _ => rfl, fun _ => rfl, fun _ _ => rfl, fun _ _ => rfl, hx, Nat.le_refl _, hN⟩
    · next h1 =>
      split
      · next h2 =>
        have ht := hx.2.2 (mN M 17) (by omega)
        have hd := (in_cst (x := nI (mB M 14 (mN M 17))) 48 57 rfl rfl).mp h2
        rw [cl_nI (by omega)] at hd
        split
        · obtain ⟨a1, a2, a3, a4, a5, a6, a7⟩ := ih _ a b (tx_at (v := mN M 17 + 1) (tx_o (k := 18) (v := 10 * mN M 18 + mB M 14 (mN M 17) - 48) (by decide) (by decide) hx) (by simp [mN_N]; omega)) (by simp [mN_N]; omega) (by simp [mN_N]; omega)
          refine ⟨fun j hj hk => ?_, a2, a3, a4, a5, ?_, a7⟩
          · rw [a1 j hj hk, mN_N, if_neg hj, mN_N, if_neg hk]
          · rw [mN_N, if_pos rfl] at a6; omega
        · obtain ⟨a1, a2, a3, a4, a5, a6, a7⟩ := ih _ a b (tx_at (v := mN M 17 + 1) (tx_o (k := 18) (v := mN M 18) (by decide) (by decide) hx) (by simp [mN_N]; omega)) (by simp [mN_N]; omega) (by simp [mN_N]; omega)
          refine ⟨fun j hj hk => ?_, a2, a3, a4, a5, ?_, a7⟩
          · rw [a1 j hj hk, mN_N, if_neg hj, mN_N, if_neg hk]
          · rw [mN_N, if_pos rfl] at a6; omega
      · exact ⟨fun _ _ _ => rfl, fun _ => rfl, fun _ _ => rfl, fun _ _ => rfl, hx, Nat.le_refl _, hN⟩
theorem kR_f {M S : MS} {a b : Nat} (h : kR M S) : kR M (m_fails S a b).2 := ⟨h.1, fun j hj => by
    show mI (mSetI S 16 (nI b)) j = _
    rw [mI_I, if_neg hj]
    exact h.2.1 j hj, h.2.2.1, h.2.2.2.1, h.2.2.2.2.1, h.2.2.2.2.2⟩
theorem num_tail {M S : MS} {a b : Int32} (w : kR M S) (a7 : mN S 18 ≤ 100009) : ∀ r : Nat × MS, r = (if (nI 3) < ((nI (mN S 17)) - (nI (mN S 19))) then ((m_fails S 2 (mN S 19)).1, (m_fails S 2 (mN S 19)).2) else (if (m_in ((nI (mN S 18)).toInt64) a.toInt64 b.toInt64) = true then (0, S) else ((m_fails S 2 (mN S 19)).1, (m_fails S 2 (mN S 19)).2))) → kR M r.2 ∧ r.1 ≤ 2 ∧ (r.1 = 0 → mN r.2 18 ≤ 100009 ∧ m_in (nI (mN r.2 18)).toInt64 a.toInt64 b.toInt64 = true) := by
  intro r hr
  split at hr
  · subst hr
    exact ⟨kR_f w, Nat.le_refl 2, fun z => by cases z⟩
  · split at hr
    · next h =>
      subst hr
      exact ⟨w, Nat.zero_le 2, fun _ => ⟨a7, h⟩⟩
    · subst hr
      exact ⟨kR_f w, Nat.le_refl 2, fun z => by cases z⟩
theorem num_K {M : MS} (a b : Int32) (hx : mTx M) : kR M (m_takeNumber M a b).2 ∧ (m_takeNumber M a b).1 ≤ 2 ∧ ((m_takeNumber M a b).1 = 0 → mN (m_takeNumber M a b).2 18 ≤ 100009 ∧ m_in (nI (mN (m_takeNumber M a b).2 18)).toInt64 a.toInt64 b.toInt64 = true) := by
  obtain ⟨h1, h2, h3, h4, h5, h6, -⟩ := here_K hx
  have w0 : kR M (m_here M).2 := ⟨fun j j1 _ _ => h1 j j1, fun j _ => h2 j, h3, h4, h5, h6⟩
  generalize hr : m_takeNumber M a b = r
  rw [m_takeNumber_d] at hr
  generalize m_here M = H at *
  split at hr
  · have q5 : mTx (mSetN (mSetN H.2 19 (mN H.2 17)) 18 0) := tx_o (by decide) (by decide) (tx_o (by decide) (by decide) h5)
    obtain ⟨a1, a2, a3, a4, a5, a6, a7⟩ := num42_K (251 + mN (mSetN (mSetN H.2 19 (mN H.2 17)) 18 0) 15) _ a b q5 (by simp [mN_N]) (by omega)
    generalize m_takeNumber_L42 (251 + mN (mSetN (mSetN H.2 19 (mN H.2 17)) 18 0) 15) (mSetN (mSetN H.2 19 (mN H.2 17)) 18 0) a b = S at *
    have w : kR M S := by
      refine ⟨fun j j1 j2 j3 => ?_, fun j hj => ?_, fun f j => ?_, fun f j => ?_, a5, ?_⟩
      · rw [a1 j j1 j2, mN_N, if_neg j2, mN_N, if_neg j3, h1 j j1]
      · rw [a2]; exact h2 j
      · rw [a3]; exact h3 f j
      · rw [a4]; exact h4 f j
      · exact Nat.le_trans h6 a6
    exact num_tail w a7 r hr.symm
  · subst hr
    exact ⟨kR_f w0, (by show 1 ≤ 2; decide), fun z => by cases z⟩
noncomputable def m_into_21_b (M : MS) (k : Nat) (a : Int32) (b : Int32) : Nat × MS := ((m_takeNumber M a b).1, mSetB ((m_takeNumber M a b).2) 21 k (mN ((m_takeNumber M a b).2) 18))
theorem m_into_21_x : ∃ f : MS → Nat → Int32 → Int32 → Nat × MS, ∀ (M : MS) (k : Nat) (a : Int32) (b : Int32), f M k a b = m_into_21_b M k a b := ⟨m_into_21_b, fun M k a b => rfl⟩
noncomputable def m_into_21 : MS → Nat → Int32 → Int32 → Nat × MS := Classical.choose m_into_21_x
theorem m_into_21_d (M : MS) (k : Nat) (a : Int32) (b : Int32) : m_into_21 M k a b = ((m_takeNumber M a b).1, mSetB ((m_takeNumber M a b).2) 21 k (mN ((m_takeNumber M a b).2) 18)) := Classical.choose_spec m_into_21_x M k a b
theorem bX3_into : nBV RX3 yX3_into cX3_into 6 (some .int) 4 := ⟨q849, qs23, q55, q850, by decide, by decide +kernel⟩
set_option maxRecDepth 100000 in
set_option maxHeartbeats 4000000 in
theorem t_m_into_21 (l : Launch) (D : va_G) (N0 : Nat) (kA : Nat → ClassId) (mb : Nat) (hs : hT) (M : MS) (n : Nat) (hn : mb + 28 < n) (k : Nat) (a : Int32) (b : Int32) (hx : mTx M) (hk : k < 6) : nE l yX3_into cX3_into 6 (some .int) D N0 kA 2 0 0 [.ref (N0 + mb), .ref (N0 + (mb + 12)), .int (nI k), .int a, .int b] (mH N0 mb kA hs M) n (nX (some (.int (nI ((m_into_21 M k a b).1)))) (mH N0 mb kA hs ((m_into_21 M k a b).2)) n) := by
  refine nE_of (by decide) (Nat.le_of_ble_eq_true rfl) ?_
  intro p e s m args below meth c hC hnm
  refine n_loc (L' := [(0, .ref (N0 + mb)), (1, .ref (N0 + (mb + 12))), (2, .int (nI k)), (3, .int a), (4, .int b)]) rfl ?_
  refine n_aload_n hC dX3_into_0 rfl ?_
  refine n_iload_n hC dX3_into_1 rfl ?_
  refine n_iload hC dX3_into_2 rfl ?_
  refine n_callV1 hC (As := [.int a, .int b]) (rest := []) mc_o (by omega) rfl bX3_takeNumber (t_m_takeNumber l D N0 kA mb hs M n hn a b hx) (by decide) (by decide) q851 rfl (Nat.le_of_ble_eq_true rfl) dX3_into_4 (Nat.le_of_ble_eq_true rfl) (Nat.le_of_ble_eq_true rfl) ?_
  refine n_stk (st' := [.int (nI ((m_takeNumber M a b).1))]) rfl ?_
  refine n_istore (L' := [(0, .ref (N0 + mb)), (1, .ref (N0 + (mb + 12))), (2, .int (nI k)), (3, .int a), (4, .int b), (5, .int (nI ((m_takeNumber M a b).1)))]) hC dX3_into_7 (by decide) rfl ?_
  refine n_aload_n hC dX3_into_9 rfl ?_
  refine n_iload_n hC dX3_into_10 rfl ?_
  refine n_aload_n hC dX3_into_11 rfl ?_
  refine n_get hC cl3 (k := 18) (v := .int (nI (mN ((m_takeNumber M a b).2) 18))) mc_o (by omega) (by decide) q698 (mf_get N0 mb ((m_takeNumber M a b).2) (by decide)) dX3_into_12 ?_
  refine n_iast hC (f := fun j => nI (mB ((m_takeNumber M a b).2) 21 j)) (mc_a (p := 12) (by decide) (by decide)) (by omega) k rfl (by omega) (by decide) dX3_into_15 (mu_B (M := ((m_takeNumber M a b).2)) (k := 21) (len := 6) rfl rfl (by decide) (by decide)) ?_
  refine n_iload hC dX3_into_16 rfl ?_
  have eq_ : m_into_21 M k a b = ((m_takeNumber M a b).1, mSetB ((m_takeNumber M a b).2) 21 k (mN ((m_takeNumber M a b).2) 18)) := by rw [m_into_21_d]
  refine n_iret hC dX3_into_18 (Nat.le_of_ble_eq_true rfl) (Nat.le_of_ble_eq_true rfl) ?_
  rw [eq_]
  dsimp only
  exact ⟨rfl, rfl, rfl⟩
theorem into_21_K {M : MS} (k : Nat) (a b : Int32) (hx : mTx M) : kS M (m_into_21 M k a b).2 ∧ (m_into_21 M k a b).1 ≤ 2 := by
  obtain ⟨h1, h2, -⟩ := num_K a b hx
  rw [m_into_21_d]
  generalize m_takeNumber M a b = R at *
  exact ⟨⟨tx_B (by decide) h1.kS.1, h1.kS.2.1, h1.kS.2.2⟩, h2⟩
noncomputable def m_into_22_b (M : MS) (k : Nat) (a : Int32) (b : Int32) : Nat × MS := ((m_takeNumber M a b).1, mSetB ((m_takeNumber M a b).2) 22 k (mN ((m_takeNumber M a b).2) 18))
theorem m_into_22_x : ∃ f : MS → Nat → Int32 → Int32 → Nat × MS, ∀ (M : MS) (k : Nat) (a : Int32) (b : Int32), f M k a b = m_into_22_b M k a b := ⟨m_into_22_b, fun M k a b => rfl⟩
noncomputable def m_into_22 : MS → Nat → Int32 → Int32 → Nat × MS := Classical.choose m_into_22_x
theorem m_into_22_d (M : MS) (k : Nat) (a : Int32) (b : Int32) : m_into_22 M k a b = ((m_takeNumber M a b).1, mSetB ((m_takeNumber M a b).2) 22 k (mN ((m_takeNumber M a b).2) 18)) := Classical.choose_spec m_into_22_x M k a b
set_option maxRecDepth 100000 in
set_option maxHeartbeats 4000000 in
theorem t_m_into_22 (l : Launch) (D : va_G) (N0 : Nat) (kA : Nat → ClassId) (mb : Nat) (hs : hT) (M : MS) (n : Nat) (hn : mb + 28 < n) (k : Nat) (a : Int32) (b : Int32) (hx : mTx M) (hk : k < 24) : nE l yX3_into cX3_into 6 (some .int) D N0 kA 2 0 0 [.ref (N0 + mb), .ref (N0 + (mb + 13)), .int (nI k), .int a, .int b] (mH N0 mb kA hs M) n (nX (some (.int (nI ((m_into_22 M k a b).1)))) (mH N0 mb kA hs ((m_into_22 M k a b).2)) n) := by
  refine nE_of (by decide) (Nat.le_of_ble_eq_true rfl) ?_
  intro p e s m args below meth c hC hnm
  refine n_loc (L' := [(0, .ref (N0 + mb)), (1, .ref (N0 + (mb + 13))), (2, .int (nI k)), (3, .int a), (4, .int b)]) rfl ?_
  refine n_aload_n hC dX3_into_0 rfl ?_
  refine n_iload_n hC dX3_into_1 rfl ?_
  refine n_iload hC dX3_into_2 rfl ?_
  refine n_callV1 hC (As := [.int a, .int b]) (rest := []) mc_o (by omega) rfl bX3_takeNumber (t_m_takeNumber l D N0 kA mb hs M n hn a b hx) (by decide) (by decide) q851 rfl (Nat.le_of_ble_eq_true rfl) dX3_into_4 (Nat.le_of_ble_eq_true rfl) (Nat.le_of_ble_eq_true rfl) ?_
  refine n_stk (st' := [.int (nI ((m_takeNumber M a b).1))]) rfl ?_
  refine n_istore (L' := [(0, .ref (N0 + mb)), (1, .ref (N0 + (mb + 13))), (2, .int (nI k)), (3, .int a), (4, .int b), (5, .int (nI ((m_takeNumber M a b).1)))]) hC dX3_into_7 (by decide) rfl ?_
  refine n_aload_n hC dX3_into_9 rfl ?_
  refine n_iload_n hC dX3_into_10 rfl ?_
  refine n_aload_n hC dX3_into_11 rfl ?_
  refine n_get hC cl3 (k := 18) (v := .int (nI (mN ((m_takeNumber M a b).2) 18))) mc_o (by omega) (by decide) q698 (mf_get N0 mb ((m_takeNumber M a b).2) (by decide)) dX3_into_12 ?_
  refine n_iast hC (f := fun j => nI (mB ((m_takeNumber M a b).2) 22 j)) (mc_a (p := 13) (by decide) (by decide)) (by omega) k rfl (by omega) (by decide) dX3_into_15 (mu_B (M := ((m_takeNumber M a b).2)) (k := 22) (len := 24) rfl rfl (by decide) (by decide)) ?_
  refine n_iload hC dX3_into_16 rfl ?_
  have eq_ : m_into_22 M k a b = ((m_takeNumber M a b).1, mSetB ((m_takeNumber M a b).2) 22 k (mN ((m_takeNumber M a b).2) 18)) := by rw [m_into_22_d]
  refine n_iret hC dX3_into_18 (Nat.le_of_ble_eq_true rfl) (Nat.le_of_ble_eq_true rfl) ?_
  rw [eq_]
  dsimp only
  exact ⟨rfl, rfl, rfl⟩
theorem into_22_K {M : MS} (k : Nat) (a b : Int32) (hx : mTx M) : kS M (m_into_22 M k a b).2 ∧ (m_into_22 M k a b).1 ≤ 2 := by
  obtain ⟨h1, h2, -⟩ := num_K a b hx
  rw [m_into_22_d]
  generalize m_takeNumber M a b = R at *
  exact ⟨⟨tx_B (by decide) h1.kS.1, h1.kS.2.1, h1.kS.2.2⟩, h2⟩
noncomputable def m_into_25_b (M : MS) (k : Nat) (a : Int32) (b : Int32) : Nat × MS := ((m_takeNumber M a b).1, mSetB ((m_takeNumber M a b).2) 25 k (mN ((m_takeNumber M a b).2) 18))
theorem m_into_25_x : ∃ f : MS → Nat → Int32 → Int32 → Nat × MS, ∀ (M : MS) (k : Nat) (a : Int32) (b : Int32), f M k a b = m_into_25_b M k a b := ⟨m_into_25_b, fun M k a b => rfl⟩
noncomputable def m_into_25 : MS → Nat → Int32 → Int32 → Nat × MS := Classical.choose m_into_25_x
theorem m_into_25_d (M : MS) (k : Nat) (a : Int32) (b : Int32) : m_into_25 M k a b = ((m_takeNumber M a b).1, mSetB ((m_takeNumber M a b).2) 25 k (mN ((m_takeNumber M a b).2) 18)) := Classical.choose_spec m_into_25_x M k a b
set_option maxRecDepth 100000 in
set_option maxHeartbeats 4000000 in
theorem t_m_into_25 (l : Launch) (D : va_G) (N0 : Nat) (kA : Nat → ClassId) (mb : Nat) (hs : hT) (M : MS) (n : Nat) (hn : mb + 28 < n) (k : Nat) (a : Int32) (b : Int32) (hx : mTx M) (hk : k < 6) : nE l yX3_into cX3_into 6 (some .int) D N0 kA 2 0 0 [.ref (N0 + mb), .ref (N0 + (mb + 15)), .int (nI k), .int a, .int b] (mH N0 mb kA hs M) n (nX (some (.int (nI ((m_into_25 M k a b).1)))) (mH N0 mb kA hs ((m_into_25 M k a b).2)) n) := by
  refine nE_of (by decide) (Nat.le_of_ble_eq_true rfl) ?_
  intro p e s m args below meth c hC hnm
  refine n_loc (L' := [(0, .ref (N0 + mb)), (1, .ref (N0 + (mb + 15))), (2, .int (nI k)), (3, .int a), (4, .int b)]) rfl ?_
  refine n_aload_n hC dX3_into_0 rfl ?_
  refine n_iload_n hC dX3_into_1 rfl ?_
  refine n_iload hC dX3_into_2 rfl ?_
  refine n_callV1 hC (As := [.int a, .int b]) (rest := []) mc_o (by omega) rfl bX3_takeNumber (t_m_takeNumber l D N0 kA mb hs M n hn a b hx) (by decide) (by decide) q851 rfl (Nat.le_of_ble_eq_true rfl) dX3_into_4 (Nat.le_of_ble_eq_true rfl) (Nat.le_of_ble_eq_true rfl) ?_
  refine n_stk (st' := [.int (nI ((m_takeNumber M a b).1))]) rfl ?_
  refine n_istore (L' := [(0, .ref (N0 + mb)), (1, .ref (N0 + (mb + 15))), (2, .int (nI k)), (3, .int a), (4, .int b), (5, .int (nI ((m_takeNumber M a b).1)))]) hC dX3_into_7 (by decide) rfl ?_
  refine n_aload_n hC dX3_into_9 rfl ?_
  refine n_iload_n hC dX3_into_10 rfl ?_
  refine n_aload_n hC dX3_into_11 rfl ?_
  refine n_get hC cl3 (k := 18) (v := .int (nI (mN ((m_takeNumber M a b).2) 18))) mc_o (by omega) (by decide) q698 (mf_get N0 mb ((m_takeNumber M a b).2) (by decide)) dX3_into_12 ?_
  refine n_iast hC (f := fun j => nI (mB ((m_takeNumber M a b).2) 25 j)) (mc_a (p := 15) (by decide) (by decide)) (by omega) k rfl (by omega) (by decide) dX3_into_15 (mu_B (M := ((m_takeNumber M a b).2)) (k := 25) (len := 6) rfl rfl (by decide) (by decide)) ?_
  refine n_iload hC dX3_into_16 rfl ?_
  have eq_ : m_into_25 M k a b = ((m_takeNumber M a b).1, mSetB ((m_takeNumber M a b).2) 25 k (mN ((m_takeNumber M a b).2) 18)) := by rw [m_into_25_d]
  refine n_iret hC dX3_into_18 (Nat.le_of_ble_eq_true rfl) (Nat.le_of_ble_eq_true rfl) ?_
  rw [eq_]
  dsimp only
  exact ⟨rfl, rfl, rfl⟩
theorem into_25_K {M : MS} (k : Nat) (a b : Int32) (hx : mTx M) : kS M (m_into_25 M k a b).2 ∧ (m_into_25 M k a b).1 ≤ 2 := by
  obtain ⟨h1, h2, -⟩ := num_K a b hx
  rw [m_into_25_d]
  generalize m_takeNumber M a b = R at *
  exact ⟨⟨tx_B (by decide) h1.kS.1, h1.kS.2.1, h1.kS.2.2⟩, h2⟩
noncomputable def m_into_26_b (M : MS) (k : Nat) (a : Int32) (b : Int32) : Nat × MS := ((m_takeNumber M a b).1, mSetB ((m_takeNumber M a b).2) 26 k (mN ((m_takeNumber M a b).2) 18))
theorem m_into_26_x : ∃ f : MS → Nat → Int32 → Int32 → Nat × MS, ∀ (M : MS) (k : Nat) (a : Int32) (b : Int32), f M k a b = m_into_26_b M k a b := ⟨m_into_26_b, fun M k a b => rfl⟩
noncomputable def m_into_26 : MS → Nat → Int32 → Int32 → Nat × MS := Classical.choose m_into_26_x
theorem m_into_26_d (M : MS) (k : Nat) (a : Int32) (b : Int32) : m_into_26 M k a b = ((m_takeNumber M a b).1, mSetB ((m_takeNumber M a b).2) 26 k (mN ((m_takeNumber M a b).2) 18)) := Classical.choose_spec m_into_26_x M k a b
set_option maxRecDepth 100000 in
set_option maxHeartbeats 4000000 in
theorem t_m_into_26 (l : Launch) (D : va_G) (N0 : Nat) (kA : Nat → ClassId) (mb : Nat) (hs : hT) (M : MS) (n : Nat) (hn : mb + 28 < n) (k : Nat) (a : Int32) (b : Int32) (hx : mTx M) (hk : k < 6) : nE l yX3_into cX3_into 6 (some .int) D N0 kA 2 0 0 [.ref (N0 + mb), .ref (N0 + (mb + 16)), .int (nI k), .int a, .int b] (mH N0 mb kA hs M) n (nX (some (.int (nI ((m_into_26 M k a b).1)))) (mH N0 mb kA hs ((m_into_26 M k a b).2)) n) := by
  refine nE_of (by decide) (Nat.le_of_ble_eq_true rfl) ?_
  intro p e s m args below meth c hC hnm
  refine n_loc (L' := [(0, .ref (N0 + mb)), (1, .ref (N0 + (mb + 16))), (2, .int (nI k)), (3, .int a), (4, .int b)]) rfl ?_
  refine n_aload_n hC dX3_into_0 rfl ?_
  refine n_iload_n hC dX3_into_1 rfl ?_
  refine n_iload hC dX3_into_2 rfl ?_
  refine n_callV1 hC (As := [.int a, .int b]) (rest := []) mc_o (by omega) rfl bX3_takeNumber (t_m_takeNumber l D N0 kA mb hs M n hn a b hx) (by decide) (by decide) q851 rfl (Nat.le_of_ble_eq_true rfl) dX3_into_4 (Nat.le_of_ble_eq_true rfl) (Nat.le_of_ble_eq_true rfl) ?_
  refine n_stk (st' := [.int (nI ((m_takeNumber M a b).1))]) rfl ?_
  refine n_istore (L' := [(0, .ref (N0 + mb)), (1, .ref (N0 + (mb + 16))), (2, .int (nI k)), (3, .int a), (4, .int b), (5, .int (nI ((m_takeNumber M a b).1)))]) hC dX3_into_7 (by decide) rfl ?_
  refine n_aload_n hC dX3_into_9 rfl ?_
  refine n_iload_n hC dX3_into_10 rfl ?_
  refine n_aload_n hC dX3_into_11 rfl ?_
  refine n_get hC cl3 (k := 18) (v := .int (nI (mN ((m_takeNumber M a b).2) 18))) mc_o (by omega) (by decide) q698 (mf_get N0 mb ((m_takeNumber M a b).2) (by decide)) dX3_into_12 ?_
  refine n_iast hC (f := fun j => nI (mB ((m_takeNumber M a b).2) 26 j)) (mc_a (p := 16) (by decide) (by decide)) (by omega) k rfl (by omega) (by decide) dX3_into_15 (mu_B (M := ((m_takeNumber M a b).2)) (k := 26) (len := 6) rfl rfl (by decide) (by decide)) ?_
  refine n_iload hC dX3_into_16 rfl ?_
  have eq_ : m_into_26 M k a b = ((m_takeNumber M a b).1, mSetB ((m_takeNumber M a b).2) 26 k (mN ((m_takeNumber M a b).2) 18)) := by rw [m_into_26_d]
  refine n_iret hC dX3_into_18 (Nat.le_of_ble_eq_true rfl) (Nat.le_of_ble_eq_true rfl) ?_
  rw [eq_]
  dsimp only
  exact ⟨rfl, rfl, rfl⟩
theorem into_26_K {M : MS} (k : Nat) (a b : Int32) (hx : mTx M) : kS M (m_into_26 M k a b).2 ∧ (m_into_26 M k a b).1 ≤ 2 := by
  obtain ⟨h1, h2, -⟩ := num_K a b hx
  rw [m_into_26_d]
  generalize m_takeNumber M a b = R at *
  exact ⟨⟨tx_B (by decide) h1.kS.1, h1.kS.2.1, h1.kS.2.2⟩, h2⟩
noncomputable def m_into_27_b (M : MS) (k : Nat) (a : Int32) (b : Int32) : Nat × MS := ((m_takeNumber M a b).1, mSetB ((m_takeNumber M a b).2) 27 k (mN ((m_takeNumber M a b).2) 18))
theorem m_into_27_x : ∃ f : MS → Nat → Int32 → Int32 → Nat × MS, ∀ (M : MS) (k : Nat) (a : Int32) (b : Int32), f M k a b = m_into_27_b M k a b := ⟨m_into_27_b, fun M k a b => rfl⟩
noncomputable def m_into_27 : MS → Nat → Int32 → Int32 → Nat × MS := Classical.choose m_into_27_x
theorem m_into_27_d (M : MS) (k : Nat) (a : Int32) (b : Int32) : m_into_27 M k a b = ((m_takeNumber M a b).1, mSetB ((m_takeNumber M a b).2) 27 k (mN ((m_takeNumber M a b).2) 18)) := Classical.choose_spec m_into_27_x M k a b
set_option maxRecDepth 100000 in
set_option maxHeartbeats 4000000 in
theorem t_m_into_27 (l : Launch) (D : va_G) (N0 : Nat) (kA : Nat → ClassId) (mb : Nat) (hs : hT) (M : MS) (n : Nat) (hn : mb + 28 < n) (k : Nat) (a : Int32) (b : Int32) (hx : mTx M) (hk : k < 6) : nE l yX3_into cX3_into 6 (some .int) D N0 kA 2 0 0 [.ref (N0 + mb), .ref (N0 + (mb + 17)), .int (nI k), .int a, .int b] (mH N0 mb kA hs M) n (nX (some (.int (nI ((m_into_27 M k a b).1)))) (mH N0 mb kA hs ((m_into_27 M k a b).2)) n) := by
  refine nE_of (by decide) (Nat.le_of_ble_eq_true rfl) ?_
  intro p e s m args below meth c hC hnm
  refine n_loc (L' := [(0, .ref (N0 + mb)), (1, .ref (N0 + (mb + 17))), (2, .int (nI k)), (3, .int a), (4, .int b)]) rfl ?_
  refine n_aload_n hC dX3_into_0 rfl ?_
  refine n_iload_n hC dX3_into_1 rfl ?_
  refine n_iload hC dX3_into_2 rfl ?_
  refine n_callV1 hC (As := [.int a, .int b]) (rest := []) mc_o (by omega) rfl bX3_takeNumber (t_m_takeNumber l D N0 kA mb hs M n hn a b hx) (by decide) (by decide) q851 rfl (Nat.le_of_ble_eq_true rfl) dX3_into_4 (Nat.le_of_ble_eq_true rfl) (Nat.le_of_ble_eq_true rfl) ?_
  refine n_stk (st' := [.int (nI ((m_takeNumber M a b).1))]) rfl ?_
  refine n_istore (L' := [(0, .ref (N0 + mb)), (1, .ref (N0 + (mb + 17))), (2, .int (nI k)), (3, .int a), (4, .int b), (5, .int (nI ((m_takeNumber M a b).1)))]) hC dX3_into_7 (by decide) rfl ?_
  refine n_aload_n hC dX3_into_9 rfl ?_
  refine n_iload_n hC dX3_into_10 rfl ?_
  refine n_aload_n hC dX3_into_11 rfl ?_
  refine n_get hC cl3 (k := 18) (v := .int (nI (mN ((m_takeNumber M a b).2) 18))) mc_o (by omega) (by decide) q698 (mf_get N0 mb ((m_takeNumber M a b).2) (by decide)) dX3_into_12 ?_
  refine n_iast hC (f := fun j => nI (mB ((m_takeNumber M a b).2) 27 j)) (mc_a (p := 17) (by decide) (by decide)) (by omega) k rfl (by omega) (by decide) dX3_into_15 (mu_B (M := ((m_takeNumber M a b).2)) (k := 27) (len := 6) rfl rfl (by decide) (by decide)) ?_
  refine n_iload hC dX3_into_16 rfl ?_
  have eq_ : m_into_27 M k a b = ((m_takeNumber M a b).1, mSetB ((m_takeNumber M a b).2) 27 k (mN ((m_takeNumber M a b).2) 18)) := by rw [m_into_27_d]
  refine n_iret hC dX3_into_18 (Nat.le_of_ble_eq_true rfl) (Nat.le_of_ble_eq_true rfl) ?_
  rw [eq_]
  dsimp only
  exact ⟨rfl, rfl, rfl⟩
theorem into_27_K {M : MS} (k : Nat) (a b : Int32) (hx : mTx M) : kS M (m_into_27 M k a b).2 ∧ (m_into_27 M k a b).1 ≤ 2 := by
  obtain ⟨h1, h2, -⟩ := num_K a b hx
  rw [m_into_27_d]
  generalize m_takeNumber M a b = R at *
  exact ⟨⟨tx_B (by decide) h1.kS.1, h1.kS.2.1, h1.kS.2.2⟩, h2⟩
noncomputable def m_into_29_b (M : MS) (k : Nat) (a : Int32) (b : Int32) : Nat × MS := ((m_takeNumber M a b).1, mSetB ((m_takeNumber M a b).2) 29 k (mN ((m_takeNumber M a b).2) 18))
theorem m_into_29_x : ∃ f : MS → Nat → Int32 → Int32 → Nat × MS, ∀ (M : MS) (k : Nat) (a : Int32) (b : Int32), f M k a b = m_into_29_b M k a b := ⟨m_into_29_b, fun M k a b => rfl⟩
noncomputable def m_into_29 : MS → Nat → Int32 → Int32 → Nat × MS := Classical.choose m_into_29_x
theorem m_into_29_d (M : MS) (k : Nat) (a : Int32) (b : Int32) : m_into_29 M k a b = ((m_takeNumber M a b).1, mSetB ((m_takeNumber M a b).2) 29 k (mN ((m_takeNumber M a b).2) 18)) := Classical.choose_spec m_into_29_x M k a b
set_option maxRecDepth 100000 in
set_option maxHeartbeats 4000000 in
theorem t_m_into_29 (l : Launch) (D : va_G) (N0 : Nat) (kA : Nat → ClassId) (mb : Nat) (hs : hT) (M : MS) (n : Nat) (hn : mb + 28 < n) (k : Nat) (a : Int32) (b : Int32) (hx : mTx M) (hk : k < 8) : nE l yX3_into cX3_into 6 (some .int) D N0 kA 2 0 0 [.ref (N0 + mb), .ref (N0 + (mb + 18)), .int (nI k), .int a, .int b] (mH N0 mb kA hs M) n (nX (some (.int (nI ((m_into_29 M k a b).1)))) (mH N0 mb kA hs ((m_into_29 M k a b).2)) n) := by
  refine nE_of (by decide) (Nat.le_of_ble_eq_true rfl) ?_
  intro p e s m args below meth c hC hnm
  refine n_loc (L' := [(0, .ref (N0 + mb)), (1, .ref (N0 + (mb + 18))), (2, .int (nI k)), (3, .int a), (4, .int b)]) rfl ?_
  refine n_aload_n hC dX3_into_0 rfl ?_
  refine n_iload_n hC dX3_into_1 rfl ?_
  refine n_iload hC dX3_into_2 rfl ?_
  refine n_callV1 hC (As := [.int a, .int b]) (rest := []) mc_o (by omega) rfl bX3_takeNumber (t_m_takeNumber l D N0 kA mb hs M n hn a b hx) (by decide) (by decide) q851 rfl (Nat.le_of_ble_eq_true rfl) dX3_into_4 (Nat.le_of_ble_eq_true rfl) (Nat.le_of_ble_eq_true rfl) ?_
  refine n_stk (st' := [.int (nI ((m_takeNumber M a b).1))]) rfl ?_
  refine n_istore (L' := [(0, .ref (N0 + mb)), (1, .ref (N0 + (mb + 18))), (2, .int (nI k)), (3, .int a), (4, .int b), (5, .int (nI ((m_takeNumber M a b).1)))]) hC dX3_into_7 (by decide) rfl ?_
  refine n_aload_n hC dX3_into_9 rfl ?_
  refine n_iload_n hC dX3_into_10 rfl ?_
  refine n_aload_n hC dX3_into_11 rfl ?_
  refine n_get hC cl3 (k := 18) (v := .int (nI (mN ((m_takeNumber M a b).2) 18))) mc_o (by omega) (by decide) q698 (mf_get N0 mb ((m_takeNumber M a b).2) (by decide)) dX3_into_12 ?_
  refine n_iast hC (f := fun j => nI (mB ((m_takeNumber M a b).2) 29 j)) (mc_a (p := 18) (by decide) (by decide)) (by omega) k rfl (by omega) (by decide) dX3_into_15 (mu_B (M := ((m_takeNumber M a b).2)) (k := 29) (len := 8) rfl rfl (by decide) (by decide)) ?_
  refine n_iload hC dX3_into_16 rfl ?_
  have eq_ : m_into_29 M k a b = ((m_takeNumber M a b).1, mSetB ((m_takeNumber M a b).2) 29 k (mN ((m_takeNumber M a b).2) 18)) := by rw [m_into_29_d]
  refine n_iret hC dX3_into_18 (Nat.le_of_ble_eq_true rfl) (Nat.le_of_ble_eq_true rfl) ?_
  rw [eq_]
  dsimp only
  exact ⟨rfl, rfl, rfl⟩
theorem into_29_K {M : MS} (k : Nat) (a b : Int32) (hx : mTx M) : kS M (m_into_29 M k a b).2 ∧ (m_into_29 M k a b).1 ≤ 2 := by
  obtain ⟨h1, h2, -⟩ := num_K a b hx
  rw [m_into_29_d]
  generalize m_takeNumber M a b = R at *
  exact ⟨⟨tx_B (by decide) h1.kS.1, h1.kS.2.1, h1.kS.2.2⟩, h2⟩
noncomputable def m_into_30_b (M : MS) (k : Nat) (a : Int32) (b : Int32) : Nat × MS := ((m_takeNumber M a b).1, mSetB ((m_takeNumber M a b).2) 30 k (mN ((m_takeNumber M a b).2) 18))
theorem m_into_30_x : ∃ f : MS → Nat → Int32 → Int32 → Nat × MS, ∀ (M : MS) (k : Nat) (a : Int32) (b : Int32), f M k a b = m_into_30_b M k a b := ⟨m_into_30_b, fun M k a b => rfl⟩
noncomputable def m_into_30 : MS → Nat → Int32 → Int32 → Nat × MS := Classical.choose m_into_30_x
theorem m_into_30_d (M : MS) (k : Nat) (a : Int32) (b : Int32) : m_into_30 M k a b = ((m_takeNumber M a b).1, mSetB ((m_takeNumber M a b).2) 30 k (mN ((m_takeNumber M a b).2) 18)) := Classical.choose_spec m_into_30_x M k a b
set_option maxRecDepth 100000 in
set_option maxHeartbeats 4000000 in
theorem t_m_into_30 (l : Launch) (D : va_G) (N0 : Nat) (kA : Nat → ClassId) (mb : Nat) (hs : hT) (M : MS) (n : Nat) (hn : mb + 28 < n) (k : Nat) (a : Int32) (b : Int32) (hx : mTx M) (hk : k < 8) : nE l yX3_into cX3_into 6 (some .int) D N0 kA 2 0 0 [.ref (N0 + mb), .ref (N0 + (mb + 19)), .int (nI k), .int a, .int b] (mH N0 mb kA hs M) n (nX (some (.int (nI ((m_into_30 M k a b).1)))) (mH N0 mb kA hs ((m_into_30 M k a b).2)) n) := by
  refine nE_of (by decide) (Nat.le_of_ble_eq_true rfl) ?_
  intro p e s m args below meth c hC hnm
  refine n_loc (L' := [(0, .ref (N0 + mb)), (1, .ref (N0 + (mb + 19))), (2, .int (nI k)), (3, .int a), (4, .int b)]) rfl ?_
  refine n_aload_n hC dX3_into_0 rfl ?_
  refine n_iload_n hC dX3_into_1 rfl ?_
  refine n_iload hC dX3_into_2 rfl ?_
  refine n_callV1 hC (As := [.int a, .int b]) (rest := []) mc_o (by omega) rfl bX3_takeNumber (t_m_takeNumber l D N0 kA mb hs M n hn a b hx) (by decide) (by decide) q851 rfl (Nat.le_of_ble_eq_true rfl) dX3_into_4 (Nat.le_of_ble_eq_true rfl) (Nat.le_of_ble_eq_true rfl) ?_
  refine n_stk (st' := [.int (nI ((m_takeNumber M a b).1))]) rfl ?_
  refine n_istore (L' := [(0, .ref (N0 + mb)), (1, .ref (N0 + (mb + 19))), (2, .int (nI k)), (3, .int a), (4, .int b), (5, .int (nI ((m_takeNumber M a b).1)))]) hC dX3_into_7 (by decide) rfl ?_
  refine n_aload_n hC dX3_into_9 rfl ?_
  refine n_iload_n hC dX3_into_10 rfl ?_
  refine n_aload_n hC dX3_into_11 rfl ?_
  refine n_get hC cl3 (k := 18) (v := .int (nI (mN ((m_takeNumber M a b).2) 18))) mc_o (by omega) (by decide) q698 (mf_get N0 mb ((m_takeNumber M a b).2) (by decide)) dX3_into_12 ?_
  refine n_iast hC (f := fun j => nI (mB ((m_takeNumber M a b).2) 30 j)) (mc_a (p := 19) (by decide) (by decide)) (by omega) k rfl (by omega) (by decide) dX3_into_15 (mu_B (M := ((m_takeNumber M a b).2)) (k := 30) (len := 8) rfl rfl (by decide) (by decide)) ?_
  refine n_iload hC dX3_into_16 rfl ?_
  have eq_ : m_into_30 M k a b = ((m_takeNumber M a b).1, mSetB ((m_takeNumber M a b).2) 30 k (mN ((m_takeNumber M a b).2) 18)) := by rw [m_into_30_d]
  refine n_iret hC dX3_into_18 (Nat.le_of_ble_eq_true rfl) (Nat.le_of_ble_eq_true rfl) ?_
  rw [eq_]
  dsimp only
  exact ⟨rfl, rfl, rfl⟩
theorem into_30_K {M : MS} (k : Nat) (a b : Int32) (hx : mTx M) : kS M (m_into_30 M k a b).2 ∧ (m_into_30 M k a b).1 ≤ 2 := by
  obtain ⟨h1, h2, -⟩ := num_K a b hx
  rw [m_into_30_d]
  generalize m_takeNumber M a b = R at *
  exact ⟨⟨tx_B (by decide) h1.kS.1, h1.kS.2.1, h1.kS.2.2⟩, h2⟩
noncomputable def m_into_31_b (M : MS) (k : Nat) (a : Int32) (b : Int32) : Nat × MS := ((m_takeNumber M a b).1, mSetB ((m_takeNumber M a b).2) 31 k (mN ((m_takeNumber M a b).2) 18))
theorem m_into_31_x : ∃ f : MS → Nat → Int32 → Int32 → Nat × MS, ∀ (M : MS) (k : Nat) (a : Int32) (b : Int32), f M k a b = m_into_31_b M k a b := ⟨m_into_31_b, fun M k a b => rfl⟩
noncomputable def m_into_31 : MS → Nat → Int32 → Int32 → Nat × MS := Classical.choose m_into_31_x
theorem m_into_31_d (M : MS) (k : Nat) (a : Int32) (b : Int32) : m_into_31 M k a b = ((m_takeNumber M a b).1, mSetB ((m_takeNumber M a b).2) 31 k (mN ((m_takeNumber M a b).2) 18)) := Classical.choose_spec m_into_31_x M k a b
set_option maxRecDepth 100000 in
set_option maxHeartbeats 4000000 in
theorem t_m_into_31 (l : Launch) (D : va_G) (N0 : Nat) (kA : Nat → ClassId) (mb : Nat) (hs : hT) (M : MS) (n : Nat) (hn : mb + 28 < n) (k : Nat) (a : Int32) (b : Int32) (hx : mTx M) (hk : k < 8) : nE l yX3_into cX3_into 6 (some .int) D N0 kA 2 0 0 [.ref (N0 + mb), .ref (N0 + (mb + 20)), .int (nI k), .int a, .int b] (mH N0 mb kA hs M) n (nX (some (.int (nI ((m_into_31 M k a b).1)))) (mH N0 mb kA hs ((m_into_31 M k a b).2)) n) := by
  refine nE_of (by decide) (Nat.le_of_ble_eq_true rfl) ?_
  intro p e s m args below meth c hC hnm
  refine n_loc (L' := [(0, .ref (N0 + mb)), (1, .ref (N0 + (mb + 20))), (2, .int (nI k)), (3, .int a), (4, .int b)]) rfl ?_
  refine n_aload_n hC dX3_into_0 rfl ?_
  refine n_iload_n hC dX3_into_1 rfl ?_
  refine n_iload hC dX3_into_2 rfl ?_
  refine n_callV1 hC (As := [.int a, .int b]) (rest := []) mc_o (by omega) rfl bX3_takeNumber (t_m_takeNumber l D N0 kA mb hs M n hn a b hx) (by decide) (by decide) q851 rfl (Nat.le_of_ble_eq_true rfl) dX3_into_4 (Nat.le_of_ble_eq_true rfl) (Nat.le_of_ble_eq_true rfl) ?_
  refine n_stk (st' := [.int (nI ((m_takeNumber M a b).1))]) rfl ?_
  refine n_istore (L' := [(0, .ref (N0 + mb)), (1, .ref (N0 + (mb + 20))), (2, .int (nI k)), (3, .int a), (4, .int b), (5, .int (nI ((m_takeNumber M a b).1)))]) hC dX3_into_7 (by decide) rfl ?_
  refine n_aload_n hC dX3_into_9 rfl ?_
  refine n_iload_n hC dX3_into_10 rfl ?_
  refine n_aload_n hC dX3_into_11 rfl ?_
  refine n_get hC cl3 (k := 18) (v := .int (nI (mN ((m_takeNumber M a b).2) 18))) mc_o (by omega) (by decide) q698 (mf_get N0 mb ((m_takeNumber M a b).2) (by decide)) dX3_into_12 ?_
  refine n_iast hC (f := fun j => nI (mB ((m_takeNumber M a b).2) 31 j)) (mc_a (p := 20) (by decide) (by decide)) (by omega) k rfl (by omega) (by decide) dX3_into_15 (mu_B (M := ((m_takeNumber M a b).2)) (k := 31) (len := 8) rfl rfl (by decide) (by decide)) ?_
  refine n_iload hC dX3_into_16 rfl ?_
  have eq_ : m_into_31 M k a b = ((m_takeNumber M a b).1, mSetB ((m_takeNumber M a b).2) 31 k (mN ((m_takeNumber M a b).2) 18)) := by rw [m_into_31_d]
  refine n_iret hC dX3_into_18 (Nat.le_of_ble_eq_true rfl) (Nat.le_of_ble_eq_true rfl) ?_
  rw [eq_]
  dsimp only
  exact ⟨rfl, rfl, rfl⟩
theorem into_31_K {M : MS} (k : Nat) (a b : Int32) (hx : mTx M) : kS M (m_into_31 M k a b).2 ∧ (m_into_31 M k a b).1 ≤ 2 := by
  obtain ⟨h1, h2, -⟩ := num_K a b hx
  rw [m_into_31_d]
  generalize m_takeNumber M a b = R at *
  exact ⟨⟨tx_B (by decide) h1.kS.1, h1.kS.2.1, h1.kS.2.2⟩, h2⟩
noncomputable def m_into_32_b (M : MS) (k : Nat) (a : Int32) (b : Int32) : Nat × MS := ((m_takeNumber M a b).1, mSetB ((m_takeNumber M a b).2) 32 k (mN ((m_takeNumber M a b).2) 18))
theorem m_into_32_x : ∃ f : MS → Nat → Int32 → Int32 → Nat × MS, ∀ (M : MS) (k : Nat) (a : Int32) (b : Int32), f M k a b = m_into_32_b M k a b := ⟨m_into_32_b, fun M k a b => rfl⟩
noncomputable def m_into_32 : MS → Nat → Int32 → Int32 → Nat × MS := Classical.choose m_into_32_x
theorem m_into_32_d (M : MS) (k : Nat) (a : Int32) (b : Int32) : m_into_32 M k a b = ((m_takeNumber M a b).1, mSetB ((m_takeNumber M a b).2) 32 k (mN ((m_takeNumber M a b).2) 18)) := Classical.choose_spec m_into_32_x M k a b
set_option maxRecDepth 100000 in
set_option maxHeartbeats 4000000 in
theorem t_m_into_32 (l : Launch) (D : va_G) (N0 : Nat) (kA : Nat → ClassId) (mb : Nat) (hs : hT) (M : MS) (n : Nat) (hn : mb + 28 < n) (k : Nat) (a : Int32) (b : Int32) (hx : mTx M) (hk : k < 8) : nE l yX3_into cX3_into 6 (some .int) D N0 kA 2 0 0 [.ref (N0 + mb), .ref (N0 + (mb + 21)), .int (nI k), .int a, .int b] (mH N0 mb kA hs M) n (nX (some (.int (nI ((m_into_32 M k a b).1)))) (mH N0 mb kA hs ((m_into_32 M k a b).2)) n) := by
  refine nE_of (by decide) (Nat.le_of_ble_eq_true rfl) ?_
  intro p e s m args below meth c hC hnm
  refine n_loc (L' := [(0, .ref (N0 + mb)), (1, .ref (N0 + (mb + 21))), (2, .int (nI k)), (3, .int a), (4, .int b)]) rfl ?_
  refine n_aload_n hC dX3_into_0 rfl ?_
  refine n_iload_n hC dX3_into_1 rfl ?_
  refine n_iload hC dX3_into_2 rfl ?_
  refine n_callV1 hC (As := [.int a, .int b]) (rest := []) mc_o (by omega) rfl bX3_takeNumber (t_m_takeNumber l D N0 kA mb hs M n hn a b hx) (by decide) (by decide) q851 rfl (Nat.le_of_ble_eq_true rfl) dX3_into_4 (Nat.le_of_ble_eq_true rfl) (Nat.le_of_ble_eq_true rfl) ?_
  refine n_stk (st' := [.int (nI ((m_takeNumber M a b).1))]) rfl ?_
  refine n_istore (L' := [(0, .ref (N0 + mb)), (1, .ref (N0 + (mb + 21))), (2, .int (nI k)), (3, .int a), (4, .int b), (5, .int (nI ((m_takeNumber M a b).1)))]) hC dX3_into_7 (by decide) rfl ?_
  refine n_aload_n hC dX3_into_9 rfl ?_
  refine n_iload_n hC dX3_into_10 rfl ?_
  refine n_aload_n hC dX3_into_11 rfl ?_
  refine n_get hC cl3 (k := 18) (v := .int (nI (mN ((m_takeNumber M a b).2) 18))) mc_o (by omega) (by decide) q698 (mf_get N0 mb ((m_takeNumber M a b).2) (by decide)) dX3_into_12 ?_
  refine n_iast hC (f := fun j => nI (mB ((m_takeNumber M a b).2) 32 j)) (mc_a (p := 21) (by decide) (by decide)) (by omega) k rfl (by omega) (by decide) dX3_into_15 (mu_B (M := ((m_takeNumber M a b).2)) (k := 32) (len := 8) rfl rfl (by decide) (by decide)) ?_
  refine n_iload hC dX3_into_16 rfl ?_
  have eq_ : m_into_32 M k a b = ((m_takeNumber M a b).1, mSetB ((m_takeNumber M a b).2) 32 k (mN ((m_takeNumber M a b).2) 18)) := by rw [m_into_32_d]
  refine n_iret hC dX3_into_18 (Nat.le_of_ble_eq_true rfl) (Nat.le_of_ble_eq_true rfl) ?_
  rw [eq_]
  dsimp only
  exact ⟨rfl, rfl, rfl⟩
theorem into_32_K {M : MS} (k : Nat) (a b : Int32) (hx : mTx M) : kS M (m_into_32 M k a b).2 ∧ (m_into_32 M k a b).1 ≤ 2 := by
  obtain ⟨h1, h2, -⟩ := num_K a b hx
  rw [m_into_32_d]
  generalize m_takeNumber M a b = R at *
  exact ⟨⟨tx_B (by decide) h1.kS.1, h1.kS.2.1, h1.kS.2.2⟩, h2⟩
noncomputable def m_takeLimb_L38 : Nat → MS → Nat → Nat → Nat → Nat × MS
  | 0, M, _, _, _ => (0, M)
  | fu + 1, M, k, f, i => (if 4 ≤ i then (f, M) else (if f = 0 then m_takeLimb_L38 fu ((m_into_22 M ((4 * k) + i) (nI 0) (nI 18)).2) k ((m_into_22 M ((4 * k) + i) (nI 0) (nI 18)).1) (i + 1) else (f, M)))
noncomputable def m_takeLimb_b (M : MS) : Nat × MS := m_takeLimb_L38 5 ((m_into_21 (mSetA (mSetN M 20 ((mN M 20) + 1)) 23 (mN M 20) (-1)) (mN M 20) (nI 20) (nI 99)).2) (mN M 20) ((m_into_21 (mSetA (mSetN M 20 ((mN M 20) + 1)) 23 (mN M 20) (-1)) (mN M 20) (nI 20) (nI 99)).1) 0
theorem m_takeLimb_x : ∃ f : MS → Nat × MS, ∀ (M : MS) , f M = m_takeLimb_b M := ⟨m_takeLimb_b, fun M => rfl⟩
noncomputable def m_takeLimb : MS → Nat × MS := Classical.choose m_takeLimb_x
theorem m_takeLimb_d (M : MS)  : m_takeLimb M = m_takeLimb_L38 5 ((m_into_21 (mSetA (mSetN M 20 ((mN M 20) + 1)) 23 (mN M 20) (-1)) (mN M 20) (nI 20) (nI 99)).2) (mN M 20) ((m_into_21 (mSetA (mSetN M 20 ((mN M 20) + 1)) 23 (mN M 20) (-1)) (mN M 20) (nI 20) (nI 99)).1) 0 := Classical.choose_spec m_takeLimb_x M
theorem bX3_takeLimb : nBV RX3 yX3_takeLimb cX3_takeLimb 4 (some .int) 0 := ⟨q845, qs22, q55, q846, by decide, by decide +kernel⟩
set_option maxRecDepth 100000 in
set_option maxHeartbeats 4000000 in
theorem t_m_takeLimb_L38 {p : Program} {l : Launch} {e : Env} {s : State} {m : MethodId} {args : Array Value} {below : List Frame} {meth : Method} {c : Code} {D : va_G} {N0 : Nat} {kA : Nat → ClassId} {mb : Nat} {hs : hT} {n : Nat} (hn : mb + 28 < n)  (hC : nC p s m args meth c RX3 cX3_takeLimb 4 (some .int) true D N0 kA)  : ∀ (fu : Nat) (M : MS) (k : Nat) (f : Nat) (i : Nat) (hx : mTx M) (hk : k < 6) (hF : f ≤ 2) (hi : i ≤ 4) (hf : 4 < i + fu), nW p l e (nRm 3 0 0) s m args below meth c (nQ below (nX (some (.int (nI ((m_takeLimb_L38 fu M k f i).1)))) (mH N0 mb kA hs ((m_takeLimb_L38 fu M k f i).2)) n) D N0 s 0 0) D N0 4 38 [(0, .ref (N0 + mb)), (1, .int (nI k)), (2, .int (nI f)), (3, .int (nI i))] [] (mH N0 mb kA hs M) n 0 0 := by
  intro fu
  induction fu with
  | zero =>
    intro M k f i hx hk hF hi hf
    exfalso; omega
  | succ fu ih =>
    intro M k f i hx hk hF hi hf
    refine n_iload_n hC dX3_takeLimb_38 rfl ?_
    refine n_iconst (v := (nI 4)) hC dX3_takeLimb_39 (by decide) ?_
    refine n_icmp_geN (tgt := 70) hC i 4 rfl rfl (by omega) (by omega) dX3_takeLimb_40 (by decide) (fun c40 => ?_) (fun c40 => ?_)
    · refine n_iload_n hC dX3_takeLimb_70 rfl ?_
      have eq_ : m_takeLimb_L38 (fu + 1) M k f i = (f, M) := by rw [m_takeLimb_L38, if_pos c40]
      refine n_iret hC dX3_takeLimb_71 (Nat.le_of_ble_eq_true rfl) (Nat.le_of_ble_eq_true rfl) ?_
      rw [eq_]
      dsimp only
      exact ⟨rfl, rfl, rfl⟩
    · refine n_iload_n hC dX3_takeLimb_43 rfl ?_
      refine n_if_neN (tgt := 70) hC (by omega) dX3_takeLimb_44 (by decide) (fun c44 => ?_) (fun c44 => ?_)
      · refine n_iload_n hC dX3_takeLimb_70 rfl ?_
        have eq_ : m_takeLimb_L38 (fu + 1) M k f i = (f, M) := by rw [m_takeLimb_L38, if_neg (Nat.not_le.mpr c40), if_neg c44]
        refine n_iret hC dX3_takeLimb_71 (Nat.le_of_ble_eq_true rfl) (Nat.le_of_ble_eq_true rfl) ?_
        rw [eq_]
        dsimp only
        exact ⟨rfl, rfl, rfl⟩
      · refine n_aload_n hC dX3_takeLimb_47 rfl ?_
        refine n_aload_n hC dX3_takeLimb_48 rfl ?_
        refine n_get hC cl3 (k := 22) (v := .ref (N0 + (mb + 13))) mc_o (by omega) (by decide) q702 (mf_get N0 mb M (by decide)) dX3_takeLimb_49 ?_
        refine n_iconst (v := (nI 4)) hC dX3_takeLimb_52 (by decide) ?_
        refine n_iload_n hC dX3_takeLimb_53 rfl ?_
        refine n_imulN hC dX3_takeLimb_54 ?_
        refine n_iload_n hC dX3_takeLimb_55 rfl ?_
        refine n_iaddN hC dX3_takeLimb_56 ?_
        refine n_iconst (v := (nI 0)) hC dX3_takeLimb_57 (by decide) ?_
        refine n_bipush (v := (nI 18)) hC dX3_takeLimb_58 (by decide) ?_
        refine n_callV1 hC (As := [.ref (N0 + (mb + 13)), .int (nI ((4 * k) + i)), .int (nI 0), .int (nI 18)]) (rest := []) mc_o (by omega) rfl bX3_into (t_m_into_22 l D N0 kA mb hs M n hn ((4 * k) + i) (nI 0) (nI 18) hx (by omega)) (by decide) (by decide) q847 rfl (Nat.le_of_ble_eq_true rfl) dX3_takeLimb_60 (Nat.le_of_ble_eq_true rfl) (Nat.le_of_ble_eq_true rfl) ?_
        refine n_stk (st' := [.int (nI ((m_into_22 M ((4 * k) + i) (nI 0) (nI 18)).1))]) rfl ?_
        refine n_istore_n (L' := [(0, .ref (N0 + mb)), (1, .int (nI k)), (2, .int (nI ((m_into_22 M ((4 * k) + i) (nI 0) (nI 18)).1))), (3, .int (nI i))]) hC dX3_takeLimb_63 (by decide) rfl ?_
        refine n_iincN (a := i) (L' := [(0, .ref (N0 + mb)), (1, .int (nI k)), (2, .int (nI ((m_into_22 M ((4 * k) + i) (nI 0) (nI 18)).1))), (3, .int (nI (i + 1)))]) hC dX3_takeLimb_64 rfl (by decide) rfl ?_
        refine n_goto (tgt := 38) hC dX3_takeLimb_67 (by decide) ?_
        rw [show m_takeLimb_L38 (fu + 1) M k f i = m_takeLimb_L38 fu ((m_into_22 M ((4 * k) + i) (nI 0) (nI 18)).2) k ((m_into_22 M ((4 * k) + i) (nI 0) (nI 18)).1) (i + 1) from by rw [m_takeLimb_L38, if_neg (Nat.not_le.mpr c40), if_pos c44]]
        exact ih ((m_into_22 M ((4 * k) + i) (nI 0) (nI 18)).2) k ((m_into_22 M ((4 * k) + i) (nI 0) (nI 18)).1) (i + 1) (into_22_K _ _ _ hx).1.1 (by first | omega | (simp [mN_A, mN_B, mN_I, mN_N] <;> omega)) (into_22_K _ _ _ hx).2 (by first | omega | (simp [mN_A, mN_B, mN_I, mN_N] <;> omega)) (by first | omega | (simp [mN_A, mN_B, mN_I, mN_N] <;> omega))
set_option maxRecDepth 100000 in
set_option maxHeartbeats 4000000 in
theorem t_m_takeLimb (l : Launch) (D : va_G) (N0 : Nat) (kA : Nat → ClassId) (mb : Nat) (hs : hT) (M : MS) (n : Nat) (hn : mb + 28 < n)  (hx : mTx M) (h20 : mN M 20 < 6) : nE l yX3_takeLimb cX3_takeLimb 4 (some .int) D N0 kA 3 0 0 [.ref (N0 + mb)] (mH N0 mb kA hs M) n (nX (some (.int (nI ((m_takeLimb M).1)))) (mH N0 mb kA hs ((m_takeLimb M).2)) n) := by
  refine nE_of (by decide) (Nat.le_of_ble_eq_true rfl) ?_
  intro p e s m args below meth c hC hnm
  refine n_loc (L' := [(0, .ref (N0 + mb))]) rfl ?_
  refine n_aload_n hC dX3_takeLimb_0 rfl ?_
  refine n_get hC cl3 (k := 20) (v := .int (nI (mN M 20))) mc_o (by omega) (by decide) q700 (mf_get N0 mb M (by decide)) dX3_takeLimb_1 ?_
  refine n_istore_n (L' := [(0, .ref (N0 + mb)), (1, .int (nI (mN M 20)))]) hC dX3_takeLimb_4 (by decide) rfl ?_
  refine n_aload_n hC dX3_takeLimb_5 rfl ?_
  refine n_dup hC dX3_takeLimb_6 rfl ?_
  refine n_get hC cl3 (k := 20) (v := .int (nI (mN M 20))) mc_o (by omega) (by decide) q700 (mf_get N0 mb M (by decide)) dX3_takeLimb_7 ?_
  refine n_iconst (v := (nI 1)) hC dX3_takeLimb_10 (by decide) ?_
  refine n_iaddN hC dX3_takeLimb_11 ?_
  refine n_put hC cl3 (k := 20) mc_o (by omega) (by decide) q700 rfl rfl rfl (by rw [mf_len]; decide) dX3_takeLimb_12 (mu_N (M := M) (k := 20) (by decide) rfl rfl) ?_
  refine n_aload_n hC dX3_takeLimb_15 rfl ?_
  refine n_get hC cl3 (k := 23) (v := .ref (N0 + (mb + 14))) mc_o (by omega) (by decide) q703 (mf_get N0 mb (mSetN M 20 ((mN M 20) + 1)) (by decide)) dX3_takeLimb_16 ?_
  refine n_iload_n hC dX3_takeLimb_19 rfl ?_
  refine n_iconst (v := (-1)) hC dX3_takeLimb_20 (by decide) ?_
  refine n_iast hC (f := mA (mSetN M 20 ((mN M 20) + 1)) 23) (mc_a (p := 14) (by decide) (by decide)) (by omega) (mN M 20) rfl (by omega) (by decide) dX3_takeLimb_21 (mu_A (M := (mSetN M 20 ((mN M 20) + 1))) (k := 23) (len := 6) (kd := 0) rfl rfl rfl (by decide) (by decide)) ?_
  have hx0 : mTx (mSetA (mSetN M 20 (mN M 20 + 1)) 23 (mN M 20) (-1)) := tx_A (tx_o (by decide) (by decide) hx)
  have hy := into_21_K (mN M 20) (nI 20) (nI 99) hx0
  refine n_aload_n hC dX3_takeLimb_22 rfl ?_
  refine n_aload_n hC dX3_takeLimb_23 rfl ?_
  refine n_get hC cl3 (k := 21) (v := .ref (N0 + (mb + 12))) mc_o (by omega) (by decide) q701 (mf_get N0 mb (mSetA (mSetN M 20 ((mN M 20) + 1)) 23 (mN M 20) (-1)) (by decide)) dX3_takeLimb_24 ?_
  refine n_iload_n hC dX3_takeLimb_27 rfl ?_
  refine n_bipush (v := (nI 20)) hC dX3_takeLimb_28 (by decide) ?_
  refine n_bipush (v := (nI 99)) hC dX3_takeLimb_30 (by decide) ?_
  refine n_callV1 hC (As := [.ref (N0 + (mb + 12)), .int (nI (mN M 20)), .int (nI 20), .int (nI 99)]) (rest := []) mc_o (by omega) rfl bX3_into (t_m_into_21 l D N0 kA mb hs (mSetA (mSetN M 20 ((mN M 20) + 1)) 23 (mN M 20) (-1)) n hn (mN M 20) (nI 20) (nI 99) hx0 (by omega)) (by decide) (by decide) q847 rfl (Nat.le_of_ble_eq_true rfl) dX3_takeLimb_32 (Nat.le_of_ble_eq_true rfl) (Nat.le_of_ble_eq_true rfl) ?_
  refine n_stk (st' := [.int (nI ((m_into_21 (mSetA (mSetN M 20 ((mN M 20) + 1)) 23 (mN M 20) (-1)) (mN M 20) (nI 20) (nI 99)).1))]) rfl ?_
  refine n_istore_n (L' := [(0, .ref (N0 + mb)), (1, .int (nI (mN M 20))), (2, .int (nI ((m_into_21 (mSetA (mSetN M 20 ((mN M 20) + 1)) 23 (mN M 20) (-1)) (mN M 20) (nI 20) (nI 99)).1)))]) hC dX3_takeLimb_35 (by decide) rfl ?_
  refine n_iconst (v := (nI 0)) hC dX3_takeLimb_36 (by decide) ?_
  refine n_istore_n (L' := [(0, .ref (N0 + mb)), (1, .int (nI (mN M 20))), (2, .int (nI ((m_into_21 (mSetA (mSetN M 20 ((mN M 20) + 1)) 23 (mN M 20) (-1)) (mN M 20) (nI 20) (nI 99)).1))), (3, .int (nI 0))]) hC dX3_takeLimb_37 (by decide) rfl ?_
  rw [show m_takeLimb M = m_takeLimb_L38 5 ((m_into_21 (mSetA (mSetN M 20 ((mN M 20) + 1)) 23 (mN M 20) (-1)) (mN M 20) (nI 20) (nI 99)).2) (mN M 20) ((m_into_21 (mSetA (mSetN M 20 ((mN M 20) + 1)) 23 (mN M 20) (-1)) (mN M 20) (nI 20) (nI 99)).1) 0 from by rw [m_takeLimb_d]]
  exact t_m_takeLimb_L38 hn hC  5 ((m_into_21 (mSetA (mSetN M 20 ((mN M 20) + 1)) 23 (mN M 20) (-1)) (mN M 20) (nI 20) (nI 99)).2) (mN M 20) ((m_into_21 (mSetA (mSetN M 20 ((mN M 20) + 1)) 23 (mN M 20) (-1)) (mN M 20) (nI 20) (nI 99)).1) 0 hy.1.1 (by first | omega | (simp [mN_A, mN_B, mN_I, mN_N] <;> omega)) hy.2 (by first | omega | (simp [mN_A, mN_B, mN_I, mN_N] <;> omega)) (by first | omega | (simp [mN_A, mN_B, mN_I, mN_N] <;> omega))
noncomputable def m_takeContract_b (M : MS) : Nat × MS := (if 0 < ((m_into_25 (mSetN M 24 ((mN M 24) + 1)) (mN M 24) (nI 0) (nI 99)).1) then ((m_into_25 (mSetN M 24 ((mN M 24) + 1)) (mN M 24) (nI 0) (nI 99)).1, (m_into_25 (mSetN M 24 ((mN M 24) + 1)) (mN M 24) (nI 0) (nI 99)).2) else (if 0 < ((m_into_26 ((m_into_25 (mSetN M 24 ((mN M 24) + 1)) (mN M 24) (nI 0) (nI 99)).2) (mN M 24) (nI 0) ((nI (mN ((m_into_25 (mSetN M 24 ((mN M 24) + 1)) (mN M 24) (nI 0) (nI 99)).2) 20)) - (nI 1))).1) then ((m_into_26 ((m_into_25 (mSetN M 24 ((mN M 24) + 1)) (mN M 24) (nI 0) (nI 99)).2) (mN M 24) (nI 0) ((nI (mN ((m_into_25 (mSetN M 24 ((mN M 24) + 1)) (mN M 24) (nI 0) (nI 99)).2) 20)) - (nI 1))).1, (m_into_26 ((m_into_25 (mSetN M 24 ((mN M 24) + 1)) (mN M 24) (nI 0) (nI 99)).2) (mN M 24) (nI 0) ((nI (mN ((m_into_25 (mSetN M 24 ((mN M 24) + 1)) (mN M 24) (nI 0) (nI 99)).2) 20)) - (nI 1))).2) else ((m_into_27 ((m_into_26 ((m_into_25 (mSetN M 24 ((mN M 24) + 1)) (mN M 24) (nI 0) (nI 99)).2) (mN M 24) (nI 0) ((nI (mN ((m_into_25 (mSetN M 24 ((mN M 24) + 1)) (mN M 24) (nI 0) (nI 99)).2) 20)) - (nI 1))).2) (mN M 24) (nI 1) (nI 50)).1, (m_into_27 ((m_into_26 ((m_into_25 (mSetN M 24 ((mN M 24) + 1)) (mN M 24) (nI 0) (nI 99)).2) (mN M 24) (nI 0) ((nI (mN ((m_into_25 (mSetN M 24 ((mN M 24) + 1)) (mN M 24) (nI 0) (nI 99)).2) 20)) - (nI 1))).2) (mN M 24) (nI 1) (nI 50)).2)))
theorem m_takeContract_x : ∃ f : MS → Nat × MS, ∀ (M : MS) , f M = m_takeContract_b M := ⟨m_takeContract_b, fun M => rfl⟩
noncomputable def m_takeContract : MS → Nat × MS := Classical.choose m_takeContract_x
theorem m_takeContract_d (M : MS)  : m_takeContract M = (if 0 < ((m_into_25 (mSetN M 24 ((mN M 24) + 1)) (mN M 24) (nI 0) (nI 99)).1) then ((m_into_25 (mSetN M 24 ((mN M 24) + 1)) (mN M 24) (nI 0) (nI 99)).1, (m_into_25 (mSetN M 24 ((mN M 24) + 1)) (mN M 24) (nI 0) (nI 99)).2) else (if 0 < ((m_into_26 ((m_into_25 (mSetN M 24 ((mN M 24) + 1)) (mN M 24) (nI 0) (nI 99)).2) (mN M 24) (nI 0) ((nI (mN ((m_into_25 (mSetN M 24 ((mN M 24) + 1)) (mN M 24) (nI 0) (nI 99)).2) 20)) - (nI 1))).1) then ((m_into_26 ((m_into_25 (mSetN M 24 ((mN M 24) + 1)) (mN M 24) (nI 0) (nI 99)).2) (mN M 24) (nI 0) ((nI (mN ((m_into_25 (mSetN M 24 ((mN M 24) + 1)) (mN M 24) (nI 0) (nI 99)).2) 20)) - (nI 1))).1, (m_into_26 ((m_into_25 (mSetN M 24 ((mN M 24) + 1)) (mN M 24) (nI 0) (nI 99)).2) (mN M 24) (nI 0) ((nI (mN ((m_into_25 (mSetN M 24 ((mN M 24) + 1)) (mN M 24) (nI 0) (nI 99)).2) 20)) - (nI 1))).2) else ((m_into_27 ((m_into_26 ((m_into_25 (mSetN M 24 ((mN M 24) + 1)) (mN M 24) (nI 0) (nI 99)).2) (mN M 24) (nI 0) ((nI (mN ((m_into_25 (mSetN M 24 ((mN M 24) + 1)) (mN M 24) (nI 0) (nI 99)).2) 20)) - (nI 1))).2) (mN M 24) (nI 1) (nI 50)).1, (m_into_27 ((m_into_26 ((m_into_25 (mSetN M 24 ((mN M 24) + 1)) (mN M 24) (nI 0) (nI 99)).2) (mN M 24) (nI 0) ((nI (mN ((m_into_25 (mSetN M 24 ((mN M 24) + 1)) (mN M 24) (nI 0) (nI 99)).2) 20)) - (nI 1))).2) (mN M 24) (nI 1) (nI 50)).2))) := Classical.choose_spec m_takeContract_x M
theorem bX3_takeContract : nBV RX3 yX3_takeContract cX3_takeContract 3 (some .int) 0 := ⟨q859, qs25, q55, q860, by decide, by decide +kernel⟩
set_option maxRecDepth 100000 in
set_option maxHeartbeats 4000000 in
theorem t_m_takeContract (l : Launch) (D : va_G) (N0 : Nat) (kA : Nat → ClassId) (mb : Nat) (hs : hT) (M : MS) (n : Nat) (hn : mb + 28 < n)  (hx : mTx M) (h24 : mN M 24 < 6) : nE l yX3_takeContract cX3_takeContract 3 (some .int) D N0 kA 3 0 0 [.ref (N0 + mb)] (mH N0 mb kA hs M) n (nX (some (.int (nI ((m_takeContract M).1)))) (mH N0 mb kA hs ((m_takeContract M).2)) n) := by
  refine nE_of (by decide) (Nat.le_of_ble_eq_true rfl) ?_
  intro p e s m args below meth c hC hnm
  refine n_loc (L' := [(0, .ref (N0 + mb))]) rfl ?_
  refine n_aload_n hC dX3_takeContract_0 rfl ?_
  refine n_get hC cl3 (k := 24) (v := .int (nI (mN M 24))) mc_o (by omega) (by decide) q704 (mf_get N0 mb M (by decide)) dX3_takeContract_1 ?_
  refine n_istore_n (L' := [(0, .ref (N0 + mb)), (1, .int (nI (mN M 24)))]) hC dX3_takeContract_4 (by decide) rfl ?_
  refine n_aload_n hC dX3_takeContract_5 rfl ?_
  refine n_dup hC dX3_takeContract_6 rfl ?_
  refine n_get hC cl3 (k := 24) (v := .int (nI (mN M 24))) mc_o (by omega) (by decide) q704 (mf_get N0 mb M (by decide)) dX3_takeContract_7 ?_
  refine n_iconst (v := (nI 1)) hC dX3_takeContract_10 (by decide) ?_
  refine n_iaddN hC dX3_takeContract_11 ?_
  refine n_put hC cl3 (k := 24) mc_o (by omega) (by decide) q704 rfl rfl rfl (by rw [mf_len]; decide) dX3_takeContract_12 (mu_N (M := M) (k := 24) (by decide) rfl rfl) ?_
  have hx0 : mTx (mSetN M 24 (mN M 24 + 1)) := tx_o (by decide) (by decide) hx
  have hy := into_25_K (mN M 24) (nI 0) (nI 99) hx0
  have hy2 := hy.2
  refine n_aload_n hC dX3_takeContract_15 rfl ?_
  refine n_aload_n hC dX3_takeContract_16 rfl ?_
  refine n_get hC cl3 (k := 25) (v := .ref (N0 + (mb + 15))) mc_o (by omega) (by decide) q705 (mf_get N0 mb (mSetN M 24 ((mN M 24) + 1)) (by decide)) dX3_takeContract_17 ?_
  refine n_iload_n hC dX3_takeContract_20 rfl ?_
  refine n_iconst (v := (nI 0)) hC dX3_takeContract_21 (by decide) ?_
  refine n_bipush (v := (nI 99)) hC dX3_takeContract_22 (by decide) ?_
  refine n_callV1 hC (As := [.ref (N0 + (mb + 15)), .int (nI (mN M 24)), .int (nI 0), .int (nI 99)]) (rest := []) mc_o (by omega) rfl bX3_into (t_m_into_25 l D N0 kA mb hs (mSetN M 24 ((mN M 24) + 1)) n hn (mN M 24) (nI 0) (nI 99) hx0 (by omega)) (by decide) (by decide) q847 rfl (Nat.le_of_ble_eq_true rfl) dX3_takeContract_24 (Nat.le_of_ble_eq_true rfl) (Nat.le_of_ble_eq_true rfl) ?_
  refine n_stk (st' := [.int (nI ((m_into_25 (mSetN M 24 ((mN M 24) + 1)) (mN M 24) (nI 0) (nI 99)).1))]) rfl ?_
  refine n_istore_n (L' := [(0, .ref (N0 + mb)), (1, .int (nI (mN M 24))), (2, .int (nI ((m_into_25 (mSetN M 24 ((mN M 24) + 1)) (mN M 24) (nI 0) (nI 99)).1)))]) hC dX3_takeContract_27 (by decide) rfl ?_
  refine n_iload_n hC dX3_takeContract_28 rfl ?_
  refine n_if_leN (tgt := 36) hC (by omega) dX3_takeContract_29 (by decide) (fun c29 => ?_) (fun c29 => ?_)
  · refine n_aload_n hC dX3_takeContract_36 rfl ?_
    refine n_aload_n hC dX3_takeContract_37 rfl ?_
    refine n_get hC cl3 (k := 26) (v := .ref (N0 + (mb + 16))) mc_o (by omega) (by decide) q706 (mf_get N0 mb ((m_into_25 (mSetN M 24 ((mN M 24) + 1)) (mN M 24) (nI 0) (nI 99)).2) (by decide)) dX3_takeContract_38 ?_
    refine n_iload_n hC dX3_takeContract_41 rfl ?_
    refine n_iconst (v := (nI 0)) hC dX3_takeContract_42 (by decide) ?_
    refine n_aload_n hC dX3_takeContract_43 rfl ?_
    refine n_get hC cl3 (k := 20) (v := .int (nI (mN ((m_into_25 (mSetN M 24 ((mN M 24) + 1)) (mN M 24) (nI 0) (nI 99)).2) 20))) mc_o (by omega) (by decide) q700 (mf_get N0 mb ((m_into_25 (mSetN M 24 ((mN M 24) + 1)) (mN M 24) (nI 0) (nI 99)).2) (by decide)) dX3_takeContract_44 ?_
    refine n_iconst (v := (nI 1)) hC dX3_takeContract_47 (by decide) ?_
    refine n_isub hC dX3_takeContract_48 ?_
    refine n_callV1 hC (As := [.ref (N0 + (mb + 16)), .int (nI (mN M 24)), .int (nI 0), .int ((nI (mN ((m_into_25 (mSetN M 24 ((mN M 24) + 1)) (mN M 24) (nI 0) (nI 99)).2) 20)) - (nI 1))]) (rest := []) mc_o (by omega) rfl bX3_into (t_m_into_26 l D N0 kA mb hs ((m_into_25 (mSetN M 24 ((mN M 24) + 1)) (mN M 24) (nI 0) (nI 99)).2) n hn (mN M 24) (nI 0) ((nI (mN ((m_into_25 (mSetN M 24 ((mN M 24) + 1)) (mN M 24) (nI 0) (nI 99)).2) 20)) - (nI 1)) hy.1.1 (by omega)) (by decide) (by decide) q847 rfl (Nat.le_of_ble_eq_true rfl) dX3_takeContract_49 (Nat.le_of_ble_eq_true rfl) (Nat.le_of_ble_eq_true rfl) ?_
    refine n_stk (st' := [.int (nI ((m_into_26 ((m_into_25 (mSetN M 24 ((mN M 24) + 1)) (mN M 24) (nI 0) (nI 99)).2) (mN M 24) (nI 0) ((nI (mN ((m_into_25 (mSetN M 24 ((mN M 24) + 1)) (mN M 24) (nI 0) (nI 99)).2) 20)) - (nI 1))).1))]) rfl ?_
    have hz := into_26_K (M := (m_into_25 (mSetN M 24 ((mN M 24) + 1)) (mN M 24) (nI 0) (nI 99)).2) (mN M 24) (nI 0) ((nI (mN ((m_into_25 (mSetN M 24 ((mN M 24) + 1)) (mN M 24) (nI 0) (nI 99)).2) 20)) - (nI 1)) hy.1.1
    have hz2 := hz.2
    refine n_istore_n (L' := [(0, .ref (N0 + mb)), (1, .int (nI (mN M 24))), (2, .int (nI ((m_into_26 ((m_into_25 (mSetN M 24 ((mN M 24) + 1)) (mN M 24) (nI 0) (nI 99)).2) (mN M 24) (nI 0) ((nI (mN ((m_into_25 (mSetN M 24 ((mN M 24) + 1)) (mN M 24) (nI 0) (nI 99)).2) 20)) - (nI 1))).1)))]) hC dX3_takeContract_52 (by decide) rfl ?_
    refine n_iload_n hC dX3_takeContract_53 rfl ?_
    refine n_if_leN (tgt := 61) hC (by omega) dX3_takeContract_54 (by decide) (fun c54 => ?_) (fun c54 => ?_)
    · refine n_aload_n hC dX3_takeContract_61 rfl ?_
      refine n_aload_n hC dX3_takeContract_62 rfl ?_
      refine n_get hC cl3 (k := 27) (v := .ref (N0 + (mb + 17))) mc_o (by omega) (by decide) q707 (mf_get N0 mb ((m_into_26 ((m_into_25 (mSetN M 24 ((mN M 24) + 1)) (mN M 24) (nI 0) (nI 99)).2) (mN M 24) (nI 0) ((nI (mN ((m_into_25 (mSetN M 24 ((mN M 24) + 1)) (mN M 24) (nI 0) (nI 99)).2) 20)) - (nI 1))).2) (by decide)) dX3_takeContract_63 ?_
      refine n_iload_n hC dX3_takeContract_66 rfl ?_
      refine n_iconst (v := (nI 1)) hC dX3_takeContract_67 (by decide) ?_
      refine n_bipush (v := (nI 50)) hC dX3_takeContract_68 (by decide) ?_
      refine n_callV1 hC (As := [.ref (N0 + (mb + 17)), .int (nI (mN M 24)), .int (nI 1), .int (nI 50)]) (rest := []) mc_o (by omega) rfl bX3_into (t_m_into_27 l D N0 kA mb hs ((m_into_26 ((m_into_25 (mSetN M 24 ((mN M 24) + 1)) (mN M 24) (nI 0) (nI 99)).2) (mN M 24) (nI 0) ((nI (mN ((m_into_25 (mSetN M 24 ((mN M 24) + 1)) (mN M 24) (nI 0) (nI 99)).2) 20)) - (nI 1))).2) n hn (mN M 24) (nI 1) (nI 50) hz.1.1 (by omega)) (by decide) (by decide) q847 rfl (Nat.le_of_ble_eq_true rfl) dX3_takeContract_70 (Nat.le_of_ble_eq_true rfl) (Nat.le_of_ble_eq_true rfl) ?_
      refine n_stk (st' := [.int (nI ((m_into_27 ((m_into_26 ((m_into_25 (mSetN M 24 ((mN M 24) + 1)) (mN M 24) (nI 0) (nI 99)).2) (mN M 24) (nI 0) ((nI (mN ((m_into_25 (mSetN M 24 ((mN M 24) + 1)) (mN M 24) (nI 0) (nI 99)).2) 20)) - (nI 1))).2) (mN M 24) (nI 1) (nI 50)).1))]) rfl ?_
      have eq_ : m_takeContract M = ((m_into_27 ((m_into_26 ((m_into_25 (mSetN M 24 ((mN M 24) + 1)) (mN M 24) (nI 0) (nI 99)).2) (mN M 24) (nI 0) ((nI (mN ((m_into_25 (mSetN M 24 ((mN M 24) + 1)) (mN M 24) (nI 0) (nI 99)).2) 20)) - (nI 1))).2) (mN M 24) (nI 1) (nI 50)).1, (m_into_27 ((m_into_26 ((m_into_25 (mSetN M 24 ((mN M 24) + 1)) (mN M 24) (nI 0) (nI 99)).2) (mN M 24) (nI 0) ((nI (mN ((m_into_25 (mSetN M 24 ((mN M 24) + 1)) (mN M 24) (nI 0) (nI 99)).2) 20)) - (nI 1))).2) (mN M 24) (nI 1) (nI 50)).2) := by rw [m_takeContract_d, if_neg (by omega), if_neg (by omega)]
      refine n_iret hC dX3_takeContract_73 (Nat.le_of_ble_eq_true rfl) (Nat.le_of_ble_eq_true rfl) ?_
      rw [eq_]
      dsimp only
      exact ⟨rfl, rfl, rfl⟩
    · refine n_iload_n hC dX3_takeContract_57 rfl ?_
      refine n_goto (tgt := 73) hC dX3_takeContract_58 (by decide) ?_
      have eq_ : m_takeContract M = ((m_into_26 ((m_into_25 (mSetN M 24 ((mN M 24) + 1)) (mN M 24) (nI 0) (nI 99)).2) (mN M 24) (nI 0) ((nI (mN ((m_into_25 (mSetN M 24 ((mN M 24) + 1)) (mN M 24) (nI 0) (nI 99)).2) 20)) - (nI 1))).1, (m_into_26 ((m_into_25 (mSetN M 24 ((mN M 24) + 1)) (mN M 24) (nI 0) (nI 99)).2) (mN M 24) (nI 0) ((nI (mN ((m_into_25 (mSetN M 24 ((mN M 24) + 1)) (mN M 24) (nI 0) (nI 99)).2) 20)) - (nI 1))).2) := by rw [m_takeContract_d, if_neg (by omega), if_pos c54]
      refine n_iret hC dX3_takeContract_73 (Nat.le_of_ble_eq_true rfl) (Nat.le_of_ble_eq_true rfl) ?_
      rw [eq_]
      dsimp only
      exact ⟨rfl, rfl, rfl⟩
  · refine n_iload_n hC dX3_takeContract_32 rfl ?_
    refine n_goto (tgt := 52) hC dX3_takeContract_33 (by decide) ?_
    refine n_istore_n (L' := [(0, .ref (N0 + mb)), (1, .int (nI (mN M 24))), (2, .int (nI ((m_into_25 (mSetN M 24 ((mN M 24) + 1)) (mN M 24) (nI 0) (nI 99)).1)))]) hC dX3_takeContract_52 (by decide) rfl ?_
    refine n_iload_n hC dX3_takeContract_53 rfl ?_
    refine n_if_leN (tgt := 61) hC (by omega) dX3_takeContract_54 (by decide) (fun c_ => False.elim (by omega)) (fun _ => ?_)
    refine n_iload_n hC dX3_takeContract_57 rfl ?_
    refine n_goto (tgt := 73) hC dX3_takeContract_58 (by decide) ?_
    have eq_ : m_takeContract M = ((m_into_25 (mSetN M 24 ((mN M 24) + 1)) (mN M 24) (nI 0) (nI 99)).1, (m_into_25 (mSetN M 24 ((mN M 24) + 1)) (mN M 24) (nI 0) (nI 99)).2) := by rw [m_takeContract_d, if_pos c29]
    refine n_iret hC dX3_takeContract_73 (Nat.le_of_ble_eq_true rfl) (Nat.le_of_ble_eq_true rfl) ?_
    rw [eq_]
    dsimp only
    exact ⟨rfl, rfl, rfl⟩
noncomputable def m_takeRate_b (M : MS) : Nat × MS := (if 0 < ((m_into_29 (mSetN M 28 ((mN M 28) + 1)) (mN M 28) (nI 0) ((nI (mN M 20)) - (nI 1))).1) then ((m_into_29 (mSetN M 28 ((mN M 28) + 1)) (mN M 28) (nI 0) ((nI (mN M 20)) - (nI 1))).1, (m_into_29 (mSetN M 28 ((mN M 28) + 1)) (mN M 28) (nI 0) ((nI (mN M 20)) - (nI 1))).2) else (if ((m_into_30 ((m_into_29 (mSetN M 28 ((mN M 28) + 1)) (mN M 28) (nI 0) ((nI (mN M 20)) - (nI 1))).2) (mN M 28) (nI 0) ((nI (mN ((m_into_29 (mSetN M 28 ((mN M 28) + 1)) (mN M 28) (nI 0) ((nI (mN M 20)) - (nI 1))).2) 20)) - (nI 1))).1) = 0 then (if (nI (mB ((m_into_30 ((m_into_29 (mSetN M 28 ((mN M 28) + 1)) (mN M 28) (nI 0) ((nI (mN M 20)) - (nI 1))).2) (mN M 28) (nI 0) ((nI (mN ((m_into_29 (mSetN M 28 ((mN M 28) + 1)) (mN M 28) (nI 0) ((nI (mN M 20)) - (nI 1))).2) 20)) - (nI 1))).2) 29 (mN M 28))) = (nI (mB ((m_into_30 ((m_into_29 (mSetN M 28 ((mN M 28) + 1)) (mN M 28) (nI 0) ((nI (mN M 20)) - (nI 1))).2) (mN M 28) (nI 0) ((nI (mN ((m_into_29 (mSetN M 28 ((mN M 28) + 1)) (mN M 28) (nI 0) ((nI (mN M 20)) - (nI 1))).2) 20)) - (nI 1))).2) 30 (mN M 28))) then ((m_fails ((m_into_30 ((m_into_29 (mSetN M 28 ((mN M 28) + 1)) (mN M 28) (nI 0) ((nI (mN M 20)) - (nI 1))).2) (mN M 28) (nI 0) ((nI (mN ((m_into_29 (mSetN M 28 ((mN M 28) + 1)) (mN M 28) (nI 0) ((nI (mN M 20)) - (nI 1))).2) 20)) - (nI 1))).2) 4 (mN ((m_into_30 ((m_into_29 (mSetN M 28 ((mN M 28) + 1)) (mN M 28) (nI 0) ((nI (mN M 20)) - (nI 1))).2) (mN M 28) (nI 0) ((nI (mN ((m_into_29 (mSetN M 28 ((mN M 28) + 1)) (mN M 28) (nI 0) ((nI (mN M 20)) - (nI 1))).2) 20)) - (nI 1))).2) 19)).1, (m_fails ((m_into_30 ((m_into_29 (mSetN M 28 ((mN M 28) + 1)) (mN M 28) (nI 0) ((nI (mN M 20)) - (nI 1))).2) (mN M 28) (nI 0) ((nI (mN ((m_into_29 (mSetN M 28 ((mN M 28) + 1)) (mN M 28) (nI 0) ((nI (mN M 20)) - (nI 1))).2) 20)) - (nI 1))).2) 4 (mN ((m_into_30 ((m_into_29 (mSetN M 28 ((mN M 28) + 1)) (mN M 28) (nI 0) ((nI (mN M 20)) - (nI 1))).2) (mN M 28) (nI 0) ((nI (mN ((m_into_29 (mSetN M 28 ((mN M 28) + 1)) (mN M 28) (nI 0) ((nI (mN M 20)) - (nI 1))).2) 20)) - (nI 1))).2) 19)).2) else (if 0 < ((m_into_31 ((m_into_30 ((m_into_29 (mSetN M 28 ((mN M 28) + 1)) (mN M 28) (nI 0) ((nI (mN M 20)) - (nI 1))).2) (mN M 28) (nI 0) ((nI (mN ((m_into_29 (mSetN M 28 ((mN M 28) + 1)) (mN M 28) (nI 0) ((nI (mN M 20)) - (nI 1))).2) 20)) - (nI 1))).2) (mN M 28) (nI 1) (nI 20)).1) then ((m_into_31 ((m_into_30 ((m_into_29 (mSetN M 28 ((mN M 28) + 1)) (mN M 28) (nI 0) ((nI (mN M 20)) - (nI 1))).2) (mN M 28) (nI 0) ((nI (mN ((m_into_29 (mSetN M 28 ((mN M 28) + 1)) (mN M 28) (nI 0) ((nI (mN M 20)) - (nI 1))).2) 20)) - (nI 1))).2) (mN M 28) (nI 1) (nI 20)).1, (m_into_31 ((m_into_30 ((m_into_29 (mSetN M 28 ((mN M 28) + 1)) (mN M 28) (nI 0) ((nI (mN M 20)) - (nI 1))).2) (mN M 28) (nI 0) ((nI (mN ((m_into_29 (mSetN M 28 ((mN M 28) + 1)) (mN M 28) (nI 0) ((nI (mN M 20)) - (nI 1))).2) 20)) - (nI 1))).2) (mN M 28) (nI 1) (nI 20)).2) else ((m_into_32 ((m_into_31 ((m_into_30 ((m_into_29 (mSetN M 28 ((mN M 28) + 1)) (mN M 28) (nI 0) ((nI (mN M 20)) - (nI 1))).2) (mN M 28) (nI 0) ((nI (mN ((m_into_29 (mSetN M 28 ((mN M 28) + 1)) (mN M 28) (nI 0) ((nI (mN M 20)) - (nI 1))).2) 20)) - (nI 1))).2) (mN M 28) (nI 1) (nI 20)).2) (mN M 28) (nI 1) (nI 20)).1, (m_into_32 ((m_into_31 ((m_into_30 ((m_into_29 (mSetN M 28 ((mN M 28) + 1)) (mN M 28) (nI 0) ((nI (mN M 20)) - (nI 1))).2) (mN M 28) (nI 0) ((nI (mN ((m_into_29 (mSetN M 28 ((mN M 28) + 1)) (mN M 28) (nI 0) ((nI (mN M 20)) - (nI 1))).2) 20)) - (nI 1))).2) (mN M 28) (nI 1) (nI 20)).2) (mN M 28) (nI 1) (nI 20)).2))) else ((m_into_30 ((m_into_29 (mSetN M 28 ((mN M 28) + 1)) (mN M 28) (nI 0) ((nI (mN M 20)) - (nI 1))).2) (mN M 28) (nI 0) ((nI (mN ((m_into_29 (mSetN M 28 ((mN M 28) + 1)) (mN M 28) (nI 0) ((nI (mN M 20)) - (nI 1))).2) 20)) - (nI 1))).1, (m_into_30 ((m_into_29 (mSetN M 28 ((mN M 28) + 1)) (mN M 28) (nI 0) ((nI (mN M 20)) - (nI 1))).2) (mN M 28) (nI 0) ((nI (mN ((m_into_29 (mSetN M 28 ((mN M 28) + 1)) (mN M 28) (nI 0) ((nI (mN M 20)) - (nI 1))).2) 20)) - (nI 1))).2)))
theorem m_takeRate_x : ∃ f : MS → Nat × MS, ∀ (M : MS) , f M = m_takeRate_b M := ⟨m_takeRate_b, fun M => rfl⟩
noncomputable def m_takeRate : MS → Nat × MS := Classical.choose m_takeRate_x
theorem m_takeRate_d (M : MS)  : m_takeRate M = (if 0 < ((m_into_29 (mSetN M 28 ((mN M 28) + 1)) (mN M 28) (nI 0) ((nI (mN M 20)) - (nI 1))).1) then ((m_into_29 (mSetN M 28 ((mN M 28) + 1)) (mN M 28) (nI 0) ((nI (mN M 20)) - (nI 1))).1, (m_into_29 (mSetN M 28 ((mN M 28) + 1)) (mN M 28) (nI 0) ((nI (mN M 20)) - (nI 1))).2) else (if ((m_into_30 ((m_into_29 (mSetN M 28 ((mN M 28) + 1)) (mN M 28) (nI 0) ((nI (mN M 20)) - (nI 1))).2) (mN M 28) (nI 0) ((nI (mN ((m_into_29 (mSetN M 28 ((mN M 28) + 1)) (mN M 28) (nI 0) ((nI (mN M 20)) - (nI 1))).2) 20)) - (nI 1))).1) = 0 then (if (nI (mB ((m_into_30 ((m_into_29 (mSetN M 28 ((mN M 28) + 1)) (mN M 28) (nI 0) ((nI (mN M 20)) - (nI 1))).2) (mN M 28) (nI 0) ((nI (mN ((m_into_29 (mSetN M 28 ((mN M 28) + 1)) (mN M 28) (nI 0) ((nI (mN M 20)) - (nI 1))).2) 20)) - (nI 1))).2) 29 (mN M 28))) = (nI (mB ((m_into_30 ((m_into_29 (mSetN M 28 ((mN M 28) + 1)) (mN M 28) (nI 0) ((nI (mN M 20)) - (nI 1))).2) (mN M 28) (nI 0) ((nI (mN ((m_into_29 (mSetN M 28 ((mN M 28) + 1)) (mN M 28) (nI 0) ((nI (mN M 20)) - (nI 1))).2) 20)) - (nI 1))).2) 30 (mN M 28))) then ((m_fails ((m_into_30 ((m_into_29 (mSetN M 28 ((mN M 28) + 1)) (mN M 28) (nI 0) ((nI (mN M 20)) - (nI 1))).2) (mN M 28) (nI 0) ((nI (mN ((m_into_29 (mSetN M 28 ((mN M 28) + 1)) (mN M 28) (nI 0) ((nI (mN M 20)) - (nI 1))).2) 20)) - (nI 1))).2) 4 (mN ((m_into_30 ((m_into_29 (mSetN M 28 ((mN M 28) + 1)) (mN M 28) (nI 0) ((nI (mN M 20)) - (nI 1))).2) (mN M 28) (nI 0) ((nI (mN ((m_into_29 (mSetN M 28 ((mN M 28) + 1)) (mN M 28) (nI 0) ((nI (mN M 20)) - (nI 1))).2) 20)) - (nI 1))).2) 19)).1, (m_fails ((m_into_30 ((m_into_29 (mSetN M 28 ((mN M 28) + 1)) (mN M 28) (nI 0) ((nI (mN M 20)) - (nI 1))).2) (mN M 28) (nI 0) ((nI (mN ((m_into_29 (mSetN M 28 ((mN M 28) + 1)) (mN M 28) (nI 0) ((nI (mN M 20)) - (nI 1))).2) 20)) - (nI 1))).2) 4 (mN ((m_into_30 ((m_into_29 (mSetN M 28 ((mN M 28) + 1)) (mN M 28) (nI 0) ((nI (mN M 20)) - (nI 1))).2) (mN M 28) (nI 0) ((nI (mN ((m_into_29 (mSetN M 28 ((mN M 28) + 1)) (mN M 28) (nI 0) ((nI (mN M 20)) - (nI 1))).2) 20)) - (nI 1))).2) 19)).2) else (if 0 < ((m_into_31 ((m_into_30 ((m_into_29 (mSetN M 28 ((mN M 28) + 1)) (mN M 28) (nI 0) ((nI (mN M 20)) - (nI 1))).2) (mN M 28) (nI 0) ((nI (mN ((m_into_29 (mSetN M 28 ((mN M 28) + 1)) (mN M 28) (nI 0) ((nI (mN M 20)) - (nI 1))).2) 20)) - (nI 1))).2) (mN M 28) (nI 1) (nI 20)).1) then ((m_into_31 ((m_into_30 ((m_into_29 (mSetN M 28 ((mN M 28) + 1)) (mN M 28) (nI 0) ((nI (mN M 20)) - (nI 1))).2) (mN M 28) (nI 0) ((nI (mN ((m_into_29 (mSetN M 28 ((mN M 28) + 1)) (mN M 28) (nI 0) ((nI (mN M 20)) - (nI 1))).2) 20)) - (nI 1))).2) (mN M 28) (nI 1) (nI 20)).1, (m_into_31 ((m_into_30 ((m_into_29 (mSetN M 28 ((mN M 28) + 1)) (mN M 28) (nI 0) ((nI (mN M 20)) - (nI 1))).2) (mN M 28) (nI 0) ((nI (mN ((m_into_29 (mSetN M 28 ((mN M 28) + 1)) (mN M 28) (nI 0) ((nI (mN M 20)) - (nI 1))).2) 20)) - (nI 1))).2) (mN M 28) (nI 1) (nI 20)).2) else ((m_into_32 ((m_into_31 ((m_into_30 ((m_into_29 (mSetN M 28 ((mN M 28) + 1)) (mN M 28) (nI 0) ((nI (mN M 20)) - (nI 1))).2) (mN M 28) (nI 0) ((nI (mN ((m_into_29 (mSetN M 28 ((mN M 28) + 1)) (mN M 28) (nI 0) ((nI (mN M 20)) - (nI 1))).2) 20)) - (nI 1))).2) (mN M 28) (nI 1) (nI 20)).2) (mN M 28) (nI 1) (nI 20)).1, (m_into_32 ((m_into_31 ((m_into_30 ((m_into_29 (mSetN M 28 ((mN M 28) + 1)) (mN M 28) (nI 0) ((nI (mN M 20)) - (nI 1))).2) (mN M 28) (nI 0) ((nI (mN ((m_into_29 (mSetN M 28 ((mN M 28) + 1)) (mN M 28) (nI 0) ((nI (mN M 20)) - (nI 1))).2) 20)) - (nI 1))).2) (mN M 28) (nI 1) (nI 20)).2) (mN M 28) (nI 1) (nI 20)).2))) else ((m_into_30 ((m_into_29 (mSetN M 28 ((mN M 28) + 1)) (mN M 28) (nI 0) ((nI (mN M 20)) - (nI 1))).2) (mN M 28) (nI 0) ((nI (mN ((m_into_29 (mSetN M 28 ((mN M 28) + 1)) (mN M 28) (nI 0) ((nI (mN M 20)) - (nI 1))).2) 20)) - (nI 1))).1, (m_into_30 ((m_into_29 (mSetN M 28 ((mN M 28) + 1)) (mN M 28) (nI 0) ((nI (mN M 20)) - (nI 1))).2) (mN M 28) (nI 0) ((nI (mN ((m_into_29 (mSetN M 28 ((mN M 28) + 1)) (mN M 28) (nI 0) ((nI (mN M 20)) - (nI 1))).2) 20)) - (nI 1))).2))) := Classical.choose_spec m_takeRate_x M
theorem bX3_takeRate : nBV RX3 yX3_takeRate cX3_takeRate 3 (some .int) 0 := ⟨q863, qs26, q55, q864, by decide, by decide +kernel⟩
set_option maxRecDepth 100000 in
set_option maxHeartbeats 4000000 in
theorem t_m_takeRate (l : Launch) (D : va_G) (N0 : Nat) (kA : Nat → ClassId) (mb : Nat) (hs : hT) (M : MS) (n : Nat) (hn : mb + 28 < n)  (hx : mTx M) (h28 : mN M 28 < 8) : nE l yX3_takeRate cX3_takeRate 3 (some .int) D N0 kA 3 0 0 [.ref (N0 + mb)] (mH N0 mb kA hs M) n (nX (some (.int (nI ((m_takeRate M).1)))) (mH N0 mb kA hs ((m_takeRate M).2)) n) := by
  refine nE_of (by decide) (Nat.le_of_ble_eq_true rfl) ?_
  intro p e s m args below meth c hC hnm
  refine n_loc (L' := [(0, .ref (N0 + mb))]) rfl ?_
  refine n_aload_n hC dX3_takeRate_0 rfl ?_
  refine n_get hC cl3 (k := 28) (v := .int (nI (mN M 28))) mc_o (by omega) (by decide) q708 (mf_get N0 mb M (by decide)) dX3_takeRate_1 ?_
  refine n_istore_n (L' := [(0, .ref (N0 + mb)), (1, .int (nI (mN M 28)))]) hC dX3_takeRate_4 (by decide) rfl ?_
  refine n_aload_n hC dX3_takeRate_5 rfl ?_
  refine n_dup hC dX3_takeRate_6 rfl ?_
  refine n_get hC cl3 (k := 28) (v := .int (nI (mN M 28))) mc_o (by omega) (by decide) q708 (mf_get N0 mb M (by decide)) dX3_takeRate_7 ?_
  refine n_iconst (v := (nI 1)) hC dX3_takeRate_10 (by decide) ?_
  refine n_iaddN hC dX3_takeRate_11 ?_
  refine n_put hC cl3 (k := 28) mc_o (by omega) (by decide) q708 rfl rfl rfl (by rw [mf_len]; decide) dX3_takeRate_12 (mu_N (M := M) (k := 28) (by decide) rfl rfl) ?_
  have hx0 : mTx (mSetN M 28 (mN M 28 + 1)) := tx_o (by decide) (by decide) hx
  have ha := into_29_K (mN M 28) (nI 0) ((nI (mN M 20)) - (nI 1)) hx0
  have ha2 := ha.2
  refine n_aload_n hC dX3_takeRate_15 rfl ?_
  refine n_aload_n hC dX3_takeRate_16 rfl ?_
  refine n_get hC cl3 (k := 29) (v := .ref (N0 + (mb + 18))) mc_o (by omega) (by decide) q709 (mf_get N0 mb (mSetN M 28 ((mN M 28) + 1)) (by decide)) dX3_takeRate_17 ?_
  refine n_iload_n hC dX3_takeRate_20 rfl ?_
  refine n_iconst (v := (nI 0)) hC dX3_takeRate_21 (by decide) ?_
  refine n_aload_n hC dX3_takeRate_22 rfl ?_
  refine n_get hC cl3 (k := 20) (v := .int (nI (mN M 20))) mc_o (by omega) (by decide) q700 (mf_get N0 mb (mSetN M 28 ((mN M 28) + 1)) (by decide)) dX3_takeRate_23 ?_
  refine n_iconst (v := (nI 1)) hC dX3_takeRate_26 (by decide) ?_
  refine n_isub hC dX3_takeRate_27 ?_
  refine n_callV1 hC (As := [.ref (N0 + (mb + 18)), .int (nI (mN M 28)), .int (nI 0), .int ((nI (mN M 20)) - (nI 1))]) (rest := []) mc_o (by omega) rfl bX3_into (t_m_into_29 l D N0 kA mb hs (mSetN M 28 ((mN M 28) + 1)) n hn (mN M 28) (nI 0) ((nI (mN M 20)) - (nI 1)) hx0 (by omega)) (by decide) (by decide) q847 rfl (Nat.le_of_ble_eq_true rfl) dX3_takeRate_28 (Nat.le_of_ble_eq_true rfl) (Nat.le_of_ble_eq_true rfl) ?_
  refine n_stk (st' := [.int (nI ((m_into_29 (mSetN M 28 ((mN M 28) + 1)) (mN M 28) (nI 0) ((nI (mN M 20)) - (nI 1))).1))]) rfl ?_
  refine n_istore_n (L' := [(0, .ref (N0 + mb)), (1, .int (nI (mN M 28))), (2, .int (nI ((m_into_29 (mSetN M 28 ((mN M 28) + 1)) (mN M 28) (nI 0) ((nI (mN M 20)) - (nI 1))).1)))]) hC dX3_takeRate_31 (by decide) rfl ?_
  refine n_iload_n hC dX3_takeRate_32 rfl ?_
  refine n_if_leN (tgt := 40) hC (by omega) dX3_takeRate_33 (by decide) (fun c33 => ?_) (fun c33 => ?_)
  · refine n_aload_n hC dX3_takeRate_40 rfl ?_
    refine n_aload_n hC dX3_takeRate_41 rfl ?_
    refine n_get hC cl3 (k := 30) (v := .ref (N0 + (mb + 19))) mc_o (by omega) (by decide) q710 (mf_get N0 mb ((m_into_29 (mSetN M 28 ((mN M 28) + 1)) (mN M 28) (nI 0) ((nI (mN M 20)) - (nI 1))).2) (by decide)) dX3_takeRate_42 ?_
    refine n_iload_n hC dX3_takeRate_45 rfl ?_
    refine n_iconst (v := (nI 0)) hC dX3_takeRate_46 (by decide) ?_
    refine n_aload_n hC dX3_takeRate_47 rfl ?_
    refine n_get hC cl3 (k := 20) (v := .int (nI (mN ((m_into_29 (mSetN M 28 ((mN M 28) + 1)) (mN M 28) (nI 0) ((nI (mN M 20)) - (nI 1))).2) 20))) mc_o (by omega) (by decide) q700 (mf_get N0 mb ((m_into_29 (mSetN M 28 ((mN M 28) + 1)) (mN M 28) (nI 0) ((nI (mN M 20)) - (nI 1))).2) (by decide)) dX3_takeRate_48 ?_
    refine n_iconst (v := (nI 1)) hC dX3_takeRate_51 (by decide) ?_
    refine n_isub hC dX3_takeRate_52 ?_
    have hb := into_30_K (M := (m_into_29 (mSetN M 28 ((mN M 28) + 1)) (mN M 28) (nI 0) ((nI (mN M 20)) - (nI 1))).2) (mN M 28) (nI 0) ((nI (mN ((m_into_29 (mSetN M 28 ((mN M 28) + 1)) (mN M 28) (nI 0) ((nI (mN M 20)) - (nI 1))).2) 20)) - (nI 1)) ha.1.1
    have hb2 := hb.2
    refine n_callV1 hC (As := [.ref (N0 + (mb + 19)), .int (nI (mN M 28)), .int (nI 0), .int ((nI (mN ((m_into_29 (mSetN M 28 ((mN M 28) + 1)) (mN M 28) (nI 0) ((nI (mN M 20)) - (nI 1))).2) 20)) - (nI 1))]) (rest := []) mc_o (by omega) rfl bX3_into (t_m_into_30 l D N0 kA mb hs ((m_into_29 (mSetN M 28 ((mN M 28) + 1)) (mN M 28) (nI 0) ((nI (mN M 20)) - (nI 1))).2) n hn (mN M 28) (nI 0) ((nI (mN ((m_into_29 (mSetN M 28 ((mN M 28) + 1)) (mN M 28) (nI 0) ((nI (mN M 20)) - (nI 1))).2) 20)) - (nI 1)) ha.1.1 (by omega)) (by decide) (by decide) q847 rfl (Nat.le_of_ble_eq_true rfl) dX3_takeRate_53 (Nat.le_of_ble_eq_true rfl) (Nat.le_of_ble_eq_true rfl) ?_
    refine n_stk (st' := [.int (nI ((m_into_30 ((m_into_29 (mSetN M 28 ((mN M 28) + 1)) (mN M 28) (nI 0) ((nI (mN M 20)) - (nI 1))).2) (mN M 28) (nI 0) ((nI (mN ((m_into_29 (mSetN M 28 ((mN M 28) + 1)) (mN M 28) (nI 0) ((nI (mN M 20)) - (nI 1))).2) 20)) - (nI 1))).1))]) rfl ?_
    refine n_istore_n (L' := [(0, .ref (N0 + mb)), (1, .int (nI (mN M 28))), (2, .int (nI ((m_into_30 ((m_into_29 (mSetN M 28 ((mN M 28) + 1)) (mN M 28) (nI 0) ((nI (mN M 20)) - (nI 1))).2) (mN M 28) (nI 0) ((nI (mN ((m_into_29 (mSetN M 28 ((mN M 28) + 1)) (mN M 28) (nI 0) ((nI (mN M 20)) - (nI 1))).2) 20)) - (nI 1))).1)))]) hC dX3_takeRate_56 (by decide) rfl ?_
    refine n_iload_n hC dX3_takeRate_57 rfl ?_
    refine n_if_neN (tgt := 86) hC (by omega) dX3_takeRate_58 (by decide) (fun c58 => ?_) (fun c58 => ?_)
    · refine n_iload_n hC dX3_takeRate_86 rfl ?_
      refine n_if_leN (tgt := 94) hC (by omega) dX3_takeRate_87 (by decide) (fun c_ => False.elim (by omega)) (fun _ => ?_)
      refine n_iload_n hC dX3_takeRate_90 rfl ?_
      refine n_goto (tgt := 106) hC dX3_takeRate_91 (by decide) ?_
      refine n_istore_n (L' := [(0, .ref (N0 + mb)), (1, .int (nI (mN M 28))), (2, .int (nI ((m_into_30 ((m_into_29 (mSetN M 28 ((mN M 28) + 1)) (mN M 28) (nI 0) ((nI (mN M 20)) - (nI 1))).2) (mN M 28) (nI 0) ((nI (mN ((m_into_29 (mSetN M 28 ((mN M 28) + 1)) (mN M 28) (nI 0) ((nI (mN M 20)) - (nI 1))).2) 20)) - (nI 1))).1)))]) hC dX3_takeRate_106 (by decide) rfl ?_
      refine n_iload_n hC dX3_takeRate_107 rfl ?_
      refine n_if_leN (tgt := 115) hC (by omega) dX3_takeRate_108 (by decide) (fun c_ => False.elim (by omega)) (fun _ => ?_)
      refine n_iload_n hC dX3_takeRate_111 rfl ?_
      refine n_goto (tgt := 127) hC dX3_takeRate_112 (by decide) ?_
      have eq_ : m_takeRate M = ((m_into_30 ((m_into_29 (mSetN M 28 ((mN M 28) + 1)) (mN M 28) (nI 0) ((nI (mN M 20)) - (nI 1))).2) (mN M 28) (nI 0) ((nI (mN ((m_into_29 (mSetN M 28 ((mN M 28) + 1)) (mN M 28) (nI 0) ((nI (mN M 20)) - (nI 1))).2) 20)) - (nI 1))).1, (m_into_30 ((m_into_29 (mSetN M 28 ((mN M 28) + 1)) (mN M 28) (nI 0) ((nI (mN M 20)) - (nI 1))).2) (mN M 28) (nI 0) ((nI (mN ((m_into_29 (mSetN M 28 ((mN M 28) + 1)) (mN M 28) (nI 0) ((nI (mN M 20)) - (nI 1))).2) 20)) - (nI 1))).2) := by rw [m_takeRate_d, if_neg (by omega), if_neg c58]
      refine n_iret hC dX3_takeRate_127 (Nat.le_of_ble_eq_true rfl) (Nat.le_of_ble_eq_true rfl) ?_
      rw [eq_]
      dsimp only
      exact ⟨rfl, rfl, rfl⟩
    · refine n_aload_n hC dX3_takeRate_61 rfl ?_
      refine n_get hC cl3 (k := 29) (v := .ref (N0 + (mb + 18))) mc_o (by omega) (by decide) q709 (mf_get N0 mb ((m_into_30 ((m_into_29 (mSetN M 28 ((mN M 28) + 1)) (mN M 28) (nI 0) ((nI (mN M 20)) - (nI 1))).2) (mN M 28) (nI 0) ((nI (mN ((m_into_29 (mSetN M 28 ((mN M 28) + 1)) (mN M 28) (nI 0) ((nI (mN M 20)) - (nI 1))).2) 20)) - (nI 1))).2) (by decide)) dX3_takeRate_62 ?_
      refine n_iload_n hC dX3_takeRate_65 rfl ?_
      refine n_iald hC (f := fun j => nI (mB ((m_into_30 ((m_into_29 (mSetN M 28 ((mN M 28) + 1)) (mN M 28) (nI 0) ((nI (mN M 20)) - (nI 1))).2) (mN M 28) (nI 0) ((nI (mN ((m_into_29 (mSetN M 28 ((mN M 28) + 1)) (mN M 28) (nI 0) ((nI (mN M 20)) - (nI 1))).2) 20)) - (nI 1))).2) 29 j)) (mc_a (p := 18) (by decide) (by decide)) (by omega) (mN M 28) rfl (by omega) (by decide) dX3_takeRate_66 ?_
      refine n_aload_n hC dX3_takeRate_67 rfl ?_
      refine n_get hC cl3 (k := 30) (v := .ref (N0 + (mb + 19))) mc_o (by omega) (by decide) q710 (mf_get N0 mb ((m_into_30 ((m_into_29 (mSetN M 28 ((mN M 28) + 1)) (mN M 28) (nI 0) ((nI (mN M 20)) - (nI 1))).2) (mN M 28) (nI 0) ((nI (mN ((m_into_29 (mSetN M 28 ((mN M 28) + 1)) (mN M 28) (nI 0) ((nI (mN M 20)) - (nI 1))).2) 20)) - (nI 1))).2) (by decide)) dX3_takeRate_68 ?_
      refine n_iload_n hC dX3_takeRate_71 rfl ?_
      refine n_iald hC (f := fun j => nI (mB ((m_into_30 ((m_into_29 (mSetN M 28 ((mN M 28) + 1)) (mN M 28) (nI 0) ((nI (mN M 20)) - (nI 1))).2) (mN M 28) (nI 0) ((nI (mN ((m_into_29 (mSetN M 28 ((mN M 28) + 1)) (mN M 28) (nI 0) ((nI (mN M 20)) - (nI 1))).2) 20)) - (nI 1))).2) 30 j)) (mc_a (p := 19) (by decide) (by decide)) (by omega) (mN M 28) rfl (by omega) (by decide) dX3_takeRate_72 ?_
      refine n_icmp_ne (tgt := 86) hC dX3_takeRate_73 (by decide) (fun c73 => ?_) (fun c73 => ?_)
      · refine n_iload_n hC dX3_takeRate_86 rfl ?_
        refine n_if_leN (tgt := 94) hC (by omega) dX3_takeRate_87 (by decide) (fun _ => ?_) (fun c_ => False.elim (by omega))
        refine n_aload_n hC dX3_takeRate_94 rfl ?_
        refine n_aload_n hC dX3_takeRate_95 rfl ?_
        refine n_get hC cl3 (k := 31) (v := .ref (N0 + (mb + 20))) mc_o (by omega) (by decide) q711 (mf_get N0 mb ((m_into_30 ((m_into_29 (mSetN M 28 ((mN M 28) + 1)) (mN M 28) (nI 0) ((nI (mN M 20)) - (nI 1))).2) (mN M 28) (nI 0) ((nI (mN ((m_into_29 (mSetN M 28 ((mN M 28) + 1)) (mN M 28) (nI 0) ((nI (mN M 20)) - (nI 1))).2) 20)) - (nI 1))).2) (by decide)) dX3_takeRate_96 ?_
        refine n_iload_n hC dX3_takeRate_99 rfl ?_
        refine n_iconst (v := (nI 1)) hC dX3_takeRate_100 (by decide) ?_
        refine n_bipush (v := (nI 20)) hC dX3_takeRate_101 (by decide) ?_
        have he := into_31_K (M := (m_into_30 ((m_into_29 (mSetN M 28 ((mN M 28) + 1)) (mN M 28) (nI 0) ((nI (mN M 20)) - (nI 1))).2) (mN M 28) (nI 0) ((nI (mN ((m_into_29 (mSetN M 28 ((mN M 28) + 1)) (mN M 28) (nI 0) ((nI (mN M 20)) - (nI 1))).2) 20)) - (nI 1))).2) (mN M 28) (nI 1) (nI 20) hb.1.1
        have he2 := he.2
        refine n_callV1 hC (As := [.ref (N0 + (mb + 20)), .int (nI (mN M 28)), .int (nI 1), .int (nI 20)]) (rest := []) mc_o (by omega) rfl bX3_into (t_m_into_31 l D N0 kA mb hs ((m_into_30 ((m_into_29 (mSetN M 28 ((mN M 28) + 1)) (mN M 28) (nI 0) ((nI (mN M 20)) - (nI 1))).2) (mN M 28) (nI 0) ((nI (mN ((m_into_29 (mSetN M 28 ((mN M 28) + 1)) (mN M 28) (nI 0) ((nI (mN M 20)) - (nI 1))).2) 20)) - (nI 1))).2) n hn (mN M 28) (nI 1) (nI 20) (by first | exact hb.1.1 | exact ha.1.1) (by omega)) (by decide) (by decide) q847 rfl (Nat.le_of_ble_eq_true rfl) dX3_takeRate_103 (Nat.le_of_ble_eq_true rfl) (Nat.le_of_ble_eq_true rfl) ?_
        refine n_stk (st' := [.int (nI ((m_into_31 ((m_into_30 ((m_into_29 (mSetN M 28 ((mN M 28) + 1)) (mN M 28) (nI 0) ((nI (mN M 20)) - (nI 1))).2) (mN M 28) (nI 0) ((nI (mN ((m_into_29 (mSetN M 28 ((mN M 28) + 1)) (mN M 28) (nI 0) ((nI (mN M 20)) - (nI 1))).2) 20)) - (nI 1))).2) (mN M 28) (nI 1) (nI 20)).1))]) rfl ?_
        refine n_istore_n (L' := [(0, .ref (N0 + mb)), (1, .int (nI (mN M 28))), (2, .int (nI ((m_into_31 ((m_into_30 ((m_into_29 (mSetN M 28 ((mN M 28) + 1)) (mN M 28) (nI 0) ((nI (mN M 20)) - (nI 1))).2) (mN M 28) (nI 0) ((nI (mN ((m_into_29 (mSetN M 28 ((mN M 28) + 1)) (mN M 28) (nI 0) ((nI (mN M 20)) - (nI 1))).2) 20)) - (nI 1))).2) (mN M 28) (nI 1) (nI 20)).1)))]) hC dX3_takeRate_106 (by decide) rfl ?_
        refine n_iload_n hC dX3_takeRate_107 rfl ?_
        refine n_if_leN (tgt := 115) hC (by omega) dX3_takeRate_108 (by decide) (fun c108 => ?_) (fun c108 => ?_)
        · refine n_aload_n hC dX3_takeRate_115 rfl ?_
          refine n_aload_n hC dX3_takeRate_116 rfl ?_
          refine n_get hC cl3 (k := 32) (v := .ref (N0 + (mb + 21))) mc_o (by omega) (by decide) q712 (mf_get N0 mb ((m_into_31 ((m_into_30 ((m_into_29 (mSetN M 28 ((mN M 28) + 1)) (mN M 28) (nI 0) ((nI (mN M 20)) - (nI 1))).2) (mN M 28) (nI 0) ((nI (mN ((m_into_29 (mSetN M 28 ((mN M 28) + 1)) (mN M 28) (nI 0) ((nI (mN M 20)) - (nI 1))).2) 20)) - (nI 1))).2) (mN M 28) (nI 1) (nI 20)).2) (by decide)) dX3_takeRate_117 ?_
          refine n_iload_n hC dX3_takeRate_120 rfl ?_
          refine n_iconst (v := (nI 1)) hC dX3_takeRate_121 (by decide) ?_
          refine n_bipush (v := (nI 20)) hC dX3_takeRate_122 (by decide) ?_
          refine n_callV1 hC (As := [.ref (N0 + (mb + 21)), .int (nI (mN M 28)), .int (nI 1), .int (nI 20)]) (rest := []) mc_o (by omega) rfl bX3_into (t_m_into_32 l D N0 kA mb hs ((m_into_31 ((m_into_30 ((m_into_29 (mSetN M 28 ((mN M 28) + 1)) (mN M 28) (nI 0) ((nI (mN M 20)) - (nI 1))).2) (mN M 28) (nI 0) ((nI (mN ((m_into_29 (mSetN M 28 ((mN M 28) + 1)) (mN M 28) (nI 0) ((nI (mN M 20)) - (nI 1))).2) 20)) - (nI 1))).2) (mN M 28) (nI 1) (nI 20)).2) n hn (mN M 28) (nI 1) (nI 20) (by first | exact he.1.1 | exact hb.1.1 | exact ha.1.1) (by omega)) (by decide) (by decide) q847 rfl (Nat.le_of_ble_eq_true rfl) dX3_takeRate_124 (Nat.le_of_ble_eq_true rfl) (Nat.le_of_ble_eq_true rfl) ?_
          refine n_stk (st' := [.int (nI ((m_into_32 ((m_into_31 ((m_into_30 ((m_into_29 (mSetN M 28 ((mN M 28) + 1)) (mN M 28) (nI 0) ((nI (mN M 20)) - (nI 1))).2) (mN M 28) (nI 0) ((nI (mN ((m_into_29 (mSetN M 28 ((mN M 28) + 1)) (mN M 28) (nI 0) ((nI (mN M 20)) - (nI 1))).2) 20)) - (nI 1))).2) (mN M 28) (nI 1) (nI 20)).2) (mN M 28) (nI 1) (nI 20)).1))]) rfl ?_
          have eq_ : m_takeRate M = ((m_into_32 ((m_into_31 ((m_into_30 ((m_into_29 (mSetN M 28 ((mN M 28) + 1)) (mN M 28) (nI 0) ((nI (mN M 20)) - (nI 1))).2) (mN M 28) (nI 0) ((nI (mN ((m_into_29 (mSetN M 28 ((mN M 28) + 1)) (mN M 28) (nI 0) ((nI (mN M 20)) - (nI 1))).2) 20)) - (nI 1))).2) (mN M 28) (nI 1) (nI 20)).2) (mN M 28) (nI 1) (nI 20)).1, (m_into_32 ((m_into_31 ((m_into_30 ((m_into_29 (mSetN M 28 ((mN M 28) + 1)) (mN M 28) (nI 0) ((nI (mN M 20)) - (nI 1))).2) (mN M 28) (nI 0) ((nI (mN ((m_into_29 (mSetN M 28 ((mN M 28) + 1)) (mN M 28) (nI 0) ((nI (mN M 20)) - (nI 1))).2) 20)) - (nI 1))).2) (mN M 28) (nI 1) (nI 20)).2) (mN M 28) (nI 1) (nI 20)).2) := by rw [m_takeRate_d, if_neg (by omega), if_pos c58, if_neg c73, if_neg (by omega)]
          refine n_iret hC dX3_takeRate_127 (Nat.le_of_ble_eq_true rfl) (Nat.le_of_ble_eq_true rfl) ?_
          rw [eq_]
          dsimp only
          exact ⟨rfl, rfl, rfl⟩
        · refine n_iload_n hC dX3_takeRate_111 rfl ?_
          refine n_goto (tgt := 127) hC dX3_takeRate_112 (by decide) ?_
          have eq_ : m_takeRate M = ((m_into_31 ((m_into_30 ((m_into_29 (mSetN M 28 ((mN M 28) + 1)) (mN M 28) (nI 0) ((nI (mN M 20)) - (nI 1))).2) (mN M 28) (nI 0) ((nI (mN ((m_into_29 (mSetN M 28 ((mN M 28) + 1)) (mN M 28) (nI 0) ((nI (mN M 20)) - (nI 1))).2) 20)) - (nI 1))).2) (mN M 28) (nI 1) (nI 20)).1, (m_into_31 ((m_into_30 ((m_into_29 (mSetN M 28 ((mN M 28) + 1)) (mN M 28) (nI 0) ((nI (mN M 20)) - (nI 1))).2) (mN M 28) (nI 0) ((nI (mN ((m_into_29 (mSetN M 28 ((mN M 28) + 1)) (mN M 28) (nI 0) ((nI (mN M 20)) - (nI 1))).2) 20)) - (nI 1))).2) (mN M 28) (nI 1) (nI 20)).2) := by rw [m_takeRate_d, if_neg (by omega), if_pos c58, if_neg c73, if_pos c108]
          refine n_iret hC dX3_takeRate_127 (Nat.le_of_ble_eq_true rfl) (Nat.le_of_ble_eq_true rfl) ?_
          rw [eq_]
          dsimp only
          exact ⟨rfl, rfl, rfl⟩
      · refine n_aload_n hC dX3_takeRate_76 rfl ?_
        refine n_iconst (v := (nI 4)) hC dX3_takeRate_77 (by decide) ?_
        refine n_aload_n hC dX3_takeRate_78 rfl ?_
        refine n_get hC cl3 (k := 19) (v := .int (nI (mN ((m_into_30 ((m_into_29 (mSetN M 28 ((mN M 28) + 1)) (mN M 28) (nI 0) ((nI (mN M 20)) - (nI 1))).2) (mN M 28) (nI 0) ((nI (mN ((m_into_29 (mSetN M 28 ((mN M 28) + 1)) (mN M 28) (nI 0) ((nI (mN M 20)) - (nI 1))).2) 20)) - (nI 1))).2) 19))) mc_o (by omega) (by decide) q699 (mf_get N0 mb ((m_into_30 ((m_into_29 (mSetN M 28 ((mN M 28) + 1)) (mN M 28) (nI 0) ((nI (mN M 20)) - (nI 1))).2) (mN M 28) (nI 0) ((nI (mN ((m_into_29 (mSetN M 28 ((mN M 28) + 1)) (mN M 28) (nI 0) ((nI (mN M 20)) - (nI 1))).2) 20)) - (nI 1))).2) (by decide)) dX3_takeRate_79 ?_
        refine n_callV1 hC (As := [.int (nI 4), .int (nI (mN ((m_into_30 ((m_into_29 (mSetN M 28 ((mN M 28) + 1)) (mN M 28) (nI 0) ((nI (mN M 20)) - (nI 1))).2) (mN M 28) (nI 0) ((nI (mN ((m_into_29 (mSetN M 28 ((mN M 28) + 1)) (mN M 28) (nI 0) ((nI (mN M 20)) - (nI 1))).2) 20)) - (nI 1))).2) 19))]) (rest := []) mc_o (by omega) rfl bX3_fails (t_m_fails l D N0 kA mb hs ((m_into_30 ((m_into_29 (mSetN M 28 ((mN M 28) + 1)) (mN M 28) (nI 0) ((nI (mN M 20)) - (nI 1))).2) (mN M 28) (nI 0) ((nI (mN ((m_into_29 (mSetN M 28 ((mN M 28) + 1)) (mN M 28) (nI 0) ((nI (mN M 20)) - (nI 1))).2) 20)) - (nI 1))).2) n hn 4 (mN ((m_into_30 ((m_into_29 (mSetN M 28 ((mN M 28) + 1)) (mN M 28) (nI 0) ((nI (mN M 20)) - (nI 1))).2) (mN M 28) (nI 0) ((nI (mN ((m_into_29 (mSetN M 28 ((mN M 28) + 1)) (mN M 28) (nI 0) ((nI (mN M 20)) - (nI 1))).2) 20)) - (nI 1))).2) 19) ) (by decide) (by decide) q839 rfl (Nat.le_of_ble_eq_true rfl) dX3_takeRate_82 (Nat.le_of_ble_eq_true rfl) (Nat.le_of_ble_eq_true rfl) ?_
        refine n_stk (st' := [.int (nI ((m_fails ((m_into_30 ((m_into_29 (mSetN M 28 ((mN M 28) + 1)) (mN M 28) (nI 0) ((nI (mN M 20)) - (nI 1))).2) (mN M 28) (nI 0) ((nI (mN ((m_into_29 (mSetN M 28 ((mN M 28) + 1)) (mN M 28) (nI 0) ((nI (mN M 20)) - (nI 1))).2) 20)) - (nI 1))).2) 4 (mN ((m_into_30 ((m_into_29 (mSetN M 28 ((mN M 28) + 1)) (mN M 28) (nI 0) ((nI (mN M 20)) - (nI 1))).2) (mN M 28) (nI 0) ((nI (mN ((m_into_29 (mSetN M 28 ((mN M 28) + 1)) (mN M 28) (nI 0) ((nI (mN M 20)) - (nI 1))).2) 20)) - (nI 1))).2) 19)).1))]) rfl ?_
        have eq_ : m_takeRate M = ((m_fails ((m_into_30 ((m_into_29 (mSetN M 28 ((mN M 28) + 1)) (mN M 28) (nI 0) ((nI (mN M 20)) - (nI 1))).2) (mN M 28) (nI 0) ((nI (mN ((m_into_29 (mSetN M 28 ((mN M 28) + 1)) (mN M 28) (nI 0) ((nI (mN M 20)) - (nI 1))).2) 20)) - (nI 1))).2) 4 (mN ((m_into_30 ((m_into_29 (mSetN M 28 ((mN M 28) + 1)) (mN M 28) (nI 0) ((nI (mN M 20)) - (nI 1))).2) (mN M 28) (nI 0) ((nI (mN ((m_into_29 (mSetN M 28 ((mN M 28) + 1)) (mN M 28) (nI 0) ((nI (mN M 20)) - (nI 1))).2) 20)) - (nI 1))).2) 19)).1, (m_fails ((m_into_30 ((m_into_29 (mSetN M 28 ((mN M 28) + 1)) (mN M 28) (nI 0) ((nI (mN M 20)) - (nI 1))).2) (mN M 28) (nI 0) ((nI (mN ((m_into_29 (mSetN M 28 ((mN M 28) + 1)) (mN M 28) (nI 0) ((nI (mN M 20)) - (nI 1))).2) 20)) - (nI 1))).2) 4 (mN ((m_into_30 ((m_into_29 (mSetN M 28 ((mN M 28) + 1)) (mN M 28) (nI 0) ((nI (mN M 20)) - (nI 1))).2) (mN M 28) (nI 0) ((nI (mN ((m_into_29 (mSetN M 28 ((mN M 28) + 1)) (mN M 28) (nI 0) ((nI (mN M 20)) - (nI 1))).2) 20)) - (nI 1))).2) 19)).2) := by rw [m_takeRate_d, if_neg (by omega), if_pos c58, if_pos c73]
        refine n_iret hC dX3_takeRate_85 (Nat.le_of_ble_eq_true rfl) (Nat.le_of_ble_eq_true rfl) ?_
        rw [eq_]
        dsimp only
        exact ⟨rfl, rfl, rfl⟩
  · refine n_iload_n hC dX3_takeRate_36 rfl ?_
    refine n_goto (tgt := 56) hC dX3_takeRate_37 (by decide) ?_
    refine n_istore_n (L' := [(0, .ref (N0 + mb)), (1, .int (nI (mN M 28))), (2, .int (nI ((m_into_29 (mSetN M 28 ((mN M 28) + 1)) (mN M 28) (nI 0) ((nI (mN M 20)) - (nI 1))).1)))]) hC dX3_takeRate_56 (by decide) rfl ?_
    refine n_iload_n hC dX3_takeRate_57 rfl ?_
    refine n_if_neN (tgt := 86) hC (by omega) dX3_takeRate_58 (by decide) (fun _ => ?_) (fun c_ => False.elim (by omega))
    refine n_iload_n hC dX3_takeRate_86 rfl ?_
    refine n_if_leN (tgt := 94) hC (by omega) dX3_takeRate_87 (by decide) (fun c_ => False.elim (by omega)) (fun _ => ?_)
    refine n_iload_n hC dX3_takeRate_90 rfl ?_
    refine n_goto (tgt := 106) hC dX3_takeRate_91 (by decide) ?_
    refine n_istore_n (L' := [(0, .ref (N0 + mb)), (1, .int (nI (mN M 28))), (2, .int (nI ((m_into_29 (mSetN M 28 ((mN M 28) + 1)) (mN M 28) (nI 0) ((nI (mN M 20)) - (nI 1))).1)))]) hC dX3_takeRate_106 (by decide) rfl ?_
    refine n_iload_n hC dX3_takeRate_107 rfl ?_
    refine n_if_leN (tgt := 115) hC (by omega) dX3_takeRate_108 (by decide) (fun c_ => False.elim (by omega)) (fun _ => ?_)
    refine n_iload_n hC dX3_takeRate_111 rfl ?_
    refine n_goto (tgt := 127) hC dX3_takeRate_112 (by decide) ?_
    have eq_ : m_takeRate M = ((m_into_29 (mSetN M 28 ((mN M 28) + 1)) (mN M 28) (nI 0) ((nI (mN M 20)) - (nI 1))).1, (m_into_29 (mSetN M 28 ((mN M 28) + 1)) (mN M 28) (nI 0) ((nI (mN M 20)) - (nI 1))).2) := by rw [m_takeRate_d, if_pos c33]
    refine n_iret hC dX3_takeRate_127 (Nat.le_of_ble_eq_true rfl) (Nat.le_of_ble_eq_true rfl) ?_
    rw [eq_]
    dsimp only
    exact ⟨rfl, rfl, rfl⟩
theorem num_lt {M : MS} {z : Nat} (hx : mTx M) (hz : z ≤ 6) (h : (m_takeNumber M (nI 0) ((nI z) - (nI 1))).1 = 0) : mN (m_takeNumber M (nI 0) ((nI z) - (nI 1))).2 18 < z := by
  obtain ⟨h1, h2⟩ := (num_K (nI 0) ((nI z) - (nI 1)) hx).2.2 h
  have h3 := (in_nat (by omega)).mp (show m_in _ 0 _ = true from h2)
  rw [cl_nI (by omega)] at h3
  exact h3.2
noncomputable def m_takeHeir_b (M : MS) : Nat × MS := (if ((m_takeNumber M (nI 0) ((nI (mN M 20)) - (nI 1))).1) = 0 then (if (mA ((m_takeNumber M (nI 0) ((nI (mN M 20)) - (nI 1))).2) 23 (mN ((m_takeNumber M (nI 0) ((nI (mN M 20)) - (nI 1))).2) 18)) < 0 then (if ((m_takeNumber ((m_takeNumber M (nI 0) ((nI (mN M 20)) - (nI 1))).2) (nI 0) ((nI (mN ((m_takeNumber M (nI 0) ((nI (mN M 20)) - (nI 1))).2) 20)) - (nI 1))).1) = 0 then (if (nI (mN ((m_takeNumber ((m_takeNumber M (nI 0) ((nI (mN M 20)) - (nI 1))).2) (nI 0) ((nI (mN ((m_takeNumber M (nI 0) ((nI (mN M 20)) - (nI 1))).2) 20)) - (nI 1))).2) 18)) = (nI (mN ((m_takeNumber M (nI 0) ((nI (mN M 20)) - (nI 1))).2) 18)) then ((m_fails ((m_takeNumber ((m_takeNumber M (nI 0) ((nI (mN M 20)) - (nI 1))).2) (nI 0) ((nI (mN ((m_takeNumber M (nI 0) ((nI (mN M 20)) - (nI 1))).2) 20)) - (nI 1))).2) 4 (mN ((m_takeNumber ((m_takeNumber M (nI 0) ((nI (mN M 20)) - (nI 1))).2) (nI 0) ((nI (mN ((m_takeNumber M (nI 0) ((nI (mN M 20)) - (nI 1))).2) 20)) - (nI 1))).2) 19)).1, (m_fails ((m_takeNumber ((m_takeNumber M (nI 0) ((nI (mN M 20)) - (nI 1))).2) (nI 0) ((nI (mN ((m_takeNumber M (nI 0) ((nI (mN M 20)) - (nI 1))).2) 20)) - (nI 1))).2) 4 (mN ((m_takeNumber ((m_takeNumber M (nI 0) ((nI (mN M 20)) - (nI 1))).2) (nI 0) ((nI (mN ((m_takeNumber M (nI 0) ((nI (mN M 20)) - (nI 1))).2) 20)) - (nI 1))).2) 19)).2) else ((m_takeNumber ((m_takeNumber M (nI 0) ((nI (mN M 20)) - (nI 1))).2) (nI 0) ((nI (mN ((m_takeNumber M (nI 0) ((nI (mN M 20)) - (nI 1))).2) 20)) - (nI 1))).1, mSetA ((m_takeNumber ((m_takeNumber M (nI 0) ((nI (mN M 20)) - (nI 1))).2) (nI 0) ((nI (mN ((m_takeNumber M (nI 0) ((nI (mN M 20)) - (nI 1))).2) 20)) - (nI 1))).2) 23 (mN ((m_takeNumber M (nI 0) ((nI (mN M 20)) - (nI 1))).2) 18) (nI (mN ((m_takeNumber ((m_takeNumber M (nI 0) ((nI (mN M 20)) - (nI 1))).2) (nI 0) ((nI (mN ((m_takeNumber M (nI 0) ((nI (mN M 20)) - (nI 1))).2) 20)) - (nI 1))).2) 18)))) else ((m_takeNumber ((m_takeNumber M (nI 0) ((nI (mN M 20)) - (nI 1))).2) (nI 0) ((nI (mN ((m_takeNumber M (nI 0) ((nI (mN M 20)) - (nI 1))).2) 20)) - (nI 1))).1, (m_takeNumber ((m_takeNumber M (nI 0) ((nI (mN M 20)) - (nI 1))).2) (nI 0) ((nI (mN ((m_takeNumber M (nI 0) ((nI (mN M 20)) - (nI 1))).2) 20)) - (nI 1))).2)) else ((m_fails ((m_takeNumber M (nI 0) ((nI (mN M 20)) - (nI 1))).2) 4 (mN ((m_takeNumber M (nI 0) ((nI (mN M 20)) - (nI 1))).2) 19)).1, (m_fails ((m_takeNumber M (nI 0) ((nI (mN M 20)) - (nI 1))).2) 4 (mN ((m_takeNumber M (nI 0) ((nI (mN M 20)) - (nI 1))).2) 19)).2)) else ((m_takeNumber M (nI 0) ((nI (mN M 20)) - (nI 1))).1, (m_takeNumber M (nI 0) ((nI (mN M 20)) - (nI 1))).2))
theorem m_takeHeir_x : ∃ f : MS → Nat × MS, ∀ (M : MS) , f M = m_takeHeir_b M := ⟨m_takeHeir_b, fun M => rfl⟩
noncomputable def m_takeHeir : MS → Nat × MS := Classical.choose m_takeHeir_x
theorem m_takeHeir_d (M : MS)  : m_takeHeir M = (if ((m_takeNumber M (nI 0) ((nI (mN M 20)) - (nI 1))).1) = 0 then (if (mA ((m_takeNumber M (nI 0) ((nI (mN M 20)) - (nI 1))).2) 23 (mN ((m_takeNumber M (nI 0) ((nI (mN M 20)) - (nI 1))).2) 18)) < 0 then (if ((m_takeNumber ((m_takeNumber M (nI 0) ((nI (mN M 20)) - (nI 1))).2) (nI 0) ((nI (mN ((m_takeNumber M (nI 0) ((nI (mN M 20)) - (nI 1))).2) 20)) - (nI 1))).1) = 0 then (if (nI (mN ((m_takeNumber ((m_takeNumber M (nI 0) ((nI (mN M 20)) - (nI 1))).2) (nI 0) ((nI (mN ((m_takeNumber M (nI 0) ((nI (mN M 20)) - (nI 1))).2) 20)) - (nI 1))).2) 18)) = (nI (mN ((m_takeNumber M (nI 0) ((nI (mN M 20)) - (nI 1))).2) 18)) then ((m_fails ((m_takeNumber ((m_takeNumber M (nI 0) ((nI (mN M 20)) - (nI 1))).2) (nI 0) ((nI (mN ((m_takeNumber M (nI 0) ((nI (mN M 20)) - (nI 1))).2) 20)) - (nI 1))).2) 4 (mN ((m_takeNumber ((m_takeNumber M (nI 0) ((nI (mN M 20)) - (nI 1))).2) (nI 0) ((nI (mN ((m_takeNumber M (nI 0) ((nI (mN M 20)) - (nI 1))).2) 20)) - (nI 1))).2) 19)).1, (m_fails ((m_takeNumber ((m_takeNumber M (nI 0) ((nI (mN M 20)) - (nI 1))).2) (nI 0) ((nI (mN ((m_takeNumber M (nI 0) ((nI (mN M 20)) - (nI 1))).2) 20)) - (nI 1))).2) 4 (mN ((m_takeNumber ((m_takeNumber M (nI 0) ((nI (mN M 20)) - (nI 1))).2) (nI 0) ((nI (mN ((m_takeNumber M (nI 0) ((nI (mN M 20)) - (nI 1))).2) 20)) - (nI 1))).2) 19)).2) else ((m_takeNumber ((m_takeNumber M (nI 0) ((nI (mN M 20)) - (nI 1))).2) (nI 0) ((nI (mN ((m_takeNumber M (nI 0) ((nI (mN M 20)) - (nI 1))).2) 20)) - (nI 1))).1, mSetA ((m_takeNumber ((m_takeNumber M (nI 0) ((nI (mN M 20)) - (nI 1))).2) (nI 0) ((nI (mN ((m_takeNumber M (nI 0) ((nI (mN M 20)) - (nI 1))).2) 20)) - (nI 1))).2) 23 (mN ((m_takeNumber M (nI 0) ((nI (mN M 20)) - (nI 1))).2) 18) (nI (mN ((m_takeNumber ((m_takeNumber M (nI 0) ((nI (mN M 20)) - (nI 1))).2) (nI 0) ((nI (mN ((m_takeNumber M (nI 0) ((nI (mN M 20)) - (nI 1))).2) 20)) - (nI 1))).2) 18)))) else ((m_takeNumber ((m_takeNumber M (nI 0) ((nI (mN M 20)) - (nI 1))).2) (nI 0) ((nI (mN ((m_takeNumber M (nI 0) ((nI (mN M 20)) - (nI 1))).2) 20)) - (nI 1))).1, (m_takeNumber ((m_takeNumber M (nI 0) ((nI (mN M 20)) - (nI 1))).2) (nI 0) ((nI (mN ((m_takeNumber M (nI 0) ((nI (mN M 20)) - (nI 1))).2) 20)) - (nI 1))).2)) else ((m_fails ((m_takeNumber M (nI 0) ((nI (mN M 20)) - (nI 1))).2) 4 (mN ((m_takeNumber M (nI 0) ((nI (mN M 20)) - (nI 1))).2) 19)).1, (m_fails ((m_takeNumber M (nI 0) ((nI (mN M 20)) - (nI 1))).2) 4 (mN ((m_takeNumber M (nI 0) ((nI (mN M 20)) - (nI 1))).2) 19)).2)) else ((m_takeNumber M (nI 0) ((nI (mN M 20)) - (nI 1))).1, (m_takeNumber M (nI 0) ((nI (mN M 20)) - (nI 1))).2)) := Classical.choose_spec m_takeHeir_x M
theorem bX3_takeHeir : nBV RX3 yX3_takeHeir cX3_takeHeir 3 (some .int) 0 := ⟨q867, qs27, q55, q868, by decide, by decide +kernel⟩
set_option maxRecDepth 100000 in
set_option maxHeartbeats 4000000 in
theorem t_m_takeHeir (l : Launch) (D : va_G) (N0 : Nat) (kA : Nat → ClassId) (mb : Nat) (hs : hT) (M : MS) (n : Nat) (hn : mb + 28 < n)  (hx : mTx M) (h20 : mN M 20 ≤ 6) : nE l yX3_takeHeir cX3_takeHeir 3 (some .int) D N0 kA 2 0 0 [.ref (N0 + mb)] (mH N0 mb kA hs M) n (nX (some (.int (nI ((m_takeHeir M).1)))) (mH N0 mb kA hs ((m_takeHeir M).2)) n) := by
  refine nE_of (by decide) (Nat.le_of_ble_eq_true rfl) ?_
  intro p e s m args below meth c hC hnm
  refine n_loc (L' := [(0, .ref (N0 + mb))]) rfl ?_
  refine n_aload_n hC dX3_takeHeir_0 rfl ?_
  refine n_iconst (v := (nI 0)) hC dX3_takeHeir_1 (by decide) ?_
  refine n_aload_n hC dX3_takeHeir_2 rfl ?_
  refine n_get hC cl3 (k := 20) (v := .int (nI (mN M 20))) mc_o (by omega) (by decide) q700 (mf_get N0 mb M (by decide)) dX3_takeHeir_3 ?_
  refine n_iconst (v := (nI 1)) hC dX3_takeHeir_6 (by decide) ?_
  refine n_isub hC dX3_takeHeir_7 ?_
  refine n_callV1 hC (As := [.int (nI 0), .int ((nI (mN M 20)) - (nI 1))]) (rest := []) mc_o (by omega) rfl bX3_takeNumber (t_m_takeNumber l D N0 kA mb hs M n hn (nI 0) ((nI (mN M 20)) - (nI 1)) hx) (by decide) (by decide) q851 rfl (Nat.le_of_ble_eq_true rfl) dX3_takeHeir_8 (Nat.le_of_ble_eq_true rfl) (Nat.le_of_ble_eq_true rfl) ?_
  refine n_stk (st' := [.int (nI ((m_takeNumber M (nI 0) ((nI (mN M 20)) - (nI 1))).1))]) rfl ?_
  have ha := num_K (nI 0) ((nI (mN M 20)) - (nI 1)) hx
  have ha2 := ha.2.1
  have hat := ha.1.kS.1
  refine n_istore_n (L' := [(0, .ref (N0 + mb)), (1, .int (nI ((m_takeNumber M (nI 0) ((nI (mN M 20)) - (nI 1))).1)))]) hC dX3_takeHeir_11 (by decide) rfl ?_
  refine n_aload_n hC dX3_takeHeir_12 rfl ?_
  refine n_get hC cl3 (k := 18) (v := .int (nI (mN ((m_takeNumber M (nI 0) ((nI (mN M 20)) - (nI 1))).2) 18))) mc_o (by omega) (by decide) q698 (mf_get N0 mb ((m_takeNumber M (nI 0) ((nI (mN M 20)) - (nI 1))).2) (by decide)) dX3_takeHeir_13 ?_
  refine n_istore_n (L' := [(0, .ref (N0 + mb)), (1, .int (nI ((m_takeNumber M (nI 0) ((nI (mN M 20)) - (nI 1))).1))), (2, .int (nI (mN ((m_takeNumber M (nI 0) ((nI (mN M 20)) - (nI 1))).2) 18)))]) hC dX3_takeHeir_16 (by decide) rfl ?_
  refine n_iload_n hC dX3_takeHeir_17 rfl ?_
  refine n_if_neN (tgt := 40) hC (by omega) dX3_takeHeir_18 (by decide) (fun c18 => ?_) (fun c18 => ?_)
  · refine n_iload_n hC dX3_takeHeir_40 rfl ?_
    refine n_if_leN (tgt := 48) hC (by omega) dX3_takeHeir_41 (by decide) (fun c_ => False.elim (by omega)) (fun _ => ?_)
    refine n_iload_n hC dX3_takeHeir_44 rfl ?_
    refine n_goto (tgt := 59) hC dX3_takeHeir_45 (by decide) ?_
    refine n_istore_n (L' := [(0, .ref (N0 + mb)), (1, .int (nI ((m_takeNumber M (nI 0) ((nI (mN M 20)) - (nI 1))).1))), (2, .int (nI (mN ((m_takeNumber M (nI 0) ((nI (mN M 20)) - (nI 1))).2) 18)))]) hC dX3_takeHeir_59 (by decide) rfl ?_
    refine n_iload_n hC dX3_takeHeir_60 rfl ?_
    refine n_if_neN (tgt := 82) hC (by omega) dX3_takeHeir_61 (by decide) (fun _ => ?_) (fun c_ => False.elim (by omega))
    refine n_iload_n hC dX3_takeHeir_82 rfl ?_
    refine n_if_neN (tgt := 96) hC (by omega) dX3_takeHeir_83 (by decide) (fun _ => ?_) (fun c_ => False.elim (by omega))
    refine n_iload_n hC dX3_takeHeir_96 rfl ?_
    have eq_ : m_takeHeir M = ((m_takeNumber M (nI 0) ((nI (mN M 20)) - (nI 1))).1, (m_takeNumber M (nI 0) ((nI (mN M 20)) - (nI 1))).2) := by rw [m_takeHeir_d, if_neg c18]
    refine n_iret hC dX3_takeHeir_97 (Nat.le_of_ble_eq_true rfl) (Nat.le_of_ble_eq_true rfl) ?_
    rw [eq_]
    dsimp only
    exact ⟨rfl, rfl, rfl⟩
  · have hk := num_lt hx h20 c18
    refine n_aload_n hC dX3_takeHeir_21 rfl ?_
    refine n_get hC cl3 (k := 23) (v := .ref (N0 + (mb + 14))) mc_o (by omega) (by decide) q703 (mf_get N0 mb ((m_takeNumber M (nI 0) ((nI (mN M 20)) - (nI 1))).2) (by decide)) dX3_takeHeir_22 ?_
    refine n_iload_n hC dX3_takeHeir_25 rfl ?_
    refine n_iald hC (f := mA ((m_takeNumber M (nI 0) ((nI (mN M 20)) - (nI 1))).2) 23) (mc_a (p := 14) (by decide) (by decide)) (by omega) (mN ((m_takeNumber M (nI 0) ((nI (mN M 20)) - (nI 1))).2) 18) rfl (by omega) (by decide) dX3_takeHeir_26 ?_
    refine n_if_lt (tgt := 40) hC dX3_takeHeir_27 (by decide) (fun c27 => ?_) (fun c27 => ?_)
    · refine n_iload_n hC dX3_takeHeir_40 rfl ?_
      refine n_if_leN (tgt := 48) hC (by omega) dX3_takeHeir_41 (by decide) (fun _ => ?_) (fun c_ => False.elim (by omega))
      refine n_aload_n hC dX3_takeHeir_48 rfl ?_
      refine n_iconst (v := (nI 0)) hC dX3_takeHeir_49 (by decide) ?_
      refine n_aload_n hC dX3_takeHeir_50 rfl ?_
      refine n_get hC cl3 (k := 20) (v := .int (nI (mN ((m_takeNumber M (nI 0) ((nI (mN M 20)) - (nI 1))).2) 20))) mc_o (by omega) (by decide) q700 (mf_get N0 mb ((m_takeNumber M (nI 0) ((nI (mN M 20)) - (nI 1))).2) (by decide)) dX3_takeHeir_51 ?_
      refine n_iconst (v := (nI 1)) hC dX3_takeHeir_54 (by decide) ?_
      refine n_isub hC dX3_takeHeir_55 ?_
      have hb := num_K (M := (m_takeNumber M (nI 0) ((nI (mN M 20)) - (nI 1))).2) (nI 0) ((nI (mN ((m_takeNumber M (nI 0) ((nI (mN M 20)) - (nI 1))).2) 20)) - (nI 1)) hat
      have hb2 := hb.2.1
      refine n_callV1 hC (As := [.int (nI 0), .int ((nI (mN ((m_takeNumber M (nI 0) ((nI (mN M 20)) - (nI 1))).2) 20)) - (nI 1))]) (rest := []) mc_o (by omega) rfl bX3_takeNumber (t_m_takeNumber l D N0 kA mb hs ((m_takeNumber M (nI 0) ((nI (mN M 20)) - (nI 1))).2) n hn (nI 0) ((nI (mN ((m_takeNumber M (nI 0) ((nI (mN M 20)) - (nI 1))).2) 20)) - (nI 1)) hat) (by decide) (by decide) q851 rfl (Nat.le_of_ble_eq_true rfl) dX3_takeHeir_56 (Nat.le_of_ble_eq_true rfl) (Nat.le_of_ble_eq_true rfl) ?_
      refine n_stk (st' := [.int (nI ((m_takeNumber ((m_takeNumber M (nI 0) ((nI (mN M 20)) - (nI 1))).2) (nI 0) ((nI (mN ((m_takeNumber M (nI 0) ((nI (mN M 20)) - (nI 1))).2) 20)) - (nI 1))).1))]) rfl ?_
      refine n_istore_n (L' := [(0, .ref (N0 + mb)), (1, .int (nI ((m_takeNumber ((m_takeNumber M (nI 0) ((nI (mN M 20)) - (nI 1))).2) (nI 0) ((nI (mN ((m_takeNumber M (nI 0) ((nI (mN M 20)) - (nI 1))).2) 20)) - (nI 1))).1))), (2, .int (nI (mN ((m_takeNumber M (nI 0) ((nI (mN M 20)) - (nI 1))).2) 18)))]) hC dX3_takeHeir_59 (by decide) rfl ?_
      refine n_iload_n hC dX3_takeHeir_60 rfl ?_
      refine n_if_neN (tgt := 82) hC (by omega) dX3_takeHeir_61 (by decide) (fun c61 => ?_) (fun c61 => ?_)
      · refine n_iload_n hC dX3_takeHeir_82 rfl ?_
        refine n_if_neN (tgt := 96) hC (by omega) dX3_takeHeir_83 (by decide) (fun _ => ?_) (fun c_ => False.elim (by omega))
        refine n_iload_n hC dX3_takeHeir_96 rfl ?_
        have eq_ : m_takeHeir M = ((m_takeNumber ((m_takeNumber M (nI 0) ((nI (mN M 20)) - (nI 1))).2) (nI 0) ((nI (mN ((m_takeNumber M (nI 0) ((nI (mN M 20)) - (nI 1))).2) 20)) - (nI 1))).1, (m_takeNumber ((m_takeNumber M (nI 0) ((nI (mN M 20)) - (nI 1))).2) (nI 0) ((nI (mN ((m_takeNumber M (nI 0) ((nI (mN M 20)) - (nI 1))).2) 20)) - (nI 1))).2) := by rw [m_takeHeir_d, if_pos c18, if_pos c27, if_neg c61]
        refine n_iret hC dX3_takeHeir_97 (Nat.le_of_ble_eq_true rfl) (Nat.le_of_ble_eq_true rfl) ?_
        rw [eq_]
        dsimp only
        exact ⟨rfl, rfl, rfl⟩
      · refine n_aload_n hC dX3_takeHeir_64 rfl ?_
        refine n_get hC cl3 (k := 18) (v := .int (nI (mN ((m_takeNumber ((m_takeNumber M (nI 0) ((nI (mN M 20)) - (nI 1))).2) (nI 0) ((nI (mN ((m_takeNumber M (nI 0) ((nI (mN M 20)) - (nI 1))).2) 20)) - (nI 1))).2) 18))) mc_o (by omega) (by decide) q698 (mf_get N0 mb ((m_takeNumber ((m_takeNumber M (nI 0) ((nI (mN M 20)) - (nI 1))).2) (nI 0) ((nI (mN ((m_takeNumber M (nI 0) ((nI (mN M 20)) - (nI 1))).2) 20)) - (nI 1))).2) (by decide)) dX3_takeHeir_65 ?_
        refine n_iload_n hC dX3_takeHeir_68 rfl ?_
        refine n_icmp_ne (tgt := 82) hC dX3_takeHeir_69 (by decide) (fun c69 => ?_) (fun c69 => ?_)
        · refine n_iload_n hC dX3_takeHeir_82 rfl ?_
          refine n_if_neN (tgt := 96) hC (by omega) dX3_takeHeir_83 (by decide) (fun c_ => False.elim (by omega)) (fun _ => ?_)
          have hk6 : mN (m_takeNumber M (nI 0) ((nI (mN M 20)) - (nI 1))).2 18 < 6 := Nat.lt_of_lt_of_le (num_lt hx h20 (by omega)) h20
          refine n_aload_n hC dX3_takeHeir_86 rfl ?_
          refine n_get hC cl3 (k := 23) (v := .ref (N0 + (mb + 14))) mc_o (by omega) (by decide) q703 (mf_get N0 mb ((m_takeNumber ((m_takeNumber M (nI 0) ((nI (mN M 20)) - (nI 1))).2) (nI 0) ((nI (mN ((m_takeNumber M (nI 0) ((nI (mN M 20)) - (nI 1))).2) 20)) - (nI 1))).2) (by decide)) dX3_takeHeir_87 ?_
          refine n_iload_n hC dX3_takeHeir_90 rfl ?_
          refine n_aload_n hC dX3_takeHeir_91 rfl ?_
          refine n_get hC cl3 (k := 18) (v := .int (nI (mN ((m_takeNumber ((m_takeNumber M (nI 0) ((nI (mN M 20)) - (nI 1))).2) (nI 0) ((nI (mN ((m_takeNumber M (nI 0) ((nI (mN M 20)) - (nI 1))).2) 20)) - (nI 1))).2) 18))) mc_o (by omega) (by decide) q698 (mf_get N0 mb ((m_takeNumber ((m_takeNumber M (nI 0) ((nI (mN M 20)) - (nI 1))).2) (nI 0) ((nI (mN ((m_takeNumber M (nI 0) ((nI (mN M 20)) - (nI 1))).2) 20)) - (nI 1))).2) (by decide)) dX3_takeHeir_92 ?_
          refine n_iast hC (f := mA ((m_takeNumber ((m_takeNumber M (nI 0) ((nI (mN M 20)) - (nI 1))).2) (nI 0) ((nI (mN ((m_takeNumber M (nI 0) ((nI (mN M 20)) - (nI 1))).2) 20)) - (nI 1))).2) 23) (mc_a (p := 14) (by decide) (by decide)) (by omega) (mN ((m_takeNumber M (nI 0) ((nI (mN M 20)) - (nI 1))).2) 18) rfl (by omega) (by decide) dX3_takeHeir_95 (mu_A (M := ((m_takeNumber ((m_takeNumber M (nI 0) ((nI (mN M 20)) - (nI 1))).2) (nI 0) ((nI (mN ((m_takeNumber M (nI 0) ((nI (mN M 20)) - (nI 1))).2) 20)) - (nI 1))).2)) (k := 23) (len := 6) (kd := 0) rfl rfl rfl (by decide) (by decide)) ?_
          refine n_iload_n hC dX3_takeHeir_96 rfl ?_
          have eq_ : m_takeHeir M = ((m_takeNumber ((m_takeNumber M (nI 0) ((nI (mN M 20)) - (nI 1))).2) (nI 0) ((nI (mN ((m_takeNumber M (nI 0) ((nI (mN M 20)) - (nI 1))).2) 20)) - (nI 1))).1, mSetA ((m_takeNumber ((m_takeNumber M (nI 0) ((nI (mN M 20)) - (nI 1))).2) (nI 0) ((nI (mN ((m_takeNumber M (nI 0) ((nI (mN M 20)) - (nI 1))).2) 20)) - (nI 1))).2) 23 (mN ((m_takeNumber M (nI 0) ((nI (mN M 20)) - (nI 1))).2) 18) (nI (mN ((m_takeNumber ((m_takeNumber M (nI 0) ((nI (mN M 20)) - (nI 1))).2) (nI 0) ((nI (mN ((m_takeNumber M (nI 0) ((nI (mN M 20)) - (nI 1))).2) 20)) - (nI 1))).2) 18))) := by rw [m_takeHeir_d, if_pos c18, if_pos c27, if_pos c61, if_neg c69]
          refine n_iret hC dX3_takeHeir_97 (Nat.le_of_ble_eq_true rfl) (Nat.le_of_ble_eq_true rfl) ?_
          rw [eq_]
          dsimp only
          exact ⟨rfl, rfl, rfl⟩
        · refine n_aload_n hC dX3_takeHeir_72 rfl ?_
          refine n_iconst (v := (nI 4)) hC dX3_takeHeir_73 (by decide) ?_
          refine n_aload_n hC dX3_takeHeir_74 rfl ?_
          refine n_get hC cl3 (k := 19) (v := .int (nI (mN ((m_takeNumber ((m_takeNumber M (nI 0) ((nI (mN M 20)) - (nI 1))).2) (nI 0) ((nI (mN ((m_takeNumber M (nI 0) ((nI (mN M 20)) - (nI 1))).2) 20)) - (nI 1))).2) 19))) mc_o (by omega) (by decide) q699 (mf_get N0 mb ((m_takeNumber ((m_takeNumber M (nI 0) ((nI (mN M 20)) - (nI 1))).2) (nI 0) ((nI (mN ((m_takeNumber M (nI 0) ((nI (mN M 20)) - (nI 1))).2) 20)) - (nI 1))).2) (by decide)) dX3_takeHeir_75 ?_
          refine n_callV1 hC (As := [.int (nI 4), .int (nI (mN ((m_takeNumber ((m_takeNumber M (nI 0) ((nI (mN M 20)) - (nI 1))).2) (nI 0) ((nI (mN ((m_takeNumber M (nI 0) ((nI (mN M 20)) - (nI 1))).2) 20)) - (nI 1))).2) 19))]) (rest := []) mc_o (by omega) rfl bX3_fails (t_m_fails l D N0 kA mb hs ((m_takeNumber ((m_takeNumber M (nI 0) ((nI (mN M 20)) - (nI 1))).2) (nI 0) ((nI (mN ((m_takeNumber M (nI 0) ((nI (mN M 20)) - (nI 1))).2) 20)) - (nI 1))).2) n hn 4 (mN ((m_takeNumber ((m_takeNumber M (nI 0) ((nI (mN M 20)) - (nI 1))).2) (nI 0) ((nI (mN ((m_takeNumber M (nI 0) ((nI (mN M 20)) - (nI 1))).2) 20)) - (nI 1))).2) 19) ) (by decide) (by decide) q839 rfl (Nat.le_of_ble_eq_true rfl) dX3_takeHeir_78 (Nat.le_of_ble_eq_true rfl) (Nat.le_of_ble_eq_true rfl) ?_
          refine n_stk (st' := [.int (nI ((m_fails ((m_takeNumber ((m_takeNumber M (nI 0) ((nI (mN M 20)) - (nI 1))).2) (nI 0) ((nI (mN ((m_takeNumber M (nI 0) ((nI (mN M 20)) - (nI 1))).2) 20)) - (nI 1))).2) 4 (mN ((m_takeNumber ((m_takeNumber M (nI 0) ((nI (mN M 20)) - (nI 1))).2) (nI 0) ((nI (mN ((m_takeNumber M (nI 0) ((nI (mN M 20)) - (nI 1))).2) 20)) - (nI 1))).2) 19)).1))]) rfl ?_
          have eq_ : m_takeHeir M = ((m_fails ((m_takeNumber ((m_takeNumber M (nI 0) ((nI (mN M 20)) - (nI 1))).2) (nI 0) ((nI (mN ((m_takeNumber M (nI 0) ((nI (mN M 20)) - (nI 1))).2) 20)) - (nI 1))).2) 4 (mN ((m_takeNumber ((m_takeNumber M (nI 0) ((nI (mN M 20)) - (nI 1))).2) (nI 0) ((nI (mN ((m_takeNumber M (nI 0) ((nI (mN M 20)) - (nI 1))).2) 20)) - (nI 1))).2) 19)).1, (m_fails ((m_takeNumber ((m_takeNumber M (nI 0) ((nI (mN M 20)) - (nI 1))).2) (nI 0) ((nI (mN ((m_takeNumber M (nI 0) ((nI (mN M 20)) - (nI 1))).2) 20)) - (nI 1))).2) 4 (mN ((m_takeNumber ((m_takeNumber M (nI 0) ((nI (mN M 20)) - (nI 1))).2) (nI 0) ((nI (mN ((m_takeNumber M (nI 0) ((nI (mN M 20)) - (nI 1))).2) 20)) - (nI 1))).2) 19)).2) := by rw [m_takeHeir_d, if_pos c18, if_pos c27, if_pos c61, if_pos c69]
          refine n_iret hC dX3_takeHeir_81 (Nat.le_of_ble_eq_true rfl) (Nat.le_of_ble_eq_true rfl) ?_
          rw [eq_]
          dsimp only
          exact ⟨rfl, rfl, rfl⟩
    · refine n_aload_n hC dX3_takeHeir_30 rfl ?_
      refine n_iconst (v := (nI 4)) hC dX3_takeHeir_31 (by decide) ?_
      refine n_aload_n hC dX3_takeHeir_32 rfl ?_
      refine n_get hC cl3 (k := 19) (v := .int (nI (mN ((m_takeNumber M (nI 0) ((nI (mN M 20)) - (nI 1))).2) 19))) mc_o (by omega) (by decide) q699 (mf_get N0 mb ((m_takeNumber M (nI 0) ((nI (mN M 20)) - (nI 1))).2) (by decide)) dX3_takeHeir_33 ?_
      refine n_callV1 hC (As := [.int (nI 4), .int (nI (mN ((m_takeNumber M (nI 0) ((nI (mN M 20)) - (nI 1))).2) 19))]) (rest := []) mc_o (by omega) rfl bX3_fails (t_m_fails l D N0 kA mb hs ((m_takeNumber M (nI 0) ((nI (mN M 20)) - (nI 1))).2) n hn 4 (mN ((m_takeNumber M (nI 0) ((nI (mN M 20)) - (nI 1))).2) 19) ) (by decide) (by decide) q839 rfl (Nat.le_of_ble_eq_true rfl) dX3_takeHeir_36 (Nat.le_of_ble_eq_true rfl) (Nat.le_of_ble_eq_true rfl) ?_
      refine n_stk (st' := [.int (nI ((m_fails ((m_takeNumber M (nI 0) ((nI (mN M 20)) - (nI 1))).2) 4 (mN ((m_takeNumber M (nI 0) ((nI (mN M 20)) - (nI 1))).2) 19)).1))]) rfl ?_
      have eq_ : m_takeHeir M = ((m_fails ((m_takeNumber M (nI 0) ((nI (mN M 20)) - (nI 1))).2) 4 (mN ((m_takeNumber M (nI 0) ((nI (mN M 20)) - (nI 1))).2) 19)).1, (m_fails ((m_takeNumber M (nI 0) ((nI (mN M 20)) - (nI 1))).2) 4 (mN ((m_takeNumber M (nI 0) ((nI (mN M 20)) - (nI 1))).2) 19)).2) := by rw [m_takeHeir_d, if_pos c18, if_neg c27]
      refine n_iret hC dX3_takeHeir_39 (Nat.le_of_ble_eq_true rfl) (Nat.le_of_ble_eq_true rfl) ?_
      rw [eq_]
      dsimp only
      exact ⟨rfl, rfl, rfl⟩
