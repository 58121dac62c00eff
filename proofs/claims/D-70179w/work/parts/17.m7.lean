theorem fr_K (M : MS) : (mN (m_findRing M).2 36 ≤ 4) ∧ (∀ j, j ≠ 36 → mN (m_findRing M).2 j = mN M j) ∧ (∀ j, mI (m_findRing M).2 j = mI M j) ∧ (∀ f j, mB (m_findRing M).2 f j = mB M f j) ∧ (∀ f j, mA (m_findRing M).2 f j = mA M f j) := by
  unfold m_findRing
  split
  · exact ⟨by simp [mN_N], fun j hj => by simp [mN_N, hj], fun _ => rfl, fun _ _ => rfl, fun _ _ => rfl⟩
  · split
    · exact ⟨by simp [mN_N], fun j hj => by simp [mN_N, hj], fun _ => rfl, fun _ _ => rfl, fun _ _ => rfl⟩
    · split
      · exact ⟨by simp [mN_N], fun j hj => by simp [mN_N, hj], fun _ => rfl, fun _ _ => rfl, fun _ _ => rfl⟩
      · exact ⟨by simp [mN_N], fun j hj => by simp [mN_N, hj], fun _ => rfl, fun _ _ => rfl, fun _ _ => rfl⟩
theorem fr_ra {M : MS} (h : mRa M) : mRa (m_findRing M).2 := by
  obtain ⟨-, h1, -, h3, -⟩ := fr_K M
  unfold mRa
  rw [h1 7 (by decide)]
  exact ⟨h.1, fun r hr => by rw [h3, h3, h3, h3]; exact h.2 r hr⟩
def m_ring (M : MS) (w : Int32) : Int32 × MS := (if ((m_findRing M).1) < 0 then ((-1), (m_findRing M).2) else (if w = (-1) then ((nI (mN ((m_findRing M).2) 36)), (m_findRing M).2) else (if (m_in w.toInt64 0 (((nI (mN ((m_findRing M).2) 36)) - (nI 1)).toInt64)) = true then ((nI (m_figure (cl (m_findRing M).1) (mN ((m_findRing M).2) 36) (cl w))), (m_findRing M).2) else ((-1), (m_findRing M).2))))
theorem bX3_ring : nBV RX3 yX3_ring cX3_ring 3 (some .int) 1 := ⟨q1029, q1030, q55, q1031, by decide, by decide +kernel⟩
set_option maxRecDepth 100000 in
set_option maxHeartbeats 4000000 in
theorem t_m_ring (l : Launch) (D : va_G) (N0 : Nat) (kA : Nat → ClassId) (mb : Nat) (hs : hT) (M : MS) (n : Nat) (hn : mb + 28 < n) (w : Int32) (hr : mRa M) : nE l yX3_ring cX3_ring 3 (some .int) D N0 kA 3 0 0 [.ref (N0 + mb), .int w] (mH N0 mb kA hs M) n (nX (some (.int ((m_ring M w).1))) (mH N0 mb kA hs ((m_ring M w).2)) n) := by
  refine nE_of (by decide) (Nat.le_of_ble_eq_true rfl) ?_
  intro p e s m args below meth c hC hnm
  refine n_loc (L' := [(0, .ref (N0 + mb)), (1, .int w)]) rfl ?_
  have fr4 := (fr_K M).1
  refine n_aload_n hC dX3_ring_0 rfl ?_
  refine n_callV1 hC (As := []) (rest := []) mc_o (by omega) rfl bX3_findRing (t_m_findRing l D N0 kA mb hs M n hn  hr) (by decide) (by decide) q1032 rfl (Nat.le_of_ble_eq_true rfl) dX3_ring_1 (Nat.le_of_ble_eq_true rfl) (Nat.le_of_ble_eq_true rfl) ?_
  refine n_stk (st' := [.int ((m_findRing M).1)]) rfl ?_
  refine n_istore_n (L' := [(0, .ref (N0 + mb)), (1, .int w), (2, .int ((m_findRing M).1))]) hC dX3_ring_4 (by decide) rfl ?_
  refine n_iload_n hC dX3_ring_5 rfl ?_
  refine n_if_lt (tgt := 14) hC dX3_ring_6 (by decide) (fun c6 => ?_) (fun c6 => ?_)
  · refine n_iload_n hC dX3_ring_14 rfl ?_
    refine n_if_geF (tgt := 22) hC dX3_ring_15 (by decide) (Int32.not_le.mpr c6) ?_
    refine n_iconst (v := (-1)) hC dX3_ring_18 (by decide) ?_
    refine n_goto (tgt := 26) hC dX3_ring_19 (by decide) ?_
    have eq_ : m_ring M w = ((-1), (m_findRing M).2) := by rw [m_ring, if_pos c6]
    refine n_iret hC dX3_ring_26 (Nat.le_of_ble_eq_true rfl) (Nat.le_of_ble_eq_true rfl) ?_
    rw [eq_]
    dsimp only
    exact ⟨rfl, rfl, rfl⟩
  · refine n_iload_n hC dX3_ring_9 rfl ?_
    refine n_iconst (v := (-1)) hC dX3_ring_10 (by decide) ?_
    refine n_icmp_ne (tgt := 27) hC dX3_ring_11 (by decide) (fun c11 => ?_) (fun c11 => ?_)
    · have hcd := nI_cl (Int32.not_lt.mp c6)
      refine n_iload_n hC dX3_ring_27 rfl ?_
      refine n_i2l hC dX3_ring_28 ?_
      refine n_lconst (v := 0) hC dX3_ring_29 (by decide) ?_
      refine n_aload_n hC dX3_ring_30 rfl ?_
      refine n_get hC cl3 (k := 36) (v := .int (nI (mN ((m_findRing M).2) 36))) mc_o (by omega) (by decide) q716 (mf_get N0 mb ((m_findRing M).2) (by decide)) dX3_ring_31 ?_
      refine n_iconst (v := (nI 1)) hC dX3_ring_34 (by decide) ?_
      refine n_isub hC dX3_ring_35 ?_
      refine n_i2l hC dX3_ring_36 ?_
      refine n_callS1 hC (As := [.long w.toInt64, .long 0, .long (((nI (mN ((m_findRing M).2) 36)) - (nI 1)).toInt64)]) (rest := []) bX3_in (t_m_in l D N0 kA (mH N0 mb kA hs ((m_findRing M).2)) n w.toInt64 0 (((nI (mN ((m_findRing M).2) 36)) - (nI 1)).toInt64) ) (by decide) (by decide) q822 rfl (Nat.le_of_ble_eq_true rfl) dX3_ring_37 (Nat.le_of_ble_eq_true rfl) (Nat.le_of_ble_eq_true rfl) ?_
      refine n_stk (st' := [.int (bI (m_in w.toInt64 0 (((nI (mN ((m_findRing M).2) 36)) - (nI 1)).toInt64)))]) rfl ?_
      refine n_if_eqB (tgt := 55) hC dX3_ring_40 (by decide) (fun c40 => ?_) (fun c40 => ?_)
      · refine n_iconst (v := (-1)) hC dX3_ring_55 (by decide) ?_
        have eq_ : m_ring M w = ((-1), (m_findRing M).2) := by rw [m_ring, if_neg c6, if_neg c11, if_neg (by rw [c40]; decide)]
        refine n_iret hC dX3_ring_56 (Nat.le_of_ble_eq_true rfl) (Nat.le_of_ble_eq_true rfl) ?_
        rw [eq_]
        dsimp only
        exact ⟨rfl, rfl, rfl⟩
      · have hw := (in_nat (by omega)).mp c40
        have hw1 := nI_cl hw.1
        have hw2 := hw.2
        refine n_iload_n hC dX3_ring_43 rfl ?_
        refine n_top (cl (m_findRing M).1) hcd ?_
        refine n_aload_n hC dX3_ring_44 rfl ?_
        refine n_get hC cl3 (k := 36) (v := .int (nI (mN ((m_findRing M).2) 36))) mc_o (by omega) (by decide) q716 (mf_get N0 mb ((m_findRing M).2) (by decide)) dX3_ring_45 ?_
        refine n_iload_n hC dX3_ring_48 rfl ?_
        refine n_top (cl w) hw1 ?_
        refine n_callS1 hC (As := [.int (nI (cl (m_findRing M).1)), .int (nI (mN ((m_findRing M).2) 36)), .int (nI (cl w))]) (rest := []) bX3_figure (t_m_figure l D N0 kA (mH N0 mb kA hs ((m_findRing M).2)) n (cl (m_findRing M).1) (mN ((m_findRing M).2) 36) (cl w) (cl_lt _) (by omega) (by omega)) (by decide) (by decide) q1040 rfl (Nat.le_of_ble_eq_true rfl) dX3_ring_49 (Nat.le_of_ble_eq_true rfl) (Nat.le_of_ble_eq_true rfl) ?_
        refine n_stk (st' := [.int (nI (m_figure (cl (m_findRing M).1) (mN ((m_findRing M).2) 36) (cl w)))]) rfl ?_
        refine n_goto (tgt := 56) hC dX3_ring_52 (by decide) ?_
        have eq_ : m_ring M w = ((nI (m_figure (cl (m_findRing M).1) (mN ((m_findRing M).2) 36) (cl w))), (m_findRing M).2) := by rw [m_ring, if_neg c6, if_neg c11, if_pos c40]
        refine n_iret hC dX3_ring_56 (Nat.le_of_ble_eq_true rfl) (Nat.le_of_ble_eq_true rfl) ?_
        rw [eq_]
        dsimp only
        exact ⟨rfl, rfl, rfl⟩
    · refine n_iload_n hC dX3_ring_14 rfl ?_
      refine n_if_geT (tgt := 22) hC dX3_ring_15 (by decide) (Int32.not_lt.mp c6) ?_
      refine n_aload_n hC dX3_ring_22 rfl ?_
      refine n_get hC cl3 (k := 36) (v := .int (nI (mN ((m_findRing M).2) 36))) mc_o (by omega) (by decide) q716 (mf_get N0 mb ((m_findRing M).2) (by decide)) dX3_ring_23 ?_
      have eq_ : m_ring M w = ((nI (mN ((m_findRing M).2) 36)), (m_findRing M).2) := by rw [m_ring, if_neg c6, if_pos c11]
      refine n_iret hC dX3_ring_26 (Nat.le_of_ble_eq_true rfl) (Nat.le_of_ble_eq_true rfl) ?_
      rw [eq_]
      dsimp only
      exact ⟨rfl, rfl, rfl⟩
def m_mended_L9 : Nat → MS → Int32 → Int32 → Nat → Int32 × MS
  | 0, M, _, _, _ => (0, M)
  | fu + 1, M, y, b, i => (if (mN M 36) ≤ i then (b, M) else (if y < 0 then (b, M) else (if (m_gains M (cl y) (mN M 36) (nI (m_figure (cl y) (mN M 36) i))) = true then m_mended_L9 fu M y b (i + 1) else (if b < 0 then m_mended_L9 fu M y (nI (m_figure (cl y) (mN M 36) i)) (i + 1) else (if b ≤ (nI (m_figure (cl y) (mN M 36) i)) then m_mended_L9 fu M y b (i + 1) else m_mended_L9 fu M y (nI (m_figure (cl y) (mN M 36) i)) (i + 1))))))
def m_mended (M : MS) : Int32 × MS := m_mended_L9 5 ((m_findRing M).2) ((m_findRing M).1) (-1) 0
theorem bX3_mended : nBV RX3 yX3_mended cX3_mended 5 (some .int) 0 := ⟨q1048, q1049, q55, q1050, by decide, by decide +kernel⟩
set_option maxRecDepth 100000 in
set_option maxHeartbeats 4000000 in
theorem t_m_mended_L9 {p : Program} {l : Launch} {e : Env} {s : State} {m : MethodId} {args : Array Value} {below : List Frame} {meth : Method} {c : Code} {D : va_G} {N0 : Nat} {kA : Nat → ClassId} {mb : Nat} {hs : hT} {M : MS} {n : Nat} (hn : mb + 28 < n)  (hC : nC p s m args meth c RX3 cX3_mended 5 (some .int) true D N0 kA)  : ∀ (fu : Nat) (y : Int32) (b : Int32) (i : Nat) (hr : mRa M) (hl : mN M 36 ≤ 4) (hi : i ≤ mN M 36) (hf : mN M 36 < i + fu), nW p l e (nRm 3 0 0) s m args below meth c (nQ below (nX (some (.int ((m_mended_L9 fu M y b i).1))) (mH N0 mb kA hs ((m_mended_L9 fu M y b i).2)) n) D N0 s 0 0) D N0 5 9 [(0, .ref (N0 + mb)), (1, .int y), (2, .int b), (3, .int (nI i))] [] (mH N0 mb kA hs M) n 0 0 := by
  intro fu
  induction fu with
  | zero =>
    intro y b i hr hl hi hf
    exfalso; omega
  | succ fu ih =>
    intro y b i hr hl hi hf
    refine n_iload_n hC dX3_mended_9 rfl ?_
    refine n_aload_n hC dX3_mended_10 rfl ?_
    refine n_get hC cl3 (k := 36) (v := .int (nI (mN M 36))) mc_o (by omega) (by decide) q716 (mf_get N0 mb M (by decide)) dX3_mended_11 ?_
    refine n_icmp_geN (tgt := 69) hC i (mN M 36) rfl rfl (by omega) (by omega) dX3_mended_14 (by decide) (fun c14 => ?_) (fun c14 => ?_)
    · refine n_iload_n hC dX3_mended_69 rfl ?_
      have eq_ : m_mended_L9 (fu + 1) M y b i = (b, M) := by rw [m_mended_L9, if_pos c14]
      refine n_iret hC dX3_mended_70 (Nat.le_of_ble_eq_true rfl) (Nat.le_of_ble_eq_true rfl) ?_
      rw [eq_]
      dsimp only
      exact ⟨rfl, rfl, rfl⟩
    · refine n_iload_n hC dX3_mended_17 rfl ?_
      refine n_if_lt (tgt := 69) hC dX3_mended_18 (by decide) (fun c18 => ?_) (fun c18 => ?_)
      · refine n_iload_n hC dX3_mended_69 rfl ?_
        have eq_ : m_mended_L9 (fu + 1) M y b i = (b, M) := by rw [m_mended_L9, if_neg (Nat.not_le.mpr c14), if_pos c18]
        refine n_iret hC dX3_mended_70 (Nat.le_of_ble_eq_true rfl) (Nat.le_of_ble_eq_true rfl) ?_
        rw [eq_]
        dsimp only
        exact ⟨rfl, rfl, rfl⟩
      · have hy := nI_cl (Int32.not_lt.mp c18)
        refine n_iload_n hC dX3_mended_21 rfl ?_
        refine n_top (cl y) hy ?_
        refine n_aload_n hC dX3_mended_22 rfl ?_
        refine n_get hC cl3 (k := 36) (v := .int (nI (mN M 36))) mc_o (by omega) (by decide) q716 (mf_get N0 mb M (by decide)) dX3_mended_23 ?_
        refine n_iload_n hC dX3_mended_26 rfl ?_
        refine n_callS1 hC (As := [.int (nI (cl y)), .int (nI (mN M 36)), .int (nI i)]) (rest := []) bX3_figure (t_m_figure l D N0 kA (mH N0 mb kA hs M) n (cl y) (mN M 36) i (cl_lt _) (by omega) (by omega)) (by decide) (by decide) q1040 rfl (Nat.le_of_ble_eq_true rfl) dX3_mended_27 (Nat.le_of_ble_eq_true rfl) (Nat.le_of_ble_eq_true rfl) ?_
        refine n_stk (st' := [.int (nI (m_figure (cl y) (mN M 36) i))]) rfl ?_
        refine n_istore (L' := [(0, .ref (N0 + mb)), (1, .int y), (2, .int b), (3, .int (nI i)), (4, .int (nI (m_figure (cl y) (mN M 36) i)))]) hC dX3_mended_30 (by decide) rfl ?_
        refine n_aload_n hC dX3_mended_32 rfl ?_
        refine n_iload_n hC dX3_mended_33 rfl ?_
        refine n_top (cl y) hy ?_
        refine n_aload_n hC dX3_mended_34 rfl ?_
        refine n_get hC cl3 (k := 36) (v := .int (nI (mN M 36))) mc_o (by omega) (by decide) q716 (mf_get N0 mb M (by decide)) dX3_mended_35 ?_
        refine n_iload hC dX3_mended_38 rfl ?_
        refine n_callV1 hC (As := [.int (nI (cl y)), .int (nI (mN M 36)), .int (nI (m_figure (cl y) (mN M 36) i))]) (rest := []) mc_o (by omega) rfl bX3_gains (t_m_gains l D N0 kA mb hs M n hn (cl y) (mN M 36) (nI (m_figure (cl y) (mN M 36) i)) (cl_lt _) (by omega) hr) (by decide) (by decide) q1043 rfl (Nat.le_of_ble_eq_true rfl) dX3_mended_40 (Nat.le_of_ble_eq_true rfl) (Nat.le_of_ble_eq_true rfl) ?_
        refine n_stk (st' := [.int (bI (m_gains M (cl y) (mN M 36) (nI (m_figure (cl y) (mN M 36) i))))]) rfl ?_
        refine n_if_neB (tgt := 61) hC dX3_mended_43 (by decide) (fun c43 => ?_) (fun c43 => ?_)
        · refine n_iload_n hC dX3_mended_61 rfl ?_
          refine n_istore_n (L' := [(0, .ref (N0 + mb)), (1, .int y), (2, .int b), (3, .int (nI i)), (4, .int (nI (m_figure (cl y) (mN M 36) i)))]) hC dX3_mended_62 (by decide) rfl ?_
          refine n_iincN (a := i) (L' := [(0, .ref (N0 + mb)), (1, .int y), (2, .int b), (3, .int (nI (i + 1))), (4, .int (nI (m_figure (cl y) (mN M 36) i)))]) hC dX3_mended_63 rfl (by decide) rfl ?_
          refine n_goto (tgt := 9) hC dX3_mended_66 (by decide) ?_
          refine n_drop [0, 1, 2, 3] (L' := [(0, .ref (N0 + mb)), (1, .int y), (2, .int b), (3, .int (nI (i + 1)))]) rfl ?_
          rw [show m_mended_L9 (fu + 1) M y b i = m_mended_L9 fu M y b (i + 1) from by rw [m_mended_L9, if_neg (Nat.not_le.mpr c14), if_neg c18, if_pos c43]]
          exact ih y b (i + 1) hr hl (by first | omega | (simp [mN_A, mN_B, mN_I, mN_N] <;> omega)) (by first | omega | (simp [mN_A, mN_B, mN_I, mN_N] <;> omega))
        · refine n_iload_n hC dX3_mended_46 rfl ?_
          refine n_if_lt (tgt := 56) hC dX3_mended_47 (by decide) (fun c47 => ?_) (fun c47 => ?_)
          · refine n_iload hC dX3_mended_56 rfl ?_
            refine n_goto (tgt := 62) hC dX3_mended_58 (by decide) ?_
            refine n_istore_n (L' := [(0, .ref (N0 + mb)), (1, .int y), (2, .int (nI (m_figure (cl y) (mN M 36) i))), (3, .int (nI i)), (4, .int (nI (m_figure (cl y) (mN M 36) i)))]) hC dX3_mended_62 (by decide) rfl ?_
            refine n_iincN (a := i) (L' := [(0, .ref (N0 + mb)), (1, .int y), (2, .int (nI (m_figure (cl y) (mN M 36) i))), (3, .int (nI (i + 1))), (4, .int (nI (m_figure (cl y) (mN M 36) i)))]) hC dX3_mended_63 rfl (by decide) rfl ?_
            refine n_goto (tgt := 9) hC dX3_mended_66 (by decide) ?_
            refine n_drop [0, 1, 2, 3] (L' := [(0, .ref (N0 + mb)), (1, .int y), (2, .int (nI (m_figure (cl y) (mN M 36) i))), (3, .int (nI (i + 1)))]) rfl ?_
            rw [show m_mended_L9 (fu + 1) M y b i = m_mended_L9 fu M y (nI (m_figure (cl y) (mN M 36) i)) (i + 1) from by rw [m_mended_L9, if_neg (Nat.not_le.mpr c14), if_neg c18, if_neg (by rw [c43]; decide), if_pos c47]]
            exact ih y (nI (m_figure (cl y) (mN M 36) i)) (i + 1) hr hl (by first | omega | (simp [mN_A, mN_B, mN_I, mN_N] <;> omega)) (by first | omega | (simp [mN_A, mN_B, mN_I, mN_N] <;> omega))
          · refine n_iload hC dX3_mended_50 rfl ?_
            refine n_iload_n hC dX3_mended_52 rfl ?_
            refine n_icmp_ge (tgt := 61) hC dX3_mended_53 (by decide) (fun c53 => ?_) (fun c53 => ?_)
            · refine n_iload_n hC dX3_mended_61 rfl ?_
              refine n_istore_n (L' := [(0, .ref (N0 + mb)), (1, .int y), (2, .int b), (3, .int (nI i)), (4, .int (nI (m_figure (cl y) (mN M 36) i)))]) hC dX3_mended_62 (by decide) rfl ?_
              refine n_iincN (a := i) (L' := [(0, .ref (N0 + mb)), (1, .int y), (2, .int b), (3, .int (nI (i + 1))), (4, .int (nI (m_figure (cl y) (mN M 36) i)))]) hC dX3_mended_63 rfl (by decide) rfl ?_
              refine n_goto (tgt := 9) hC dX3_mended_66 (by decide) ?_
              refine n_drop [0, 1, 2, 3] (L' := [(0, .ref (N0 + mb)), (1, .int y), (2, .int b), (3, .int (nI (i + 1)))]) rfl ?_
              rw [show m_mended_L9 (fu + 1) M y b i = m_mended_L9 fu M y b (i + 1) from by rw [m_mended_L9, if_neg (Nat.not_le.mpr c14), if_neg c18, if_neg (by rw [c43]; decide), if_neg c47, if_pos c53]]
              exact ih y b (i + 1) hr hl (by first | omega | (simp [mN_A, mN_B, mN_I, mN_N] <;> omega)) (by first | omega | (simp [mN_A, mN_B, mN_I, mN_N] <;> omega))
            · refine n_iload hC dX3_mended_56 rfl ?_
              refine n_goto (tgt := 62) hC dX3_mended_58 (by decide) ?_
              refine n_istore_n (L' := [(0, .ref (N0 + mb)), (1, .int y), (2, .int (nI (m_figure (cl y) (mN M 36) i))), (3, .int (nI i)), (4, .int (nI (m_figure (cl y) (mN M 36) i)))]) hC dX3_mended_62 (by decide) rfl ?_
              refine n_iincN (a := i) (L' := [(0, .ref (N0 + mb)), (1, .int y), (2, .int (nI (m_figure (cl y) (mN M 36) i))), (3, .int (nI (i + 1))), (4, .int (nI (m_figure (cl y) (mN M 36) i)))]) hC dX3_mended_63 rfl (by decide) rfl ?_
              refine n_goto (tgt := 9) hC dX3_mended_66 (by decide) ?_
              refine n_drop [0, 1, 2, 3] (L' := [(0, .ref (N0 + mb)), (1, .int y), (2, .int (nI (m_figure (cl y) (mN M 36) i))), (3, .int (nI (i + 1)))]) rfl ?_
              rw [show m_mended_L9 (fu + 1) M y b i = m_mended_L9 fu M y (nI (m_figure (cl y) (mN M 36) i)) (i + 1) from by rw [m_mended_L9, if_neg (Nat.not_le.mpr c14), if_neg c18, if_neg (by rw [c43]; decide), if_neg c47, if_neg c53]]
              exact ih y (nI (m_figure (cl y) (mN M 36) i)) (i + 1) hr hl (by first | omega | (simp [mN_A, mN_B, mN_I, mN_N] <;> omega)) (by first | omega | (simp [mN_A, mN_B, mN_I, mN_N] <;> omega))
set_option maxRecDepth 100000 in
set_option maxHeartbeats 4000000 in
theorem t_m_mended (l : Launch) (D : va_G) (N0 : Nat) (kA : Nat → ClassId) (mb : Nat) (hs : hT) (M : MS) (n : Nat) (hn : mb + 28 < n)  (hr : mRa M) : nE l yX3_mended cX3_mended 5 (some .int) D N0 kA 3 0 0 [.ref (N0 + mb)] (mH N0 mb kA hs M) n (nX (some (.int ((m_mended M).1))) (mH N0 mb kA hs ((m_mended M).2)) n) := by
  refine nE_of (by decide) (Nat.le_of_ble_eq_true rfl) ?_
  intro p e s m args below meth c hC hnm
  refine n_loc (L' := [(0, .ref (N0 + mb))]) rfl ?_
  refine n_aload_n hC dX3_mended_0 rfl ?_
  refine n_callV1 hC (As := []) (rest := []) mc_o (by omega) rfl bX3_findRing (t_m_findRing l D N0 kA mb hs M n hn  hr) (by decide) (by decide) q1032 rfl (Nat.le_of_ble_eq_true rfl) dX3_mended_1 (Nat.le_of_ble_eq_true rfl) (Nat.le_of_ble_eq_true rfl) ?_
  refine n_stk (st' := [.int ((m_findRing M).1)]) rfl ?_
  refine n_istore_n (L' := [(0, .ref (N0 + mb)), (1, .int ((m_findRing M).1))]) hC dX3_mended_4 (by decide) rfl ?_
  refine n_iconst (v := (-1)) hC dX3_mended_5 (by decide) ?_
  refine n_istore_n (L' := [(0, .ref (N0 + mb)), (1, .int ((m_findRing M).1)), (2, .int (-1))]) hC dX3_mended_6 (by decide) rfl ?_
  refine n_iconst (v := (nI 0)) hC dX3_mended_7 (by decide) ?_
  refine n_istore_n (L' := [(0, .ref (N0 + mb)), (1, .int ((m_findRing M).1)), (2, .int (-1)), (3, .int (nI 0))]) hC dX3_mended_8 (by decide) rfl ?_
  rw [show m_mended M = m_mended_L9 5 ((m_findRing M).2) ((m_findRing M).1) (-1) 0 from by rw [m_mended]]
  exact t_m_mended_L9 (M := (m_findRing M).2) hn hC  5 ((m_findRing M).1) (-1) 0 (fr_ra hr) (fr_K M).1 (by first | omega | (simp [mN_A, mN_B, mN_I, mN_N] <;> omega)) (by have := (fr_K M).1; omega)
/-! the text -/
def mTx (M : MS) : Prop := mN M 17 ≤ mN M 15 ∧ mN M 15 ≤ 250 ∧ ∀ j, j < 250 → mB M 14 j ≤ 255
theorem tx_at {M : MS} {v : Nat} (h : mTx M) (hv : v ≤ mN M 15) : mTx (mSetN M 17 v) := by
  refine ⟨?_, h.2.1, h.2.2⟩
  simpa [mN_N] using hv
theorem tx_o {M : MS} {k v : Nat} (h15 : k ≠ 15) (h17 : k ≠ 17) (h : mTx M) : mTx (mSetN M k v) := by
  refine ⟨?_, ?_, h.2.2⟩
  · rw [mN_N, mN_N, if_neg (Ne.symm h15), if_neg (Ne.symm h17)]; exact h.1
  · rw [mN_N, if_neg (Ne.symm h15)]; exact h.2.1
theorem tx_I {M : MS} {k : Nat} {v : Int32} (h : mTx M) : mTx (mSetI M k v) := h
theorem tx_A {M : MS} {k j : Nat} {v : Int32} (h : mTx M) : mTx (mSetA M k j v) := h
theorem tx_B {M : MS} {k j v : Nat} (hk : k ≠ 14) (h : mTx M) : mTx (mSetB M k j v) := ⟨h.1, h.2.1, fun i hi => by rw [mB_B, if_neg (fun z => hk z.1.symm)]; exact h.2.2 i hi⟩
def m_here_L0 : Nat → MS → Int32 × MS
  | 0, M => (0, M)
  | fu + 1, M => (if (mN M 15) ≤ (mN M 17) then ((-1), M) else (if (mB M 14 (mN M 17)) ≠ 32 then ((nI (mB M 14 (mN M 17))), M) else m_here_L0 fu (mSetN M 17 ((mN M 17) + 1)) ))
def m_here (M : MS) : Int32 × MS := m_here_L0 (251 + mN M 15) M 
theorem bX3_here : nBV RX3 yX3_here cX3_here 1 (some .int) 0 := ⟨q833, qs19, q55, q834, by decide, by decide +kernel⟩
set_option maxRecDepth 100000 in
set_option maxHeartbeats 4000000 in
theorem t_m_here_L0 {p : Program} {l : Launch} {e : Env} {s : State} {m : MethodId} {args : Array Value} {below : List Frame} {meth : Method} {c : Code} {D : va_G} {N0 : Nat} {kA : Nat → ClassId} {mb : Nat} {hs : hT} {n : Nat} (hn : mb + 28 < n)  (hC : nC p s m args meth c RX3 cX3_here 1 (some .int) true D N0 kA)  : ∀ (fu : Nat) (M : MS)  (hx : mTx M) (hf : 250 < mN M 17 + fu), nW p l e (nRm 0 0 0) s m args below meth c (nQ below (nX (some (.int ((m_here_L0 fu M ).1))) (mH N0 mb kA hs ((m_here_L0 fu M ).2)) n) D N0 s 0 0) D N0 1 0 [(0, .ref (N0 + mb))] [] (mH N0 mb kA hs M) n 0 0 := by
  intro fu
  induction fu with
  | zero =>
    intro M  hx hf
    have hx1 := hx.1
    have hx2 := hx.2.1
    have hx3 := hx.2.2
    exfalso; omega
  | succ fu ih =>
    intro M  hx hf
    have hx1 := hx.1
    have hx2 := hx.2.1
    have hx3 := hx.2.2
    refine n_aload_n hC dX3_here_0 rfl ?_
    refine n_get hC cl3 (k := 17) (v := .int (nI (mN M 17))) mc_o (by omega) (by decide) q697 (mf_get N0 mb M (by decide)) dX3_here_1 ?_
    refine n_aload_n hC dX3_here_4 rfl ?_
    refine n_get hC cl3 (k := 15) (v := .int (nI (mN M 15))) mc_o (by omega) (by decide) q695 (mf_get N0 mb M (by decide)) dX3_here_5 ?_
    refine n_icmp_geN (tgt := 38) hC (mN M 17) (mN M 15) rfl rfl (by omega) (by omega) dX3_here_8 (by decide) (fun c8 => ?_) (fun c8 => ?_)
    · refine n_aload_n hC dX3_here_38 rfl ?_
      refine n_get hC cl3 (k := 17) (v := .int (nI (mN M 17))) mc_o (by omega) (by decide) q697 (mf_get N0 mb M (by decide)) dX3_here_39 ?_
      refine n_aload_n hC dX3_here_42 rfl ?_
      refine n_get hC cl3 (k := 15) (v := .int (nI (mN M 15))) mc_o (by omega) (by decide) q695 (mf_get N0 mb M (by decide)) dX3_here_43 ?_
      refine n_icmp_geN (tgt := 61) hC (mN M 17) (mN M 15) rfl rfl (by omega) (by omega) dX3_here_46 (by decide) (fun _ => ?_) (fun c_ => False.elim (by omega))
      refine n_iconst (v := (-1)) hC dX3_here_61 (by decide) ?_
      have eq_ : m_here_L0 (fu + 1) M  = ((-1), M) := by rw [m_here_L0, if_pos c8]
      refine n_iret hC dX3_here_62 (Nat.le_of_ble_eq_true rfl) (Nat.le_of_ble_eq_true rfl) ?_
      rw [eq_]
      dsimp only
      exact ⟨rfl, rfl, rfl⟩
    · have ht := hx3 (mN M 17) (by omega)
      refine n_aload_n hC dX3_here_11 rfl ?_
      refine n_get hC cl3 (k := 14) (v := .ref (N0 + (mb + 11))) mc_o (by omega) (by decide) q694 (mf_get N0 mb M (by decide)) dX3_here_12 ?_
      refine n_aload_n hC dX3_here_15 rfl ?_
      refine n_get hC cl3 (k := 17) (v := .int (nI (mN M 17))) mc_o (by omega) (by decide) q697 (mf_get N0 mb M (by decide)) dX3_here_16 ?_
      refine n_iald hC (f := fun j => nI (mB M 14 j)) (mc_a (p := 11) (by decide) (by decide)) (by omega) (mN M 17) rfl (by omega) (by decide) dX3_here_19 ?_
      refine n_bipush (v := (nI 32)) hC dX3_here_20 (by decide) ?_
      refine n_icmp_neN (tgt := 38) hC (mB M 14 (mN M 17)) 32 rfl rfl (by omega) (by omega) dX3_here_22 (by decide) (fun c22 => ?_) (fun c22 => ?_)
      · refine n_aload_n hC dX3_here_38 rfl ?_
        refine n_get hC cl3 (k := 17) (v := .int (nI (mN M 17))) mc_o (by omega) (by decide) q697 (mf_get N0 mb M (by decide)) dX3_here_39 ?_
        refine n_aload_n hC dX3_here_42 rfl ?_
        refine n_get hC cl3 (k := 15) (v := .int (nI (mN M 15))) mc_o (by omega) (by decide) q695 (mf_get N0 mb M (by decide)) dX3_here_43 ?_
        refine n_icmp_geN (tgt := 61) hC (mN M 17) (mN M 15) rfl rfl (by omega) (by omega) dX3_here_46 (by decide) (fun c_ => False.elim (by omega)) (fun _ => ?_)
        refine n_aload_n hC dX3_here_49 rfl ?_
        refine n_get hC cl3 (k := 14) (v := .ref (N0 + (mb + 11))) mc_o (by omega) (by decide) q694 (mf_get N0 mb M (by decide)) dX3_here_50 ?_
        refine n_aload_n hC dX3_here_53 rfl ?_
        refine n_get hC cl3 (k := 17) (v := .int (nI (mN M 17))) mc_o (by omega) (by decide) q697 (mf_get N0 mb M (by decide)) dX3_here_54 ?_
        refine n_iald hC (f := fun j => nI (mB M 14 j)) (mc_a (p := 11) (by decide) (by decide)) (by omega) (mN M 17) rfl (by omega) (by decide) dX3_here_57 ?_
        refine n_goto (tgt := 62) hC dX3_here_58 (by decide) ?_
        have eq_ : m_here_L0 (fu + 1) M  = ((nI (mB M 14 (mN M 17))), M) := by rw [m_here_L0, if_neg (Nat.not_le.mpr c8), if_pos c22]
        refine n_iret hC dX3_here_62 (Nat.le_of_ble_eq_true rfl) (Nat.le_of_ble_eq_true rfl) ?_
        rw [eq_]
        dsimp only
        exact ⟨rfl, rfl, rfl⟩
      · refine n_aload_n hC dX3_here_25 rfl ?_
        refine n_dup hC dX3_here_26 rfl ?_
        refine n_get hC cl3 (k := 17) (v := .int (nI (mN M 17))) mc_o (by omega) (by decide) q697 (mf_get N0 mb M (by decide)) dX3_here_27 ?_
        refine n_iconst (v := (nI 1)) hC dX3_here_30 (by decide) ?_
        refine n_iaddN hC dX3_here_31 ?_
        refine n_put hC cl3 (k := 17) mc_o (by omega) (by decide) q697 rfl rfl rfl (by rw [mf_len]; decide) dX3_here_32 (mu_N (M := M) (k := 17) (by decide) rfl rfl) ?_
        refine n_goto (tgt := 0) hC dX3_here_35 (by decide) ?_
        rw [show m_here_L0 (fu + 1) M  = m_here_L0 fu (mSetN M 17 ((mN M 17) + 1))  from by rw [m_here_L0, if_neg (Nat.not_le.mpr c8), if_neg (not_not_intro c22)]]
        exact ih (mSetN M 17 ((mN M 17) + 1))  (tx_at hx (by omega)) (by first | omega | (simp [mN_A, mN_B, mN_I, mN_N] <;> omega))
set_option maxRecDepth 100000 in
set_option maxHeartbeats 4000000 in
theorem t_m_here (l : Launch) (D : va_G) (N0 : Nat) (kA : Nat → ClassId) (mb : Nat) (hs : hT) (M : MS) (n : Nat) (hn : mb + 28 < n)  (hx : mTx M) : nE l yX3_here cX3_here 1 (some .int) D N0 kA 0 0 0 [.ref (N0 + mb)] (mH N0 mb kA hs M) n (nX (some (.int ((m_here M).1))) (mH N0 mb kA hs ((m_here M).2)) n) := by
  refine nE_of (by decide) (Nat.le_of_ble_eq_true rfl) ?_
  intro p e s m args below meth c hC hnm
  refine n_loc (L' := [(0, .ref (N0 + mb))]) rfl ?_
  rw [show m_here M = m_here_L0 (251 + mN M 15) M  from by rw [m_here]]
  exact t_m_here_L0 hn hC  (251 + mN M 15) M  hx (by first | omega | (simp [mN_A, mN_B, mN_I, mN_N] <;> omega))
def m_fails (M : MS) (a : Nat) (b : Nat) : Nat × MS := (a, mSetI M 16 (nI b))
theorem bX3_fails : nBV RX3 yX3_fails cX3_fails 3 (some .int) 2 := ⟨q841, qs21, q55, q842, by decide, by decide +kernel⟩
set_option maxRecDepth 100000 in
set_option maxHeartbeats 4000000 in
theorem t_m_fails (l : Launch) (D : va_G) (N0 : Nat) (kA : Nat → ClassId) (mb : Nat) (hs : hT) (M : MS) (n : Nat) (hn : mb + 28 < n) (a : Nat) (b : Nat)  : nE l yX3_fails cX3_fails 3 (some .int) D N0 kA 0 0 0 [.ref (N0 + mb), .int (nI a), .int (nI b)] (mH N0 mb kA hs M) n (nX (some (.int (nI ((m_fails M a b).1)))) (mH N0 mb kA hs ((m_fails M a b).2)) n) := by
  refine nE_of (by decide) (Nat.le_of_ble_eq_true rfl) ?_
  intro p e s m args below meth c hC hnm
  refine n_loc (L' := [(0, .ref (N0 + mb)), (1, .int (nI a)), (2, .int (nI b))]) rfl ?_
  refine n_aload_n hC dX3_fails_0 rfl ?_
  refine n_iload_n hC dX3_fails_1 rfl ?_
  refine n_put hC cl3 (k := 16) mc_o (by omega) (by decide) q696 rfl rfl rfl (by rw [mf_len]; decide) dX3_fails_2 (mu_I (M := M) (k := 16) (by decide) rfl rfl) ?_
  refine n_iload_n hC dX3_fails_5 rfl ?_
  have eq_ : m_fails M a b = (a, mSetI M 16 (nI b)) := by rw [m_fails]
  refine n_iret hC dX3_fails_6 (Nat.le_of_ble_eq_true rfl) (Nat.le_of_ble_eq_true rfl) ?_
  rw [eq_]
  dsimp only
  exact ⟨rfl, rfl, rfl⟩
theorem hereL_K : ∀ (fu : Nat) (M : MS), mTx M → 250 < mN M 17 + fu → (∀ j, j ≠ 17 → mN (m_here_L0 fu M).2 j = mN M j) ∧ (∀ j, mI (m_here_L0 fu M).2 j = mI M j) ∧ (∀ f j, mB (m_here_L0 fu M).2 f j = mB M f j) ∧ (∀ f j, mA (m_here_L0 fu M).2 f j = mA M f j) ∧ mTx (m_here_L0 fu M).2 ∧ mN M 17 ≤ mN (m_here_L0 fu M).2 17 ∧ (0 ≤ (m_here_L0 fu M).1 → mN (m_here_L0 fu M).2 17 < mN M 15) := by
  intro fu
  induction fu with
  | zero => intro M hx hf; exact absurd hf (by have := hx.1; have := hx.2.1; omega)
  | succ fu ih =>
    intro M hx hf
    have hx1 := hx.1
    have hx2 := hx.2.1
    rw [m_here_L0]
    split
    · next h1 => exact ⟨fun _ _ => rfl, fun _ => rfl, fun _ _ => rfl, fun _ _ => rfl, hx, Nat.le_refl _, fun z => absurd z (by show ¬ (0 : Int32) ≤ -1; decide)⟩
    · next h1 =>
      split
      · exact ⟨fun _ _ => rfl, fun _ => rfl, fun _ _ => rfl, fun _ _ => rfl, hx, Nat.le_refl _, fun _ => by show mN M 17 < _; omega⟩
      · obtain ⟨a1, a2, a3, a4, a5, a6, a7⟩ := ih (mSetN M 17 (mN M 17 + 1)) (tx_at hx (by omega)) (by rw [mN_N, if_pos rfl]; omega)
        refine ⟨fun j hj => ?_, a2, a3, a4, a5, ?_, a7⟩
        · rw [a1 j hj, mN_N, if_neg hj]
        · rw [mN_N, if_pos rfl] at a6
          omega
theorem here_K {M : MS} (hx : mTx M) : (∀ j, j ≠ 17 → mN (m_here M).2 j = mN M j) ∧ (∀ j, mI (m_here M).2 j = mI M j) ∧ (∀ f j, mB (m_here M).2 f j = mB M f j) ∧ (∀ f j, mA (m_here M).2 f j = mA M f j) ∧ mTx (m_here M).2 ∧ mN M 17 ≤ mN (m_here M).2 17 ∧ (0 ≤ (m_here M).1 → mN (m_here M).2 17 < mN M 15) := hereL_K _ M hx (by omega)
theorem here_tx {M : MS} (hx : mTx M) : mTx (m_here M).2 := (here_K hx).2.2.2.2.1
def m_takeNumber_L42 : Nat → MS → Int32 → Int32 → MS
  | 0, M, a, b => M
  | fu + 1, M, a, b => (if (mN M 15) ≤ (mN M 17) then M else (if (m_in ((nI (mB M 14 (mN M 17))).toInt64) (48) (57)) = true then (if (mN M 18) ≤ 10000 then m_takeNumber_L42 fu (mSetN (mSetN M 18 (((10 * (mN M 18)) + (mB M 14 (mN M 17))) - 48)) 17 ((mN M 17) + 1)) a b  else m_takeNumber_L42 fu (mSetN (mSetN M 18 (mN M 18)) 17 ((mN M 17) + 1)) a b ) else M))
def m_takeNumber_b (M : MS) (a : Int32) (b : Int32) : Nat × MS := (if (m_in (((m_here M).1).toInt64) (48) (57)) = true then (if (nI 3) < ((nI (mN (m_takeNumber_L42 (251 + mN (mSetN (mSetN ((m_here M).2) 19 (mN ((m_here M).2) 17)) 18 0) 15) (mSetN (mSetN ((m_here M).2) 19 (mN ((m_here M).2) 17)) 18 0) a b ) 17)) - (nI (mN (m_takeNumber_L42 (251 + mN (mSetN (mSetN ((m_here M).2) 19 (mN ((m_here M).2) 17)) 18 0) 15) (mSetN (mSetN ((m_here M).2) 19 (mN ((m_here M).2) 17)) 18 0) a b ) 19))) then ((m_fails (m_takeNumber_L42 (251 + mN (mSetN (mSetN ((m_here M).2) 19 (mN ((m_here M).2) 17)) 18 0) 15) (mSetN (mSetN ((m_here M).2) 19 (mN ((m_here M).2) 17)) 18 0) a b ) 2 (mN (m_takeNumber_L42 (251 + mN (mSetN (mSetN ((m_here M).2) 19 (mN ((m_here M).2) 17)) 18 0) 15) (mSetN (mSetN ((m_here M).2) 19 (mN ((m_here M).2) 17)) 18 0) a b ) 19)).1, (m_fails (m_takeNumber_L42 (251 + mN (mSetN (mSetN ((m_here M).2) 19 (mN ((m_here M).2) 17)) 18 0) 15) (mSetN (mSetN ((m_here M).2) 19 (mN ((m_here M).2) 17)) 18 0) a b ) 2 (mN (m_takeNumber_L42 (251 + mN (mSetN (mSetN ((m_here M).2) 19 (mN ((m_here M).2) 17)) 18 0) 15) (mSetN (mSetN ((m_here M).2) 19 (mN ((m_here M).2) 17)) 18 0) a b ) 19)).2) else (if (m_in ((nI (mN (m_takeNumber_L42 (251 + mN (mSetN (mSetN ((m_here M).2) 19 (mN ((m_here M).2) 17)) 18 0) 15) (mSetN (mSetN ((m_here M).2) 19 (mN ((m_here M).2) 17)) 18 0) a b ) 18)).toInt64) a.toInt64 b.toInt64) = true then (0, (m_takeNumber_L42 (251 + mN (mSetN (mSetN ((m_here M).2) 19 (mN ((m_here M).2) 17)) 18 0) 15) (mSetN (mSetN ((m_here M).2) 19 (mN ((m_here M).2) 17)) 18 0) a b )) else ((m_fails (m_takeNumber_L42 (251 + mN (mSetN (mSetN ((m_here M).2) 19 (mN ((m_here M).2) 17)) 18 0) 15) (mSetN (mSetN ((m_here M).2) 19 (mN ((m_here M).2) 17)) 18 0) a b ) 2 (mN (m_takeNumber_L42 (251 + mN (mSetN (mSetN ((m_here M).2) 19 (mN ((m_here M).2) 17)) 18 0) 15) (mSetN (mSetN ((m_here M).2) 19 (mN ((m_here M).2) 17)) 18 0) a b ) 19)).1, (m_fails (m_takeNumber_L42 (251 + mN (mSetN (mSetN ((m_here M).2) 19 (mN ((m_here M).2) 17)) 18 0) 15) (mSetN (mSetN ((m_here M).2) 19 (mN ((m_here M).2) 17)) 18 0) a b ) 2 (mN (m_takeNumber_L42 (251 + mN (mSetN (mSetN ((m_here M).2) 19 (mN ((m_here M).2) 17)) 18 0) 15) (mSetN (mSetN ((m_here M).2) 19 (mN ((m_here M).2) 17)) 18 0) a b ) 19)).2))) else ((m_fails ((m_here M).2) 1 (mN ((m_here M).2) 17)).1, (m_fails ((m_here M).2) 1 (mN ((m_here M).2) 17)).2))
theorem m_takeNumber_x : ∃ f : MS → Int32 → Int32 → Nat × MS, ∀ (M : MS) (a : Int32) (b : Int32), f M a b = m_takeNumber_b M a b := ⟨m_takeNumber_b, fun M a b => rfl⟩
noncomputable def m_takeNumber : MS → Int32 → Int32 → Nat × MS := Classical.choose m_takeNumber_x
theorem m_takeNumber_d (M : MS) (a : Int32) (b : Int32) : m_takeNumber M a b = (if (m_in (((m_here M).1).toInt64) (48) (57)) = true then (if (nI 3) < ((nI (mN (m_takeNumber_L42 (251 + mN (mSetN (mSetN ((m_here M).2) 19 (mN ((m_here M).2) 17)) 18 0) 15) (mSetN (mSetN ((m_here M).2) 19 (mN ((m_here M).2) 17)) 18 0) a b ) 17)) - (nI (mN (m_takeNumber_L42 (251 + mN (mSetN (mSetN ((m_here M).2) 19 (mN ((m_here M).2) 17)) 18 0) 15) (mSetN (mSetN ((m_here M).2) 19 (mN ((m_here M).2) 17)) 18 0) a b ) 19))) then ((m_fails (m_takeNumber_L42 (251 + mN (mSetN (mSetN ((m_here M).2) 19 (mN ((m_here M).2) 17)) 18 0) 15) (mSetN (mSetN ((m_here M).2) 19 (mN ((m_here M).2) 17)) 18 0) a b ) 2 (mN (m_takeNumber_L42 (251 + mN (mSetN (mSetN ((m_here M).2) 19 (mN ((m_here M).2) 17)) 18 0) 15) (mSetN (mSetN ((m_here M).2) 19 (mN ((m_here M).2) 17)) 18 0) a b ) 19)).1, (m_fails (m_takeNumber_L42 (251 + mN (mSetN (mSetN ((m_here M).2) 19 (mN ((m_here M).2) 17)) 18 0) 15) (mSetN (mSetN ((m_here M).2) 19 (mN ((m_here M).2) 17)) 18 0) a b ) 2 (mN (m_takeNumber_L42 (251 + mN (mSetN (mSetN ((m_here M).2) 19 (mN ((m_here M).2) 17)) 18 0) 15) (mSetN (mSetN ((m_here M).2) 19 (mN ((m_here M).2) 17)) 18 0) a b ) 19)).2) else (if (m_in ((nI (mN (m_takeNumber_L42 (251 + mN (mSetN (mSetN ((m_here M).2) 19 (mN ((m_here M).2) 17)) 18 0) 15) (mSetN (mSetN ((m_here M).2) 19 (mN ((m_here M).2) 17)) 18 0) a b ) 18)).toInt64) a.toInt64 b.toInt64) = true then (0, (m_takeNumber_L42 (251 + mN (mSetN (mSetN ((m_here M).2) 19 (mN ((m_here M).2) 17)) 18 0) 15) (mSetN (mSetN ((m_here M).2) 19 (mN ((m_here M).2) 17)) 18 0) a b )) else ((m_fails (m_takeNumber_L42 (251 + mN (mSetN (mSetN ((m_here M).2) 19 (mN ((m_here M).2) 17)) 18 0) 15) (mSetN (mSetN ((m_here M).2) 19 (mN ((m_here M).2) 17)) 18 0) a b ) 2 (mN (m_takeNumber_L42 (251 + mN (mSetN (mSetN ((m_here M).2) 19 (mN ((m_here M).2) 17)) 18 0) 15) (mSetN (mSetN ((m_here M).2) 19 (mN ((m_here M).2) 17)) 18 0) a b ) 19)).1, (m_fails (m_takeNumber_L42 (251 + mN (mSetN (mSetN ((m_here M).2) 19 (mN ((m_here M).2) 17)) 18 0) 15) (mSetN (mSetN ((m_here M).2) 19 (mN ((m_here M).2) 17)) 18 0) a b ) 2 (mN (m_takeNumber_L42 (251 + mN (mSetN (mSetN ((m_here M).2) 19 (mN ((m_here M).2) 17)) 18 0) 15) (mSetN (mSetN ((m_here M).2) 19 (mN ((m_here M).2) 17)) 18 0) a b ) 19)).2))) else ((m_fails ((m_here M).2) 1 (mN ((m_here M).2) 17)).1, (m_fails ((m_here M).2) 1 (mN ((m_here M).2) 17)).2)) := Classical.choose_spec m_takeNumber_x M a b
theorem bX3_takeNumber : nBV RX3 yX3_takeNumber cX3_takeNumber 4 (some .int) 2 := ⟨q853, qs24, q55, q854, by decide, by decide +kernel⟩
set_option maxRecDepth 100000 in
set_option maxHeartbeats 4000000 in
theorem t_m_takeNumber_L42 {p : Program} {l : Launch} {e : Env} {s : State} {m : MethodId} {args : Array Value} {below : List Frame} {meth : Method} {c : Code} {Q : State → Prop} {D : va_G} {N0 : Nat} {kA : Nat → ClassId} {mb : Nat} {hs : hT} {n : Nat} (hn : mb + 28 < n) {a : Int32} {b : Int32} (hC : nC p s m args meth c RX3 cX3_takeNumber 4 (some .int) true D N0 kA)  : ∀ (fu : Nat) (M : MS)  (hx : mTx M) (hN : mN M 18 ≤ 100009) (hf : 250 < mN M 17 + fu) (hK : nW p l e (nRm 1 0 0) s m args below meth c Q D N0 4 129 [(0, .ref (N0 + mb)), (1, .int a), (2, .int b)] [] (mH N0 mb kA hs (m_takeNumber_L42 fu M a b )) n 0 0), nW p l e (nRm 1 0 0) s m args below meth c Q D N0 4 42 [(0, .ref (N0 + mb)), (1, .int a), (2, .int b)] [] (mH N0 mb kA hs M) n 0 0 := by
  intro fu
  induction fu with
  | zero =>
    intro M  hx hN hf hK
    have hx1 := hx.1
    have hx2 := hx.2.1
    have hx3 := hx.2.2
    exfalso; omega
  | succ fu ih =>
    intro M  hx hN hf hK
    have hx1 := hx.1
    have hx2 := hx.2.1
    have hx3 := hx.2.2
    refine n_aload_n hC dX3_takeNumber_42 rfl ?_
    refine n_get hC cl3 (k := 17) (v := .int (nI (mN M 17))) mc_o (by omega) (by decide) q697 (mf_get N0 mb M (by decide)) dX3_takeNumber_43 ?_
    refine n_aload_n hC dX3_takeNumber_46 rfl ?_
    refine n_get hC cl3 (k := 15) (v := .int (nI (mN M 15))) mc_o (by omega) (by decide) q695 (mf_get N0 mb M (by decide)) dX3_takeNumber_47 ?_
    refine n_icmp_geN (tgt := 129) hC (mN M 17) (mN M 15) rfl rfl (by omega) (by omega) dX3_takeNumber_50 (by decide) (fun c50 => ?_) (fun c50 => ?_)
    · rw [m_takeNumber_L42, if_pos c50] at hK
      exact hK
    · have ht := hx3 (mN M 17) (by omega)
      refine n_aload_n hC dX3_takeNumber_53 rfl ?_
      refine n_get hC cl3 (k := 14) (v := .ref (N0 + (mb + 11))) mc_o (by omega) (by decide) q694 (mf_get N0 mb M (by decide)) dX3_takeNumber_54 ?_
      refine n_aload_n hC dX3_takeNumber_57 rfl ?_
      refine n_get hC cl3 (k := 17) (v := .int (nI (mN M 17))) mc_o (by omega) (by decide) q697 (mf_get N0 mb M (by decide)) dX3_takeNumber_58 ?_
      refine n_iald hC (f := fun j => nI (mB M 14 j)) (mc_a (p := 11) (by decide) (by decide)) (by omega) (mN M 17) rfl (by omega) (by decide) dX3_takeNumber_61 ?_
      refine n_i2l hC dX3_takeNumber_62 ?_
      refine n_ldc2 hC dX3_takeNumber_63 q855 ?_
      refine n_ldc2 hC dX3_takeNumber_66 q856 ?_
      refine n_callS1 hC (As := [.long ((nI (mB M 14 (mN M 17))).toInt64), .long (48), .long (57)]) (rest := []) bX3_in (t_m_in l D N0 kA (mH N0 mb kA hs M) n ((nI (mB M 14 (mN M 17))).toInt64) (48) (57) ) (by decide) (by decide) q822 rfl (Nat.le_of_ble_eq_true rfl) dX3_takeNumber_69 (Nat.le_of_ble_eq_true rfl) (Nat.le_of_ble_eq_true rfl) ?_
      refine n_stk (st' := [.int (bI (m_in ((nI (mB M 14 (mN M 17))).toInt64) (48) (57)))]) rfl ?_
      refine n_if_eqB (tgt := 129) hC dX3_takeNumber_72 (by decide) (fun c72 => ?_) (fun c72 => ?_)
      · rw [m_takeNumber_L42, if_neg (Nat.not_le.mpr c50), if_neg (by rw [c72]; decide)] at hK
        exact hK
      · have hd := (in_cst (x := nI (mB M 14 (mN M 17))) 48 57 rfl rfl).mp c72
        rw [cl_nI (by omega)] at hd
        have hd2 := hd.2
        refine n_aload_n hC dX3_takeNumber_75 rfl ?_
        refine n_aload_n hC dX3_takeNumber_76 rfl ?_
        refine n_get hC cl3 (k := 18) (v := .int (nI (mN M 18))) mc_o (by omega) (by decide) q698 (mf_get N0 mb M (by decide)) dX3_takeNumber_77 ?_
        refine n_sipush (v := (nI 10000)) hC dX3_takeNumber_80 (by decide) ?_
        refine n_icmp_leN (tgt := 93) hC (mN M 18) 10000 rfl rfl (by omega) (by omega) dX3_takeNumber_83 (by decide) (fun c83 => ?_) (fun c83 => ?_)
        · refine n_bipush (v := (nI 10)) hC dX3_takeNumber_93 (by decide) ?_
          refine n_aload_n hC dX3_takeNumber_95 rfl ?_
          refine n_get hC cl3 (k := 18) (v := .int (nI (mN M 18))) mc_o (by omega) (by decide) q698 (mf_get N0 mb M (by decide)) dX3_takeNumber_96 ?_
          refine n_imulN hC dX3_takeNumber_99 ?_
          refine n_aload_n hC dX3_takeNumber_100 rfl ?_
          refine n_get hC cl3 (k := 14) (v := .ref (N0 + (mb + 11))) mc_o (by omega) (by decide) q694 (mf_get N0 mb M (by decide)) dX3_takeNumber_101 ?_
          refine n_aload_n hC dX3_takeNumber_104 rfl ?_
          refine n_get hC cl3 (k := 17) (v := .int (nI (mN M 17))) mc_o (by omega) (by decide) q697 (mf_get N0 mb M (by decide)) dX3_takeNumber_105 ?_
          refine n_iald hC (f := fun j => nI (mB M 14 j)) (mc_a (p := 11) (by decide) (by decide)) (by omega) (mN M 17) rfl (by omega) (by decide) dX3_takeNumber_108 ?_
          refine n_iaddN hC dX3_takeNumber_109 ?_
          refine n_bipush (v := (nI 48)) hC dX3_takeNumber_110 (by decide) ?_
          refine n_isubN hC (by omega) dX3_takeNumber_112 ?_
          refine n_put hC cl3 (k := 18) mc_o (by omega) (by decide) q698 rfl rfl rfl (by rw [mf_len]; decide) dX3_takeNumber_113 (mu_N (M := M) (k := 18) (by decide) rfl rfl) ?_
          refine n_aload_n hC dX3_takeNumber_116 rfl ?_
          refine n_dup hC dX3_takeNumber_117 rfl ?_
          refine n_get hC cl3 (k := 17) (v := .int (nI (mN M 17))) mc_o (by omega) (by decide) q697 (mf_get N0 mb (mSetN M 18 (((10 * (mN M 18)) + (mB M 14 (mN M 17))) - 48)) (by decide)) dX3_takeNumber_118 ?_
          refine n_iconst (v := (nI 1)) hC dX3_takeNumber_121 (by decide) ?_
          refine n_iaddN hC dX3_takeNumber_122 ?_
          refine n_put hC cl3 (k := 17) mc_o (by omega) (by decide) q697 rfl rfl rfl (by rw [mf_len]; decide) dX3_takeNumber_123 (mu_N (M := (mSetN M 18 (((10 * (mN M 18)) + (mB M 14 (mN M 17))) - 48))) (k := 17) (by decide) rfl rfl) ?_
          refine n_goto (tgt := 42) hC dX3_takeNumber_126 (by decide) ?_
          rw [m_takeNumber_L42, if_neg (Nat.not_le.mpr c50), if_pos c72, if_pos c83] at hK
          exact ih (mSetN (mSetN M 18 (((10 * (mN M 18)) + (mB M 14 (mN M 17))) - 48)) 17 ((mN M 17) + 1))  (tx_at (tx_o (by decide) (by decide) hx) (by simp [mN_N]; omega)) (by simp [mN_N]; omega) (by simp [mN_N]; omega) hK
        · refine n_aload_n hC dX3_takeNumber_86 rfl ?_
          refine n_get hC cl3 (k := 18) (v := .int (nI (mN M 18))) mc_o (by omega) (by decide) q698 (mf_get N0 mb M (by decide)) dX3_takeNumber_87 ?_
          refine n_goto (tgt := 113) hC dX3_takeNumber_90 (by decide) ?_
          refine n_put hC cl3 (k := 18) mc_o (by omega) (by decide) q698 rfl rfl rfl (by rw [mf_len]; decide) dX3_takeNumber_113 (mu_N (M := M) (k := 18) (by decide) rfl rfl) ?_
          refine n_aload_n hC dX3_takeNumber_116 rfl ?_
          refine n_dup hC dX3_takeNumber_117 rfl ?_
          refine n_get hC cl3 (k := 17) (v := .int (nI (mN M 17))) mc_o (by omega) (by decide) q697 (mf_get N0 mb (mSetN M 18 (mN M 18)) (by decide)) dX3_takeNumber_118 ?_
          refine n_iconst (v := (nI 1)) hC dX3_takeNumber_121 (by decide) ?_
          refine n_iaddN hC dX3_takeNumber_122 ?_
          refine n_put hC cl3 (k := 17) mc_o (by omega) (by decide) q697 rfl rfl rfl (by rw [mf_len]; decide) dX3_takeNumber_123 (mu_N (M := (mSetN M 18 (mN M 18))) (k := 17) (by decide) rfl rfl) ?_
          refine n_goto (tgt := 42) hC dX3_takeNumber_126 (by decide) ?_
          rw [m_takeNumber_L42, if_neg (Nat.not_le.mpr c50), if_pos c72, if_neg (Nat.not_le.mpr c83)] at hK
          exact ih (mSetN (mSetN M 18 (mN M 18)) 17 ((mN M 17) + 1))  (tx_at (tx_o (by decide) (by decide) hx) (by simp [mN_N]; omega)) (by simp [mN_N]; omega) (by simp [mN_N]; omega) hK
set_option maxRecDepth 100000 in
set_option maxHeartbeats 4000000 in
theorem t_m_takeNumber (l : Launch) (D : va_G) (N0 : Nat) (kA : Nat → ClassId) (mb : Nat) (hs : hT) (M : MS) (n : Nat) (hn : mb + 28 < n) (a : Int32) (b : Int32) (hx : mTx M) : nE l yX3_takeNumber cX3_takeNumber 4 (some .int) D N0 kA 1 0 0 [.ref (N0 + mb), .int a, .int b] (mH N0 mb kA hs M) n (nX (some (.int (nI ((m_takeNumber M a b).1)))) (mH N0 mb kA hs ((m_takeNumber M a b).2)) n) := by
  refine nE_of (by decide) (Nat.le_of_ble_eq_true rfl) ?_
  intro p e s m args below meth c hC hnm
  refine n_loc (L' := [(0, .ref (N0 + mb)), (1, .int a), (2, .int b)]) rfl ?_
  refine n_aload_n hC dX3_takeNumber_0 rfl ?_
  refine n_callV1 hC (As := []) (rest := []) mc_o (by omega) rfl bX3_here (t_m_here l D N0 kA mb hs M n hn  hx) (by decide) (by decide) q831 rfl (Nat.le_of_ble_eq_true rfl) dX3_takeNumber_1 (Nat.le_of_ble_eq_true rfl) (Nat.le_of_ble_eq_true rfl) ?_
  refine n_stk (st' := [.int ((m_here M).1)]) rfl ?_
  refine n_istore_n (L' := [(0, .ref (N0 + mb)), (1, .int a), (2, .int b), (3, .int ((m_here M).1))]) hC dX3_takeNumber_4 (by decide) rfl ?_
  refine n_iload_n hC dX3_takeNumber_5 rfl ?_
  refine n_i2l hC dX3_takeNumber_6 ?_
  refine n_ldc2 hC dX3_takeNumber_7 q855 ?_
  refine n_ldc2 hC dX3_takeNumber_10 q856 ?_
  refine n_callS1 hC (As := [.long (((m_here M).1).toInt64), .long (48), .long (57)]) (rest := []) bX3_in (t_m_in l D N0 kA (mH N0 mb kA hs ((m_here M).2)) n (((m_here M).1).toInt64) (48) (57) ) (by decide) (by decide) q822 rfl (Nat.le_of_ble_eq_true rfl) dX3_takeNumber_13 (Nat.le_of_ble_eq_true rfl) (Nat.le_of_ble_eq_true rfl) ?_
  refine n_stk (st' := [.int (bI (m_in (((m_here M).1).toInt64) (48) (57)))]) rfl ?_
  refine n_if_neB (tgt := 29) hC dX3_takeNumber_16 (by decide) (fun c16 => ?_) (fun c16 => ?_)
  · refine n_aload_n hC dX3_takeNumber_29 rfl ?_
    refine n_aload_n hC dX3_takeNumber_30 rfl ?_
    refine n_get hC cl3 (k := 17) (v := .int (nI (mN ((m_here M).2) 17))) mc_o (by omega) (by decide) q697 (mf_get N0 mb ((m_here M).2) (by decide)) dX3_takeNumber_31 ?_
    refine n_put hC cl3 (k := 19) mc_o (by omega) (by decide) q699 rfl rfl rfl (by rw [mf_len]; decide) dX3_takeNumber_34 (mu_N (M := ((m_here M).2)) (k := 19) (by decide) rfl rfl) ?_
    refine n_aload_n hC dX3_takeNumber_37 rfl ?_
    refine n_iconst (v := (nI 0)) hC dX3_takeNumber_38 (by decide) ?_
    refine n_put hC cl3 (k := 18) mc_o (by omega) (by decide) q698 rfl rfl rfl (by rw [mf_len]; decide) dX3_takeNumber_39 (mu_N (M := (mSetN ((m_here M).2) 19 (mN ((m_here M).2) 17))) (k := 18) (by decide) rfl rfl) ?_
    refine n_drop [0, 1, 2] (L' := [(0, .ref (N0 + mb)), (1, .int a), (2, .int b)]) rfl ?_
    refine t_m_takeNumber_L42 hn hC  (251 + mN (mSetN (mSetN ((m_here M).2) 19 (mN ((m_here M).2) 17)) 18 0) 15) (mSetN (mSetN ((m_here M).2) 19 (mN ((m_here M).2) 17)) 18 0)  (tx_o (by decide) (by decide) (tx_o (by decide) (by decide) (here_tx hx))) (by simp [mN_N]) (by omega) ?_
    refine n_aload_n hC dX3_takeNumber_129 rfl ?_
    refine n_get hC cl3 (k := 17) (v := .int (nI (mN (m_takeNumber_L42 (251 + mN (mSetN (mSetN ((m_here M).2) 19 (mN ((m_here M).2) 17)) 18 0) 15) (mSetN (mSetN ((m_here M).2) 19 (mN ((m_here M).2) 17)) 18 0) a b ) 17))) mc_o (by omega) (by decide) q697 (mf_get N0 mb (m_takeNumber_L42 (251 + mN (mSetN (mSetN ((m_here M).2) 19 (mN ((m_here M).2) 17)) 18 0) 15) (mSetN (mSetN ((m_here M).2) 19 (mN ((m_here M).2) 17)) 18 0) a b ) (by decide)) dX3_takeNumber_130 ?_
    refine n_aload_n hC dX3_takeNumber_133 rfl ?_
    refine n_get hC cl3 (k := 19) (v := .int (nI (mN (m_takeNumber_L42 (251 + mN (mSetN (mSetN ((m_here M).2) 19 (mN ((m_here M).2) 17)) 18 0) 15) (mSetN (mSetN ((m_here M).2) 19 (mN ((m_here M).2) 17)) 18 0) a b ) 19))) mc_o (by omega) (by decide) q699 (mf_get N0 mb (m_takeNumber_L42 (251 + mN (mSetN (mSetN ((m_here M).2) 19 (mN ((m_here M).2) 17)) 18 0) 15) (mSetN (mSetN ((m_here M).2) 19 (mN ((m_here M).2) 17)) 18 0) a b ) (by decide)) dX3_takeNumber_134 ?_
    refine n_isub hC dX3_takeNumber_137 ?_
    refine n_iconst (v := (nI 3)) hC dX3_takeNumber_138 (by decide) ?_
    refine n_icmp_gt (tgt := 157) hC dX3_takeNumber_139 (by decide) (fun c139 => ?_) (fun c139 => ?_)
    · refine n_aload_n hC dX3_takeNumber_157 rfl ?_
      refine n_iconst (v := (nI 2)) hC dX3_takeNumber_158 (by decide) ?_
      refine n_aload_n hC dX3_takeNumber_159 rfl ?_
      refine n_get hC cl3 (k := 19) (v := .int (nI (mN (m_takeNumber_L42 (251 + mN (mSetN (mSetN ((m_here M).2) 19 (mN ((m_here M).2) 17)) 18 0) 15) (mSetN (mSetN ((m_here M).2) 19 (mN ((m_here M).2) 17)) 18 0) a b ) 19))) mc_o (by omega) (by decide) q699 (mf_get N0 mb (m_takeNumber_L42 (251 + mN (mSetN (mSetN ((m_here M).2) 19 (mN ((m_here M).2) 17)) 18 0) 15) (mSetN (mSetN ((m_here M).2) 19 (mN ((m_here M).2) 17)) 18 0) a b ) (by decide)) dX3_takeNumber_160 ?_
      refine n_callV1 hC (As := [.int (nI 2), .int (nI (mN (m_takeNumber_L42 (251 + mN (mSetN (mSetN ((m_here M).2) 19 (mN ((m_here M).2) 17)) 18 0) 15) (mSetN (mSetN ((m_here M).2) 19 (mN ((m_here M).2) 17)) 18 0) a b ) 19))]) (rest := []) mc_o (by omega) rfl bX3_fails (t_m_fails l D N0 kA mb hs (m_takeNumber_L42 (251 + mN (mSetN (mSetN ((m_here M).2) 19 (mN ((m_here M).2) 17)) 18 0) 15) (mSetN (mSetN ((m_here M).2) 19 (mN ((m_here M).2) 17)) 18 0) a b ) n hn 2 (mN (m_takeNumber_L42 (251 + mN (mSetN (mSetN ((m_here M).2) 19 (mN ((m_here M).2) 17)) 18 0) 15) (mSetN (mSetN ((m_here M).2) 19 (mN ((m_here M).2) 17)) 18 0) a b ) 19) ) (by decide) (by decide) q839 rfl (Nat.le_of_ble_eq_true rfl) dX3_takeNumber_163 (Nat.le_of_ble_eq_true rfl) (Nat.le_of_ble_eq_true rfl) ?_
      refine n_stk (st' := [.int (nI ((m_fails (m_takeNumber_L42 (251 + mN (mSetN (mSetN ((m_here M).2) 19 (mN ((m_here M).2) 17)) 18 0) 15) (mSetN (mSetN ((m_here M).2) 19 (mN ((m_here M).2) 17)) 18 0) a b ) 2 (mN (m_takeNumber_L42 (251 + mN (mSetN (mSetN ((m_here M).2) 19 (mN ((m_here M).2) 17)) 18 0) 15) (mSetN (mSetN ((m_here M).2) 19 (mN ((m_here M).2) 17)) 18 0) a b ) 19)).1))]) rfl ?_
      refine n_goto (tgt := 170) hC dX3_takeNumber_166 (by decide) ?_
      have eq_ : m_takeNumber M a b = ((m_fails (m_takeNumber_L42 (251 + mN (mSetN (mSetN ((m_here M).2) 19 (mN ((m_here M).2) 17)) 18 0) 15) (mSetN (mSetN ((m_here M).2) 19 (mN ((m_here M).2) 17)) 18 0) a b ) 2 (mN (m_takeNumber_L42 (251 + mN (mSetN (mSetN ((m_here M).2) 19 (mN ((m_here M).2) 17)) 18 0) 15) (mSetN (mSetN ((m_here M).2) 19 (mN ((m_here M).2) 17)) 18 0) a b ) 19)).1, (m_fails (m_takeNumber_L42 (251 + mN (mSetN (mSetN ((m_here M).2) 19 (mN ((m_here M).2) 17)) 18 0) 15) (mSetN (mSetN ((m_here M).2) 19 (mN ((m_here M).2) 17)) 18 0) a b ) 2 (mN (m_takeNumber_L42 (251 + mN (mSetN (mSetN ((m_here M).2) 19 (mN ((m_here M).2) 17)) 18 0) 15) (mSetN (mSetN ((m_here M).2) 19 (mN ((m_here M).2) 17)) 18 0) a b ) 19)).2) := by rw [m_takeNumber_d, if_pos c16, if_pos c139]
      refine n_iret hC dX3_takeNumber_170 (Nat.le_of_ble_eq_true rfl) (Nat.le_of_ble_eq_true rfl) ?_
      rw [eq_]
      dsimp only
      exact ⟨rfl, rfl, rfl⟩
    · refine n_aload_n hC dX3_takeNumber_142 rfl ?_
      refine n_get hC cl3 (k := 18) (v := .int (nI (mN (m_takeNumber_L42 (251 + mN (mSetN (mSetN ((m_here M).2) 19 (mN ((m_here M).2) 17)) 18 0) 15) (mSetN (mSetN ((m_here M).2) 19 (mN ((m_here M).2) 17)) 18 0) a b ) 18))) mc_o (by omega) (by decide) q698 (mf_get N0 mb (m_takeNumber_L42 (251 + mN (mSetN (mSetN ((m_here M).2) 19 (mN ((m_here M).2) 17)) 18 0) 15) (mSetN (mSetN ((m_here M).2) 19 (mN ((m_here M).2) 17)) 18 0) a b ) (by decide)) dX3_takeNumber_143 ?_
      refine n_i2l hC dX3_takeNumber_146 ?_
      refine n_iload_n hC dX3_takeNumber_147 rfl ?_
      refine n_i2l hC dX3_takeNumber_148 ?_
      refine n_iload_n hC dX3_takeNumber_149 rfl ?_
      refine n_i2l hC dX3_takeNumber_150 ?_
      refine n_callS1 hC (As := [.long ((nI (mN (m_takeNumber_L42 (251 + mN (mSetN (mSetN ((m_here M).2) 19 (mN ((m_here M).2) 17)) 18 0) 15) (mSetN (mSetN ((m_here M).2) 19 (mN ((m_here M).2) 17)) 18 0) a b ) 18)).toInt64), .long a.toInt64, .long b.toInt64]) (rest := []) bX3_in (t_m_in l D N0 kA (mH N0 mb kA hs (m_takeNumber_L42 (251 + mN (mSetN (mSetN ((m_here M).2) 19 (mN ((m_here M).2) 17)) 18 0) 15) (mSetN (mSetN ((m_here M).2) 19 (mN ((m_here M).2) 17)) 18 0) a b )) n ((nI (mN (m_takeNumber_L42 (251 + mN (mSetN (mSetN ((m_here M).2) 19 (mN ((m_here M).2) 17)) 18 0) 15) (mSetN (mSetN ((m_here M).2) 19 (mN ((m_here M).2) 17)) 18 0) a b ) 18)).toInt64) a.toInt64 b.toInt64 ) (by decide) (by decide) q822 rfl (Nat.le_of_ble_eq_true rfl) dX3_takeNumber_151 (Nat.le_of_ble_eq_true rfl) (Nat.le_of_ble_eq_true rfl) ?_
      refine n_stk (st' := [.int (bI (m_in ((nI (mN (m_takeNumber_L42 (251 + mN (mSetN (mSetN ((m_here M).2) 19 (mN ((m_here M).2) 17)) 18 0) 15) (mSetN (mSetN ((m_here M).2) 19 (mN ((m_here M).2) 17)) 18 0) a b ) 18)).toInt64) a.toInt64 b.toInt64))]) rfl ?_
      refine n_if_neB (tgt := 169) hC dX3_takeNumber_154 (by decide) (fun c154 => ?_) (fun c154 => ?_)
      · refine n_iconst (v := (nI 0)) hC dX3_takeNumber_169 (by decide) ?_
        have eq_ : m_takeNumber M a b = (0, (m_takeNumber_L42 (251 + mN (mSetN (mSetN ((m_here M).2) 19 (mN ((m_here M).2) 17)) 18 0) 15) (mSetN (mSetN ((m_here M).2) 19 (mN ((m_here M).2) 17)) 18 0) a b )) := by rw [m_takeNumber_d, if_pos c16, if_neg c139, if_pos c154]
        refine n_iret hC dX3_takeNumber_170 (Nat.le_of_ble_eq_true rfl) (Nat.le_of_ble_eq_true rfl) ?_
        rw [eq_]
        dsimp only
        exact ⟨rfl, rfl, rfl⟩
      · refine n_aload_n hC dX3_takeNumber_157 rfl ?_
        refine n_iconst (v := (nI 2)) hC dX3_takeNumber_158 (by decide) ?_
        refine n_aload_n hC dX3_takeNumber_159 rfl ?_
        refine n_get hC cl3 (k := 19) (v := .int (nI (mN (m_takeNumber_L42 (251 + mN (mSetN (mSetN ((m_here M).2) 19 (mN ((m_here M).2) 17)) 18 0) 15) (mSetN (mSetN ((m_here M).2) 19 (mN ((m_here M).2) 17)) 18 0) a b ) 19))) mc_o (by omega) (by decide) q699 (mf_get N0 mb (m_takeNumber_L42 (251 + mN (mSetN (mSetN ((m_here M).2) 19 (mN ((m_here M).2) 17)) 18 0) 15) (mSetN (mSetN ((m_here M).2) 19 (mN ((m_here M).2) 17)) 18 0) a b ) (by decide)) dX3_takeNumber_160 ?_
        refine n_callV1 hC (As := [.int (nI 2), .int (nI (mN (m_takeNumber_L42 (251 + mN (mSetN (mSetN ((m_here M).2) 19 (mN ((m_here M).2) 17)) 18 0) 15) (mSetN (mSetN ((m_here M).2) 19 (mN ((m_here M).2) 17)) 18 0) a b ) 19))]) (rest := []) mc_o (by omega) rfl bX3_fails (t_m_fails l D N0 kA mb hs (m_takeNumber_L42 (251 + mN (mSetN (mSetN ((m_here M).2) 19 (mN ((m_here M).2) 17)) 18 0) 15) (mSetN (mSetN ((m_here M).2) 19 (mN ((m_here M).2) 17)) 18 0) a b ) n hn 2 (mN (m_takeNumber_L42 (251 + mN (mSetN (mSetN ((m_here M).2) 19 (mN ((m_here M).2) 17)) 18 0) 15) (mSetN (mSetN ((m_here M).2) 19 (mN ((m_here M).2) 17)) 18 0) a b ) 19) ) (by decide) (by decide) q839 rfl (Nat.le_of_ble_eq_true rfl) dX3_takeNumber_163 (Nat.le_of_ble_eq_true rfl) (Nat.le_of_ble_eq_true rfl) ?_
        refine n_stk (st' := [.int (nI ((m_fails (m_takeNumber_L42 (251 + mN (mSetN (mSetN ((m_here M).2) 19 (mN ((m_here M).2) 17)) 18 0) 15) (mSetN (mSetN ((m_here M).2) 19 (mN ((m_here M).2) 17)) 18 0) a b ) 2 (mN (m_takeNumber_L42 (251 + mN (mSetN (mSetN ((m_here M).2) 19 (mN ((m_here M).2) 17)) 18 0) 15) (mSetN (mSetN ((m_here M).2) 19 (mN ((m_here M).2) 17)) 18 0) a b ) 19)).1))]) rfl ?_
        refine n_goto (tgt := 170) hC dX3_takeNumber_166 (by decide) ?_
        have eq_ : m_takeNumber M a b = ((m_fails (m_takeNumber_L42 (251 + mN (mSetN (mSetN ((m_here M).2) 19 (mN ((m_here M).2) 17)) 18 0) 15) (mSetN (mSetN ((m_here M).2) 19 (mN ((m_here M).2) 17)) 18 0) a b ) 2 (mN (m_takeNumber_L42 (251 + mN (mSetN (mSetN ((m_here M).2) 19 (mN ((m_here M).2) 17)) 18 0) 15) (mSetN (mSetN ((m_here M).2) 19 (mN ((m_here M).2) 17)) 18 0) a b ) 19)).1, (m_fails (m_takeNumber_L42 (251 + mN (mSetN (mSetN ((m_here M).2) 19 (mN ((m_here M).2) 17)) 18 0) 15) (mSetN (mSetN ((m_here M).2) 19 (mN ((m_here M).2) 17)) 18 0) a b ) 2 (mN (m_takeNumber_L42 (251 + mN (mSetN (mSetN ((m_here M).2) 19 (mN ((m_here M).2) 17)) 18 0) 15) (mSetN (mSetN ((m_here M).2) 19 (mN ((m_here M).2) 17)) 18 0) a b ) 19)).2) := by rw [m_takeNumber_d, if_pos c16, if_neg c139, if_neg (by rw [c154]; decide)]
        refine n_iret hC dX3_takeNumber_170 (Nat.le_of_ble_eq_true rfl) (Nat.le_of_ble_eq_true rfl) ?_
        rw [eq_]
        dsimp only
        exact ⟨rfl, rfl, rfl⟩
  · refine n_aload_n hC dX3_takeNumber_19 rfl ?_
    refine n_iconst (v := (nI 1)) hC dX3_takeNumber_20 (by decide) ?_
    refine n_aload_n hC dX3_takeNumber_21 rfl ?_
    refine n_get hC cl3 (k := 17) (v := .int (nI (mN ((m_here M).2) 17))) mc_o (by omega) (by decide) q697 (mf_get N0 mb ((m_here M).2) (by decide)) dX3_takeNumber_22 ?_
    refine n_callV1 hC (As := [.int (nI 1), .int (nI (mN ((m_here M).2) 17))]) (rest := []) mc_o (by omega) rfl bX3_fails (t_m_fails l D N0 kA mb hs ((m_here M).2) n hn 1 (mN ((m_here M).2) 17) ) (by decide) (by decide) q839 rfl (Nat.le_of_ble_eq_true rfl) dX3_takeNumber_25 (Nat.le_of_ble_eq_true rfl) (Nat.le_of_ble_eq_true rfl) ?_
    refine n_stk (st' := [.int (nI ((m_fails ((m_here M).2) 1 (mN ((m_here M).2) 17)).1))]) rfl ?_
    have eq_ : m_takeNumber M a b = ((m_fails ((m_here M).2) 1 (mN ((m_here M).2) 17)).1, (m_fails ((m_here M).2) 1 (mN ((m_here M).2) 17)).2) := by rw [m_takeNumber_d, if_neg (by rw [c16]; decide)]
    refine n_iret hC dX3_takeNumber_28 (Nat.le_of_ble_eq_true rfl) (Nat.le_of_ble_eq_true rfl) ?_
    rw [eq_]
    dsimp only
    exact ⟨rfl, rfl, rfl⟩
