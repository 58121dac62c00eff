/-! the reference: what is done -/
def m_swell (M : MS) (k : Nat) (v : Int32) : MS := (if (nI 140) ≤ ((mA M 12 k) + v) then mSetA M 12 k (nI 140) else mSetA M 12 k ((mA M 12 k) + v))
theorem bX3_swell : nBV RX3 yX3_swell cX3_swell 3 none 2 := ⟨q948, qs38, q55, q949, by decide, by decide +kernel⟩
set_option maxRecDepth 100000 in
set_option maxHeartbeats 4000000 in
theorem t_m_swell (l : Launch) (D : va_G) (N0 : Nat) (kA : Nat → ClassId) (mb : Nat) (hs : hT) (M : MS) (n : Nat) (hn : mb + 28 < n) (k : Nat) (v : Int32) (hk : k < 6) : nE l yX3_swell cX3_swell 3 none D N0 kA 0 0 0 [.ref (N0 + mb), .int (nI k), .int v] (mH N0 mb kA hs M) n (nX none (mH N0 mb kA hs (m_swell M k v)) n) := by
  refine nE_of (by decide) (Nat.le_of_ble_eq_true rfl) ?_
  intro p e s m args below meth c hC hnm
  refine n_loc (L' := [(0, .ref (N0 + mb)), (1, .int (nI k)), (2, .int v)]) rfl ?_
  refine n_aload_n hC dX3_swell_0 rfl ?_
  refine n_get hC cl3 (k := 12) (v := .ref (N0 + (mb + 10))) mc_o (by omega) (by decide) q692 (mf_get N0 mb M (by decide)) dX3_swell_1 ?_
  refine n_iload_n hC dX3_swell_4 rfl ?_
  refine n_aload_n hC dX3_swell_5 rfl ?_
  refine n_get hC cl3 (k := 12) (v := .ref (N0 + (mb + 10))) mc_o (by omega) (by decide) q692 (mf_get N0 mb M (by decide)) dX3_swell_6 ?_
  refine n_iload_n hC dX3_swell_9 rfl ?_
  refine n_iald hC (f := mA M 12) (mc_a (p := 10) (by decide) (by decide)) (by omega) k rfl (by omega) (by decide) dX3_swell_10 ?_
  refine n_iload_n hC dX3_swell_11 rfl ?_
  refine n_iadd hC dX3_swell_12 ?_
  refine n_sipush (v := (nI 140)) hC dX3_swell_13 (by decide) ?_
  refine n_icmp_ge (tgt := 30) hC dX3_swell_16 (by decide) (fun c16 => ?_) (fun c16 => ?_)
  · refine n_sipush (v := (nI 140)) hC dX3_swell_30 (by decide) ?_
    refine n_iast hC (f := mA M 12) (mc_a (p := 10) (by decide) (by decide)) (by omega) k rfl (by omega) (by decide) dX3_swell_33 (mu_A (M := M) (k := 12) (len := 22) (kd := 0) rfl rfl rfl (by decide) (by decide)) ?_
    have eq_ : m_swell M k v = mSetA M 12 k (nI 140) := by rw [m_swell, if_pos c16]
    refine n_vret hC dX3_swell_34 (Nat.le_of_ble_eq_true rfl) (Nat.le_of_ble_eq_true rfl) ?_
    rw [eq_]
    exact ⟨rfl, rfl, rfl⟩
  · refine n_aload_n hC dX3_swell_19 rfl ?_
    refine n_get hC cl3 (k := 12) (v := .ref (N0 + (mb + 10))) mc_o (by omega) (by decide) q692 (mf_get N0 mb M (by decide)) dX3_swell_20 ?_
    refine n_iload_n hC dX3_swell_23 rfl ?_
    refine n_iald hC (f := mA M 12) (mc_a (p := 10) (by decide) (by decide)) (by omega) k rfl (by omega) (by decide) dX3_swell_24 ?_
    refine n_iload_n hC dX3_swell_25 rfl ?_
    refine n_iadd hC dX3_swell_26 ?_
    refine n_goto (tgt := 33) hC dX3_swell_27 (by decide) ?_
    refine n_iast hC (f := mA M 12) (mc_a (p := 10) (by decide) (by decide)) (by omega) k rfl (by omega) (by decide) dX3_swell_33 (mu_A (M := M) (k := 12) (len := 22) (kd := 0) rfl rfl rfl (by decide) (by decide)) ?_
    have eq_ : m_swell M k v = mSetA M 12 k ((mA M 12 k) + v) := by rw [m_swell, if_neg c16]
    refine n_vret hC dX3_swell_34 (Nat.le_of_ble_eq_true rfl) (Nat.le_of_ble_eq_true rfl) ?_
    rw [eq_]
    exact ⟨rfl, rfl, rfl⟩
def m_shrink (M : MS) (k : Nat) : MS := (if (mA M 12 k) ≤ (nI 4) then mSetA M 12 k (nI 1) else mSetA M 12 k ((mA M 12 k) - (nI 3)))
theorem bX3_shrink : nBV RX3 yX3_shrink cX3_shrink 2 none 1 := ⟨q956, qs39, q55, q957, by decide, by decide +kernel⟩
set_option maxRecDepth 100000 in
set_option maxHeartbeats 4000000 in
theorem t_m_shrink (l : Launch) (D : va_G) (N0 : Nat) (kA : Nat → ClassId) (mb : Nat) (hs : hT) (M : MS) (n : Nat) (hn : mb + 28 < n) (k : Nat) (hk : k < 6) : nE l yX3_shrink cX3_shrink 2 none D N0 kA 0 0 0 [.ref (N0 + mb), .int (nI k)] (mH N0 mb kA hs M) n (nX none (mH N0 mb kA hs (m_shrink M k)) n) := by
  refine nE_of (by decide) (Nat.le_of_ble_eq_true rfl) ?_
  intro p e s m args below meth c hC hnm
  refine n_loc (L' := [(0, .ref (N0 + mb)), (1, .int (nI k))]) rfl ?_
  refine n_aload_n hC dX3_shrink_0 rfl ?_
  refine n_get hC cl3 (k := 12) (v := .ref (N0 + (mb + 10))) mc_o (by omega) (by decide) q692 (mf_get N0 mb M (by decide)) dX3_shrink_1 ?_
  refine n_iload_n hC dX3_shrink_4 rfl ?_
  refine n_aload_n hC dX3_shrink_5 rfl ?_
  refine n_get hC cl3 (k := 12) (v := .ref (N0 + (mb + 10))) mc_o (by omega) (by decide) q692 (mf_get N0 mb M (by decide)) dX3_shrink_6 ?_
  refine n_iload_n hC dX3_shrink_9 rfl ?_
  refine n_iald hC (f := mA M 12) (mc_a (p := 10) (by decide) (by decide)) (by omega) k rfl (by omega) (by decide) dX3_shrink_10 ?_
  refine n_iconst (v := (nI 4)) hC dX3_shrink_11 (by decide) ?_
  refine n_icmp_le (tgt := 26) hC dX3_shrink_12 (by decide) (fun c12 => ?_) (fun c12 => ?_)
  · refine n_iconst (v := (nI 1)) hC dX3_shrink_26 (by decide) ?_
    refine n_iast hC (f := mA M 12) (mc_a (p := 10) (by decide) (by decide)) (by omega) k rfl (by omega) (by decide) dX3_shrink_27 (mu_A (M := M) (k := 12) (len := 22) (kd := 0) rfl rfl rfl (by decide) (by decide)) ?_
    have eq_ : m_shrink M k = mSetA M 12 k (nI 1) := by rw [m_shrink, if_pos c12]
    refine n_vret hC dX3_shrink_28 (Nat.le_of_ble_eq_true rfl) (Nat.le_of_ble_eq_true rfl) ?_
    rw [eq_]
    exact ⟨rfl, rfl, rfl⟩
  · refine n_aload_n hC dX3_shrink_15 rfl ?_
    refine n_get hC cl3 (k := 12) (v := .ref (N0 + (mb + 10))) mc_o (by omega) (by decide) q692 (mf_get N0 mb M (by decide)) dX3_shrink_16 ?_
    refine n_iload_n hC dX3_shrink_19 rfl ?_
    refine n_iald hC (f := mA M 12) (mc_a (p := 10) (by decide) (by decide)) (by omega) k rfl (by omega) (by decide) dX3_shrink_20 ?_
    refine n_iconst (v := (nI 3)) hC dX3_shrink_21 (by decide) ?_
    refine n_isub hC dX3_shrink_22 ?_
    refine n_goto (tgt := 27) hC dX3_shrink_23 (by decide) ?_
    refine n_iast hC (f := mA M 12) (mc_a (p := 10) (by decide) (by decide)) (by omega) k rfl (by omega) (by decide) dX3_shrink_27 (mu_A (M := M) (k := 12) (len := 22) (kd := 0) rfl rfl rfl (by decide) (by decide)) ?_
    have eq_ : m_shrink M k = mSetA M 12 k ((mA M 12 k) - (nI 3)) := by rw [m_shrink, if_neg c12]
    refine n_vret hC dX3_shrink_28 (Nat.le_of_ble_eq_true rfl) (Nat.le_of_ble_eq_true rfl) ?_
    rw [eq_]
    exact ⟨rfl, rfl, rfl⟩
/-- the next seed -/
def nxS (x : Nat) : Nat := (x * 1103515245 + 12345) % 2147483648
theorem nxS_lt (x : Nat) : nxS x < 2147483648 := Nat.mod_lt _ (by decide)
theorem nxS_eq {x : Int32} (h : 0 ≤ x) : ((((x.toInt64 * (1103515245)) + (12345)) - ((x.toInt64 * (1103515245)) + (12345)) / (2147483648) * (2147483648)).toInt32) = nI (nxS (cl x)) := by
  have h1 : x.toInt64 = lN (cl x) := by
    rw [nI_cl h, cl_nI (cl_lt x)]
    exact nI_l (cl_lt x)
  have hl := cl_lt x
  have e1 : (1103515245 : Int64) = lN 1103515245 := by decide
  have e2 : (12345 : Int64) = lN 12345 := by decide
  have e3 : (2147483648 : Int64) = lN 2147483648 := by decide
  rw [h1, e1, e2, e3, lN_mul, lN_add, pk_lRem (by omega) (by decide) (by decide), lN_i]
  rfl
def m_draw (M : MS) (z : Nat) : Nat × MS := (((nxS (cl (mI M 13))) / 65536) % z, mSetI M 13 (nI (nxS (cl (mI M 13)))))
theorem bX3_draw : nBV RX3 yX3_draw cX3_draw 2 (some .int) 1 := ⟨q976, qs41, q55, q977, by decide, by decide +kernel⟩
set_option maxRecDepth 100000 in
set_option maxHeartbeats 4000000 in
theorem t_m_draw (l : Launch) (D : va_G) (N0 : Nat) (kA : Nat → ClassId) (mb : Nat) (hs : hT) (M : MS) (n : Nat) (hn : mb + 28 < n) (z : Nat) (hd : 0 ≤ mI M 13) (hz : 0 < z) (hz2 : z < 2 ^ 31) : nE l yX3_draw cX3_draw 2 (some .int) D N0 kA 0 0 0 [.ref (N0 + mb), .int (nI z)] (mH N0 mb kA hs M) n (nX (some (.int (nI ((m_draw M z).1)))) (mH N0 mb kA hs ((m_draw M z).2)) n) := by
  refine nE_of (by decide) (Nat.le_of_ble_eq_true rfl) ?_
  intro p e s m args below meth c hC hnm
  refine n_loc (L' := [(0, .ref (N0 + mb)), (1, .int (nI z))]) rfl ?_
  refine n_aload_n hC dX3_draw_0 rfl ?_
  refine n_aload_n hC dX3_draw_1 rfl ?_
  refine n_get hC cl3 (k := 13) (v := .int (mI M 13)) mc_o (by omega) (by decide) q693 (mf_get N0 mb M (by decide)) dX3_draw_2 ?_
  refine n_i2l hC dX3_draw_5 ?_
  refine n_ldc2 hC dX3_draw_6 q978 ?_
  refine n_lmul hC dX3_draw_9 ?_
  refine n_ldc2 hC dX3_draw_10 q979 ?_
  refine n_ladd hC dX3_draw_13 ?_
  refine n_ldc2 hC dX3_draw_14 q980 ?_
  refine n_lrem hC dX3_draw_17 (by decide) ?_
  refine n_l2i hC dX3_draw_18 ?_
  refine n_top (nxS (cl (mI M 13))) (nxS_eq hd) ?_
  refine n_put hC cl3 (k := 13) mc_o (by omega) (by decide) q693 rfl rfl rfl (by rw [mf_len]; decide) dX3_draw_19 (mu_I (M := M) (k := 13) (by decide) rfl rfl) ?_
  refine n_aload_n hC dX3_draw_22 rfl ?_
  refine n_get hC cl3 (k := 13) (v := .int (nI (nxS (cl (mI M 13))))) mc_o (by omega) (by decide) q693 (mf_get N0 mb (mSetI M 13 (nI (nxS (cl (mI M 13))))) (by decide)) dX3_draw_23 ?_
  have hx := nxS_lt (cl (mI M 13))
  refine n_top (nxS (cl (mI M 13))) rfl ?_
  refine n_ldc hC dX3_draw_26 q981 ?_
  refine n_top 65536 (by decide) ?_
  refine n_idivN hC (by omega) (by omega) (by omega) dX3_draw_28 ?_
  refine n_iload_n hC dX3_draw_29 rfl ?_
  refine n_iremN hC (by omega) (by omega) (by omega) dX3_draw_30 ?_
  have eq_ : m_draw M z = (((nxS (cl (mI M 13))) / 65536) % z, mSetI M 13 (nI (nxS (cl (mI M 13))))) := by rw [m_draw]
  refine n_iret hC dX3_draw_31 (Nat.le_of_ble_eq_true rfl) (Nat.le_of_ble_eq_true rfl) ?_
  rw [eq_]
  dsimp only
  exact ⟨rfl, rfl, rfl⟩
def m_remember_L52 : Nat → MS → Nat → MS
  | 0, M, k => M
  | fu + 1, M, k => (if 22 ≤ k then M else m_remember_L52 fu (mSetA M 34 ((22 * (mN M 33)) + k) (mA M 12 k)) (k + 1))
def m_remember_L12 : Nat → MS → Nat → MS
  | 0, M, k => M
  | fu + 1, M, k => (if 440 ≤ k then M else m_remember_L12 fu (mSetA M 34 (k - 22) (mA M 34 k)) (k + 1))
def m_remember (M : MS) : MS := (if (mN M 33) ≠ 20 then mSetN (m_remember_L52 23 M 0) 33 ((mN (m_remember_L52 23 M 0) 33) + 1) else mSetN (m_remember_L52 23 (mSetN (m_remember_L12 419 M 22) 33 ((mN (m_remember_L12 419 M 22) 33) - 1)) 0) 33 ((mN (m_remember_L52 23 (mSetN (m_remember_L12 419 M 22) 33 ((mN (m_remember_L12 419 M 22) 33) - 1)) 0) 33) + 1))
theorem rem12_N : ∀ (fu : Nat) (M : MS) (k j : Nat), mN (m_remember_L12 fu M k) j = mN M j := by
  intro fu
  induction fu with
  | zero => intro M k j; rfl
  | succ fu ih => intro M k j; rw [m_remember_L12]; split; rfl; rw [ih]; rfl
theorem bX3_remember : nBV RX3 yX3_remember cX3_remember 2 none 0 := ⟨q935, qs36, q55, q936, by decide, by decide +kernel⟩
set_option maxRecDepth 100000 in
set_option maxHeartbeats 4000000 in
theorem t_m_remember_L52 {p : Program} {l : Launch} {e : Env} {s : State} {m : MethodId} {args : Array Value} {below : List Frame} {meth : Method} {c : Code} {Q : State → Prop} {D : va_G} {N0 : Nat} {kA : Nat → ClassId} {mb : Nat} {hs : hT} {n : Nat} (hn : mb + 28 < n)  (hC : nC p s m args meth c RX3 cX3_remember 2 none true D N0 kA)  : ∀ (fu : Nat) (M : MS) (k : Nat) (hu : mN M 33 ≤ 19) (hk2 : k ≤ 22) (hf : 22 < k + fu) (hK : nW p l e (nRm 0 0 0) s m args below meth c Q D N0 2 84 [(0, .ref (N0 + mb))] [] (mH N0 mb kA hs (m_remember_L52 fu M k)) n 0 0), nW p l e (nRm 0 0 0) s m args below meth c Q D N0 2 52 [(0, .ref (N0 + mb)), (1, .int (nI k))] [] (mH N0 mb kA hs M) n 0 0 := by
  intro fu
  induction fu with
  | zero =>
    intro M k hu hk2 hf hK
    exfalso; omega
  | succ fu ih =>
    intro M k hu hk2 hf hK
    refine n_iload_n hC dX3_remember_52 rfl ?_
    refine n_bipush (v := (nI 22)) hC dX3_remember_53 (by decide) ?_
    refine n_icmp_geN (tgt := 84) hC k 22 rfl rfl (by omega) (by omega) dX3_remember_55 (by decide) (fun c55 => ?_) (fun c55 => ?_)
    · refine n_drop [0] (L' := [(0, .ref (N0 + mb))]) rfl ?_
      rw [m_remember_L52, if_pos c55] at hK
      exact hK
    · refine n_aload_n hC dX3_remember_58 rfl ?_
      refine n_get hC cl3 (k := 34) (v := .ref (N0 + (mb + 22))) mc_o (by omega) (by decide) q714 (mf_get N0 mb M (by decide)) dX3_remember_59 ?_
      refine n_bipush (v := (nI 22)) hC dX3_remember_62 (by decide) ?_
      refine n_aload_n hC dX3_remember_64 rfl ?_
      refine n_get hC cl3 (k := 33) (v := .int (nI (mN M 33))) mc_o (by omega) (by decide) q713 (mf_get N0 mb M (by decide)) dX3_remember_65 ?_
      refine n_imulN hC dX3_remember_68 ?_
      refine n_iload_n hC dX3_remember_69 rfl ?_
      refine n_iaddN hC dX3_remember_70 ?_
      refine n_aload_n hC dX3_remember_71 rfl ?_
      refine n_get hC cl3 (k := 12) (v := .ref (N0 + (mb + 10))) mc_o (by omega) (by decide) q692 (mf_get N0 mb M (by decide)) dX3_remember_72 ?_
      refine n_iload_n hC dX3_remember_75 rfl ?_
      refine n_iald hC (f := mA M 12) (mc_a (p := 10) (by decide) (by decide)) (by omega) k rfl (by omega) (by decide) dX3_remember_76 ?_
      refine n_iast hC (f := mA M 34) (mc_a (p := 22) (by decide) (by decide)) (by omega) ((22 * (mN M 33)) + k) rfl (by omega) (by decide) dX3_remember_77 (mu_A (M := M) (k := 34) (len := 440) (kd := 0) rfl rfl rfl (by decide) (by decide)) ?_
      refine n_iincN (a := k) (L' := [(0, .ref (N0 + mb)), (1, .int (nI (k + 1)))]) hC dX3_remember_78 rfl (by decide) rfl ?_
      refine n_goto (tgt := 52) hC dX3_remember_81 (by decide) ?_
      rw [m_remember_L52, if_neg (Nat.not_le.mpr c55)] at hK
      exact ih (mSetA M 34 ((22 * (mN M 33)) + k) (mA M 12 k)) (k + 1) hu (by first | omega | (simp [mN_A, mN_B, mN_I, mN_N] <;> omega)) (by first | omega | (simp [mN_A, mN_B, mN_I, mN_N] <;> omega)) hK
set_option maxRecDepth 100000 in
set_option maxHeartbeats 4000000 in
theorem t_m_remember_L12 {p : Program} {l : Launch} {e : Env} {s : State} {m : MethodId} {args : Array Value} {below : List Frame} {meth : Method} {c : Code} {Q : State → Prop} {D : va_G} {N0 : Nat} {kA : Nat → ClassId} {mb : Nat} {hs : hT} {n : Nat} (hn : mb + 28 < n)  (hC : nC p s m args meth c RX3 cX3_remember 2 none true D N0 kA)  : ∀ (fu : Nat) (M : MS) (k : Nat) (hk : 22 ≤ k) (hk2 : k ≤ 440) (hf : 440 < k + fu) (hK : nW p l e (nRm 0 0 0) s m args below meth c Q D N0 2 40 [(0, .ref (N0 + mb))] [] (mH N0 mb kA hs (m_remember_L12 fu M k)) n 0 0), nW p l e (nRm 0 0 0) s m args below meth c Q D N0 2 12 [(0, .ref (N0 + mb)), (1, .int (nI k))] [] (mH N0 mb kA hs M) n 0 0 := by
  intro fu
  induction fu with
  | zero =>
    intro M k hk hk2 hf hK
    exfalso; omega
  | succ fu ih =>
    intro M k hk hk2 hf hK
    refine n_iload_n hC dX3_remember_12 rfl ?_
    refine n_sipush (v := (nI 440)) hC dX3_remember_13 (by decide) ?_
    refine n_icmp_geN (tgt := 40) hC k 440 rfl rfl (by omega) (by omega) dX3_remember_16 (by decide) (fun c16 => ?_) (fun c16 => ?_)
    · refine n_drop [0] (L' := [(0, .ref (N0 + mb))]) rfl ?_
      rw [m_remember_L12, if_pos c16] at hK
      exact hK
    · refine n_aload_n hC dX3_remember_19 rfl ?_
      refine n_get hC cl3 (k := 34) (v := .ref (N0 + (mb + 22))) mc_o (by omega) (by decide) q714 (mf_get N0 mb M (by decide)) dX3_remember_20 ?_
      refine n_iload_n hC dX3_remember_23 rfl ?_
      refine n_bipush (v := (nI 22)) hC dX3_remember_24 (by decide) ?_
      refine n_isubN hC (by omega) dX3_remember_26 ?_
      refine n_aload_n hC dX3_remember_27 rfl ?_
      refine n_get hC cl3 (k := 34) (v := .ref (N0 + (mb + 22))) mc_o (by omega) (by decide) q714 (mf_get N0 mb M (by decide)) dX3_remember_28 ?_
      refine n_iload_n hC dX3_remember_31 rfl ?_
      refine n_iald hC (f := mA M 34) (mc_a (p := 22) (by decide) (by decide)) (by omega) k rfl (by omega) (by decide) dX3_remember_32 ?_
      refine n_iast hC (f := mA M 34) (mc_a (p := 22) (by decide) (by decide)) (by omega) (k - 22) rfl (by omega) (by decide) dX3_remember_33 (mu_A (M := M) (k := 34) (len := 440) (kd := 0) rfl rfl rfl (by decide) (by decide)) ?_
      refine n_iincN (a := k) (L' := [(0, .ref (N0 + mb)), (1, .int (nI (k + 1)))]) hC dX3_remember_34 rfl (by decide) rfl ?_
      refine n_goto (tgt := 12) hC dX3_remember_37 (by decide) ?_
      rw [m_remember_L12, if_neg (Nat.not_le.mpr c16)] at hK
      exact ih (mSetA M 34 (k - 22) (mA M 34 k)) (k + 1) (by first | omega | (simp [mN_A, mN_B, mN_I, mN_N] <;> omega)) (by first | omega | (simp [mN_A, mN_B, mN_I, mN_N] <;> omega)) (by first | omega | (simp [mN_A, mN_B, mN_I, mN_N] <;> omega)) hK
set_option maxRecDepth 100000 in
set_option maxHeartbeats 4000000 in
theorem t_m_remember (l : Launch) (D : va_G) (N0 : Nat) (kA : Nat → ClassId) (mb : Nat) (hs : hT) (M : MS) (n : Nat) (hn : mb + 28 < n)  (h33 : mN M 33 ≤ 20) : nE l yX3_remember cX3_remember 2 none D N0 kA 0 0 0 [.ref (N0 + mb)] (mH N0 mb kA hs M) n (nX none (mH N0 mb kA hs (m_remember M)) n) := by
  refine nE_of (by decide) (Nat.le_of_ble_eq_true rfl) ?_
  intro p e s m args below meth c hC hnm
  refine n_loc (L' := [(0, .ref (N0 + mb))]) rfl ?_
  refine n_aload_n hC dX3_remember_0 rfl ?_
  refine n_get hC cl3 (k := 33) (v := .int (nI (mN M 33))) mc_o (by omega) (by decide) q713 (mf_get N0 mb M (by decide)) dX3_remember_1 ?_
  refine n_bipush (v := (nI 20)) hC dX3_remember_4 (by decide) ?_
  refine n_icmp_neN (tgt := 50) hC (mN M 33) 20 rfl rfl (by omega) (by omega) dX3_remember_6 (by decide) (fun c6 => ?_) (fun c6 => ?_)
  · refine n_iconst (v := (nI 0)) hC dX3_remember_50 (by decide) ?_
    refine n_istore_n (L' := [(0, .ref (N0 + mb)), (1, .int (nI 0))]) hC dX3_remember_51 (by decide) rfl ?_
    refine t_m_remember_L52 hn hC  23 M 0 (by first | omega | (rw [mN_N, if_pos rfl, rem12_N]; omega)) (by first | omega | (simp [mN_A, mN_B, mN_I, mN_N] <;> omega)) (by first | omega | (simp [mN_A, mN_B, mN_I, mN_N] <;> omega)) ?_
    refine n_aload_n hC dX3_remember_84 rfl ?_
    refine n_dup hC dX3_remember_85 rfl ?_
    refine n_get hC cl3 (k := 33) (v := .int (nI (mN (m_remember_L52 23 M 0) 33))) mc_o (by omega) (by decide) q713 (mf_get N0 mb (m_remember_L52 23 M 0) (by decide)) dX3_remember_86 ?_
    refine n_iconst (v := (nI 1)) hC dX3_remember_89 (by decide) ?_
    refine n_iaddN hC dX3_remember_90 ?_
    refine n_put hC cl3 (k := 33) mc_o (by omega) (by decide) q713 rfl rfl rfl (by rw [mf_len]; decide) dX3_remember_91 (mu_N (M := (m_remember_L52 23 M 0)) (k := 33) (by decide) rfl rfl) ?_
    have eq_ : m_remember M = mSetN (m_remember_L52 23 M 0) 33 ((mN (m_remember_L52 23 M 0) 33) + 1) := by rw [m_remember, if_pos c6]
    refine n_vret hC dX3_remember_94 (Nat.le_of_ble_eq_true rfl) (Nat.le_of_ble_eq_true rfl) ?_
    rw [eq_]
    exact ⟨rfl, rfl, rfl⟩
  · refine n_bipush (v := (nI 22)) hC dX3_remember_9 (by decide) ?_
    refine n_istore_n (L' := [(0, .ref (N0 + mb)), (1, .int (nI 22))]) hC dX3_remember_11 (by decide) rfl ?_
    refine t_m_remember_L12 hn hC  419 M 22 (by first | omega | (simp [mN_A, mN_B, mN_I, mN_N] <;> omega)) (by first | omega | (simp [mN_A, mN_B, mN_I, mN_N] <;> omega)) (by first | omega | (simp [mN_A, mN_B, mN_I, mN_N] <;> omega)) ?_
    refine n_aload_n hC dX3_remember_40 rfl ?_
    refine n_dup hC dX3_remember_41 rfl ?_
    refine n_get hC cl3 (k := 33) (v := .int (nI (mN (m_remember_L12 419 M 22) 33))) mc_o (by omega) (by decide) q713 (mf_get N0 mb (m_remember_L12 419 M 22) (by decide)) dX3_remember_42 ?_
    refine n_iconst (v := (nI 1)) hC dX3_remember_45 (by decide) ?_
    refine n_isubN hC (by rw [rem12_N]; omega) dX3_remember_46 ?_
    refine n_put hC cl3 (k := 33) mc_o (by omega) (by decide) q713 rfl rfl rfl (by rw [mf_len]; decide) dX3_remember_47 (mu_N (M := (m_remember_L12 419 M 22)) (k := 33) (by decide) rfl rfl) ?_
    refine n_iconst (v := (nI 0)) hC dX3_remember_50 (by decide) ?_
    refine n_istore_n (L' := [(0, .ref (N0 + mb)), (1, .int (nI 0))]) hC dX3_remember_51 (by decide) rfl ?_
    refine t_m_remember_L52 hn hC  23 (mSetN (m_remember_L12 419 M 22) 33 ((mN (m_remember_L12 419 M 22) 33) - 1)) 0 (by first | omega | (rw [mN_N, if_pos rfl, rem12_N]; omega)) (by first | omega | (simp [mN_A, mN_B, mN_I, mN_N] <;> omega)) (by first | omega | (simp [mN_A, mN_B, mN_I, mN_N] <;> omega)) ?_
    refine n_aload_n hC dX3_remember_84 rfl ?_
    refine n_dup hC dX3_remember_85 rfl ?_
    refine n_get hC cl3 (k := 33) (v := .int (nI (mN (m_remember_L52 23 (mSetN (m_remember_L12 419 M 22) 33 ((mN (m_remember_L12 419 M 22) 33) - 1)) 0) 33))) mc_o (by omega) (by decide) q713 (mf_get N0 mb (m_remember_L52 23 (mSetN (m_remember_L12 419 M 22) 33 ((mN (m_remember_L12 419 M 22) 33) - 1)) 0) (by decide)) dX3_remember_86 ?_
    refine n_iconst (v := (nI 1)) hC dX3_remember_89 (by decide) ?_
    refine n_iaddN hC dX3_remember_90 ?_
    refine n_put hC cl3 (k := 33) mc_o (by omega) (by decide) q713 rfl rfl rfl (by rw [mf_len]; decide) dX3_remember_91 (mu_N (M := (m_remember_L52 23 (mSetN (m_remember_L12 419 M 22) 33 ((mN (m_remember_L12 419 M 22) 33) - 1)) 0)) (k := 33) (by decide) rfl rfl) ?_
    have eq_ : m_remember M = mSetN (m_remember_L52 23 (mSetN (m_remember_L12 419 M 22) 33 ((mN (m_remember_L12 419 M 22) 33) - 1)) 0) 33 ((mN (m_remember_L52 23 (mSetN (m_remember_L12 419 M 22) 33 ((mN (m_remember_L12 419 M 22) 33) - 1)) 0) 33) + 1) := by rw [m_remember, if_neg (not_not_intro c6)]
    refine n_vret hC dX3_remember_94 (Nat.le_of_ble_eq_true rfl) (Nat.le_of_ble_eq_true rfl) ?_
    rw [eq_]
    exact ⟨rfl, rfl, rfl⟩
theorem mHe_12 {M : MS} {j : Nat} {v : Int32} (h : mHe M) : mHe (mSetA M 12 j v) := by
  intro a ha h1
  rw [mA_A, if_neg (by omega)] at h1 ⊢
  exact h a ha h1
theorem mSe_12 {M : MS} {j : Nat} {v : Int32} (hj : j ≠ 19) (h : mSe M) : mSe (mSetA M 12 j v) := by
  unfold mSe
  rw [mA_A, if_neg (by omega)]
  exact h
def m_pass_L2 : Nat → MS → Nat → MS
  | 0, M, i => M
  | fu + 1, M, i => (if (mN M 3) ≤ i then mSetA M 12 19 (nI ((cl (mA M 12 19)) + 1)) else (if (mB M 4 i) ≠ (cl (mA M 12 19)) then m_pass_L2 fu M (i + 1) else (if ((nI (mB M 6 i)) * (m_measureNow M (mB M 5 i))) = 0 then m_pass_L2 fu (mSetA (mSetA (mSetA M 12 (12 + i) ((nI (mB M 6 i)) * (m_measureNow M (mB M 5 i)))) 12 20 ((mA (mSetA M 12 (12 + i) ((nI (mB M 6 i)) * (m_measureNow M (mB M 5 i)))) 12 20) + ((nI (mB M 6 i)) * (m_measureNow M (mB M 5 i))))) 12 21 ((mA (mSetA M 12 (12 + i) ((nI (mB M 6 i)) * (m_measureNow M (mB M 5 i)))) 12 21) ||| ((nI 1) <<< ((nI i) &&& 31)))) (i + 1) else m_pass_L2 fu (mSetA (mSetA (mSetA M 12 (12 + i) ((nI (mB M 6 i)) * (m_measureNow M (mB M 5 i)))) 12 20 ((mA (mSetA M 12 (12 + i) ((nI (mB M 6 i)) * (m_measureNow M (mB M 5 i)))) 12 20) + ((nI (mB M 6 i)) * (m_measureNow M (mB M 5 i))))) 12 21 ((mA (mSetA M 12 (12 + i) ((nI (mB M 6 i)) * (m_measureNow M (mB M 5 i)))) 12 21) ||| (nI 0))) (i + 1))))
def m_pass (M : MS) : MS := m_pass_L2 (mN M 3 + 1) M 0
theorem bX3_pass : nBV RX3 yX3_pass cX3_pass 3 none 0 := ⟨q939, qs37, q55, q940, by decide, by decide +kernel⟩
set_option maxRecDepth 100000 in
set_option maxHeartbeats 4000000 in
theorem t_m_pass_L2 {p : Program} {l : Launch} {e : Env} {s : State} {m : MethodId} {args : Array Value} {below : List Frame} {meth : Method} {c : Code} {D : va_G} {N0 : Nat} {kA : Nat → ClassId} {mb : Nat} {hs : hT} {n : Nat} (hn : mb + 28 < n)  (hC : nC p s m args meth c RX3 cX3_pass 3 none true D N0 kA)  : ∀ (fu : Nat) (M : MS) (i : Nat) (hh : mHe M) (hS : mSe M) (hc : mCo M) (hi : i ≤ mN M 3) (hf : mN M 3 < i + fu), nW p l e (nRm 4 0 0) s m args below meth c (nQ below (nX none (mH N0 mb kA hs (m_pass_L2 fu M i)) n) D N0 s 0 0) D N0 3 2 [(0, .ref (N0 + mb)), (1, .int (nI i))] [] (mH N0 mb kA hs M) n 0 0 := by
  intro fu
  induction fu with
  | zero =>
    intro M i hh hS hc hi hf
    have hS2 := hS.2
    have hc1 := hc.1
    have hc2 := hc.2
    exfalso; omega
  | succ fu ih =>
    intro M i hh hS hc hi hf
    have hS2 := hS.2
    have hc1 := hc.1
    have hc2 := hc.2
    refine n_iload_n hC dX3_pass_2 rfl ?_
    refine n_aload_n hC dX3_pass_3 rfl ?_
    refine n_get hC cl3 (k := 3) (v := .int (nI (mN M 3))) mc_o (by omega) (by decide) q683 (mf_get N0 mb M (by decide)) dX3_pass_4 ?_
    refine n_icmp_geN (tgt := 92) hC i (mN M 3) rfl rfl (by omega) (by omega) dX3_pass_7 (by decide) (fun c7 => ?_) (fun c7 => ?_)
    · refine n_aload_n hC dX3_pass_92 rfl ?_
      refine n_get hC cl3 (k := 12) (v := .ref (N0 + (mb + 10))) mc_o (by omega) (by decide) q692 (mf_get N0 mb M (by decide)) dX3_pass_93 ?_
      refine n_bipush (v := (nI 19)) hC dX3_pass_96 (by decide) ?_
      refine n_dup2 hC dX3_pass_98 rfl rfl ?_
      refine n_iald hC (f := mA M 12) (mc_a (p := 10) (by decide) (by decide)) (by omega) 19 rfl (by omega) (by decide) dX3_pass_99 ?_
      refine n_top (cl (mA M 12 19)) (nI_cl hS.1) ?_
      refine n_iconst (v := (nI 1)) hC dX3_pass_100 (by decide) ?_
      refine n_iaddN hC dX3_pass_101 ?_
      refine n_iast hC (f := mA M 12) (mc_a (p := 10) (by decide) (by decide)) (by omega) 19 rfl (by omega) (by decide) dX3_pass_102 (mu_A (M := M) (k := 12) (len := 22) (kd := 0) rfl rfl rfl (by decide) (by decide)) ?_
      have eq_ : m_pass_L2 (fu + 1) M i = mSetA M 12 19 (nI ((cl (mA M 12 19)) + 1)) := by rw [m_pass_L2, if_pos c7]
      refine n_vret hC dX3_pass_103 (Nat.le_of_ble_eq_true rfl) (Nat.le_of_ble_eq_true rfl) ?_
      rw [eq_]
      exact ⟨rfl, rfl, rfl⟩
    · have hci := hc2 i (by omega)
      refine n_aload_n hC dX3_pass_10 rfl ?_
      refine n_get hC cl3 (k := 4) (v := .ref (N0 + (mb + 3))) mc_o (by omega) (by decide) q684 (mf_get N0 mb M (by decide)) dX3_pass_11 ?_
      refine n_iload_n hC dX3_pass_14 rfl ?_
      refine n_iald hC (f := fun j => nI (mB M 4 j)) (mc_a (p := 3) (by decide) (by decide)) (by omega) i rfl (by omega) (by decide) dX3_pass_15 ?_
      refine n_aload_n hC dX3_pass_16 rfl ?_
      refine n_get hC cl3 (k := 12) (v := .ref (N0 + (mb + 10))) mc_o (by omega) (by decide) q692 (mf_get N0 mb M (by decide)) dX3_pass_17 ?_
      refine n_bipush (v := (nI 19)) hC dX3_pass_20 (by decide) ?_
      refine n_iald hC (f := mA M 12) (mc_a (p := 10) (by decide) (by decide)) (by omega) 19 rfl (by omega) (by decide) dX3_pass_22 ?_
      refine n_top (cl (mA M 12 19)) (nI_cl hS.1) ?_
      refine n_icmp_neN (tgt := 86) hC (mB M 4 i) (cl (mA M 12 19)) rfl rfl (by omega) (by omega) dX3_pass_23 (by decide) (fun c23 => ?_) (fun c23 => ?_)
      · refine n_iincN (a := i) (L' := [(0, .ref (N0 + mb)), (1, .int (nI (i + 1)))]) hC dX3_pass_86 rfl (by decide) rfl ?_
        refine n_goto (tgt := 2) hC dX3_pass_89 (by decide) ?_
        rw [show m_pass_L2 (fu + 1) M i = m_pass_L2 fu M (i + 1) from by rw [m_pass_L2, if_neg (Nat.not_le.mpr c7), if_pos c23]]
        exact ih M (i + 1) (by repeat' (first | exact hh | apply mHe_12)) (by repeat' (first | exact hS | (apply mSe_12 (by omega)))) hc (by first | omega | (simp [mN_A, mN_B, mN_I, mN_N] <;> omega)) (by first | omega | (simp [mN_A, mN_B, mN_I, mN_N] <;> omega))
      · refine n_aload_n hC dX3_pass_26 rfl ?_
        refine n_get hC cl3 (k := 6) (v := .ref (N0 + (mb + 5))) mc_o (by omega) (by decide) q686 (mf_get N0 mb M (by decide)) dX3_pass_27 ?_
        refine n_iload_n hC dX3_pass_30 rfl ?_
        refine n_iald hC (f := fun j => nI (mB M 6 j)) (mc_a (p := 5) (by decide) (by decide)) (by omega) i rfl (by omega) (by decide) dX3_pass_31 ?_
        refine n_aload_n hC dX3_pass_32 rfl ?_
        refine n_aload_n hC dX3_pass_33 rfl ?_
        refine n_get hC cl3 (k := 5) (v := .ref (N0 + (mb + 4))) mc_o (by omega) (by decide) q685 (mf_get N0 mb M (by decide)) dX3_pass_34 ?_
        refine n_iload_n hC dX3_pass_37 rfl ?_
        refine n_iald hC (f := fun j => nI (mB M 5 j)) (mc_a (p := 4) (by decide) (by decide)) (by omega) i rfl (by omega) (by decide) dX3_pass_38 ?_
        refine n_callV1 hC (As := [.int (nI (mB M 5 i))]) (rest := [.int (nI (mB M 6 i))]) mc_o (by omega) rfl bX3_measureNow (t_m_measureNow l D N0 kA mb hs M n hn (mB M 5 i) (by omega) hh hS) (by decide) (by decide) q894 rfl (Nat.le_of_ble_eq_true rfl) dX3_pass_39 (Nat.le_of_ble_eq_true rfl) (Nat.le_of_ble_eq_true rfl) ?_
        refine n_stk (st' := [.int (m_measureNow M (mB M 5 i)), .int (nI (mB M 6 i))]) rfl ?_
        refine n_imul hC dX3_pass_42 ?_
        refine n_istore_n (L' := [(0, .ref (N0 + mb)), (1, .int (nI i)), (2, .int ((nI (mB M 6 i)) * (m_measureNow M (mB M 5 i))))]) hC dX3_pass_43 (by decide) rfl ?_
        refine n_aload_n hC dX3_pass_44 rfl ?_
        refine n_get hC cl3 (k := 12) (v := .ref (N0 + (mb + 10))) mc_o (by omega) (by decide) q692 (mf_get N0 mb M (by decide)) dX3_pass_45 ?_
        refine n_bipush (v := (nI 12)) hC dX3_pass_48 (by decide) ?_
        refine n_iload_n hC dX3_pass_50 rfl ?_
        refine n_iaddN hC dX3_pass_51 ?_
        refine n_iload_n hC dX3_pass_52 rfl ?_
        refine n_iast hC (f := mA M 12) (mc_a (p := 10) (by decide) (by decide)) (by omega) (12 + i) rfl (by omega) (by decide) dX3_pass_53 (mu_A (M := M) (k := 12) (len := 22) (kd := 0) rfl rfl rfl (by decide) (by decide)) ?_
        refine n_aload_n hC dX3_pass_54 rfl ?_
        refine n_get hC cl3 (k := 12) (v := .ref (N0 + (mb + 10))) mc_o (by omega) (by decide) q692 (mf_get N0 mb (mSetA M 12 (12 + i) ((nI (mB M 6 i)) * (m_measureNow M (mB M 5 i)))) (by decide)) dX3_pass_55 ?_
        refine n_bipush (v := (nI 20)) hC dX3_pass_58 (by decide) ?_
        refine n_dup2 hC dX3_pass_60 rfl rfl ?_
        refine n_iald hC (f := mA (mSetA M 12 (12 + i) ((nI (mB M 6 i)) * (m_measureNow M (mB M 5 i)))) 12) (mc_a (p := 10) (by decide) (by decide)) (by omega) 20 rfl (by omega) (by decide) dX3_pass_61 ?_
        refine n_iload_n hC dX3_pass_62 rfl ?_
        refine n_iadd hC dX3_pass_63 ?_
        refine n_iast hC (f := mA (mSetA M 12 (12 + i) ((nI (mB M 6 i)) * (m_measureNow M (mB M 5 i)))) 12) (mc_a (p := 10) (by decide) (by decide)) (by omega) 20 rfl (by omega) (by decide) dX3_pass_64 (mu_A (M := (mSetA M 12 (12 + i) ((nI (mB M 6 i)) * (m_measureNow M (mB M 5 i))))) (k := 12) (len := 22) (kd := 0) rfl rfl rfl (by decide) (by decide)) ?_
        refine n_aload_n hC dX3_pass_65 rfl ?_
        refine n_get hC cl3 (k := 12) (v := .ref (N0 + (mb + 10))) mc_o (by omega) (by decide) q692 (mf_get N0 mb (mSetA (mSetA M 12 (12 + i) ((nI (mB M 6 i)) * (m_measureNow M (mB M 5 i)))) 12 20 ((mA (mSetA M 12 (12 + i) ((nI (mB M 6 i)) * (m_measureNow M (mB M 5 i)))) 12 20) + ((nI (mB M 6 i)) * (m_measureNow M (mB M 5 i))))) (by decide)) dX3_pass_66 ?_
        refine n_bipush (v := (nI 21)) hC dX3_pass_69 (by decide) ?_
        refine n_dup2 hC dX3_pass_71 rfl rfl ?_
        refine n_iald hC (f := mA (mSetA (mSetA M 12 (12 + i) ((nI (mB M 6 i)) * (m_measureNow M (mB M 5 i)))) 12 20 ((mA (mSetA M 12 (12 + i) ((nI (mB M 6 i)) * (m_measureNow M (mB M 5 i)))) 12 20) + ((nI (mB M 6 i)) * (m_measureNow M (mB M 5 i))))) 12) (mc_a (p := 10) (by decide) (by decide)) (by omega) 21 rfl (by omega) (by decide) dX3_pass_72 ?_
        refine n_stk (st' := [.int (mA (mSetA M 12 (12 + i) ((nI (mB M 6 i)) * (m_measureNow M (mB M 5 i)))) 12 21), .int (nI 21), .ref (N0 + (mb + 10))]) (by first | rfl | simp [mA_A, mB_B]) ?_
        refine n_iload_n hC dX3_pass_73 rfl ?_
        refine n_if_ne (tgt := 83) hC dX3_pass_74 (by decide) (fun c74 => ?_) (fun c74 => ?_)
        · refine n_iconst (v := (nI 0)) hC dX3_pass_83 (by decide) ?_
          refine n_ior hC dX3_pass_84 ?_
          refine n_iast hC (f := mA (mSetA (mSetA M 12 (12 + i) ((nI (mB M 6 i)) * (m_measureNow M (mB M 5 i)))) 12 20 ((mA (mSetA M 12 (12 + i) ((nI (mB M 6 i)) * (m_measureNow M (mB M 5 i)))) 12 20) + ((nI (mB M 6 i)) * (m_measureNow M (mB M 5 i))))) 12) (mc_a (p := 10) (by decide) (by decide)) (by omega) 21 rfl (by omega) (by decide) dX3_pass_85 (mu_A (M := (mSetA (mSetA M 12 (12 + i) ((nI (mB M 6 i)) * (m_measureNow M (mB M 5 i)))) 12 20 ((mA (mSetA M 12 (12 + i) ((nI (mB M 6 i)) * (m_measureNow M (mB M 5 i)))) 12 20) + ((nI (mB M 6 i)) * (m_measureNow M (mB M 5 i)))))) (k := 12) (len := 22) (kd := 0) rfl rfl rfl (by decide) (by decide)) ?_
          refine n_iincN (a := i) (L' := [(0, .ref (N0 + mb)), (1, .int (nI (i + 1))), (2, .int ((nI (mB M 6 i)) * (m_measureNow M (mB M 5 i))))]) hC dX3_pass_86 rfl (by decide) rfl ?_
          refine n_goto (tgt := 2) hC dX3_pass_89 (by decide) ?_
          refine n_drop [0, 1] (L' := [(0, .ref (N0 + mb)), (1, .int (nI (i + 1)))]) rfl ?_
          rw [show m_pass_L2 (fu + 1) M i = m_pass_L2 fu (mSetA (mSetA (mSetA M 12 (12 + i) ((nI (mB M 6 i)) * (m_measureNow M (mB M 5 i)))) 12 20 ((mA (mSetA M 12 (12 + i) ((nI (mB M 6 i)) * (m_measureNow M (mB M 5 i)))) 12 20) + ((nI (mB M 6 i)) * (m_measureNow M (mB M 5 i))))) 12 21 ((mA (mSetA M 12 (12 + i) ((nI (mB M 6 i)) * (m_measureNow M (mB M 5 i)))) 12 21) ||| (nI 0))) (i + 1) from by rw [m_pass_L2, if_neg (Nat.not_le.mpr c7), if_neg (not_not_intro c23), if_neg c74]]
          exact ih (mSetA (mSetA (mSetA M 12 (12 + i) ((nI (mB M 6 i)) * (m_measureNow M (mB M 5 i)))) 12 20 ((mA (mSetA M 12 (12 + i) ((nI (mB M 6 i)) * (m_measureNow M (mB M 5 i)))) 12 20) + ((nI (mB M 6 i)) * (m_measureNow M (mB M 5 i))))) 12 21 ((mA (mSetA M 12 (12 + i) ((nI (mB M 6 i)) * (m_measureNow M (mB M 5 i)))) 12 21) ||| (nI 0))) (i + 1) (by repeat' (first | exact hh | apply mHe_12)) (by repeat' (first | exact hS | (apply mSe_12 (by omega)))) hc (by first | omega | (simp [mN_A, mN_B, mN_I, mN_N] <;> omega)) (by first | omega | (simp [mN_A, mN_B, mN_I, mN_N] <;> omega))
        · refine n_iconst (v := (nI 1)) hC dX3_pass_77 (by decide) ?_
          refine n_iload_n hC dX3_pass_78 rfl ?_
          refine n_ishl hC dX3_pass_79 ?_
          refine n_goto (tgt := 84) hC dX3_pass_80 (by decide) ?_
          refine n_ior hC dX3_pass_84 ?_
          refine n_iast hC (f := mA (mSetA (mSetA M 12 (12 + i) ((nI (mB M 6 i)) * (m_measureNow M (mB M 5 i)))) 12 20 ((mA (mSetA M 12 (12 + i) ((nI (mB M 6 i)) * (m_measureNow M (mB M 5 i)))) 12 20) + ((nI (mB M 6 i)) * (m_measureNow M (mB M 5 i))))) 12) (mc_a (p := 10) (by decide) (by decide)) (by omega) 21 rfl (by omega) (by decide) dX3_pass_85 (mu_A (M := (mSetA (mSetA M 12 (12 + i) ((nI (mB M 6 i)) * (m_measureNow M (mB M 5 i)))) 12 20 ((mA (mSetA M 12 (12 + i) ((nI (mB M 6 i)) * (m_measureNow M (mB M 5 i)))) 12 20) + ((nI (mB M 6 i)) * (m_measureNow M (mB M 5 i)))))) (k := 12) (len := 22) (kd := 0) rfl rfl rfl (by decide) (by decide)) ?_
          refine n_iincN (a := i) (L' := [(0, .ref (N0 + mb)), (1, .int (nI (i + 1))), (2, .int ((nI (mB M 6 i)) * (m_measureNow M (mB M 5 i))))]) hC dX3_pass_86 rfl (by decide) rfl ?_
          refine n_goto (tgt := 2) hC dX3_pass_89 (by decide) ?_
          refine n_drop [0, 1] (L' := [(0, .ref (N0 + mb)), (1, .int (nI (i + 1)))]) rfl ?_
          rw [show m_pass_L2 (fu + 1) M i = m_pass_L2 fu (mSetA (mSetA (mSetA M 12 (12 + i) ((nI (mB M 6 i)) * (m_measureNow M (mB M 5 i)))) 12 20 ((mA (mSetA M 12 (12 + i) ((nI (mB M 6 i)) * (m_measureNow M (mB M 5 i)))) 12 20) + ((nI (mB M 6 i)) * (m_measureNow M (mB M 5 i))))) 12 21 ((mA (mSetA M 12 (12 + i) ((nI (mB M 6 i)) * (m_measureNow M (mB M 5 i)))) 12 21) ||| ((nI 1) <<< ((nI i) &&& 31)))) (i + 1) from by rw [m_pass_L2, if_neg (Nat.not_le.mpr c7), if_neg (not_not_intro c23), if_pos c74]]
          exact ih (mSetA (mSetA (mSetA M 12 (12 + i) ((nI (mB M 6 i)) * (m_measureNow M (mB M 5 i)))) 12 20 ((mA (mSetA M 12 (12 + i) ((nI (mB M 6 i)) * (m_measureNow M (mB M 5 i)))) 12 20) + ((nI (mB M 6 i)) * (m_measureNow M (mB M 5 i))))) 12 21 ((mA (mSetA M 12 (12 + i) ((nI (mB M 6 i)) * (m_measureNow M (mB M 5 i)))) 12 21) ||| ((nI 1) <<< ((nI i) &&& 31)))) (i + 1) (by repeat' (first | exact hh | apply mHe_12)) (by repeat' (first | exact hS | (apply mSe_12 (by omega)))) hc (by first | omega | (simp [mN_A, mN_B, mN_I, mN_N] <;> omega)) (by first | omega | (simp [mN_A, mN_B, mN_I, mN_N] <;> omega))
set_option maxRecDepth 100000 in
set_option maxHeartbeats 4000000 in
theorem t_m_pass (l : Launch) (D : va_G) (N0 : Nat) (kA : Nat → ClassId) (mb : Nat) (hs : hT) (M : MS) (n : Nat) (hn : mb + 28 < n)  (hh : mHe M) (hS : mSe M) (hc : mCo M) : nE l yX3_pass cX3_pass 3 none D N0 kA 4 0 0 [.ref (N0 + mb)] (mH N0 mb kA hs M) n (nX none (mH N0 mb kA hs (m_pass M)) n) := by
  refine nE_of (by decide) (Nat.le_of_ble_eq_true rfl) ?_
  intro p e s m args below meth c hC hnm
  refine n_loc (L' := [(0, .ref (N0 + mb))]) rfl ?_
  refine n_iconst (v := (nI 0)) hC dX3_pass_0 (by decide) ?_
  refine n_istore_n (L' := [(0, .ref (N0 + mb)), (1, .int (nI 0))]) hC dX3_pass_1 (by decide) rfl ?_
  rw [show m_pass M = m_pass_L2 (mN M 3 + 1) M 0 from by rw [m_pass]]
  exact t_m_pass_L2 hn hC  (mN M 3 + 1) M 0 hh hS hc (by first | omega | (simp [mN_A, mN_B, mN_I, mN_N] <;> omega)) (by first | omega | (simp [mN_A, mN_B, mN_I, mN_N] <;> omega))
def m_undo_L22 : Nat → MS → Nat → Int32 × MS
  | 0, M, _ => (0, M)
  | fu + 1, M, k => (if 22 ≤ k then ((nI (mN M 33)), M) else m_undo_L22 fu (mSetA M 12 k (mA M 34 ((22 * (mN M 33)) + k))) (k + 1))
def m_undo (M : MS) : Int32 × MS := (if (mN M 33) = 0 then ((-1000000003), M) else m_undo_L22 23 (mSetN M 33 ((mN M 33) - 1)) 0)
theorem bX3_undo : nBV RX3 yX3_undo cX3_undo 2 (some .int) 0 := ⟨q983, q984, q55, q985, by decide, by decide +kernel⟩
set_option maxRecDepth 100000 in
set_option maxHeartbeats 4000000 in
theorem t_m_undo_L22 {p : Program} {l : Launch} {e : Env} {s : State} {m : MethodId} {args : Array Value} {below : List Frame} {meth : Method} {c : Code} {D : va_G} {N0 : Nat} {kA : Nat → ClassId} {mb : Nat} {hs : hT} {n : Nat} (hn : mb + 28 < n)  (hC : nC p s m args meth c RX3 cX3_undo 2 (some .int) true D N0 kA)  : ∀ (fu : Nat) (M : MS) (k : Nat) (hu : mN M 33 ≤ 19) (hk2 : k ≤ 22) (hf : 22 < k + fu), nW p l e (nRm 0 0 0) s m args below meth c (nQ below (nX (some (.int ((m_undo_L22 fu M k).1))) (mH N0 mb kA hs ((m_undo_L22 fu M k).2)) n) D N0 s 0 0) D N0 2 22 [(0, .ref (N0 + mb)), (1, .int (nI k))] [] (mH N0 mb kA hs M) n 0 0 := by
  intro fu
  induction fu with
  | zero =>
    intro M k hu hk2 hf
    exfalso; omega
  | succ fu ih =>
    intro M k hu hk2 hf
    refine n_iload_n hC dX3_undo_22 rfl ?_
    refine n_bipush (v := (nI 22)) hC dX3_undo_23 (by decide) ?_
    refine n_icmp_geN (tgt := 54) hC k 22 rfl rfl (by omega) (by omega) dX3_undo_25 (by decide) (fun c25 => ?_) (fun c25 => ?_)
    · refine n_aload_n hC dX3_undo_54 rfl ?_
      refine n_get hC cl3 (k := 33) (v := .int (nI (mN M 33))) mc_o (by omega) (by decide) q713 (mf_get N0 mb M (by decide)) dX3_undo_55 ?_
      have eq_ : m_undo_L22 (fu + 1) M k = ((nI (mN M 33)), M) := by rw [m_undo_L22, if_pos c25]
      refine n_iret hC dX3_undo_58 (Nat.le_of_ble_eq_true rfl) (Nat.le_of_ble_eq_true rfl) ?_
      rw [eq_]
      dsimp only
      exact ⟨rfl, rfl, rfl⟩
    · refine n_aload_n hC dX3_undo_28 rfl ?_
      refine n_get hC cl3 (k := 12) (v := .ref (N0 + (mb + 10))) mc_o (by omega) (by decide) q692 (mf_get N0 mb M (by decide)) dX3_undo_29 ?_
      refine n_iload_n hC dX3_undo_32 rfl ?_
      refine n_aload_n hC dX3_undo_33 rfl ?_
      refine n_get hC cl3 (k := 34) (v := .ref (N0 + (mb + 22))) mc_o (by omega) (by decide) q714 (mf_get N0 mb M (by decide)) dX3_undo_34 ?_
      refine n_bipush (v := (nI 22)) hC dX3_undo_37 (by decide) ?_
      refine n_aload_n hC dX3_undo_39 rfl ?_
      refine n_get hC cl3 (k := 33) (v := .int (nI (mN M 33))) mc_o (by omega) (by decide) q713 (mf_get N0 mb M (by decide)) dX3_undo_40 ?_
      refine n_imulN hC dX3_undo_43 ?_
      refine n_iload_n hC dX3_undo_44 rfl ?_
      refine n_iaddN hC dX3_undo_45 ?_
      refine n_iald hC (f := mA M 34) (mc_a (p := 22) (by decide) (by decide)) (by omega) ((22 * (mN M 33)) + k) rfl (by omega) (by decide) dX3_undo_46 ?_
      refine n_iast hC (f := mA M 12) (mc_a (p := 10) (by decide) (by decide)) (by omega) k rfl (by omega) (by decide) dX3_undo_47 (mu_A (M := M) (k := 12) (len := 22) (kd := 0) rfl rfl rfl (by decide) (by decide)) ?_
      refine n_iincN (a := k) (L' := [(0, .ref (N0 + mb)), (1, .int (nI (k + 1)))]) hC dX3_undo_48 rfl (by decide) rfl ?_
      refine n_goto (tgt := 22) hC dX3_undo_51 (by decide) ?_
      rw [show m_undo_L22 (fu + 1) M k = m_undo_L22 fu (mSetA M 12 k (mA M 34 ((22 * (mN M 33)) + k))) (k + 1) from by rw [m_undo_L22, if_neg (Nat.not_le.mpr c25)]]
      exact ih (mSetA M 12 k (mA M 34 ((22 * (mN M 33)) + k))) (k + 1) hu (by first | omega | (simp [mN_A, mN_B, mN_I, mN_N] <;> omega)) (by first | omega | (simp [mN_A, mN_B, mN_I, mN_N] <;> omega))
set_option maxRecDepth 100000 in
set_option maxHeartbeats 4000000 in
theorem t_m_undo (l : Launch) (D : va_G) (N0 : Nat) (kA : Nat → ClassId) (mb : Nat) (hs : hT) (M : MS) (n : Nat) (hn : mb + 28 < n)  (h33 : mN M 33 ≤ 20) : nE l yX3_undo cX3_undo 2 (some .int) D N0 kA 0 0 0 [.ref (N0 + mb)] (mH N0 mb kA hs M) n (nX (some (.int ((m_undo M).1))) (mH N0 mb kA hs ((m_undo M).2)) n) := by
  refine nE_of (by decide) (Nat.le_of_ble_eq_true rfl) ?_
  intro p e s m args below meth c hC hnm
  refine n_loc (L' := [(0, .ref (N0 + mb))]) rfl ?_
  refine n_aload_n hC dX3_undo_0 rfl ?_
  refine n_get hC cl3 (k := 33) (v := .int (nI (mN M 33))) mc_o (by omega) (by decide) q713 (mf_get N0 mb M (by decide)) dX3_undo_1 ?_
  refine n_if_neN (tgt := 10) hC (by omega) dX3_undo_4 (by decide) (fun c4 => ?_) (fun c4 => ?_)
  · refine n_aload_n hC dX3_undo_10 rfl ?_
    refine n_dup hC dX3_undo_11 rfl ?_
    refine n_get hC cl3 (k := 33) (v := .int (nI (mN M 33))) mc_o (by omega) (by decide) q713 (mf_get N0 mb M (by decide)) dX3_undo_12 ?_
    refine n_iconst (v := (nI 1)) hC dX3_undo_15 (by decide) ?_
    refine n_isubN hC (by omega) dX3_undo_16 ?_
    refine n_put hC cl3 (k := 33) mc_o (by omega) (by decide) q713 rfl rfl rfl (by rw [mf_len]; decide) dX3_undo_17 (mu_N (M := M) (k := 33) (by decide) rfl rfl) ?_
    refine n_iconst (v := (nI 0)) hC dX3_undo_20 (by decide) ?_
    refine n_istore_n (L' := [(0, .ref (N0 + mb)), (1, .int (nI 0))]) hC dX3_undo_21 (by decide) rfl ?_
    rw [show m_undo M = m_undo_L22 23 (mSetN M 33 ((mN M 33) - 1)) 0 from by rw [m_undo, if_neg c4]]
    exact t_m_undo_L22 hn hC  23 (mSetN M 33 ((mN M 33) - 1)) 0 (by first | omega | (simp [mN_A, mN_B, mN_I, mN_N] <;> omega)) (by first | omega | (simp [mN_A, mN_B, mN_I, mN_N] <;> omega)) (by first | omega | (simp [mN_A, mN_B, mN_I, mN_N] <;> omega))
  · refine n_ldc hC dX3_undo_7 q932 ?_
    have eq_ : m_undo M = ((-1000000003), M) := by rw [m_undo, if_pos c4]
    refine n_iret hC dX3_undo_9 (Nat.le_of_ble_eq_true rfl) (Nat.le_of_ble_eq_true rfl) ?_
    rw [eq_]
    dsimp only
    exact ⟨rfl, rfl, rfl⟩
def m_keep_L15 : Nat → MS → Int32 → Nat → Int32 × MS
  | 0, M, _, _ => (0, M)
  | fu + 1, M, k, i => (if 22 ≤ i then ((nI 1), mSetN (mSetA (mSetA M 43 ((23 * (cl k)) + 22) (mI M 13)) 44 (cl k) (nI 1)) 33 0) else m_keep_L15 fu (mSetA M 43 ((23 * (cl k)) + i) (mA M 12 i)) k (i + 1))
def m_keep (M : MS) (k : Int32) : Int32 × MS := (if (m_in k.toInt64 0 1) = true then m_keep_L15 23 M k 0 else ((-1000000001), M))
theorem bX3_keep : nBV RX3 yX3_keep cX3_keep 3 (some .int) 1 := ⟨q1122, q1123, q55, q1124, by decide, by decide +kernel⟩
set_option maxRecDepth 100000 in
set_option maxHeartbeats 4000000 in
theorem t_m_keep_L15 {p : Program} {l : Launch} {e : Env} {s : State} {m : MethodId} {args : Array Value} {below : List Frame} {meth : Method} {c : Code} {D : va_G} {N0 : Nat} {kA : Nat → ClassId} {mb : Nat} {hs : hT} {n : Nat} (hn : mb + 28 < n) {k : Int32} (hC : nC p s m args meth c RX3 cX3_keep 3 (some .int) true D N0 kA)  : ∀ (fu : Nat) (M : MS) (i : Nat) (hk1 : k = nI (cl k)) (hk2 : cl k ≤ 1) (hi : i ≤ 22) (hf : 22 < i + fu), nW p l e (nRm 1 0 0) s m args below meth c (nQ below (nX (some (.int ((m_keep_L15 fu M k i).1))) (mH N0 mb kA hs ((m_keep_L15 fu M k i).2)) n) D N0 s 0 0) D N0 3 15 [(0, .ref (N0 + mb)), (1, .int k), (2, .int (nI i))] [] (mH N0 mb kA hs M) n 0 0 := by
  intro fu
  induction fu with
  | zero =>
    intro M i hk1 hk2 hi hf
    exfalso; omega
  | succ fu ih =>
    intro M i hk1 hk2 hi hf
    refine n_iload_n hC dX3_keep_15 rfl ?_
    refine n_bipush (v := (nI 22)) hC dX3_keep_16 (by decide) ?_
    refine n_icmp_geN (tgt := 44) hC i 22 rfl rfl (by omega) (by omega) dX3_keep_18 (by decide) (fun c18 => ?_) (fun c18 => ?_)
    · refine n_aload_n hC dX3_keep_44 rfl ?_
      refine n_get hC cl3 (k := 43) (v := .ref (N0 + (mb + 27))) mc_o (by omega) (by decide) q723 (mf_get N0 mb M (by decide)) dX3_keep_45 ?_
      refine n_bipush (v := (nI 23)) hC dX3_keep_48 (by decide) ?_
      refine n_iload_n hC dX3_keep_50 rfl ?_
      refine n_top (cl k) hk1 ?_
      refine n_imulN hC dX3_keep_51 ?_
      refine n_bipush (v := (nI 22)) hC dX3_keep_52 (by decide) ?_
      refine n_iaddN hC dX3_keep_54 ?_
      refine n_aload_n hC dX3_keep_55 rfl ?_
      refine n_get hC cl3 (k := 13) (v := .int (mI M 13)) mc_o (by omega) (by decide) q693 (mf_get N0 mb M (by decide)) dX3_keep_56 ?_
      refine n_iast hC (f := mA M 43) (mc_a (p := 27) (by decide) (by decide)) (by omega) ((23 * (cl k)) + 22) rfl (by omega) (by decide) dX3_keep_59 (mu_A (M := M) (k := 43) (len := 46) (kd := 0) rfl rfl rfl (by decide) (by decide)) ?_
      refine n_aload_n hC dX3_keep_60 rfl ?_
      refine n_get hC cl3 (k := 44) (v := .ref (N0 + (mb + 28))) mc_o (by omega) (by decide) q724 (mf_get N0 mb (mSetA M 43 ((23 * (cl k)) + 22) (mI M 13)) (by decide)) dX3_keep_61 ?_
      refine n_iload_n hC dX3_keep_64 rfl ?_
      refine n_top (cl k) hk1 ?_
      refine n_iconst (v := (nI 1)) hC dX3_keep_65 (by decide) ?_
      refine n_zastE hC (f := mA (mSetA M 43 ((23 * (cl k)) + 22) (mI M 13)) 44) (mc_a (p := 28) (by decide) (by decide)) (by omega) (cl k) rfl (by omega) (by decide) dX3_keep_66 (by decide) (mu_A (M := (mSetA M 43 ((23 * (cl k)) + 22) (mI M 13))) (k := 44) (len := 2) (kd := 2) rfl rfl rfl (by decide) (by decide)) ?_
      refine n_aload_n hC dX3_keep_67 rfl ?_
      refine n_iconst (v := (nI 0)) hC dX3_keep_68 (by decide) ?_
      refine n_put hC cl3 (k := 33) mc_o (by omega) (by decide) q713 rfl rfl rfl (by rw [mf_len]; decide) dX3_keep_69 (mu_N (M := (mSetA (mSetA M 43 ((23 * (cl k)) + 22) (mI M 13)) 44 (cl k) (nI 1))) (k := 33) (by decide) rfl rfl) ?_
      refine n_iconst (v := (nI 1)) hC dX3_keep_72 (by decide) ?_
      have eq_ : m_keep_L15 (fu + 1) M k i = ((nI 1), mSetN (mSetA (mSetA M 43 ((23 * (cl k)) + 22) (mI M 13)) 44 (cl k) (nI 1)) 33 0) := by rw [m_keep_L15, if_pos c18]
      refine n_iret hC dX3_keep_73 (Nat.le_of_ble_eq_true rfl) (Nat.le_of_ble_eq_true rfl) ?_
      rw [eq_]
      dsimp only
      exact ⟨rfl, rfl, rfl⟩
    · refine n_aload_n hC dX3_keep_21 rfl ?_
      refine n_get hC cl3 (k := 43) (v := .ref (N0 + (mb + 27))) mc_o (by omega) (by decide) q723 (mf_get N0 mb M (by decide)) dX3_keep_22 ?_
      refine n_bipush (v := (nI 23)) hC dX3_keep_25 (by decide) ?_
      refine n_iload_n hC dX3_keep_27 rfl ?_
      refine n_top (cl k) hk1 ?_
      refine n_imulN hC dX3_keep_28 ?_
      refine n_iload_n hC dX3_keep_29 rfl ?_
      refine n_iaddN hC dX3_keep_30 ?_
      refine n_aload_n hC dX3_keep_31 rfl ?_
      refine n_get hC cl3 (k := 12) (v := .ref (N0 + (mb + 10))) mc_o (by omega) (by decide) q692 (mf_get N0 mb M (by decide)) dX3_keep_32 ?_
      refine n_iload_n hC dX3_keep_35 rfl ?_
      refine n_iald hC (f := mA M 12) (mc_a (p := 10) (by decide) (by decide)) (by omega) i rfl (by omega) (by decide) dX3_keep_36 ?_
      refine n_iast hC (f := mA M 43) (mc_a (p := 27) (by decide) (by decide)) (by omega) ((23 * (cl k)) + i) rfl (by omega) (by decide) dX3_keep_37 (mu_A (M := M) (k := 43) (len := 46) (kd := 0) rfl rfl rfl (by decide) (by decide)) ?_
      refine n_iincN (a := i) (L' := [(0, .ref (N0 + mb)), (1, .int k), (2, .int (nI (i + 1)))]) hC dX3_keep_38 rfl (by decide) rfl ?_
      refine n_goto (tgt := 15) hC dX3_keep_41 (by decide) ?_
      rw [show m_keep_L15 (fu + 1) M k i = m_keep_L15 fu (mSetA M 43 ((23 * (cl k)) + i) (mA M 12 i)) k (i + 1) from by rw [m_keep_L15, if_neg (Nat.not_le.mpr c18)]]
      exact ih (mSetA M 43 ((23 * (cl k)) + i) (mA M 12 i)) (i + 1) hk1 hk2 (by first | omega | (simp [mN_A, mN_B, mN_I, mN_N] <;> omega)) (by first | omega | (simp [mN_A, mN_B, mN_I, mN_N] <;> omega))
set_option maxRecDepth 100000 in
set_option maxHeartbeats 4000000 in
theorem t_m_keep (l : Launch) (D : va_G) (N0 : Nat) (kA : Nat → ClassId) (mb : Nat) (hs : hT) (M : MS) (n : Nat) (hn : mb + 28 < n) (k : Int32)  : nE l yX3_keep cX3_keep 3 (some .int) D N0 kA 1 0 0 [.ref (N0 + mb), .int k] (mH N0 mb kA hs M) n (nX (some (.int ((m_keep M k).1))) (mH N0 mb kA hs ((m_keep M k).2)) n) := by
  refine nE_of (by decide) (Nat.le_of_ble_eq_true rfl) ?_
  intro p e s m args below meth c hC hnm
  refine n_loc (L' := [(0, .ref (N0 + mb)), (1, .int k)]) rfl ?_
  refine n_iload_n hC dX3_keep_0 rfl ?_
  refine n_i2l hC dX3_keep_1 ?_
  refine n_lconst (v := 0) hC dX3_keep_2 (by decide) ?_
  refine n_lconst (v := 1) hC dX3_keep_3 (by decide) ?_
  refine n_callS1 hC (As := [.long k.toInt64, .long 0, .long 1]) (rest := []) bX3_in (t_m_in l D N0 kA (mH N0 mb kA hs M) n k.toInt64 0 1 ) (by decide) (by decide) q822 rfl (Nat.le_of_ble_eq_true rfl) dX3_keep_4 (Nat.le_of_ble_eq_true rfl) (Nat.le_of_ble_eq_true rfl) ?_
  refine n_stk (st' := [.int (bI (m_in k.toInt64 0 1))]) rfl ?_
  refine n_if_neB (tgt := 13) hC dX3_keep_7 (by decide) (fun c7 => ?_) (fun c7 => ?_)
  · have hk := (in_cst (x := k) 0 1 rfl rfl).mp c7
    have hk1 := nI_cl hk.1
    have hk2 := hk.2
    refine n_iconst (v := (nI 0)) hC dX3_keep_13 (by decide) ?_
    refine n_istore_n (L' := [(0, .ref (N0 + mb)), (1, .int k), (2, .int (nI 0))]) hC dX3_keep_14 (by decide) rfl ?_
    rw [show m_keep M k = m_keep_L15 23 M k 0 from by rw [m_keep, if_pos c7]]
    exact t_m_keep_L15 hn hC  23 M 0 hk1 hk2.2 (by first | omega | (simp [mN_A, mN_B, mN_I, mN_N] <;> omega)) (by first | omega | (simp [mN_A, mN_B, mN_I, mN_N] <;> omega))
  · refine n_ldc hC dX3_keep_10 q893 ?_
    have eq_ : m_keep M k = ((-1000000001), M) := by rw [m_keep, if_neg (by rw [c7]; decide)]
    refine n_iret hC dX3_keep_12 (Nat.le_of_ble_eq_true rfl) (Nat.le_of_ble_eq_true rfl) ?_
    rw [eq_]
    dsimp only
    exact ⟨rfl, rfl, rfl⟩
def m_goBack_L27 : Nat → MS → Int32 → Nat → Int32 × MS
  | 0, M, _, _ => (0, M)
  | fu + 1, M, k, i => (if 22 ≤ i then ((nI 1), mSetN (mSetI M 13 (mA M 43 ((23 * (cl k)) + 22))) 33 0) else m_goBack_L27 fu (mSetA M 12 i (mA M 43 ((23 * (cl k)) + i))) k (i + 1))
def m_goBack (M : MS) (k : Int32) : Int32 × MS := (if (m_in k.toInt64 0 1) = true then (if (mA M 44 (cl k)) = 0 then ((-1000000003), M) else m_goBack_L27 23 M k 0) else ((-1000000001), M))
theorem bX3_goBack : nBV RX3 yX3_goBack cX3_goBack 3 (some .int) 1 := ⟨q1126, q1127, q55, q1128, by decide, by decide +kernel⟩
set_option maxRecDepth 100000 in
set_option maxHeartbeats 4000000 in
theorem t_m_goBack_L27 {p : Program} {l : Launch} {e : Env} {s : State} {m : MethodId} {args : Array Value} {below : List Frame} {meth : Method} {c : Code} {D : va_G} {N0 : Nat} {kA : Nat → ClassId} {mb : Nat} {hs : hT} {n : Nat} (hn : mb + 28 < n) {k : Int32} (hC : nC p s m args meth c RX3 cX3_goBack 3 (some .int) true D N0 kA)  : ∀ (fu : Nat) (M : MS) (i : Nat) (hk1 : k = nI (cl k)) (hk2 : cl k ≤ 1) (hi : i ≤ 22) (hf : 22 < i + fu), nW p l e (nRm 1 0 0) s m args below meth c (nQ below (nX (some (.int ((m_goBack_L27 fu M k i).1))) (mH N0 mb kA hs ((m_goBack_L27 fu M k i).2)) n) D N0 s 0 0) D N0 3 27 [(0, .ref (N0 + mb)), (1, .int k), (2, .int (nI i))] [] (mH N0 mb kA hs M) n 0 0 := by
  intro fu
  induction fu with
  | zero =>
    intro M i hk1 hk2 hi hf
    exfalso; omega
  | succ fu ih =>
    intro M i hk1 hk2 hi hf
    refine n_iload_n hC dX3_goBack_27 rfl ?_
    refine n_bipush (v := (nI 22)) hC dX3_goBack_28 (by decide) ?_
    refine n_icmp_geN (tgt := 56) hC i 22 rfl rfl (by omega) (by omega) dX3_goBack_30 (by decide) (fun c30 => ?_) (fun c30 => ?_)
    · refine n_aload_n hC dX3_goBack_56 rfl ?_
      refine n_aload_n hC dX3_goBack_57 rfl ?_
      refine n_get hC cl3 (k := 43) (v := .ref (N0 + (mb + 27))) mc_o (by omega) (by decide) q723 (mf_get N0 mb M (by decide)) dX3_goBack_58 ?_
      refine n_bipush (v := (nI 23)) hC dX3_goBack_61 (by decide) ?_
      refine n_iload_n hC dX3_goBack_63 rfl ?_
      refine n_top (cl k) hk1 ?_
      refine n_imulN hC dX3_goBack_64 ?_
      refine n_bipush (v := (nI 22)) hC dX3_goBack_65 (by decide) ?_
      refine n_iaddN hC dX3_goBack_67 ?_
      refine n_iald hC (f := mA M 43) (mc_a (p := 27) (by decide) (by decide)) (by omega) ((23 * (cl k)) + 22) rfl (by omega) (by decide) dX3_goBack_68 ?_
      refine n_put hC cl3 (k := 13) mc_o (by omega) (by decide) q693 rfl rfl rfl (by rw [mf_len]; decide) dX3_goBack_69 (mu_I (M := M) (k := 13) (by decide) rfl rfl) ?_
      refine n_aload_n hC dX3_goBack_72 rfl ?_
      refine n_iconst (v := (nI 0)) hC dX3_goBack_73 (by decide) ?_
      refine n_put hC cl3 (k := 33) mc_o (by omega) (by decide) q713 rfl rfl rfl (by rw [mf_len]; decide) dX3_goBack_74 (mu_N (M := (mSetI M 13 (mA M 43 ((23 * (cl k)) + 22)))) (k := 33) (by decide) rfl rfl) ?_
      refine n_iconst (v := (nI 1)) hC dX3_goBack_77 (by decide) ?_
      have eq_ : m_goBack_L27 (fu + 1) M k i = ((nI 1), mSetN (mSetI M 13 (mA M 43 ((23 * (cl k)) + 22))) 33 0) := by rw [m_goBack_L27, if_pos c30]
      refine n_iret hC dX3_goBack_78 (Nat.le_of_ble_eq_true rfl) (Nat.le_of_ble_eq_true rfl) ?_
      rw [eq_]
      dsimp only
      exact ⟨rfl, rfl, rfl⟩
    · refine n_aload_n hC dX3_goBack_33 rfl ?_
      refine n_get hC cl3 (k := 12) (v := .ref (N0 + (mb + 10))) mc_o (by omega) (by decide) q692 (mf_get N0 mb M (by decide)) dX3_goBack_34 ?_
      refine n_iload_n hC dX3_goBack_37 rfl ?_
      refine n_aload_n hC dX3_goBack_38 rfl ?_
      refine n_get hC cl3 (k := 43) (v := .ref (N0 + (mb + 27))) mc_o (by omega) (by decide) q723 (mf_get N0 mb M (by decide)) dX3_goBack_39 ?_
      refine n_bipush (v := (nI 23)) hC dX3_goBack_42 (by decide) ?_
      refine n_iload_n hC dX3_goBack_44 rfl ?_
      refine n_top (cl k) hk1 ?_
      refine n_imulN hC dX3_goBack_45 ?_
      refine n_iload_n hC dX3_goBack_46 rfl ?_
      refine n_iaddN hC dX3_goBack_47 ?_
      refine n_iald hC (f := mA M 43) (mc_a (p := 27) (by decide) (by decide)) (by omega) ((23 * (cl k)) + i) rfl (by omega) (by decide) dX3_goBack_48 ?_
      refine n_iast hC (f := mA M 12) (mc_a (p := 10) (by decide) (by decide)) (by omega) i rfl (by omega) (by decide) dX3_goBack_49 (mu_A (M := M) (k := 12) (len := 22) (kd := 0) rfl rfl rfl (by decide) (by decide)) ?_
      refine n_iincN (a := i) (L' := [(0, .ref (N0 + mb)), (1, .int k), (2, .int (nI (i + 1)))]) hC dX3_goBack_50 rfl (by decide) rfl ?_
      refine n_goto (tgt := 27) hC dX3_goBack_53 (by decide) ?_
      rw [show m_goBack_L27 (fu + 1) M k i = m_goBack_L27 fu (mSetA M 12 i (mA M 43 ((23 * (cl k)) + i))) k (i + 1) from by rw [m_goBack_L27, if_neg (Nat.not_le.mpr c30)]]
      exact ih (mSetA M 12 i (mA M 43 ((23 * (cl k)) + i))) (i + 1) hk1 hk2 (by first | omega | (simp [mN_A, mN_B, mN_I, mN_N] <;> omega)) (by first | omega | (simp [mN_A, mN_B, mN_I, mN_N] <;> omega))
set_option maxRecDepth 100000 in
set_option maxHeartbeats 4000000 in
theorem t_m_goBack (l : Launch) (D : va_G) (N0 : Nat) (kA : Nat → ClassId) (mb : Nat) (hs : hT) (M : MS) (n : Nat) (hn : mb + 28 < n) (k : Int32)  : nE l yX3_goBack cX3_goBack 3 (some .int) D N0 kA 1 0 0 [.ref (N0 + mb), .int k] (mH N0 mb kA hs M) n (nX (some (.int ((m_goBack M k).1))) (mH N0 mb kA hs ((m_goBack M k).2)) n) := by
  refine nE_of (by decide) (Nat.le_of_ble_eq_true rfl) ?_
  intro p e s m args below meth c hC hnm
  refine n_loc (L' := [(0, .ref (N0 + mb)), (1, .int k)]) rfl ?_
  refine n_iload_n hC dX3_goBack_0 rfl ?_
  refine n_i2l hC dX3_goBack_1 ?_
  refine n_lconst (v := 0) hC dX3_goBack_2 (by decide) ?_
  refine n_lconst (v := 1) hC dX3_goBack_3 (by decide) ?_
  refine n_callS1 hC (As := [.long k.toInt64, .long 0, .long 1]) (rest := []) bX3_in (t_m_in l D N0 kA (mH N0 mb kA hs M) n k.toInt64 0 1 ) (by decide) (by decide) q822 rfl (Nat.le_of_ble_eq_true rfl) dX3_goBack_4 (Nat.le_of_ble_eq_true rfl) (Nat.le_of_ble_eq_true rfl) ?_
  refine n_stk (st' := [.int (bI (m_in k.toInt64 0 1))]) rfl ?_
  refine n_if_neB (tgt := 13) hC dX3_goBack_7 (by decide) (fun c7 => ?_) (fun c7 => ?_)
  · have hk := (in_cst (x := k) 0 1 rfl rfl).mp c7
    have hk1 := nI_cl hk.1
    have hk2 := hk.2
    refine n_aload_n hC dX3_goBack_13 rfl ?_
    refine n_get hC cl3 (k := 44) (v := .ref (N0 + (mb + 28))) mc_o (by omega) (by decide) q724 (mf_get N0 mb M (by decide)) dX3_goBack_14 ?_
    refine n_iload_n hC dX3_goBack_17 rfl ?_
    refine n_top (cl k) hk1 ?_
    refine n_zald hC (f := mA M 44) (mc_a (p := 28) (by decide) (by decide)) (by omega) (cl k) rfl (by omega) (by decide) dX3_goBack_18 ?_
    refine n_if_ne (tgt := 25) hC dX3_goBack_19 (by decide) (fun c19 => ?_) (fun c19 => ?_)
    · refine n_iconst (v := (nI 0)) hC dX3_goBack_25 (by decide) ?_
      refine n_istore_n (L' := [(0, .ref (N0 + mb)), (1, .int k), (2, .int (nI 0))]) hC dX3_goBack_26 (by decide) rfl ?_
      rw [show m_goBack M k = m_goBack_L27 23 M k 0 from by rw [m_goBack, if_pos c7, if_neg c19]]
      exact t_m_goBack_L27 hn hC  23 M 0 hk1 hk2.2 (by first | omega | (simp [mN_A, mN_B, mN_I, mN_N] <;> omega)) (by first | omega | (simp [mN_A, mN_B, mN_I, mN_N] <;> omega))
    · refine n_ldc hC dX3_goBack_22 q932 ?_
      have eq_ : m_goBack M k = ((-1000000003), M) := by rw [m_goBack, if_pos c7, if_pos c19]
      refine n_iret hC dX3_goBack_24 (Nat.le_of_ble_eq_true rfl) (Nat.le_of_ble_eq_true rfl) ?_
      rw [eq_]
      dsimp only
      exact ⟨rfl, rfl, rfl⟩
  · refine n_ldc hC dX3_goBack_10 q893 ?_
    have eq_ : m_goBack M k = ((-1000000001), M) := by rw [m_goBack, if_neg (by rw [c7]; decide)]
    refine n_iret hC dX3_goBack_12 (Nat.le_of_ble_eq_true rfl) (Nat.le_of_ble_eq_true rfl) ?_
    rw [eq_]
    dsimp only
    exact ⟨rfl, rfl, rfl⟩
def m_got (M : MS) (v : Int32) (q : Int32) : Int32 × MS := (if (m_in v.toInt64 1 (50)) = true then (if (m_in q.toInt64 0 (9999)) = true then (if (mN M 37) ≠ 8 then ((nI ((mN M 37) + 1)), mSetN (mSetA (mSetA M 38 (mN M 37) v) 39 (mN M 37) q) 37 ((mN M 37) + 1)) else ((-1000000004), M)) else ((-1000000002), M)) else ((-1000000002), M))
theorem bX3_got : nBV RX3 yX3_got cX3_got 3 (some .int) 2 := ⟨q1091, q1092, q55, q1093, by decide, by decide +kernel⟩
set_option maxRecDepth 100000 in
set_option maxHeartbeats 4000000 in
theorem t_m_got (l : Launch) (D : va_G) (N0 : Nat) (kA : Nat → ClassId) (mb : Nat) (hs : hT) (M : MS) (n : Nat) (hn : mb + 28 < n) (v : Int32) (q : Int32) (h37 : mN M 37 ≤ 8) : nE l yX3_got cX3_got 3 (some .int) D N0 kA 1 0 0 [.ref (N0 + mb), .int v, .int q] (mH N0 mb kA hs M) n (nX (some (.int ((m_got M v q).1))) (mH N0 mb kA hs ((m_got M v q).2)) n) := by
  refine nE_of (by decide) (Nat.le_of_ble_eq_true rfl) ?_
  intro p e s m args below meth c hC hnm
  refine n_loc (L' := [(0, .ref (N0 + mb)), (1, .int v), (2, .int q)]) rfl ?_
  refine n_iload_n hC dX3_got_0 rfl ?_
  refine n_i2l hC dX3_got_1 ?_
  refine n_lconst (v := 1) hC dX3_got_2 (by decide) ?_
  refine n_ldc2 hC dX3_got_3 q1094 ?_
  refine n_callS1 hC (As := [.long v.toInt64, .long 1, .long (50)]) (rest := []) bX3_in (t_m_in l D N0 kA (mH N0 mb kA hs M) n v.toInt64 1 (50) ) (by decide) (by decide) q822 rfl (Nat.le_of_ble_eq_true rfl) dX3_got_6 (Nat.le_of_ble_eq_true rfl) (Nat.le_of_ble_eq_true rfl) ?_
  refine n_stk (st' := [.int (bI (m_in v.toInt64 1 (50)))]) rfl ?_
  refine n_if_eqB (tgt := 24) hC dX3_got_9 (by decide) (fun c9 => ?_) (fun c9 => ?_)
  · refine n_ldc hC dX3_got_24 q825 ?_
    have eq_ : m_got M v q = ((-1000000002), M) := by rw [m_got, if_neg (by rw [c9]; decide)]
    refine n_iret hC dX3_got_26 (Nat.le_of_ble_eq_true rfl) (Nat.le_of_ble_eq_true rfl) ?_
    rw [eq_]
    dsimp only
    exact ⟨rfl, rfl, rfl⟩
  · refine n_iload_n hC dX3_got_12 rfl ?_
    refine n_i2l hC dX3_got_13 ?_
    refine n_lconst (v := 0) hC dX3_got_14 (by decide) ?_
    refine n_ldc2 hC dX3_got_15 q1095 ?_
    refine n_callS1 hC (As := [.long q.toInt64, .long 0, .long (9999)]) (rest := []) bX3_in (t_m_in l D N0 kA (mH N0 mb kA hs M) n q.toInt64 0 (9999) ) (by decide) (by decide) q822 rfl (Nat.le_of_ble_eq_true rfl) dX3_got_18 (Nat.le_of_ble_eq_true rfl) (Nat.le_of_ble_eq_true rfl) ?_
    refine n_stk (st' := [.int (bI (m_in q.toInt64 0 (9999)))]) rfl ?_
    refine n_if_neB (tgt := 27) hC dX3_got_21 (by decide) (fun c21 => ?_) (fun c21 => ?_)
    · refine n_aload_n hC dX3_got_27 rfl ?_
      refine n_get hC cl3 (k := 37) (v := .int (nI (mN M 37))) mc_o (by omega) (by decide) q717 (mf_get N0 mb M (by decide)) dX3_got_28 ?_
      refine n_bipush (v := (nI 8)) hC dX3_got_31 (by decide) ?_
      refine n_icmp_neN (tgt := 39) hC (mN M 37) 8 rfl rfl (by omega) (by omega) dX3_got_33 (by decide) (fun c33 => ?_) (fun c33 => ?_)
      · refine n_aload_n hC dX3_got_39 rfl ?_
        refine n_get hC cl3 (k := 38) (v := .ref (N0 + (mb + 23))) mc_o (by omega) (by decide) q718 (mf_get N0 mb M (by decide)) dX3_got_40 ?_
        refine n_aload_n hC dX3_got_43 rfl ?_
        refine n_get hC cl3 (k := 37) (v := .int (nI (mN M 37))) mc_o (by omega) (by decide) q717 (mf_get N0 mb M (by decide)) dX3_got_44 ?_
        refine n_iload_n hC dX3_got_47 rfl ?_
        refine n_iast hC (f := mA M 38) (mc_a (p := 23) (by decide) (by decide)) (by omega) (mN M 37) rfl (by omega) (by decide) dX3_got_48 (mu_A (M := M) (k := 38) (len := 8) (kd := 0) rfl rfl rfl (by decide) (by decide)) ?_
        refine n_aload_n hC dX3_got_49 rfl ?_
        refine n_get hC cl3 (k := 39) (v := .ref (N0 + (mb + 24))) mc_o (by omega) (by decide) q719 (mf_get N0 mb (mSetA M 38 (mN M 37) v) (by decide)) dX3_got_50 ?_
        refine n_aload_n hC dX3_got_53 rfl ?_
        refine n_get hC cl3 (k := 37) (v := .int (nI (mN M 37))) mc_o (by omega) (by decide) q717 (mf_get N0 mb (mSetA M 38 (mN M 37) v) (by decide)) dX3_got_54 ?_
        refine n_iload_n hC dX3_got_57 rfl ?_
        refine n_iast hC (f := mA (mSetA M 38 (mN M 37) v) 39) (mc_a (p := 24) (by decide) (by decide)) (by omega) (mN M 37) rfl (by omega) (by decide) dX3_got_58 (mu_A (M := (mSetA M 38 (mN M 37) v)) (k := 39) (len := 8) (kd := 0) rfl rfl rfl (by decide) (by decide)) ?_
        refine n_aload_n hC dX3_got_59 rfl ?_
        refine n_dup hC dX3_got_60 rfl ?_
        refine n_get hC cl3 (k := 37) (v := .int (nI (mN M 37))) mc_o (by omega) (by decide) q717 (mf_get N0 mb (mSetA (mSetA M 38 (mN M 37) v) 39 (mN M 37) q) (by decide)) dX3_got_61 ?_
        refine n_iconst (v := (nI 1)) hC dX3_got_64 (by decide) ?_
        refine n_iaddN hC dX3_got_65 ?_
        refine n_put hC cl3 (k := 37) mc_o (by omega) (by decide) q717 rfl rfl rfl (by rw [mf_len]; decide) dX3_got_66 (mu_N (M := (mSetA (mSetA M 38 (mN M 37) v) 39 (mN M 37) q)) (k := 37) (by decide) rfl rfl) ?_
        refine n_aload_n hC dX3_got_69 rfl ?_
        refine n_get hC cl3 (k := 37) (v := .int (nI ((mN M 37) + 1))) mc_o (by omega) (by decide) q717 (mf_get N0 mb (mSetN (mSetA (mSetA M 38 (mN M 37) v) 39 (mN M 37) q) 37 ((mN M 37) + 1)) (by decide)) dX3_got_70 ?_
        have eq_ : m_got M v q = ((nI ((mN M 37) + 1)), mSetN (mSetA (mSetA M 38 (mN M 37) v) 39 (mN M 37) q) 37 ((mN M 37) + 1)) := by rw [m_got, if_pos c9, if_pos c21, if_pos c33]
        refine n_iret hC dX3_got_73 (Nat.le_of_ble_eq_true rfl) (Nat.le_of_ble_eq_true rfl) ?_
        rw [eq_]
        dsimp only
        exact ⟨rfl, rfl, rfl⟩
      · refine n_ldc hC dX3_got_36 q826 ?_
        have eq_ : m_got M v q = ((-1000000004), M) := by rw [m_got, if_pos c9, if_pos c21, if_neg (not_not_intro c33)]
        refine n_iret hC dX3_got_38 (Nat.le_of_ble_eq_true rfl) (Nat.le_of_ble_eq_true rfl) ?_
        rw [eq_]
        dsimp only
        exact ⟨rfl, rfl, rfl⟩
    · refine n_ldc hC dX3_got_24 q825 ?_
      have eq_ : m_got M v q = ((-1000000002), M) := by rw [m_got, if_pos c9, if_neg (by rw [c21]; decide)]
      refine n_iret hC dX3_got_26 (Nat.le_of_ble_eq_true rfl) (Nat.le_of_ble_eq_true rfl) ?_
      rw [eq_]
      dsimp only
      exact ⟨rfl, rfl, rfl⟩
def m_write (M : MS) (k : Int32) (v : Int32) : Int32 × MS := (if (m_isLimb M k) = true then (if (m_in v.toInt64 0 (999)) = true then (if (mN M 40) ≠ 15 then ((nI ((mN M 40) + 1)), mSetN (mSetA (mSetB M 41 (mN M 40) (cl k)) 42 (mN M 40) v) 40 ((mN M 40) + 1)) else ((-1000000004), M)) else ((-1000000002), M)) else ((-1000000001), M))
theorem bX3_write : nBV RX3 yX3_write cX3_write 3 (some .int) 2 := ⟨q1106, q1107, q55, q1108, by decide, by decide +kernel⟩
set_option maxRecDepth 100000 in
set_option maxHeartbeats 4000000 in
theorem t_m_write (l : Launch) (D : va_G) (N0 : Nat) (kA : Nat → ClassId) (mb : Nat) (hs : hT) (M : MS) (n : Nat) (hn : mb + 28 < n) (k : Int32) (v : Int32) (h0 : mN M 0 ≤ 6) (h40 : mN M 40 ≤ 15) : nE l yX3_write cX3_write 3 (some .int) D N0 kA 2 0 0 [.ref (N0 + mb), .int k, .int v] (mH N0 mb kA hs M) n (nX (some (.int ((m_write M k v).1))) (mH N0 mb kA hs ((m_write M k v).2)) n) := by
  refine nE_of (by decide) (Nat.le_of_ble_eq_true rfl) ?_
  intro p e s m args below meth c hC hnm
  refine n_loc (L' := [(0, .ref (N0 + mb)), (1, .int k), (2, .int v)]) rfl ?_
  refine n_aload_n hC dX3_write_0 rfl ?_
  refine n_iload_n hC dX3_write_1 rfl ?_
  refine n_callV1 hC (As := [.int k]) (rest := []) mc_o (by omega) rfl bX3_isLimb (t_m_isLimb l D N0 kA mb hs M n hn k ) (by decide) (by decide) q889 rfl (Nat.le_of_ble_eq_true rfl) dX3_write_2 (Nat.le_of_ble_eq_true rfl) (Nat.le_of_ble_eq_true rfl) ?_
  refine n_stk (st' := [.int (bI (m_isLimb M k))]) rfl ?_
  refine n_if_neB (tgt := 11) hC dX3_write_5 (by decide) (fun c5 => ?_) (fun c5 => ?_)
  · have hk := isLimb_nat h0 c5
    have hk2 := hk.2
    refine n_iload_n hC dX3_write_11 rfl ?_
    refine n_i2l hC dX3_write_12 ?_
    refine n_lconst (v := 0) hC dX3_write_13 (by decide) ?_
    refine n_ldc2 hC dX3_write_14 q1082 ?_
    refine n_callS1 hC (As := [.long v.toInt64, .long 0, .long (999)]) (rest := []) bX3_in (t_m_in l D N0 kA (mH N0 mb kA hs M) n v.toInt64 0 (999) ) (by decide) (by decide) q822 rfl (Nat.le_of_ble_eq_true rfl) dX3_write_17 (Nat.le_of_ble_eq_true rfl) (Nat.le_of_ble_eq_true rfl) ?_
    refine n_stk (st' := [.int (bI (m_in v.toInt64 0 (999)))]) rfl ?_
    refine n_if_neB (tgt := 26) hC dX3_write_20 (by decide) (fun c20 => ?_) (fun c20 => ?_)
    · refine n_aload_n hC dX3_write_26 rfl ?_
      refine n_get hC cl3 (k := 40) (v := .int (nI (mN M 40))) mc_o (by omega) (by decide) q720 (mf_get N0 mb M (by decide)) dX3_write_27 ?_
      refine n_bipush (v := (nI 15)) hC dX3_write_30 (by decide) ?_
      refine n_icmp_neN (tgt := 38) hC (mN M 40) 15 rfl rfl (by omega) (by omega) dX3_write_32 (by decide) (fun c32 => ?_) (fun c32 => ?_)
      · refine n_aload_n hC dX3_write_38 rfl ?_
        refine n_get hC cl3 (k := 41) (v := .ref (N0 + (mb + 25))) mc_o (by omega) (by decide) q721 (mf_get N0 mb M (by decide)) dX3_write_39 ?_
        refine n_aload_n hC dX3_write_42 rfl ?_
        refine n_get hC cl3 (k := 40) (v := .int (nI (mN M 40))) mc_o (by omega) (by decide) q720 (mf_get N0 mb M (by decide)) dX3_write_43 ?_
        refine n_iload_n hC dX3_write_46 rfl ?_
        refine n_top (cl k) hk.1 ?_
        refine n_iast hC (f := fun j => nI (mB M 41 j)) (mc_a (p := 25) (by decide) (by decide)) (by omega) (mN M 40) rfl (by omega) (by decide) dX3_write_47 (mu_B (M := M) (k := 41) (len := 15) rfl rfl (by decide) (by decide)) ?_
        refine n_aload_n hC dX3_write_48 rfl ?_
        refine n_get hC cl3 (k := 42) (v := .ref (N0 + (mb + 26))) mc_o (by omega) (by decide) q722 (mf_get N0 mb (mSetB M 41 (mN M 40) (cl k)) (by decide)) dX3_write_49 ?_
        refine n_aload_n hC dX3_write_52 rfl ?_
        refine n_get hC cl3 (k := 40) (v := .int (nI (mN M 40))) mc_o (by omega) (by decide) q720 (mf_get N0 mb (mSetB M 41 (mN M 40) (cl k)) (by decide)) dX3_write_53 ?_
        refine n_iload_n hC dX3_write_56 rfl ?_
        refine n_iast hC (f := mA (mSetB M 41 (mN M 40) (cl k)) 42) (mc_a (p := 26) (by decide) (by decide)) (by omega) (mN M 40) rfl (by omega) (by decide) dX3_write_57 (mu_A (M := (mSetB M 41 (mN M 40) (cl k))) (k := 42) (len := 15) (kd := 0) rfl rfl rfl (by decide) (by decide)) ?_
        refine n_aload_n hC dX3_write_58 rfl ?_
        refine n_dup hC dX3_write_59 rfl ?_
        refine n_get hC cl3 (k := 40) (v := .int (nI (mN M 40))) mc_o (by omega) (by decide) q720 (mf_get N0 mb (mSetA (mSetB M 41 (mN M 40) (cl k)) 42 (mN M 40) v) (by decide)) dX3_write_60 ?_
        refine n_iconst (v := (nI 1)) hC dX3_write_63 (by decide) ?_
        refine n_iaddN hC dX3_write_64 ?_
        refine n_put hC cl3 (k := 40) mc_o (by omega) (by decide) q720 rfl rfl rfl (by rw [mf_len]; decide) dX3_write_65 (mu_N (M := (mSetA (mSetB M 41 (mN M 40) (cl k)) 42 (mN M 40) v)) (k := 40) (by decide) rfl rfl) ?_
        refine n_aload_n hC dX3_write_68 rfl ?_
        refine n_get hC cl3 (k := 40) (v := .int (nI ((mN M 40) + 1))) mc_o (by omega) (by decide) q720 (mf_get N0 mb (mSetN (mSetA (mSetB M 41 (mN M 40) (cl k)) 42 (mN M 40) v) 40 ((mN M 40) + 1)) (by decide)) dX3_write_69 ?_
        have eq_ : m_write M k v = ((nI ((mN M 40) + 1)), mSetN (mSetA (mSetB M 41 (mN M 40) (cl k)) 42 (mN M 40) v) 40 ((mN M 40) + 1)) := by rw [m_write, if_pos c5, if_pos c20, if_pos c32]
        refine n_iret hC dX3_write_72 (Nat.le_of_ble_eq_true rfl) (Nat.le_of_ble_eq_true rfl) ?_
        rw [eq_]
        dsimp only
        exact ⟨rfl, rfl, rfl⟩
      · refine n_ldc hC dX3_write_35 q826 ?_
        have eq_ : m_write M k v = ((-1000000004), M) := by rw [m_write, if_pos c5, if_pos c20, if_neg (not_not_intro c32)]
        refine n_iret hC dX3_write_37 (Nat.le_of_ble_eq_true rfl) (Nat.le_of_ble_eq_true rfl) ?_
        rw [eq_]
        dsimp only
        exact ⟨rfl, rfl, rfl⟩
    · refine n_ldc hC dX3_write_23 q825 ?_
      have eq_ : m_write M k v = ((-1000000002), M) := by rw [m_write, if_pos c5, if_neg (by rw [c20]; decide)]
      refine n_iret hC dX3_write_25 (Nat.le_of_ble_eq_true rfl) (Nat.le_of_ble_eq_true rfl) ?_
      rw [eq_]
      dsimp only
      exact ⟨rfl, rfl, rfl⟩
  · refine n_ldc hC dX3_write_8 q893 ?_
    have eq_ : m_write M k v = ((-1000000001), M) := by rw [m_write, if_neg (by rw [c5]; decide)]
    refine n_iret hC dX3_write_10 (Nat.le_of_ble_eq_true rfl) (Nat.le_of_ble_eq_true rfl) ?_
    rw [eq_]
    dsimp only
    exact ⟨rfl, rfl, rfl⟩
def m_tear (M : MS) : Int32 × MS := ((nI ((mN M 37) + (mN M 40))), mSetN (mSetN M 37 0) 40 0)
theorem bX3_tear : nBV RX3 yX3_tear cX3_tear 2 (some .int) 0 := ⟨q1110, q1111, q55, q1112, by decide, by decide +kernel⟩
set_option maxRecDepth 100000 in
set_option maxHeartbeats 4000000 in
theorem t_m_tear (l : Launch) (D : va_G) (N0 : Nat) (kA : Nat → ClassId) (mb : Nat) (hs : hT) (M : MS) (n : Nat) (hn : mb + 28 < n)   : nE l yX3_tear cX3_tear 2 (some .int) D N0 kA 0 0 0 [.ref (N0 + mb)] (mH N0 mb kA hs M) n (nX (some (.int ((m_tear M).1))) (mH N0 mb kA hs ((m_tear M).2)) n) := by
  refine nE_of (by decide) (Nat.le_of_ble_eq_true rfl) ?_
  intro p e s m args below meth c hC hnm
  refine n_loc (L' := [(0, .ref (N0 + mb))]) rfl ?_
  refine n_aload_n hC dX3_tear_0 rfl ?_
  refine n_get hC cl3 (k := 37) (v := .int (nI (mN M 37))) mc_o (by omega) (by decide) q717 (mf_get N0 mb M (by decide)) dX3_tear_1 ?_
  refine n_aload_n hC dX3_tear_4 rfl ?_
  refine n_get hC cl3 (k := 40) (v := .int (nI (mN M 40))) mc_o (by omega) (by decide) q720 (mf_get N0 mb M (by decide)) dX3_tear_5 ?_
  refine n_iaddN hC dX3_tear_8 ?_
  refine n_istore_n (L' := [(0, .ref (N0 + mb)), (1, .int (nI ((mN M 37) + (mN M 40))))]) hC dX3_tear_9 (by decide) rfl ?_
  refine n_aload_n hC dX3_tear_10 rfl ?_
  refine n_iconst (v := (nI 0)) hC dX3_tear_11 (by decide) ?_
  refine n_put hC cl3 (k := 37) mc_o (by omega) (by decide) q717 rfl rfl rfl (by rw [mf_len]; decide) dX3_tear_12 (mu_N (M := M) (k := 37) (by decide) rfl rfl) ?_
  refine n_aload_n hC dX3_tear_15 rfl ?_
  refine n_iconst (v := (nI 0)) hC dX3_tear_16 (by decide) ?_
  refine n_put hC cl3 (k := 40) mc_o (by omega) (by decide) q720 rfl rfl rfl (by rw [mf_len]; decide) dX3_tear_17 (mu_N (M := (mSetN M 37 0)) (k := 40) (by decide) rfl rfl) ?_
  refine n_iload_n hC dX3_tear_20 rfl ?_
  have eq_ : m_tear M = ((nI ((mN M 37) + (mN M 40))), mSetN (mSetN M 37 0) 40 0) := by rw [m_tear]
  refine n_iret hC dX3_tear_21 (Nat.le_of_ble_eq_true rfl) (Nat.le_of_ble_eq_true rfl) ?_
  rw [eq_]
  dsimp only
  exact ⟨rfl, rfl, rfl⟩
def m_seed (M : MS) (v : Int32) : Int32 × MS := (if 0 ≤ v then ((mI M 13), mSetI M 13 v) else ((-1000000002), M))
theorem bX3_seed : nBV RX3 yX3_seed cX3_seed 3 (some .int) 1 := ⟨q1118, q1119, q55, q1120, by decide, by decide +kernel⟩
set_option maxRecDepth 100000 in
set_option maxHeartbeats 4000000 in
theorem t_m_seed (l : Launch) (D : va_G) (N0 : Nat) (kA : Nat → ClassId) (mb : Nat) (hs : hT) (M : MS) (n : Nat) (hn : mb + 28 < n) (v : Int32)  : nE l yX3_seed cX3_seed 3 (some .int) D N0 kA 0 0 0 [.ref (N0 + mb), .int v] (mH N0 mb kA hs M) n (nX (some (.int ((m_seed M v).1))) (mH N0 mb kA hs ((m_seed M v).2)) n) := by
  refine nE_of (by decide) (Nat.le_of_ble_eq_true rfl) ?_
  intro p e s m args below meth c hC hnm
  refine n_loc (L' := [(0, .ref (N0 + mb)), (1, .int v)]) rfl ?_
  refine n_iload_n hC dX3_seed_0 rfl ?_
  refine n_if_ge (tgt := 7) hC dX3_seed_1 (by decide) (fun c1 => ?_) (fun c1 => ?_)
  · refine n_aload_n hC dX3_seed_7 rfl ?_
    refine n_get hC cl3 (k := 13) (v := .int (mI M 13)) mc_o (by omega) (by decide) q693 (mf_get N0 mb M (by decide)) dX3_seed_8 ?_
    refine n_istore_n (L' := [(0, .ref (N0 + mb)), (1, .int v), (2, .int (mI M 13))]) hC dX3_seed_11 (by decide) rfl ?_
    refine n_aload_n hC dX3_seed_12 rfl ?_
    refine n_iload_n hC dX3_seed_13 rfl ?_
    refine n_put hC cl3 (k := 13) mc_o (by omega) (by decide) q693 rfl rfl rfl (by rw [mf_len]; decide) dX3_seed_14 (mu_I (M := M) (k := 13) (by decide) rfl rfl) ?_
    refine n_iload_n hC dX3_seed_17 rfl ?_
    have eq_ : m_seed M v = ((mI M 13), mSetI M 13 v) := by rw [m_seed, if_pos c1]
    refine n_iret hC dX3_seed_18 (Nat.le_of_ble_eq_true rfl) (Nat.le_of_ble_eq_true rfl) ?_
    rw [eq_]
    dsimp only
    exact ⟨rfl, rfl, rfl⟩
  · refine n_ldc hC dX3_seed_4 q825 ?_
    have eq_ : m_seed M v = ((-1000000002), M) := by rw [m_seed, if_neg c1]
    refine n_iret hC dX3_seed_6 (Nat.le_of_ble_eq_true rfl) (Nat.le_of_ble_eq_true rfl) ?_
    rw [eq_]
    dsimp only
    exact ⟨rfl, rfl, rfl⟩
def m_feed (M : MS) (v : Int32) : Int32 × MS := (if (m_in v.toInt64 0 (255)) = true then (if (mN M 15) ≠ 250 then ((nI ((mN M 15) + 1)), mSetN (mSetB M 14 (mN M 15) (cl v)) 15 ((mN M 15) + 1)) else ((-1000000004), M)) else ((-1000000002), M))
theorem bX3_feed : nBV RX3 yX3_feed cX3_feed 2 (some .int) 1 := ⟨q818, q819, q55, q820, by decide, by decide +kernel⟩
set_option maxRecDepth 100000 in
set_option maxHeartbeats 4000000 in
theorem t_m_feed (l : Launch) (D : va_G) (N0 : Nat) (kA : Nat → ClassId) (mb : Nat) (hs : hT) (M : MS) (n : Nat) (hn : mb + 28 < n) (v : Int32) (h15 : mN M 15 ≤ 250) : nE l yX3_feed cX3_feed 2 (some .int) D N0 kA 1 0 0 [.ref (N0 + mb), .int v] (mH N0 mb kA hs M) n (nX (some (.int ((m_feed M v).1))) (mH N0 mb kA hs ((m_feed M v).2)) n) := by
  refine nE_of (by decide) (Nat.le_of_ble_eq_true rfl) ?_
  intro p e s m args below meth c hC hnm
  refine n_loc (L' := [(0, .ref (N0 + mb)), (1, .int v)]) rfl ?_
  refine n_iload_n hC dX3_feed_0 rfl ?_
  refine n_i2l hC dX3_feed_1 ?_
  refine n_lconst (v := 0) hC dX3_feed_2 (by decide) ?_
  refine n_ldc2 hC dX3_feed_3 q821 ?_
  refine n_callS1 hC (As := [.long v.toInt64, .long 0, .long (255)]) (rest := []) bX3_in (t_m_in l D N0 kA (mH N0 mb kA hs M) n v.toInt64 0 (255) ) (by decide) (by decide) q822 rfl (Nat.le_of_ble_eq_true rfl) dX3_feed_6 (Nat.le_of_ble_eq_true rfl) (Nat.le_of_ble_eq_true rfl) ?_
  refine n_stk (st' := [.int (bI (m_in v.toInt64 0 (255)))]) rfl ?_
  refine n_if_neB (tgt := 15) hC dX3_feed_9 (by decide) (fun c9 => ?_) (fun c9 => ?_)
  · have hv := (in_cst (x := v) 0 255 rfl rfl).mp c9
    have hv1 := nI_cl hv.1
    refine n_aload_n hC dX3_feed_15 rfl ?_
    refine n_get hC cl3 (k := 15) (v := .int (nI (mN M 15))) mc_o (by omega) (by decide) q695 (mf_get N0 mb M (by decide)) dX3_feed_16 ?_
    refine n_sipush (v := (nI 250)) hC dX3_feed_19 (by decide) ?_
    refine n_icmp_neN (tgt := 28) hC (mN M 15) 250 rfl rfl (by omega) (by omega) dX3_feed_22 (by decide) (fun c22 => ?_) (fun c22 => ?_)
    · refine n_aload_n hC dX3_feed_28 rfl ?_
      refine n_get hC cl3 (k := 14) (v := .ref (N0 + (mb + 11))) mc_o (by omega) (by decide) q694 (mf_get N0 mb M (by decide)) dX3_feed_29 ?_
      refine n_aload_n hC dX3_feed_32 rfl ?_
      refine n_get hC cl3 (k := 15) (v := .int (nI (mN M 15))) mc_o (by omega) (by decide) q695 (mf_get N0 mb M (by decide)) dX3_feed_33 ?_
      refine n_iload_n hC dX3_feed_36 rfl ?_
      refine n_top (cl v) hv1 ?_
      refine n_iast hC (f := fun j => nI (mB M 14 j)) (mc_a (p := 11) (by decide) (by decide)) (by omega) (mN M 15) rfl (by omega) (by decide) dX3_feed_37 (mu_B (M := M) (k := 14) (len := 250) rfl rfl (by decide) (by decide)) ?_
      refine n_aload_n hC dX3_feed_38 rfl ?_
      refine n_dup hC dX3_feed_39 rfl ?_
      refine n_get hC cl3 (k := 15) (v := .int (nI (mN M 15))) mc_o (by omega) (by decide) q695 (mf_get N0 mb (mSetB M 14 (mN M 15) (cl v)) (by decide)) dX3_feed_40 ?_
      refine n_iconst (v := (nI 1)) hC dX3_feed_43 (by decide) ?_
      refine n_iaddN hC dX3_feed_44 ?_
      refine n_put hC cl3 (k := 15) mc_o (by omega) (by decide) q695 rfl rfl rfl (by rw [mf_len]; decide) dX3_feed_45 (mu_N (M := (mSetB M 14 (mN M 15) (cl v))) (k := 15) (by decide) rfl rfl) ?_
      refine n_aload_n hC dX3_feed_48 rfl ?_
      refine n_get hC cl3 (k := 15) (v := .int (nI ((mN M 15) + 1))) mc_o (by omega) (by decide) q695 (mf_get N0 mb (mSetN (mSetB M 14 (mN M 15) (cl v)) 15 ((mN M 15) + 1)) (by decide)) dX3_feed_49 ?_
      have eq_ : m_feed M v = ((nI ((mN M 15) + 1)), mSetN (mSetB M 14 (mN M 15) (cl v)) 15 ((mN M 15) + 1)) := by rw [m_feed, if_pos c9, if_pos c22]
      refine n_iret hC dX3_feed_52 (Nat.le_of_ble_eq_true rfl) (Nat.le_of_ble_eq_true rfl) ?_
      rw [eq_]
      dsimp only
      exact ⟨rfl, rfl, rfl⟩
    · refine n_ldc hC dX3_feed_25 q826 ?_
      have eq_ : m_feed M v = ((-1000000004), M) := by rw [m_feed, if_pos c9, if_neg (not_not_intro c22)]
      refine n_iret hC dX3_feed_27 (Nat.le_of_ble_eq_true rfl) (Nat.le_of_ble_eq_true rfl) ?_
      rw [eq_]
      dsimp only
      exact ⟨rfl, rfl, rfl⟩
  · refine n_ldc hC dX3_feed_12 q825 ?_
    have eq_ : m_feed M v = ((-1000000002), M) := by rw [m_feed, if_neg (by rw [c9]; decide)]
    refine n_iret hC dX3_feed_14 (Nat.le_of_ble_eq_true rfl) (Nat.le_of_ble_eq_true rfl) ?_
    rw [eq_]
    dsimp only
    exact ⟨rfl, rfl, rfl⟩
def m_findBasket_L7 : Nat → MS → Nat → MS
  | 0, M, code => M
  | fu + 1, M, code => (if 15625 ≤ code then M else (if (m_isBasket M code) = true then (if 0 ≤ (mI M 35) then (if ((nI (m_timesOf code)) - (nI (m_timesOf (cl (mI M 35))))) = 0 then (if ((nI (m_limbsOf code)) - (nI (m_limbsOf (cl (mI M 35))))) < 0 then m_findBasket_L7 fu (mSetI M 35 (nI code)) (code + 1) else (if ((nI (m_limbsOf code)) - (nI (m_limbsOf (cl (mI M 35))))) = 0 then (if (m_isAhead code (cl (mI M 35))) = true then m_findBasket_L7 fu (mSetI M 35 (nI code)) (code + 1) else m_findBasket_L7 fu (mSetI M 35 (nI (cl (mI M 35)))) (code + 1)) else m_findBasket_L7 fu (mSetI M 35 (nI (cl (mI M 35)))) (code + 1))) else (if ((nI (m_timesOf code)) - (nI (m_timesOf (cl (mI M 35))))) < 0 then m_findBasket_L7 fu (mSetI M 35 (nI code)) (code + 1) else m_findBasket_L7 fu (mSetI M 35 (nI (cl (mI M 35)))) (code + 1))) else m_findBasket_L7 fu (mSetI M 35 (nI code)) (code + 1)) else m_findBasket_L7 fu M (code + 1)))
def m_findBasket (M : MS) : MS := m_findBasket_L7 (15625 + mN (mSetI M 35 (-1)) 0) (mSetI M 35 (-1)) 1
theorem bX3_findBasket : nBV RX3 yX3_findBasket cX3_findBasket 3 none 0 := ⟨q1001, qs42, q55, q1002, by decide, by decide +kernel⟩
set_option maxRecDepth 100000 in
set_option maxHeartbeats 4000000 in
theorem t_m_findBasket_L7 {p : Program} {l : Launch} {e : Env} {s : State} {m : MethodId} {args : Array Value} {below : List Frame} {meth : Method} {c : Code} {D : va_G} {N0 : Nat} {kA : Nat → ClassId} {mb : Nat} {hs : hT} {n : Nat} (hn : mb + 28 < n)  (hC : nC p s m args meth c RX3 cX3_findBasket 3 none true D N0 kA)  : ∀ (fu : Nat) (M : MS) (code : Nat) (h0 : mN M 0 ≤ 6) (hi : code ≤ 15625) (hf : 15625 < code + fu), nW p l e (nRm 4 0 0) s m args below meth c (nQ below (nX none (mH N0 mb kA hs (m_findBasket_L7 fu M code)) n) D N0 s 0 0) D N0 3 7 [(0, .ref (N0 + mb)), (1, .int (nI code))] [] (mH N0 mb kA hs M) n 0 0 := by
  intro fu
  induction fu with
  | zero =>
    intro M code h0 hi hf
    exfalso; omega
  | succ fu ih =>
    intro M code h0 hi hf
    refine n_iload_n hC dX3_findBasket_7 rfl ?_
    refine n_sipush (v := (nI 15625)) hC dX3_findBasket_8 (by decide) ?_
    refine n_icmp_geN (tgt := 104) hC code 15625 rfl rfl (by omega) (by omega) dX3_findBasket_11 (by decide) (fun c11 => ?_) (fun c11 => ?_)
    · have eq_ : m_findBasket_L7 (fu + 1) M code = M := by rw [m_findBasket_L7, if_pos c11]
      refine n_vret hC dX3_findBasket_104 (Nat.le_of_ble_eq_true rfl) (Nat.le_of_ble_eq_true rfl) ?_
      rw [eq_]
      exact ⟨rfl, rfl, rfl⟩
    · refine n_aload_n hC dX3_findBasket_14 rfl ?_
      refine n_iload_n hC dX3_findBasket_15 rfl ?_
      refine n_callV1 hC (As := [.int (nI code)]) (rest := []) mc_o (by omega) rfl bX3_isBasket (t_m_isBasket l D N0 kA mb hs M n hn code (by omega) (by omega)) (by decide) (by decide) q1003 rfl (Nat.le_of_ble_eq_true rfl) dX3_findBasket_16 (Nat.le_of_ble_eq_true rfl) (Nat.le_of_ble_eq_true rfl) ?_
      refine n_stk (st' := [.int (bI (m_isBasket M code))]) rfl ?_
      refine n_if_eqB (tgt := 98) hC dX3_findBasket_19 (by decide) (fun c19 => ?_) (fun c19 => ?_)
      · refine n_iincN (a := code) (L' := [(0, .ref (N0 + mb)), (1, .int (nI (code + 1)))]) hC dX3_findBasket_98 rfl (by decide) rfl ?_
        refine n_goto (tgt := 7) hC dX3_findBasket_101 (by decide) ?_
        rw [show m_findBasket_L7 (fu + 1) M code = m_findBasket_L7 fu M (code + 1) from by rw [m_findBasket_L7, if_neg (Nat.not_le.mpr c11), if_neg (by rw [c19]; decide)]]
        exact ih M (code + 1) h0 (by first | omega | (simp [mN_A, mN_B, mN_I, mN_N] <;> omega)) (by first | omega | (simp [mN_A, mN_B, mN_I, mN_N] <;> omega))
      · refine n_aload_n hC dX3_findBasket_22 rfl ?_
        refine n_get hC cl3 (k := 35) (v := .int (mI M 35)) mc_o (by omega) (by decide) q715 (mf_get N0 mb M (by decide)) dX3_findBasket_23 ?_
        refine n_if_ge (tgt := 33) hC dX3_findBasket_26 (by decide) (fun c26 => ?_) (fun c26 => ?_)
        · have hb := nI_cl c26
          refine n_iload_n hC dX3_findBasket_33 rfl ?_
          refine n_callS1 hC (As := [.int (nI code)]) (rest := []) bX3_timesOf (t_m_timesOf l D N0 kA (mH N0 mb kA hs M) n code (by omega)) (by decide) (by decide) q1022 rfl (Nat.le_of_ble_eq_true rfl) dX3_findBasket_34 (Nat.le_of_ble_eq_true rfl) (Nat.le_of_ble_eq_true rfl) ?_
          refine n_stk (st' := [.int (nI (m_timesOf code))]) rfl ?_
          refine n_aload_n hC dX3_findBasket_37 rfl ?_
          refine n_get hC cl3 (k := 35) (v := .int (mI M 35)) mc_o (by omega) (by decide) q715 (mf_get N0 mb M (by decide)) dX3_findBasket_38 ?_
          refine n_top (cl (mI M 35)) hb ?_
          refine n_callS1 hC (As := [.int (nI (cl (mI M 35)))]) (rest := [.int (nI (m_timesOf code))]) bX3_timesOf (t_m_timesOf l D N0 kA (mH N0 mb kA hs M) n (cl (mI M 35)) (cl_lt _)) (by decide) (by decide) q1022 rfl (Nat.le_of_ble_eq_true rfl) dX3_findBasket_41 (Nat.le_of_ble_eq_true rfl) (Nat.le_of_ble_eq_true rfl) ?_
          refine n_stk (st' := [.int (nI (m_timesOf (cl (mI M 35)))), .int (nI (m_timesOf code))]) rfl ?_
          refine n_isub hC dX3_findBasket_44 ?_
          refine n_istore_n (L' := [(0, .ref (N0 + mb)), (1, .int (nI code)), (2, .int ((nI (m_timesOf code)) - (nI (m_timesOf (cl (mI M 35))))))]) hC dX3_findBasket_45 (by decide) rfl ?_
          refine n_iload_n hC dX3_findBasket_46 rfl ?_
          refine n_if_ne (tgt := 65) hC dX3_findBasket_47 (by decide) (fun c47 => ?_) (fun c47 => ?_)
          · refine n_iload_n hC dX3_findBasket_65 rfl ?_
            refine n_istore_n (L' := [(0, .ref (N0 + mb)), (1, .int (nI code)), (2, .int ((nI (m_timesOf code)) - (nI (m_timesOf (cl (mI M 35))))))]) hC dX3_findBasket_66 (by decide) rfl ?_
            refine n_aload_n hC dX3_findBasket_67 rfl ?_
            refine n_iload_n hC dX3_findBasket_68 rfl ?_
            refine n_if_lt (tgt := 87) hC dX3_findBasket_69 (by decide) (fun c69 => ?_) (fun c69 => ?_)
            · refine n_iload_n hC dX3_findBasket_87 rfl ?_
              refine n_goto (tgt := 95) hC dX3_findBasket_88 (by decide) ?_
              refine n_put hC cl3 (k := 35) mc_o (by omega) (by decide) q715 rfl rfl rfl (by rw [mf_len]; decide) dX3_findBasket_95 (mu_I (M := M) (k := 35) (by decide) rfl rfl) ?_
              refine n_iincN (a := code) (L' := [(0, .ref (N0 + mb)), (1, .int (nI (code + 1))), (2, .int ((nI (m_timesOf code)) - (nI (m_timesOf (cl (mI M 35))))))]) hC dX3_findBasket_98 rfl (by decide) rfl ?_
              refine n_goto (tgt := 7) hC dX3_findBasket_101 (by decide) ?_
              refine n_drop [0, 1] (L' := [(0, .ref (N0 + mb)), (1, .int (nI (code + 1)))]) rfl ?_
              rw [show m_findBasket_L7 (fu + 1) M code = m_findBasket_L7 fu (mSetI M 35 (nI code)) (code + 1) from by rw [m_findBasket_L7, if_neg (Nat.not_le.mpr c11), if_pos c19, if_pos c26, if_neg c47, if_pos c69]]
              exact ih (mSetI M 35 (nI code)) (code + 1) h0 (by first | omega | (simp [mN_A, mN_B, mN_I, mN_N] <;> omega)) (by first | omega | (simp [mN_A, mN_B, mN_I, mN_N] <;> omega))
            · refine n_iload_n hC dX3_findBasket_72 rfl ?_
              refine n_if_neT (tgt := 91) hC dX3_findBasket_73 (by decide) c47 ?_
              refine n_aload_n hC dX3_findBasket_91 rfl ?_
              refine n_get hC cl3 (k := 35) (v := .int (mI M 35)) mc_o (by omega) (by decide) q715 (mf_get N0 mb M (by decide)) dX3_findBasket_92 ?_
              refine n_top (cl (mI M 35)) hb ?_
              refine n_put hC cl3 (k := 35) mc_o (by omega) (by decide) q715 rfl rfl rfl (by rw [mf_len]; decide) dX3_findBasket_95 (mu_I (M := M) (k := 35) (by decide) rfl rfl) ?_
              refine n_iincN (a := code) (L' := [(0, .ref (N0 + mb)), (1, .int (nI (code + 1))), (2, .int ((nI (m_timesOf code)) - (nI (m_timesOf (cl (mI M 35))))))]) hC dX3_findBasket_98 rfl (by decide) rfl ?_
              refine n_goto (tgt := 7) hC dX3_findBasket_101 (by decide) ?_
              refine n_drop [0, 1] (L' := [(0, .ref (N0 + mb)), (1, .int (nI (code + 1)))]) rfl ?_
              rw [show m_findBasket_L7 (fu + 1) M code = m_findBasket_L7 fu (mSetI M 35 (nI (cl (mI M 35)))) (code + 1) from by rw [m_findBasket_L7, if_neg (Nat.not_le.mpr c11), if_pos c19, if_pos c26, if_neg c47, if_neg c69]]
              exact ih (mSetI M 35 (nI (cl (mI M 35)))) (code + 1) h0 (by first | omega | (simp [mN_A, mN_B, mN_I, mN_N] <;> omega)) (by first | omega | (simp [mN_A, mN_B, mN_I, mN_N] <;> omega))
          · refine n_iload_n hC dX3_findBasket_50 rfl ?_
            refine n_callS1 hC (As := [.int (nI code)]) (rest := []) bX3_limbsOf (t_m_limbsOf l D N0 kA (mH N0 mb kA hs M) n code (by omega)) (by decide) (by decide) q1018 rfl (Nat.le_of_ble_eq_true rfl) dX3_findBasket_51 (Nat.le_of_ble_eq_true rfl) (Nat.le_of_ble_eq_true rfl) ?_
            refine n_stk (st' := [.int (nI (m_limbsOf code))]) rfl ?_
            refine n_aload_n hC dX3_findBasket_54 rfl ?_
            refine n_get hC cl3 (k := 35) (v := .int (mI M 35)) mc_o (by omega) (by decide) q715 (mf_get N0 mb M (by decide)) dX3_findBasket_55 ?_
            refine n_top (cl (mI M 35)) hb ?_
            refine n_callS1 hC (As := [.int (nI (cl (mI M 35)))]) (rest := [.int (nI (m_limbsOf code))]) bX3_limbsOf (t_m_limbsOf l D N0 kA (mH N0 mb kA hs M) n (cl (mI M 35)) (cl_lt _)) (by decide) (by decide) q1018 rfl (Nat.le_of_ble_eq_true rfl) dX3_findBasket_58 (Nat.le_of_ble_eq_true rfl) (Nat.le_of_ble_eq_true rfl) ?_
            refine n_stk (st' := [.int (nI (m_limbsOf (cl (mI M 35)))), .int (nI (m_limbsOf code))]) rfl ?_
            refine n_isub hC dX3_findBasket_61 ?_
            refine n_goto (tgt := 66) hC dX3_findBasket_62 (by decide) ?_
            refine n_istore_n (L' := [(0, .ref (N0 + mb)), (1, .int (nI code)), (2, .int ((nI (m_limbsOf code)) - (nI (m_limbsOf (cl (mI M 35))))))]) hC dX3_findBasket_66 (by decide) rfl ?_
            refine n_aload_n hC dX3_findBasket_67 rfl ?_
            refine n_iload_n hC dX3_findBasket_68 rfl ?_
            refine n_if_lt (tgt := 87) hC dX3_findBasket_69 (by decide) (fun c69 => ?_) (fun c69 => ?_)
            · refine n_iload_n hC dX3_findBasket_87 rfl ?_
              refine n_goto (tgt := 95) hC dX3_findBasket_88 (by decide) ?_
              refine n_put hC cl3 (k := 35) mc_o (by omega) (by decide) q715 rfl rfl rfl (by rw [mf_len]; decide) dX3_findBasket_95 (mu_I (M := M) (k := 35) (by decide) rfl rfl) ?_
              refine n_iincN (a := code) (L' := [(0, .ref (N0 + mb)), (1, .int (nI (code + 1))), (2, .int ((nI (m_limbsOf code)) - (nI (m_limbsOf (cl (mI M 35))))))]) hC dX3_findBasket_98 rfl (by decide) rfl ?_
              refine n_goto (tgt := 7) hC dX3_findBasket_101 (by decide) ?_
              refine n_drop [0, 1] (L' := [(0, .ref (N0 + mb)), (1, .int (nI (code + 1)))]) rfl ?_
              rw [show m_findBasket_L7 (fu + 1) M code = m_findBasket_L7 fu (mSetI M 35 (nI code)) (code + 1) from by rw [m_findBasket_L7, if_neg (Nat.not_le.mpr c11), if_pos c19, if_pos c26, if_pos c47, if_pos c69]]
              exact ih (mSetI M 35 (nI code)) (code + 1) h0 (by first | omega | (simp [mN_A, mN_B, mN_I, mN_N] <;> omega)) (by first | omega | (simp [mN_A, mN_B, mN_I, mN_N] <;> omega))
            · refine n_iload_n hC dX3_findBasket_72 rfl ?_
              refine n_if_ne (tgt := 91) hC dX3_findBasket_73 (by decide) (fun c73 => ?_) (fun c73 => ?_)
              · refine n_aload_n hC dX3_findBasket_91 rfl ?_
                refine n_get hC cl3 (k := 35) (v := .int (mI M 35)) mc_o (by omega) (by decide) q715 (mf_get N0 mb M (by decide)) dX3_findBasket_92 ?_
                refine n_top (cl (mI M 35)) hb ?_
                refine n_put hC cl3 (k := 35) mc_o (by omega) (by decide) q715 rfl rfl rfl (by rw [mf_len]; decide) dX3_findBasket_95 (mu_I (M := M) (k := 35) (by decide) rfl rfl) ?_
                refine n_iincN (a := code) (L' := [(0, .ref (N0 + mb)), (1, .int (nI (code + 1))), (2, .int ((nI (m_limbsOf code)) - (nI (m_limbsOf (cl (mI M 35))))))]) hC dX3_findBasket_98 rfl (by decide) rfl ?_
                refine n_goto (tgt := 7) hC dX3_findBasket_101 (by decide) ?_
                refine n_drop [0, 1] (L' := [(0, .ref (N0 + mb)), (1, .int (nI (code + 1)))]) rfl ?_
                rw [show m_findBasket_L7 (fu + 1) M code = m_findBasket_L7 fu (mSetI M 35 (nI (cl (mI M 35)))) (code + 1) from by rw [m_findBasket_L7, if_neg (Nat.not_le.mpr c11), if_pos c19, if_pos c26, if_pos c47, if_neg c69, if_neg c73]]
                exact ih (mSetI M 35 (nI (cl (mI M 35)))) (code + 1) h0 (by first | omega | (simp [mN_A, mN_B, mN_I, mN_N] <;> omega)) (by first | omega | (simp [mN_A, mN_B, mN_I, mN_N] <;> omega))
              · refine n_iload_n hC dX3_findBasket_76 rfl ?_
                refine n_aload_n hC dX3_findBasket_77 rfl ?_
                refine n_get hC cl3 (k := 35) (v := .int (mI M 35)) mc_o (by omega) (by decide) q715 (mf_get N0 mb M (by decide)) dX3_findBasket_78 ?_
                refine n_top (cl (mI M 35)) hb ?_
                refine n_callS1 hC (As := [.int (nI code), .int (nI (cl (mI M 35)))]) (rest := [.ref (N0 + mb)]) bX3_isAhead (t_m_isAhead l D N0 kA (mH N0 mb kA hs M) n code (cl (mI M 35)) (by omega) (cl_lt _)) (by decide) (by decide) q1025 rfl (Nat.le_of_ble_eq_true rfl) dX3_findBasket_81 (Nat.le_of_ble_eq_true rfl) (Nat.le_of_ble_eq_true rfl) ?_
                refine n_stk (st' := [.int (bI (m_isAhead code (cl (mI M 35)))), .ref (N0 + mb)]) rfl ?_
                refine n_if_eqB (tgt := 91) hC dX3_findBasket_84 (by decide) (fun c84 => ?_) (fun c84 => ?_)
                · refine n_aload_n hC dX3_findBasket_91 rfl ?_
                  refine n_get hC cl3 (k := 35) (v := .int (mI M 35)) mc_o (by omega) (by decide) q715 (mf_get N0 mb M (by decide)) dX3_findBasket_92 ?_
                  refine n_top (cl (mI M 35)) hb ?_
                  refine n_put hC cl3 (k := 35) mc_o (by omega) (by decide) q715 rfl rfl rfl (by rw [mf_len]; decide) dX3_findBasket_95 (mu_I (M := M) (k := 35) (by decide) rfl rfl) ?_
                  refine n_iincN (a := code) (L' := [(0, .ref (N0 + mb)), (1, .int (nI (code + 1))), (2, .int ((nI (m_limbsOf code)) - (nI (m_limbsOf (cl (mI M 35))))))]) hC dX3_findBasket_98 rfl (by decide) rfl ?_
                  refine n_goto (tgt := 7) hC dX3_findBasket_101 (by decide) ?_
                  refine n_drop [0, 1] (L' := [(0, .ref (N0 + mb)), (1, .int (nI (code + 1)))]) rfl ?_
                  rw [show m_findBasket_L7 (fu + 1) M code = m_findBasket_L7 fu (mSetI M 35 (nI (cl (mI M 35)))) (code + 1) from by rw [m_findBasket_L7, if_neg (Nat.not_le.mpr c11), if_pos c19, if_pos c26, if_pos c47, if_neg c69, if_pos c73, if_neg (by rw [c84]; decide)]]
                  exact ih (mSetI M 35 (nI (cl (mI M 35)))) (code + 1) h0 (by first | omega | (simp [mN_A, mN_B, mN_I, mN_N] <;> omega)) (by first | omega | (simp [mN_A, mN_B, mN_I, mN_N] <;> omega))
                · refine n_iload_n hC dX3_findBasket_87 rfl ?_
                  refine n_goto (tgt := 95) hC dX3_findBasket_88 (by decide) ?_
                  refine n_put hC cl3 (k := 35) mc_o (by omega) (by decide) q715 rfl rfl rfl (by rw [mf_len]; decide) dX3_findBasket_95 (mu_I (M := M) (k := 35) (by decide) rfl rfl) ?_
                  refine n_iincN (a := code) (L' := [(0, .ref (N0 + mb)), (1, .int (nI (code + 1))), (2, .int ((nI (m_limbsOf code)) - (nI (m_limbsOf (cl (mI M 35))))))]) hC dX3_findBasket_98 rfl (by decide) rfl ?_
                  refine n_goto (tgt := 7) hC dX3_findBasket_101 (by decide) ?_
                  refine n_drop [0, 1] (L' := [(0, .ref (N0 + mb)), (1, .int (nI (code + 1)))]) rfl ?_
                  rw [show m_findBasket_L7 (fu + 1) M code = m_findBasket_L7 fu (mSetI M 35 (nI code)) (code + 1) from by rw [m_findBasket_L7, if_neg (Nat.not_le.mpr c11), if_pos c19, if_pos c26, if_pos c47, if_neg c69, if_pos c73, if_pos c84]]
                  exact ih (mSetI M 35 (nI code)) (code + 1) h0 (by first | omega | (simp [mN_A, mN_B, mN_I, mN_N] <;> omega)) (by first | omega | (simp [mN_A, mN_B, mN_I, mN_N] <;> omega))
        · refine n_iconst (v := (-1)) hC dX3_findBasket_29 (by decide) ?_
          refine n_goto (tgt := 45) hC dX3_findBasket_30 (by decide) ?_
          refine n_istore_n (L' := [(0, .ref (N0 + mb)), (1, .int (nI code)), (2, .int (-1))]) hC dX3_findBasket_45 (by decide) rfl ?_
          refine n_iload_n hC dX3_findBasket_46 rfl ?_
          refine n_if_neT (tgt := 65) hC dX3_findBasket_47 (by decide) (by decide) ?_
          refine n_iload_n hC dX3_findBasket_65 rfl ?_
          refine n_istore_n (L' := [(0, .ref (N0 + mb)), (1, .int (nI code)), (2, .int (-1))]) hC dX3_findBasket_66 (by decide) rfl ?_
          refine n_aload_n hC dX3_findBasket_67 rfl ?_
          refine n_iload_n hC dX3_findBasket_68 rfl ?_
          refine n_if_ltT (tgt := 87) hC dX3_findBasket_69 (by decide) (by decide) ?_
          refine n_iload_n hC dX3_findBasket_87 rfl ?_
          refine n_goto (tgt := 95) hC dX3_findBasket_88 (by decide) ?_
          refine n_put hC cl3 (k := 35) mc_o (by omega) (by decide) q715 rfl rfl rfl (by rw [mf_len]; decide) dX3_findBasket_95 (mu_I (M := M) (k := 35) (by decide) rfl rfl) ?_
          refine n_iincN (a := code) (L' := [(0, .ref (N0 + mb)), (1, .int (nI (code + 1))), (2, .int (-1))]) hC dX3_findBasket_98 rfl (by decide) rfl ?_
          refine n_goto (tgt := 7) hC dX3_findBasket_101 (by decide) ?_
          refine n_drop [0, 1] (L' := [(0, .ref (N0 + mb)), (1, .int (nI (code + 1)))]) rfl ?_
          rw [show m_findBasket_L7 (fu + 1) M code = m_findBasket_L7 fu (mSetI M 35 (nI code)) (code + 1) from by rw [m_findBasket_L7, if_neg (Nat.not_le.mpr c11), if_pos c19, if_neg c26]]
          exact ih (mSetI M 35 (nI code)) (code + 1) h0 (by first | omega | (simp [mN_A, mN_B, mN_I, mN_N] <;> omega)) (by first | omega | (simp [mN_A, mN_B, mN_I, mN_N] <;> omega))
set_option maxRecDepth 100000 in
set_option maxHeartbeats 4000000 in
theorem t_m_findBasket (l : Launch) (D : va_G) (N0 : Nat) (kA : Nat → ClassId) (mb : Nat) (hs : hT) (M : MS) (n : Nat) (hn : mb + 28 < n)  (h0 : mN M 0 ≤ 6) : nE l yX3_findBasket cX3_findBasket 3 none D N0 kA 4 0 0 [.ref (N0 + mb)] (mH N0 mb kA hs M) n (nX none (mH N0 mb kA hs (m_findBasket M)) n) := by
  refine nE_of (by decide) (Nat.le_of_ble_eq_true rfl) ?_
  intro p e s m args below meth c hC hnm
  refine n_loc (L' := [(0, .ref (N0 + mb))]) rfl ?_
  refine n_aload_n hC dX3_findBasket_0 rfl ?_
  refine n_iconst (v := (-1)) hC dX3_findBasket_1 (by decide) ?_
  refine n_put hC cl3 (k := 35) mc_o (by omega) (by decide) q715 rfl rfl rfl (by rw [mf_len]; decide) dX3_findBasket_2 (mu_I (M := M) (k := 35) (by decide) rfl rfl) ?_
  refine n_iconst (v := (nI 1)) hC dX3_findBasket_5 (by decide) ?_
  refine n_istore_n (L' := [(0, .ref (N0 + mb)), (1, .int (nI 1))]) hC dX3_findBasket_6 (by decide) rfl ?_
  rw [show m_findBasket M = m_findBasket_L7 (15625 + mN (mSetI M 35 (-1)) 0) (mSetI M 35 (-1)) 1 from by rw [m_findBasket]]
  exact t_m_findBasket_L7 hn hC  (15625 + mN (mSetI M 35 (-1)) 0) (mSetI M 35 (-1)) 1 h0 (by first | omega | (simp [mN_A, mN_B, mN_I, mN_N] <;> omega)) (by first | omega | (simp [mN_A, mN_B, mN_I, mN_N] <;> omega))
