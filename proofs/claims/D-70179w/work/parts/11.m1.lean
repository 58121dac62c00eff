theorem sw_out {x : Int32} (hi : Nat) (h : ∀ k : Nat, k ≤ hi → ¬ x = nI k) : x.toInt < 0 ∨ ((hi : Nat) : Int) < x.toInt := by
  rcases Int32.lt_or_le x 0 with h0 | h0
  · left
    simpa using Int32.lt_iff_toInt_lt.mp h0
  · right
    obtain ⟨j, hj, rfl⟩ := nI_of (Int32.not_lt.mpr h0)
    rw [nI_toInt hj]
    rcases Nat.lt_or_ge hi j with q | q
    · omega
    · exact absurd rfl (h j q)
def m_in (v : Int64) (a : Int64) (b : Int64) : Bool := (if (lg_cmp v a) < 0 then false else (if 0 < (lg_cmp v b) then false else true))
theorem bX3_in : nBS yX3_in cX3_in 6 (some .boolean) 3 := ⟨q823, q55, q824, by decide, by decide +kernel⟩
set_option maxRecDepth 100000 in
set_option maxHeartbeats 4000000 in
theorem t_m_in (l : Launch) (D : va_G) (N0 : Nat) (kA : Nat → ClassId) (h : hT) (n : Nat) (v : Int64) (a : Int64) (b : Int64)  : nE l yX3_in cX3_in 6 (some .boolean) D N0 kA 0 0 0 [.long v, .long a, .long b] (h) n (nX (some (.int (bI (m_in v a b)))) (h) n) := by
  refine nE_of (by decide) (Nat.le_of_ble_eq_true rfl) ?_
  intro p e s m args below meth c hC hnm
  refine n_loc (L' := [(0, .long v), (2, .long a), (4, .long b)]) rfl ?_
  refine n_lload_n hC dX3_in_0 rfl ?_
  refine n_lload_n hC dX3_in_1 rfl ?_
  refine n_lcmp hC dX3_in_2 ?_
  refine n_if_lt (tgt := 17) hC dX3_in_3 (by decide) (fun c3 => ?_) (fun c3 => ?_)
  · refine n_iconst (v := (nI 0)) hC dX3_in_17 (by decide) ?_
    have eq_ : m_in v a b = false := by rw [m_in, if_pos c3]
    refine n_zret hC dX3_in_18 (by decide) (Nat.le_of_ble_eq_true rfl) (Nat.le_of_ble_eq_true rfl) ?_
    rw [eq_]
    exact ⟨rfl, rfl, rfl⟩
  · refine n_lload_n hC dX3_in_6 rfl ?_
    refine n_lload hC dX3_in_7 rfl ?_
    refine n_lcmp hC dX3_in_9 ?_
    refine n_if_gt (tgt := 17) hC dX3_in_10 (by decide) (fun c10 => ?_) (fun c10 => ?_)
    · refine n_iconst (v := (nI 0)) hC dX3_in_17 (by decide) ?_
      have eq_ : m_in v a b = false := by rw [m_in, if_neg c3, if_pos c10]
      refine n_zret hC dX3_in_18 (by decide) (Nat.le_of_ble_eq_true rfl) (Nat.le_of_ble_eq_true rfl) ?_
      rw [eq_]
      exact ⟨rfl, rfl, rfl⟩
    · refine n_iconst (v := (nI 1)) hC dX3_in_13 (by decide) ?_
      refine n_goto (tgt := 18) hC dX3_in_14 (by decide) ?_
      have eq_ : m_in v a b = true := by rw [m_in, if_neg c3, if_neg c10]
      refine n_zret hC dX3_in_18 (by decide) (Nat.le_of_ble_eq_true rfl) (Nat.le_of_ble_eq_true rfl) ?_
      rw [eq_]
      exact ⟨rfl, rfl, rfl⟩
def m_has (t : Int32) (k : Nat) : Bool := (if ((t >>> ((nI k) &&& 31)) &&& (nI 1)) = (nI 1) then true else false)
theorem bX3_has : nBS yX3_has cX3_has 2 (some .boolean) 2 := ⟨q907, q55, q908, by decide, by decide +kernel⟩
set_option maxRecDepth 100000 in
set_option maxHeartbeats 4000000 in
theorem t_m_has (l : Launch) (D : va_G) (N0 : Nat) (kA : Nat → ClassId) (h : hT) (n : Nat) (t : Int32) (k : Nat)  : nE l yX3_has cX3_has 2 (some .boolean) D N0 kA 0 0 0 [.int t, .int (nI k)] (h) n (nX (some (.int (bI (m_has t k)))) (h) n) := by
  refine nE_of (by decide) (Nat.le_of_ble_eq_true rfl) ?_
  intro p e s m args below meth c hC hnm
  refine n_loc (L' := [(0, .int t), (1, .int (nI k))]) rfl ?_
  refine n_iload_n hC dX3_has_0 rfl ?_
  refine n_iload_n hC dX3_has_1 rfl ?_
  refine n_ishr hC dX3_has_2 ?_
  refine n_iconst (v := (nI 1)) hC dX3_has_3 (by decide) ?_
  refine n_iand hC dX3_has_4 ?_
  refine n_iconst (v := (nI 1)) hC dX3_has_5 (by decide) ?_
  refine n_icmp_ne (tgt := 13) hC dX3_has_6 (by decide) (fun c6 => ?_) (fun c6 => ?_)
  · refine n_iconst (v := (nI 0)) hC dX3_has_13 (by decide) ?_
    have eq_ : m_has t k = false := by rw [m_has, if_neg c6]
    refine n_zret hC dX3_has_14 (by decide) (Nat.le_of_ble_eq_true rfl) (Nat.le_of_ble_eq_true rfl) ?_
    rw [eq_]
    exact ⟨rfl, rfl, rfl⟩
  · refine n_iconst (v := (nI 1)) hC dX3_has_9 (by decide) ?_
    refine n_goto (tgt := 14) hC dX3_has_10 (by decide) ?_
    have eq_ : m_has t k = true := by rw [m_has, if_pos c6]
    refine n_zret hC dX3_has_14 (by decide) (Nat.le_of_ble_eq_true rfl) (Nat.le_of_ble_eq_true rfl) ?_
    rw [eq_]
    exact ⟨rfl, rfl, rfl⟩
def m_apart (a : Int32) (b : Int32) : Int32 := (if a ≤ b then (b - a) else (a - b))
theorem bX3_apart : nBS yX3_apart cX3_apart 2 (some .int) 2 := ⟨q1068, q55, q1069, by decide, by decide +kernel⟩
set_option maxRecDepth 100000 in
set_option maxHeartbeats 4000000 in
theorem t_m_apart (l : Launch) (D : va_G) (N0 : Nat) (kA : Nat → ClassId) (h : hT) (n : Nat) (a : Int32) (b : Int32)  : nE l yX3_apart cX3_apart 2 (some .int) D N0 kA 0 0 0 [.int a, .int b] (h) n (nX (some (.int (m_apart a b))) (h) n) := by
  refine nE_of (by decide) (Nat.le_of_ble_eq_true rfl) ?_
  intro p e s m args below meth c hC hnm
  refine n_loc (L' := [(0, .int a), (1, .int b)]) rfl ?_
  refine n_iload_n hC dX3_apart_0 rfl ?_
  refine n_iload_n hC dX3_apart_1 rfl ?_
  refine n_icmp_le (tgt := 11) hC dX3_apart_2 (by decide) (fun c2 => ?_) (fun c2 => ?_)
  · refine n_iload_n hC dX3_apart_11 rfl ?_
    refine n_iload_n hC dX3_apart_12 rfl ?_
    refine n_isub hC dX3_apart_13 ?_
    have eq_ : m_apart a b = (b - a) := by rw [m_apart, if_pos c2]
    refine n_iret hC dX3_apart_14 (Nat.le_of_ble_eq_true rfl) (Nat.le_of_ble_eq_true rfl) ?_
    rw [eq_]
    exact ⟨rfl, rfl, rfl⟩
  · refine n_iload_n hC dX3_apart_5 rfl ?_
    refine n_iload_n hC dX3_apart_6 rfl ?_
    refine n_isub hC dX3_apart_7 ?_
    refine n_goto (tgt := 14) hC dX3_apart_8 (by decide) ?_
    have eq_ : m_apart a b = (a - b) := by rw [m_apart, if_neg c2]
    refine n_iret hC dX3_apart_14 (Nat.le_of_ble_eq_true rfl) (Nat.le_of_ble_eq_true rfl) ?_
    rw [eq_]
    exact ⟨rfl, rfl, rfl⟩
def m_bits_L4 : Nat → Int32 → Int32 → Nat → Int32
  | 0, _, _, _ => 0
  | fu + 1, t, r, k => (if 6 ≤ k then r else m_bits_L4 fu t (r + ((t >>> ((nI k) &&& 31)) &&& (nI 1))) (k + 1))
def m_bits (t : Int32) : Int32 := m_bits_L4 7 t (nI 0) 0
theorem bX3_bits : nBS yX3_bits cX3_bits 3 (some .int) 1 := ⟨q1056, q55, q1057, by decide, by decide +kernel⟩
set_option maxRecDepth 100000 in
set_option maxHeartbeats 4000000 in
theorem t_m_bits_L4 {p : Program} {l : Launch} {e : Env} {s : State} {m : MethodId} {args : Array Value} {below : List Frame} {meth : Method} {c : Code} {D : va_G} {N0 : Nat} {kA : Nat → ClassId} {h : hT} {n : Nat} {t : Int32} (hC : nC p s m args meth c RX3 cX3_bits 3 (some .int) true D N0 kA)  : ∀ (fu : Nat) (r : Int32) (k : Nat) (hk : k ≤ 6) (hf : 6 < k + fu), nW p l e (nRm 0 0 0) s m args below meth c (nQ below (nX (some (.int (m_bits_L4 fu t r k))) (h) n) D N0 s 0 0) D N0 3 4 [(0, .int t), (1, .int r), (2, .int (nI k))] [] (h) n 0 0 := by
  intro fu
  induction fu with
  | zero =>
    intro r k hk hf
    exfalso; omega
  | succ fu ih =>
    intro r k hk hf
    refine n_iload_n hC dX3_bits_4 rfl ?_
    refine n_bipush (v := (nI 6)) hC dX3_bits_5 (by decide) ?_
    refine n_icmp_geN (tgt := 24) hC k 6 rfl rfl (by omega) (by omega) dX3_bits_7 (by decide) (fun c7 => ?_) (fun c7 => ?_)
    · refine n_iload_n hC dX3_bits_24 rfl ?_
      have eq_ : m_bits_L4 (fu + 1) t r k = r := by rw [m_bits_L4, if_pos c7]
      refine n_iret hC dX3_bits_25 (Nat.le_of_ble_eq_true rfl) (Nat.le_of_ble_eq_true rfl) ?_
      rw [eq_]
      exact ⟨rfl, rfl, rfl⟩
    · refine n_iload_n hC dX3_bits_10 rfl ?_
      refine n_iload_n hC dX3_bits_11 rfl ?_
      refine n_iload_n hC dX3_bits_12 rfl ?_
      refine n_ishr hC dX3_bits_13 ?_
      refine n_iconst (v := (nI 1)) hC dX3_bits_14 (by decide) ?_
      refine n_iand hC dX3_bits_15 ?_
      refine n_iadd hC dX3_bits_16 ?_
      refine n_istore_n (L' := [(0, .int t), (1, .int (r + ((t >>> ((nI k) &&& 31)) &&& (nI 1)))), (2, .int (nI k))]) hC dX3_bits_17 (by decide) rfl ?_
      refine n_iincN (a := k) (L' := [(0, .int t), (1, .int (r + ((t >>> ((nI k) &&& 31)) &&& (nI 1)))), (2, .int (nI (k + 1)))]) hC dX3_bits_18 rfl (by decide) rfl ?_
      refine n_goto (tgt := 4) hC dX3_bits_21 (by decide) ?_
      rw [show m_bits_L4 (fu + 1) t r k = m_bits_L4 fu t (r + ((t >>> ((nI k) &&& 31)) &&& (nI 1))) (k + 1) from by rw [m_bits_L4, if_neg (Nat.not_le.mpr c7)]]
      exact ih (r + ((t >>> ((nI k) &&& 31)) &&& (nI 1))) (k + 1) (by omega) (by omega)
set_option maxRecDepth 100000 in
set_option maxHeartbeats 4000000 in
theorem t_m_bits (l : Launch) (D : va_G) (N0 : Nat) (kA : Nat → ClassId) (h : hT) (n : Nat) (t : Int32)  : nE l yX3_bits cX3_bits 3 (some .int) D N0 kA 0 0 0 [.int t] (h) n (nX (some (.int (m_bits t))) (h) n) := by
  refine nE_of (by decide) (Nat.le_of_ble_eq_true rfl) ?_
  intro p e s m args below meth c hC hnm
  refine n_loc (L' := [(0, .int t)]) rfl ?_
  refine n_iconst (v := (nI 0)) hC dX3_bits_0 (by decide) ?_
  refine n_istore_n (L' := [(0, .int t), (1, .int (nI 0))]) hC dX3_bits_1 (by decide) rfl ?_
  refine n_iconst (v := (nI 0)) hC dX3_bits_2 (by decide) ?_
  refine n_istore_n (L' := [(0, .int t), (1, .int (nI 0)), (2, .int (nI 0))]) hC dX3_bits_3 (by decide) rfl ?_
  rw [show m_bits t = m_bits_L4 7 t (nI 0) 0 from by rw [m_bits]]
  exact t_m_bits_L4 hC  7 (nI 0) 0 (by omega) (by omega)
def m_lives (M : MS) (k : Nat) : Bool := (m_has (mA M 12 18) k)
theorem bX3_lives : nBV RX3 yX3_lives cX3_lives 2 (some .boolean) 1 := ⟨q904, qs33, q55, q905, by decide, by decide +kernel⟩
set_option maxRecDepth 100000 in
set_option maxHeartbeats 4000000 in
theorem t_m_lives (l : Launch) (D : va_G) (N0 : Nat) (kA : Nat → ClassId) (mb : Nat) (hs : hT) (M : MS) (n : Nat) (hn : mb + 28 < n) (k : Nat)  : nE l yX3_lives cX3_lives 2 (some .boolean) D N0 kA 1 0 0 [.ref (N0 + mb), .int (nI k)] (mH N0 mb kA hs M) n (nX (some (.int (bI (m_lives M k)))) (mH N0 mb kA hs M) n) := by
  refine nE_of (by decide) (Nat.le_of_ble_eq_true rfl) ?_
  intro p e s m args below meth c hC hnm
  refine n_loc (L' := [(0, .ref (N0 + mb)), (1, .int (nI k))]) rfl ?_
  refine n_aload_n hC dX3_lives_0 rfl ?_
  refine n_get hC cl3 (k := 12) (v := .ref (N0 + (mb + 10))) mc_o (by omega) (by decide) q692 (mf_get N0 mb M (by decide)) dX3_lives_1 ?_
  refine n_bipush (v := (nI 18)) hC dX3_lives_4 (by decide) ?_
  refine n_iald hC (f := mA M 12) (mc_a (p := 10) (by decide) (by decide)) (by omega) 18 rfl (by omega) (by decide) dX3_lives_6 ?_
  refine n_iload_n hC dX3_lives_7 rfl ?_
  refine n_callS1 hC (As := [.int (mA M 12 18), .int (nI k)]) (rest := []) bX3_has (t_m_has l D N0 kA (mH N0 mb kA hs M) n (mA M 12 18) k ) (by decide) (by decide) q906 rfl (Nat.le_of_ble_eq_true rfl) dX3_lives_8 (Nat.le_of_ble_eq_true rfl) (Nat.le_of_ble_eq_true rfl) ?_
  refine n_stk (st' := [.int (bI (m_has (mA M 12 18) k))]) rfl ?_
  have eq_ : m_lives M k = (m_has (mA M 12 18) k) := by rw [m_lives]
  refine n_zret hC dX3_lives_11 (show narrow .boolean (.int (bI (m_has (mA M 12 18) k))) = _ from by cases (m_has (mA M 12 18) k) <;> decide) (Nat.le_of_ble_eq_true rfl) (Nat.le_of_ble_eq_true rfl) ?_
  rw [eq_]
  exact ⟨rfl, rfl, rfl⟩
def m_fault (M : MS) : Int32 := (mI M 16)
theorem bX3_fault : nBV RX3 yX3_fault cX3_fault 1 (some .int) 0 := ⟨q874, q875, q55, q876, by decide, by decide +kernel⟩
set_option maxRecDepth 100000 in
set_option maxHeartbeats 4000000 in
theorem t_m_fault (l : Launch) (D : va_G) (N0 : Nat) (kA : Nat → ClassId) (mb : Nat) (hs : hT) (M : MS) (n : Nat) (hn : mb + 28 < n)   : nE l yX3_fault cX3_fault 1 (some .int) D N0 kA 0 0 0 [.ref (N0 + mb)] (mH N0 mb kA hs M) n (nX (some (.int (m_fault M))) (mH N0 mb kA hs M) n) := by
  refine nE_of (by decide) (Nat.le_of_ble_eq_true rfl) ?_
  intro p e s m args below meth c hC hnm
  refine n_loc (L' := [(0, .ref (N0 + mb))]) rfl ?_
  refine n_aload_n hC dX3_fault_0 rfl ?_
  refine n_get hC cl3 (k := 16) (v := .int (mI M 16)) mc_o (by omega) (by decide) q696 (mf_get N0 mb M (by decide)) dX3_fault_1 ?_
  have eq_ : m_fault M = (mI M 16) := by rw [m_fault]
  refine n_iret hC dX3_fault_4 (Nat.le_of_ble_eq_true rfl) (Nat.le_of_ble_eq_true rfl) ?_
  rw [eq_]
  exact ⟨rfl, rfl, rfl⟩
def m_isLimb (M : MS) (k : Int32) : Bool := (m_in k.toInt64 0 (((nI (mN M 0)) - (nI 1)).toInt64))
theorem bX3_isLimb : nBV RX3 yX3_isLimb cX3_isLimb 2 (some .boolean) 1 := ⟨q891, qs30, q55, q892, by decide, by decide +kernel⟩
set_option maxRecDepth 100000 in
set_option maxHeartbeats 4000000 in
theorem t_m_isLimb (l : Launch) (D : va_G) (N0 : Nat) (kA : Nat → ClassId) (mb : Nat) (hs : hT) (M : MS) (n : Nat) (hn : mb + 28 < n) (k : Int32)  : nE l yX3_isLimb cX3_isLimb 2 (some .boolean) D N0 kA 1 0 0 [.ref (N0 + mb), .int k] (mH N0 mb kA hs M) n (nX (some (.int (bI (m_isLimb M k)))) (mH N0 mb kA hs M) n) := by
  refine nE_of (by decide) (Nat.le_of_ble_eq_true rfl) ?_
  intro p e s m args below meth c hC hnm
  refine n_loc (L' := [(0, .ref (N0 + mb)), (1, .int k)]) rfl ?_
  refine n_iload_n hC dX3_isLimb_0 rfl ?_
  refine n_i2l hC dX3_isLimb_1 ?_
  refine n_lconst (v := 0) hC dX3_isLimb_2 (by decide) ?_
  refine n_aload_n hC dX3_isLimb_3 rfl ?_
  refine n_get hC cl3 (k := 0) (v := .int (nI (mN M 0))) mc_o (by omega) (by decide) q680 (mf_get N0 mb M (by decide)) dX3_isLimb_4 ?_
  refine n_iconst (v := (nI 1)) hC dX3_isLimb_7 (by decide) ?_
  refine n_isub hC dX3_isLimb_8 ?_
  refine n_i2l hC dX3_isLimb_9 ?_
  refine n_callS1 hC (As := [.long k.toInt64, .long 0, .long (((nI (mN M 0)) - (nI 1)).toInt64)]) (rest := []) bX3_in (t_m_in l D N0 kA (mH N0 mb kA hs M) n k.toInt64 0 (((nI (mN M 0)) - (nI 1)).toInt64) ) (by decide) (by decide) q822 rfl (Nat.le_of_ble_eq_true rfl) dX3_isLimb_10 (Nat.le_of_ble_eq_true rfl) (Nat.le_of_ble_eq_true rfl) ?_
  refine n_stk (st' := [.int (bI (m_in k.toInt64 0 (((nI (mN M 0)) - (nI 1)).toInt64)))]) rfl ?_
  have eq_ : m_isLimb M k = (m_in k.toInt64 0 (((nI (mN M 0)) - (nI 1)).toInt64)) := by rw [m_isLimb]
  refine n_zret hC dX3_isLimb_13 (show narrow .boolean (.int (bI (m_in k.toInt64 0 (((nI (mN M 0)) - (nI 1)).toInt64)))) = _ from by cases (m_in k.toInt64 0 (((nI (mN M 0)) - (nI 1)).toInt64)) <;> decide) (Nat.le_of_ble_eq_true rfl) (Nat.le_of_ble_eq_true rfl) ?_
  rw [eq_]
  exact ⟨rfl, rfl, rfl⟩
def m_copied_L4 : Nat → MS → Int32 → Nat → Int32
  | 0, _, _, _ => 0
  | fu + 1, M, r, k => (if (mN M 0) ≤ k then r else (if (mA M 12 (6 + k)) < 0 then m_copied_L4 fu M (r ||| (nI 0)) (k + 1) else m_copied_L4 fu M (r ||| ((nI 1) <<< ((nI k) &&& 31))) (k + 1)))
def m_copied (M : MS) : Int32 := m_copied_L4 (mN M 0 + 1) M (nI 0) 0
theorem bX3_copied : nBV RX3 yX3_copied cX3_copied 3 (some .int) 0 := ⟨q883, qs29, q55, q884, by decide, by decide +kernel⟩
set_option maxRecDepth 100000 in
set_option maxHeartbeats 4000000 in
theorem t_m_copied_L4 {p : Program} {l : Launch} {e : Env} {s : State} {m : MethodId} {args : Array Value} {below : List Frame} {meth : Method} {c : Code} {D : va_G} {N0 : Nat} {kA : Nat → ClassId} {mb : Nat} {hs : hT} {M : MS} {n : Nat} (hn : mb + 28 < n)  (hC : nC p s m args meth c RX3 cX3_copied 3 (some .int) true D N0 kA) (h0 : mN M 0 ≤ 6) : ∀ (fu : Nat) (r : Int32) (k : Nat) (hk : k ≤ mN M 0) (hf : mN M 0 < k + fu), nW p l e (nRm 0 0 0) s m args below meth c (nQ below (nX (some (.int (m_copied_L4 fu M r k))) (mH N0 mb kA hs M) n) D N0 s 0 0) D N0 3 4 [(0, .ref (N0 + mb)), (1, .int r), (2, .int (nI k))] [] (mH N0 mb kA hs M) n 0 0 := by
  intro fu
  induction fu with
  | zero =>
    intro r k hk hf
    exfalso; omega
  | succ fu ih =>
    intro r k hk hf
    refine n_iload_n hC dX3_copied_4 rfl ?_
    refine n_aload_n hC dX3_copied_5 rfl ?_
    refine n_get hC cl3 (k := 0) (v := .int (nI (mN M 0))) mc_o (by omega) (by decide) q680 (mf_get N0 mb M (by decide)) dX3_copied_6 ?_
    refine n_icmp_geN (tgt := 40) hC k (mN M 0) rfl rfl (by omega) (by omega) dX3_copied_9 (by decide) (fun c9 => ?_) (fun c9 => ?_)
    · refine n_iload_n hC dX3_copied_40 rfl ?_
      have eq_ : m_copied_L4 (fu + 1) M r k = r := by rw [m_copied_L4, if_pos c9]
      refine n_iret hC dX3_copied_41 (Nat.le_of_ble_eq_true rfl) (Nat.le_of_ble_eq_true rfl) ?_
      rw [eq_]
      exact ⟨rfl, rfl, rfl⟩
    · refine n_iload_n hC dX3_copied_12 rfl ?_
      refine n_aload_n hC dX3_copied_13 rfl ?_
      refine n_get hC cl3 (k := 12) (v := .ref (N0 + (mb + 10))) mc_o (by omega) (by decide) q692 (mf_get N0 mb M (by decide)) dX3_copied_14 ?_
      refine n_bipush (v := (nI 6)) hC dX3_copied_17 (by decide) ?_
      refine n_iload_n hC dX3_copied_19 rfl ?_
      refine n_iaddN hC dX3_copied_20 ?_
      refine n_iald hC (f := mA M 12) (mc_a (p := 10) (by decide) (by decide)) (by omega) (6 + k) rfl (by omega) (by decide) dX3_copied_21 ?_
      refine n_if_lt (tgt := 31) hC dX3_copied_22 (by decide) (fun c22 => ?_) (fun c22 => ?_)
      · refine n_iconst (v := (nI 0)) hC dX3_copied_31 (by decide) ?_
        refine n_ior hC dX3_copied_32 ?_
        refine n_istore_n (L' := [(0, .ref (N0 + mb)), (1, .int (r ||| (nI 0))), (2, .int (nI k))]) hC dX3_copied_33 (by decide) rfl ?_
        refine n_iincN (a := k) (L' := [(0, .ref (N0 + mb)), (1, .int (r ||| (nI 0))), (2, .int (nI (k + 1)))]) hC dX3_copied_34 rfl (by decide) rfl ?_
        refine n_goto (tgt := 4) hC dX3_copied_37 (by decide) ?_
        rw [show m_copied_L4 (fu + 1) M r k = m_copied_L4 fu M (r ||| (nI 0)) (k + 1) from by rw [m_copied_L4, if_neg (Nat.not_le.mpr c9), if_pos c22]]
        exact ih (r ||| (nI 0)) (k + 1) (by omega) (by omega)
      · refine n_iconst (v := (nI 1)) hC dX3_copied_25 (by decide) ?_
        refine n_iload_n hC dX3_copied_26 rfl ?_
        refine n_ishl hC dX3_copied_27 ?_
        refine n_goto (tgt := 32) hC dX3_copied_28 (by decide) ?_
        refine n_ior hC dX3_copied_32 ?_
        refine n_istore_n (L' := [(0, .ref (N0 + mb)), (1, .int (r ||| ((nI 1) <<< ((nI k) &&& 31)))), (2, .int (nI k))]) hC dX3_copied_33 (by decide) rfl ?_
        refine n_iincN (a := k) (L' := [(0, .ref (N0 + mb)), (1, .int (r ||| ((nI 1) <<< ((nI k) &&& 31)))), (2, .int (nI (k + 1)))]) hC dX3_copied_34 rfl (by decide) rfl ?_
        refine n_goto (tgt := 4) hC dX3_copied_37 (by decide) ?_
        rw [show m_copied_L4 (fu + 1) M r k = m_copied_L4 fu M (r ||| ((nI 1) <<< ((nI k) &&& 31))) (k + 1) from by rw [m_copied_L4, if_neg (Nat.not_le.mpr c9), if_neg c22]]
        exact ih (r ||| ((nI 1) <<< ((nI k) &&& 31))) (k + 1) (by omega) (by omega)
set_option maxRecDepth 100000 in
set_option maxHeartbeats 4000000 in
theorem t_m_copied (l : Launch) (D : va_G) (N0 : Nat) (kA : Nat → ClassId) (mb : Nat) (hs : hT) (M : MS) (n : Nat) (hn : mb + 28 < n)  (h0 : mN M 0 ≤ 6) : nE l yX3_copied cX3_copied 3 (some .int) D N0 kA 0 0 0 [.ref (N0 + mb)] (mH N0 mb kA hs M) n (nX (some (.int (m_copied M))) (mH N0 mb kA hs M) n) := by
  refine nE_of (by decide) (Nat.le_of_ble_eq_true rfl) ?_
  intro p e s m args below meth c hC hnm
  refine n_loc (L' := [(0, .ref (N0 + mb))]) rfl ?_
  refine n_iconst (v := (nI 0)) hC dX3_copied_0 (by decide) ?_
  refine n_istore_n (L' := [(0, .ref (N0 + mb)), (1, .int (nI 0))]) hC dX3_copied_1 (by decide) rfl ?_
  refine n_iconst (v := (nI 0)) hC dX3_copied_2 (by decide) ?_
  refine n_istore_n (L' := [(0, .ref (N0 + mb)), (1, .int (nI 0)), (2, .int (nI 0))]) hC dX3_copied_3 (by decide) rfl ?_
  rw [show m_copied M = m_copied_L4 (mN M 0 + 1) M (nI 0) 0 from by rw [m_copied]]
  exact t_m_copied_L4 hn hC h0 (mN M 0 + 1) (nI 0) 0 (by omega) (by omega)
def m_grown (M : MS) (k : Nat) (t : Nat) : Int32 := (if ((mA M 12 k) + (mA M 1 ((4 * k) + (t % 4)))) ≤ 0 then (nI 0) else ((mA M 12 k) + (mA M 1 ((4 * k) + (t % 4)))))
theorem bX3_grown : nBV RX3 yX3_grown cX3_grown 4 (some .int) 2 := ⟨q911, qs34, q55, q912, by decide, by decide +kernel⟩
set_option maxRecDepth 100000 in
set_option maxHeartbeats 4000000 in
theorem t_m_grown (l : Launch) (D : va_G) (N0 : Nat) (kA : Nat → ClassId) (mb : Nat) (hs : hT) (M : MS) (n : Nat) (hn : mb + 28 < n) (k : Nat) (t : Nat) (hk : k < 6) (ht : t < 2 ^ 31) : nE l yX3_grown cX3_grown 4 (some .int) D N0 kA 0 0 0 [.ref (N0 + mb), .int (nI k), .int (nI t)] (mH N0 mb kA hs M) n (nX (some (.int (m_grown M k t))) (mH N0 mb kA hs M) n) := by
  refine nE_of (by decide) (Nat.le_of_ble_eq_true rfl) ?_
  intro p e s m args below meth c hC hnm
  refine n_loc (L' := [(0, .ref (N0 + mb)), (1, .int (nI k)), (2, .int (nI t))]) rfl ?_
  refine n_aload_n hC dX3_grown_0 rfl ?_
  refine n_get hC cl3 (k := 12) (v := .ref (N0 + (mb + 10))) mc_o (by omega) (by decide) q692 (mf_get N0 mb M (by decide)) dX3_grown_1 ?_
  refine n_iload_n hC dX3_grown_4 rfl ?_
  refine n_iald hC (f := mA M 12) (mc_a (p := 10) (by decide) (by decide)) (by omega) k rfl (by omega) (by decide) dX3_grown_5 ?_
  refine n_aload_n hC dX3_grown_6 rfl ?_
  refine n_get hC cl3 (k := 1) (v := .ref (N0 + (mb + 1))) mc_o (by omega) (by decide) q681 (mf_get N0 mb M (by decide)) dX3_grown_7 ?_
  refine n_iconst (v := (nI 4)) hC dX3_grown_10 (by decide) ?_
  refine n_iload_n hC dX3_grown_11 rfl ?_
  refine n_imulN hC dX3_grown_12 ?_
  refine n_iload_n hC dX3_grown_13 rfl ?_
  refine n_iconst (v := (nI 4)) hC dX3_grown_14 (by decide) ?_
  refine n_iremN hC (by omega) (by omega) (by omega) dX3_grown_15 ?_
  refine n_iaddN hC dX3_grown_16 ?_
  refine n_iald hC (f := mA M 1) (mc_a (p := 1) (by decide) (by decide)) (by omega) ((4 * k) + (t % 4)) rfl (by omega) (by decide) dX3_grown_17 ?_
  refine n_iadd hC dX3_grown_18 ?_
  refine n_istore_n (L' := [(0, .ref (N0 + mb)), (1, .int (nI k)), (2, .int (nI t)), (3, .int ((mA M 12 k) + (mA M 1 ((4 * k) + (t % 4)))))]) hC dX3_grown_19 (by decide) rfl ?_
  refine n_iload_n hC dX3_grown_20 rfl ?_
  refine n_if_le (tgt := 28) hC dX3_grown_21 (by decide) (fun c21 => ?_) (fun c21 => ?_)
  · refine n_iconst (v := (nI 0)) hC dX3_grown_28 (by decide) ?_
    have eq_ : m_grown M k t = (nI 0) := by rw [m_grown, if_pos c21]
    refine n_iret hC dX3_grown_29 (Nat.le_of_ble_eq_true rfl) (Nat.le_of_ble_eq_true rfl) ?_
    rw [eq_]
    exact ⟨rfl, rfl, rfl⟩
  · refine n_iload_n hC dX3_grown_24 rfl ?_
    refine n_goto (tgt := 29) hC dX3_grown_25 (by decide) ?_
    have eq_ : m_grown M k t = ((mA M 12 k) + (mA M 1 ((4 * k) + (t % 4)))) := by rw [m_grown, if_neg c21]
    refine n_iret hC dX3_grown_29 (Nat.le_of_ble_eq_true rfl) (Nat.le_of_ble_eq_true rfl) ?_
    rw [eq_]
    exact ⟨rfl, rfl, rfl⟩
