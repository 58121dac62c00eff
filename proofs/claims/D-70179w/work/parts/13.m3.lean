/-! figures of five, six and eight -/
def m_times_L4 : Nat → Nat → Nat → Nat → Nat → Nat
  | 0, _, _, _, _ => 0
  | fu + 1, code, k, left, i => (if i ≤ k then left % 5 else m_times_L4 fu code k (left / 5) (i - 1))
def m_times (code : Nat) (k : Nat) : Nat := m_times_L4 6 code k code 5
theorem bX3_times : nBS yX3_times cX3_times 4 (some .int) 2 := ⟨q1008, q55, q1009, by decide, by decide +kernel⟩
set_option maxRecDepth 100000 in
set_option maxHeartbeats 4000000 in
theorem t_m_times_L4 {p : Program} {l : Launch} {e : Env} {s : State} {m : MethodId} {args : Array Value} {below : List Frame} {meth : Method} {c : Code} {D : va_G} {N0 : Nat} {kA : Nat → ClassId} {h : hT} {n : Nat} {code : Nat} {k : Nat} (hC : nC p s m args meth c RX3 cX3_times 4 (some .int) true D N0 kA) (hc : code < 2 ^ 31) (hkk : k < 2 ^ 31) : ∀ (fu : Nat) (left : Nat) (i : Nat) (hl : left < 2 ^ 31) (hi : i ≤ 5) (hf : i < fu), nW p l e (nRm 0 0 0) s m args below meth c (nQ below (nX (some (.int (nI (m_times_L4 fu code k left i)))) (h) n) D N0 s 0 0) D N0 4 4 [(0, .int (nI code)), (1, .int (nI k)), (2, .int (nI left)), (3, .int (nI i))] [] (h) n 0 0 := by
  intro fu
  induction fu with
  | zero =>
    intro left i hl hi hf
    exfalso; omega
  | succ fu ih =>
    intro left i hl hi hf
    refine n_iload_n hC dX3_times_4 rfl ?_
    refine n_iload_n hC dX3_times_5 rfl ?_
    refine n_icmp_leN (tgt := 19) hC i k rfl rfl (by omega) (by omega) dX3_times_6 (by decide) (fun c6 => ?_) (fun c6 => ?_)
    · refine n_iload_n hC dX3_times_19 rfl ?_
      refine n_iconst (v := (nI 5)) hC dX3_times_20 (by decide) ?_
      refine n_iremN hC (by omega) (by omega) (by omega) dX3_times_21 ?_
      have eq_ : m_times_L4 (fu + 1) code k left i = left % 5 := by rw [m_times_L4, if_pos c6]
      refine n_iret hC dX3_times_22 (Nat.le_of_ble_eq_true rfl) (Nat.le_of_ble_eq_true rfl) ?_
      rw [eq_]
      exact ⟨rfl, rfl, rfl⟩
    · refine n_iload_n hC dX3_times_9 rfl ?_
      refine n_iconst (v := (nI 5)) hC dX3_times_10 (by decide) ?_
      refine n_idivN hC (by omega) (by omega) (by omega) dX3_times_11 ?_
      refine n_istore_n (L' := [(0, .int (nI code)), (1, .int (nI k)), (2, .int (nI (left / 5))), (3, .int (nI i))]) hC dX3_times_12 (by decide) rfl ?_
      refine n_iinc (x := nI i) (v := nI (i - 1)) (L' := [(0, .int (nI code)), (1, .int (nI k)), (2, .int (nI (left / 5))), (3, .int (nI (i - 1)))]) hC dX3_times_13 rfl (sb_m1 (by omega)) (by decide) rfl ?_
      refine n_goto (tgt := 4) hC dX3_times_16 (by decide) ?_
      rw [show m_times_L4 (fu + 1) code k left i = m_times_L4 fu code k (left / 5) (i - 1) from by rw [m_times_L4, if_neg (Nat.not_le.mpr c6)]]
      exact ih (left / 5) (i - 1) (by omega) (by omega) (by omega)
set_option maxRecDepth 100000 in
set_option maxHeartbeats 4000000 in
theorem t_m_times (l : Launch) (D : va_G) (N0 : Nat) (kA : Nat → ClassId) (h : hT) (n : Nat) (code : Nat) (k : Nat) (hc : code < 2 ^ 31) (hkk : k < 2 ^ 31) : nE l yX3_times cX3_times 4 (some .int) D N0 kA 0 0 0 [.int (nI code), .int (nI k)] (h) n (nX (some (.int (nI (m_times code k)))) (h) n) := by
  refine nE_of (by decide) (Nat.le_of_ble_eq_true rfl) ?_
  intro p e s m args below meth c hC hnm
  refine n_loc (L' := [(0, .int (nI code)), (1, .int (nI k))]) rfl ?_
  refine n_iload_n hC dX3_times_0 rfl ?_
  refine n_istore_n (L' := [(0, .int (nI code)), (1, .int (nI k)), (2, .int (nI code))]) hC dX3_times_1 (by decide) rfl ?_
  refine n_iconst (v := (nI 5)) hC dX3_times_2 (by decide) ?_
  refine n_istore_n (L' := [(0, .int (nI code)), (1, .int (nI k)), (2, .int (nI code)), (3, .int (nI 5))]) hC dX3_times_3 (by decide) rfl ?_
  rw [show m_times code k = m_times_L4 6 code k code 5 from by rw [m_times]]
  exact t_m_times_L4 hC hc hkk 6 code 5 (by omega) (by omega) (by omega)
theorem m_times_L_lt : ∀ (fu code k left i : Nat), m_times_L4 fu code k left i < 5 := by
  intro fu
  induction fu with
  | zero => intro code k left i; rw [m_times_L4]; decide
  | succ fu ih =>
    intro code k left i
    rw [m_times_L4]
    split
    · exact Nat.mod_lt _ (by decide)
    · exact ih _ _ _ _
theorem m_times_lt (code k : Nat) : m_times code k < 5 := m_times_L_lt _ _ _ _ _
def m_heirOf_L4 : Nat → Nat → Nat → Nat → Nat → Nat
  | 0, _, _, _, _ => 0
  | fu + 1, code, k, left, i => (if i ≤ k then left % 6 else m_heirOf_L4 fu code k (left / 6) (i - 1))
def m_heirOf (code : Nat) (k : Nat) : Nat := m_heirOf_L4 6 code k code 5
theorem bX3_heirOf : nBS yX3_heirOf cX3_heirOf 4 (some .int) 2 := ⟨q1065, q55, q1066, by decide, by decide +kernel⟩
set_option maxRecDepth 100000 in
set_option maxHeartbeats 4000000 in
theorem t_m_heirOf_L4 {p : Program} {l : Launch} {e : Env} {s : State} {m : MethodId} {args : Array Value} {below : List Frame} {meth : Method} {c : Code} {D : va_G} {N0 : Nat} {kA : Nat → ClassId} {h : hT} {n : Nat} {code : Nat} {k : Nat} (hC : nC p s m args meth c RX3 cX3_heirOf 4 (some .int) true D N0 kA) (hc : code < 2 ^ 31) (hkk : k < 2 ^ 31) : ∀ (fu : Nat) (left : Nat) (i : Nat) (hl : left < 2 ^ 31) (hi : i ≤ 5) (hf : i < fu), nW p l e (nRm 0 0 0) s m args below meth c (nQ below (nX (some (.int (nI (m_heirOf_L4 fu code k left i)))) (h) n) D N0 s 0 0) D N0 4 4 [(0, .int (nI code)), (1, .int (nI k)), (2, .int (nI left)), (3, .int (nI i))] [] (h) n 0 0 := by
  intro fu
  induction fu with
  | zero =>
    intro left i hl hi hf
    exfalso; omega
  | succ fu ih =>
    intro left i hl hi hf
    refine n_iload_n hC dX3_heirOf_4 rfl ?_
    refine n_iload_n hC dX3_heirOf_5 rfl ?_
    refine n_icmp_leN (tgt := 20) hC i k rfl rfl (by omega) (by omega) dX3_heirOf_6 (by decide) (fun c6 => ?_) (fun c6 => ?_)
    · refine n_iload_n hC dX3_heirOf_20 rfl ?_
      refine n_bipush (v := (nI 6)) hC dX3_heirOf_21 (by decide) ?_
      refine n_iremN hC (by omega) (by omega) (by omega) dX3_heirOf_23 ?_
      have eq_ : m_heirOf_L4 (fu + 1) code k left i = left % 6 := by rw [m_heirOf_L4, if_pos c6]
      refine n_iret hC dX3_heirOf_24 (Nat.le_of_ble_eq_true rfl) (Nat.le_of_ble_eq_true rfl) ?_
      rw [eq_]
      exact ⟨rfl, rfl, rfl⟩
    · refine n_iload_n hC dX3_heirOf_9 rfl ?_
      refine n_bipush (v := (nI 6)) hC dX3_heirOf_10 (by decide) ?_
      refine n_idivN hC (by omega) (by omega) (by omega) dX3_heirOf_12 ?_
      refine n_istore_n (L' := [(0, .int (nI code)), (1, .int (nI k)), (2, .int (nI (left / 6))), (3, .int (nI i))]) hC dX3_heirOf_13 (by decide) rfl ?_
      refine n_iinc (x := nI i) (v := nI (i - 1)) (L' := [(0, .int (nI code)), (1, .int (nI k)), (2, .int (nI (left / 6))), (3, .int (nI (i - 1)))]) hC dX3_heirOf_14 rfl (sb_m1 (by omega)) (by decide) rfl ?_
      refine n_goto (tgt := 4) hC dX3_heirOf_17 (by decide) ?_
      rw [show m_heirOf_L4 (fu + 1) code k left i = m_heirOf_L4 fu code k (left / 6) (i - 1) from by rw [m_heirOf_L4, if_neg (Nat.not_le.mpr c6)]]
      exact ih (left / 6) (i - 1) (by omega) (by omega) (by omega)
set_option maxRecDepth 100000 in
set_option maxHeartbeats 4000000 in
theorem t_m_heirOf (l : Launch) (D : va_G) (N0 : Nat) (kA : Nat → ClassId) (h : hT) (n : Nat) (code : Nat) (k : Nat) (hc : code < 2 ^ 31) (hkk : k < 2 ^ 31) : nE l yX3_heirOf cX3_heirOf 4 (some .int) D N0 kA 0 0 0 [.int (nI code), .int (nI k)] (h) n (nX (some (.int (nI (m_heirOf code k)))) (h) n) := by
  refine nE_of (by decide) (Nat.le_of_ble_eq_true rfl) ?_
  intro p e s m args below meth c hC hnm
  refine n_loc (L' := [(0, .int (nI code)), (1, .int (nI k))]) rfl ?_
  refine n_iload_n hC dX3_heirOf_0 rfl ?_
  refine n_istore_n (L' := [(0, .int (nI code)), (1, .int (nI k)), (2, .int (nI code))]) hC dX3_heirOf_1 (by decide) rfl ?_
  refine n_iconst (v := (nI 5)) hC dX3_heirOf_2 (by decide) ?_
  refine n_istore_n (L' := [(0, .int (nI code)), (1, .int (nI k)), (2, .int (nI code)), (3, .int (nI 5))]) hC dX3_heirOf_3 (by decide) rfl ?_
  rw [show m_heirOf code k = m_heirOf_L4 6 code k code 5 from by rw [m_heirOf]]
  exact t_m_heirOf_L4 hC hc hkk 6 code 5 (by omega) (by omega) (by omega)
theorem m_heirOf_L_lt : ∀ (fu code k left i : Nat), m_heirOf_L4 fu code k left i < 6 := by
  intro fu
  induction fu with
  | zero => intro code k left i; rw [m_heirOf_L4]; decide
  | succ fu ih =>
    intro code k left i
    rw [m_heirOf_L4]
    split
    · exact Nat.mod_lt _ (by decide)
    · exact ih _ _ _ _
theorem m_heirOf_lt (code k : Nat) : m_heirOf code k < 6 := m_heirOf_L_lt _ _ _ _ _
def m_timesOf_L4 : Nat → Nat → Nat → Nat → Nat
  | 0, _, _, _ => 0
  | fu + 1, code, r, k => (if 6 ≤ k then r else m_timesOf_L4 fu code (r + (m_times code k)) (k + 1))
def m_timesOf (code : Nat) : Nat := m_timesOf_L4 7 code 0 0
theorem bX3_timesOf : nBS yX3_timesOf cX3_timesOf 3 (some .int) 1 := ⟨q1023, q55, q1024, by decide, by decide +kernel⟩
set_option maxRecDepth 100000 in
set_option maxHeartbeats 4000000 in
theorem t_m_timesOf_L4 {p : Program} {l : Launch} {e : Env} {s : State} {m : MethodId} {args : Array Value} {below : List Frame} {meth : Method} {c : Code} {D : va_G} {N0 : Nat} {kA : Nat → ClassId} {h : hT} {n : Nat} {code : Nat} (hC : nC p s m args meth c RX3 cX3_timesOf 3 (some .int) true D N0 kA) (hc : code < 2 ^ 31) : ∀ (fu : Nat) (r : Nat) (k : Nat) (hk : k ≤ 6) (hf : 6 < k + fu), nW p l e (nRm 1 0 0) s m args below meth c (nQ below (nX (some (.int (nI (m_timesOf_L4 fu code r k)))) (h) n) D N0 s 0 0) D N0 3 4 [(0, .int (nI code)), (1, .int (nI r)), (2, .int (nI k))] [] (h) n 0 0 := by
  intro fu
  induction fu with
  | zero =>
    intro r k hk hf
    exfalso; omega
  | succ fu ih =>
    intro r k hk hf
    refine n_iload_n hC dX3_timesOf_4 rfl ?_
    refine n_bipush (v := (nI 6)) hC dX3_timesOf_5 (by decide) ?_
    refine n_icmp_geN (tgt := 24) hC k 6 rfl rfl (by omega) (by omega) dX3_timesOf_7 (by decide) (fun c7 => ?_) (fun c7 => ?_)
    · refine n_iload_n hC dX3_timesOf_24 rfl ?_
      have eq_ : m_timesOf_L4 (fu + 1) code r k = r := by rw [m_timesOf_L4, if_pos c7]
      refine n_iret hC dX3_timesOf_25 (Nat.le_of_ble_eq_true rfl) (Nat.le_of_ble_eq_true rfl) ?_
      rw [eq_]
      exact ⟨rfl, rfl, rfl⟩
    · refine n_iload_n hC dX3_timesOf_10 rfl ?_
      refine n_iload_n hC dX3_timesOf_11 rfl ?_
      refine n_iload_n hC dX3_timesOf_12 rfl ?_
      refine n_callS1 hC (As := [.int (nI code), .int (nI k)]) (rest := [.int (nI r)]) bX3_times (t_m_times l D N0 kA (h) n code k (by omega) (by omega)) (by decide) (by decide) q1007 rfl (Nat.le_of_ble_eq_true rfl) dX3_timesOf_13 (Nat.le_of_ble_eq_true rfl) (Nat.le_of_ble_eq_true rfl) ?_
      refine n_stk (st' := [.int (nI (m_times code k)), .int (nI r)]) rfl ?_
      refine n_iaddN hC dX3_timesOf_16 ?_
      refine n_istore_n (L' := [(0, .int (nI code)), (1, .int (nI (r + (m_times code k)))), (2, .int (nI k))]) hC dX3_timesOf_17 (by decide) rfl ?_
      refine n_iincN (a := k) (L' := [(0, .int (nI code)), (1, .int (nI (r + (m_times code k)))), (2, .int (nI (k + 1)))]) hC dX3_timesOf_18 rfl (by decide) rfl ?_
      refine n_goto (tgt := 4) hC dX3_timesOf_21 (by decide) ?_
      rw [show m_timesOf_L4 (fu + 1) code r k = m_timesOf_L4 fu code (r + (m_times code k)) (k + 1) from by rw [m_timesOf_L4, if_neg (Nat.not_le.mpr c7)]]
      exact ih (r + (m_times code k)) (k + 1) (by omega) (by omega)
set_option maxRecDepth 100000 in
set_option maxHeartbeats 4000000 in
theorem t_m_timesOf (l : Launch) (D : va_G) (N0 : Nat) (kA : Nat → ClassId) (h : hT) (n : Nat) (code : Nat) (hc : code < 2 ^ 31) : nE l yX3_timesOf cX3_timesOf 3 (some .int) D N0 kA 1 0 0 [.int (nI code)] (h) n (nX (some (.int (nI (m_timesOf code)))) (h) n) := by
  refine nE_of (by decide) (Nat.le_of_ble_eq_true rfl) ?_
  intro p e s m args below meth c hC hnm
  refine n_loc (L' := [(0, .int (nI code))]) rfl ?_
  refine n_iconst (v := (nI 0)) hC dX3_timesOf_0 (by decide) ?_
  refine n_istore_n (L' := [(0, .int (nI code)), (1, .int (nI 0))]) hC dX3_timesOf_1 (by decide) rfl ?_
  refine n_iconst (v := (nI 0)) hC dX3_timesOf_2 (by decide) ?_
  refine n_istore_n (L' := [(0, .int (nI code)), (1, .int (nI 0)), (2, .int (nI 0))]) hC dX3_timesOf_3 (by decide) rfl ?_
  rw [show m_timesOf code = m_timesOf_L4 7 code 0 0 from by rw [m_timesOf]]
  exact t_m_timesOf_L4 hC hc 7 0 0 (by omega) (by omega)
def m_limbsOf_L4 : Nat → Nat → Nat → Nat → Nat
  | 0, _, _, _ => 0
  | fu + 1, code, r, k => (if 6 ≤ k then r else (if 0 < (m_times code k) then m_limbsOf_L4 fu code (r + 1) (k + 1) else m_limbsOf_L4 fu code (r + 0) (k + 1)))
def m_limbsOf (code : Nat) : Nat := m_limbsOf_L4 7 code 0 0
theorem bX3_limbsOf : nBS yX3_limbsOf cX3_limbsOf 3 (some .int) 1 := ⟨q1019, q55, q1020, by decide, by decide +kernel⟩
set_option maxRecDepth 100000 in
set_option maxHeartbeats 4000000 in
theorem t_m_limbsOf_L4 {p : Program} {l : Launch} {e : Env} {s : State} {m : MethodId} {args : Array Value} {below : List Frame} {meth : Method} {c : Code} {D : va_G} {N0 : Nat} {kA : Nat → ClassId} {h : hT} {n : Nat} {code : Nat} (hC : nC p s m args meth c RX3 cX3_limbsOf 3 (some .int) true D N0 kA) (hc : code < 2 ^ 31) : ∀ (fu : Nat) (r : Nat) (k : Nat) (hk : k ≤ 6) (hf : 6 < k + fu), nW p l e (nRm 1 0 0) s m args below meth c (nQ below (nX (some (.int (nI (m_limbsOf_L4 fu code r k)))) (h) n) D N0 s 0 0) D N0 3 4 [(0, .int (nI code)), (1, .int (nI r)), (2, .int (nI k))] [] (h) n 0 0 := by
  intro fu
  induction fu with
  | zero =>
    intro r k hk hf
    exfalso; omega
  | succ fu ih =>
    intro r k hk hf
    refine n_iload_n hC dX3_limbsOf_4 rfl ?_
    refine n_bipush (v := (nI 6)) hC dX3_limbsOf_5 (by decide) ?_
    refine n_icmp_geN (tgt := 32) hC k 6 rfl rfl (by omega) (by omega) dX3_limbsOf_7 (by decide) (fun c7 => ?_) (fun c7 => ?_)
    · refine n_iload_n hC dX3_limbsOf_32 rfl ?_
      have eq_ : m_limbsOf_L4 (fu + 1) code r k = r := by rw [m_limbsOf_L4, if_pos c7]
      refine n_iret hC dX3_limbsOf_33 (Nat.le_of_ble_eq_true rfl) (Nat.le_of_ble_eq_true rfl) ?_
      rw [eq_]
      exact ⟨rfl, rfl, rfl⟩
    · refine n_iload_n hC dX3_limbsOf_10 rfl ?_
      refine n_iload_n hC dX3_limbsOf_11 rfl ?_
      refine n_iload_n hC dX3_limbsOf_12 rfl ?_
      refine n_callS1 hC (As := [.int (nI code), .int (nI k)]) (rest := [.int (nI r)]) bX3_times (t_m_times l D N0 kA (h) n code k (by omega) (by omega)) (by decide) (by decide) q1007 rfl (Nat.le_of_ble_eq_true rfl) dX3_limbsOf_13 (Nat.le_of_ble_eq_true rfl) (Nat.le_of_ble_eq_true rfl) ?_
      refine n_stk (st' := [.int (nI (m_times code k)), .int (nI r)]) rfl ?_
      refine n_if_leN (tgt := 23) hC (Nat.lt_trans (m_times_lt _ _) (by decide)) dX3_limbsOf_16 (by decide) (fun c16 => ?_) (fun c16 => ?_)
      · refine n_iconst (v := (nI 0)) hC dX3_limbsOf_23 (by decide) ?_
        refine n_iaddN hC dX3_limbsOf_24 ?_
        refine n_istore_n (L' := [(0, .int (nI code)), (1, .int (nI (r + 0))), (2, .int (nI k))]) hC dX3_limbsOf_25 (by decide) rfl ?_
        refine n_iincN (a := k) (L' := [(0, .int (nI code)), (1, .int (nI (r + 0))), (2, .int (nI (k + 1)))]) hC dX3_limbsOf_26 rfl (by decide) rfl ?_
        refine n_goto (tgt := 4) hC dX3_limbsOf_29 (by decide) ?_
        rw [show m_limbsOf_L4 (fu + 1) code r k = m_limbsOf_L4 fu code (r + 0) (k + 1) from by rw [m_limbsOf_L4, if_neg (Nat.not_le.mpr c7), if_neg (by omega)]]
        exact ih (r + 0) (k + 1) (by omega) (by omega)
      · refine n_iconst (v := (nI 1)) hC dX3_limbsOf_19 (by decide) ?_
        refine n_goto (tgt := 24) hC dX3_limbsOf_20 (by decide) ?_
        refine n_iaddN hC dX3_limbsOf_24 ?_
        refine n_istore_n (L' := [(0, .int (nI code)), (1, .int (nI (r + 1))), (2, .int (nI k))]) hC dX3_limbsOf_25 (by decide) rfl ?_
        refine n_iincN (a := k) (L' := [(0, .int (nI code)), (1, .int (nI (r + 1))), (2, .int (nI (k + 1)))]) hC dX3_limbsOf_26 rfl (by decide) rfl ?_
        refine n_goto (tgt := 4) hC dX3_limbsOf_29 (by decide) ?_
        rw [show m_limbsOf_L4 (fu + 1) code r k = m_limbsOf_L4 fu code (r + 1) (k + 1) from by rw [m_limbsOf_L4, if_neg (Nat.not_le.mpr c7), if_pos c16]]
        exact ih (r + 1) (k + 1) (by omega) (by omega)
set_option maxRecDepth 100000 in
set_option maxHeartbeats 4000000 in
theorem t_m_limbsOf (l : Launch) (D : va_G) (N0 : Nat) (kA : Nat → ClassId) (h : hT) (n : Nat) (code : Nat) (hc : code < 2 ^ 31) : nE l yX3_limbsOf cX3_limbsOf 3 (some .int) D N0 kA 1 0 0 [.int (nI code)] (h) n (nX (some (.int (nI (m_limbsOf code)))) (h) n) := by
  refine nE_of (by decide) (Nat.le_of_ble_eq_true rfl) ?_
  intro p e s m args below meth c hC hnm
  refine n_loc (L' := [(0, .int (nI code))]) rfl ?_
  refine n_iconst (v := (nI 0)) hC dX3_limbsOf_0 (by decide) ?_
  refine n_istore_n (L' := [(0, .int (nI code)), (1, .int (nI 0))]) hC dX3_limbsOf_1 (by decide) rfl ?_
  refine n_iconst (v := (nI 0)) hC dX3_limbsOf_2 (by decide) ?_
  refine n_istore_n (L' := [(0, .int (nI code)), (1, .int (nI 0)), (2, .int (nI 0))]) hC dX3_limbsOf_3 (by decide) rfl ?_
  rw [show m_limbsOf code = m_limbsOf_L4 7 code 0 0 from by rw [m_limbsOf]]
  exact t_m_limbsOf_L4 hC hc 7 0 0 (by omega) (by omega)
def m_isFree (M : MS) (k : Nat) : Bool := (if (m_isLimb M (nI k)) = true then (if (m_lives M k) = true then (if 0 ≤ (mA M 12 (6 + k)) then false else true) else false) else false)
theorem bX3_isFree : nBV RX3 yX3_isFree cX3_isFree 2 (some .boolean) 1 := ⟨q1012, qs44, q55, q1013, by decide, by decide +kernel⟩
set_option maxRecDepth 100000 in
set_option maxHeartbeats 4000000 in
theorem t_m_isFree (l : Launch) (D : va_G) (N0 : Nat) (kA : Nat → ClassId) (mb : Nat) (hs : hT) (M : MS) (n : Nat) (hn : mb + 28 < n) (k : Nat) (hk : k < 6) : nE l yX3_isFree cX3_isFree 2 (some .boolean) D N0 kA 2 0 0 [.ref (N0 + mb), .int (nI k)] (mH N0 mb kA hs M) n (nX (some (.int (bI (m_isFree M k)))) (mH N0 mb kA hs M) n) := by
  refine nE_of (by decide) (Nat.le_of_ble_eq_true rfl) ?_
  intro p e s m args below meth c hC hnm
  refine n_loc (L' := [(0, .ref (N0 + mb)), (1, .int (nI k))]) rfl ?_
  refine n_aload_n hC dX3_isFree_0 rfl ?_
  refine n_iload_n hC dX3_isFree_1 rfl ?_
  refine n_callV1 hC (As := [.int (nI k)]) (rest := []) mc_o (by omega) rfl bX3_isLimb (t_m_isLimb l D N0 kA mb hs M n hn (nI k) ) (by decide) (by decide) q889 rfl (Nat.le_of_ble_eq_true rfl) dX3_isFree_2 (Nat.le_of_ble_eq_true rfl) (Nat.le_of_ble_eq_true rfl) ?_
  refine n_stk (st' := [.int (bI (m_isLimb M (nI k)))]) rfl ?_
  refine n_if_eqB (tgt := 32) hC dX3_isFree_5 (by decide) (fun c5 => ?_) (fun c5 => ?_)
  · refine n_iconst (v := (nI 0)) hC dX3_isFree_32 (by decide) ?_
    have eq_ : m_isFree M k = false := by rw [m_isFree, if_neg (by rw [c5]; decide)]
    refine n_zret hC dX3_isFree_33 (by decide) (Nat.le_of_ble_eq_true rfl) (Nat.le_of_ble_eq_true rfl) ?_
    rw [eq_]
    exact ⟨rfl, rfl, rfl⟩
  · refine n_aload_n hC dX3_isFree_8 rfl ?_
    refine n_iload_n hC dX3_isFree_9 rfl ?_
    refine n_callV1 hC (As := [.int (nI k)]) (rest := []) mc_o (by omega) rfl bX3_lives (t_m_lives l D N0 kA mb hs M n hn k ) (by decide) (by decide) q902 rfl (Nat.le_of_ble_eq_true rfl) dX3_isFree_10 (Nat.le_of_ble_eq_true rfl) (Nat.le_of_ble_eq_true rfl) ?_
    refine n_stk (st' := [.int (bI (m_lives M k))]) rfl ?_
    refine n_if_eqB (tgt := 32) hC dX3_isFree_13 (by decide) (fun c13 => ?_) (fun c13 => ?_)
    · refine n_iconst (v := (nI 0)) hC dX3_isFree_32 (by decide) ?_
      have eq_ : m_isFree M k = false := by rw [m_isFree, if_pos c5, if_neg (by rw [c13]; decide)]
      refine n_zret hC dX3_isFree_33 (by decide) (Nat.le_of_ble_eq_true rfl) (Nat.le_of_ble_eq_true rfl) ?_
      rw [eq_]
      exact ⟨rfl, rfl, rfl⟩
    · refine n_aload_n hC dX3_isFree_16 rfl ?_
      refine n_get hC cl3 (k := 12) (v := .ref (N0 + (mb + 10))) mc_o (by omega) (by decide) q692 (mf_get N0 mb M (by decide)) dX3_isFree_17 ?_
      refine n_bipush (v := (nI 6)) hC dX3_isFree_20 (by decide) ?_
      refine n_iload_n hC dX3_isFree_22 rfl ?_
      refine n_iaddN hC dX3_isFree_23 ?_
      refine n_iald hC (f := mA M 12) (mc_a (p := 10) (by decide) (by decide)) (by omega) (6 + k) rfl (by omega) (by decide) dX3_isFree_24 ?_
      refine n_if_ge (tgt := 32) hC dX3_isFree_25 (by decide) (fun c25 => ?_) (fun c25 => ?_)
      · refine n_iconst (v := (nI 0)) hC dX3_isFree_32 (by decide) ?_
        have eq_ : m_isFree M k = false := by rw [m_isFree, if_pos c5, if_pos c13, if_pos c25]
        refine n_zret hC dX3_isFree_33 (by decide) (Nat.le_of_ble_eq_true rfl) (Nat.le_of_ble_eq_true rfl) ?_
        rw [eq_]
        exact ⟨rfl, rfl, rfl⟩
      · refine n_iconst (v := (nI 1)) hC dX3_isFree_28 (by decide) ?_
        refine n_goto (tgt := 33) hC dX3_isFree_29 (by decide) ?_
        have eq_ : m_isFree M k = true := by rw [m_isFree, if_pos c5, if_pos c13, if_neg c25]
        refine n_zret hC dX3_isFree_33 (by decide) (Nat.le_of_ble_eq_true rfl) (Nat.le_of_ble_eq_true rfl) ?_
        rw [eq_]
        exact ⟨rfl, rfl, rfl⟩
def m_basketAt_L5 : Nat → MS → Nat → Nat → Int32 → Nat → Int32
  | 0, _, _, _, _, _ => 0
  | fu + 1, M, code, t, r, k => (if (mN M 0) ≤ k then r else m_basketAt_L5 fu M code t (r + ((nI (m_times code k)) * (m_grown M k t))) (k + 1))
def m_basketAt (M : MS) (code : Nat) (t : Nat) : Int32 := m_basketAt_L5 (mN M 0 + 1) M code t (nI 0) 0
theorem bX3_basketAt : nBV RX3 yX3_basketAt cX3_basketAt 5 (some .int) 2 := ⟨q1016, qs45, q55, q1017, by decide, by decide +kernel⟩
set_option maxRecDepth 100000 in
set_option maxHeartbeats 4000000 in
theorem t_m_basketAt_L5 {p : Program} {l : Launch} {e : Env} {s : State} {m : MethodId} {args : Array Value} {below : List Frame} {meth : Method} {c : Code} {D : va_G} {N0 : Nat} {kA : Nat → ClassId} {mb : Nat} {hs : hT} {M : MS} {n : Nat} (hn : mb + 28 < n) {code : Nat} {t : Nat} (hC : nC p s m args meth c RX3 cX3_basketAt 5 (some .int) true D N0 kA) (hcd : code < 2 ^ 31) (ht : t < 2 ^ 31) (h0 : mN M 0 ≤ 6) : ∀ (fu : Nat) (r : Int32) (k : Nat) (hk : k ≤ mN M 0) (hf : mN M 0 < k + fu), nW p l e (nRm 1 0 0) s m args below meth c (nQ below (nX (some (.int (m_basketAt_L5 fu M code t r k))) (mH N0 mb kA hs M) n) D N0 s 0 0) D N0 5 5 [(0, .ref (N0 + mb)), (1, .int (nI code)), (2, .int (nI t)), (3, .int r), (4, .int (nI k))] [] (mH N0 mb kA hs M) n 0 0 := by
  intro fu
  induction fu with
  | zero =>
    intro r k hk hf
    exfalso; omega
  | succ fu ih =>
    intro r k hk hf
    refine n_iload hC dX3_basketAt_5 rfl ?_
    refine n_aload_n hC dX3_basketAt_7 rfl ?_
    refine n_get hC cl3 (k := 0) (v := .int (nI (mN M 0))) mc_o (by omega) (by decide) q680 (mf_get N0 mb M (by decide)) dX3_basketAt_8 ?_
    refine n_icmp_geN (tgt := 37) hC k (mN M 0) rfl rfl (by omega) (by omega) dX3_basketAt_11 (by decide) (fun c11 => ?_) (fun c11 => ?_)
    · refine n_iload_n hC dX3_basketAt_37 rfl ?_
      have eq_ : m_basketAt_L5 (fu + 1) M code t r k = r := by rw [m_basketAt_L5, if_pos c11]
      refine n_iret hC dX3_basketAt_38 (Nat.le_of_ble_eq_true rfl) (Nat.le_of_ble_eq_true rfl) ?_
      rw [eq_]
      exact ⟨rfl, rfl, rfl⟩
    · refine n_iload_n hC dX3_basketAt_14 rfl ?_
      refine n_iload_n hC dX3_basketAt_15 rfl ?_
      refine n_iload hC dX3_basketAt_16 rfl ?_
      refine n_callS1 hC (As := [.int (nI code), .int (nI k)]) (rest := [.int r]) bX3_times (t_m_times l D N0 kA (mH N0 mb kA hs M) n code k (by omega) (by omega)) (by decide) (by decide) q1007 rfl (Nat.le_of_ble_eq_true rfl) dX3_basketAt_18 (Nat.le_of_ble_eq_true rfl) (Nat.le_of_ble_eq_true rfl) ?_
      refine n_stk (st' := [.int (nI (m_times code k)), .int r]) rfl ?_
      refine n_aload_n hC dX3_basketAt_21 rfl ?_
      refine n_iload hC dX3_basketAt_22 rfl ?_
      refine n_iload_n hC dX3_basketAt_24 rfl ?_
      refine n_callV1 hC (As := [.int (nI k), .int (nI t)]) (rest := [.int (nI (m_times code k)), .int r]) mc_o (by omega) rfl bX3_grown (t_m_grown l D N0 kA mb hs M n hn k t (by omega) (by omega)) (by decide) (by decide) q909 rfl (Nat.le_of_ble_eq_true rfl) dX3_basketAt_25 (Nat.le_of_ble_eq_true rfl) (Nat.le_of_ble_eq_true rfl) ?_
      refine n_stk (st' := [.int (m_grown M k t), .int (nI (m_times code k)), .int r]) rfl ?_
      refine n_imul hC dX3_basketAt_28 ?_
      refine n_iadd hC dX3_basketAt_29 ?_
      refine n_istore_n (L' := [(0, .ref (N0 + mb)), (1, .int (nI code)), (2, .int (nI t)), (3, .int (r + ((nI (m_times code k)) * (m_grown M k t)))), (4, .int (nI k))]) hC dX3_basketAt_30 (by decide) rfl ?_
      refine n_iincN (a := k) (L' := [(0, .ref (N0 + mb)), (1, .int (nI code)), (2, .int (nI t)), (3, .int (r + ((nI (m_times code k)) * (m_grown M k t)))), (4, .int (nI (k + 1)))]) hC dX3_basketAt_31 rfl (by decide) rfl ?_
      refine n_goto (tgt := 5) hC dX3_basketAt_34 (by decide) ?_
      rw [show m_basketAt_L5 (fu + 1) M code t r k = m_basketAt_L5 fu M code t (r + ((nI (m_times code k)) * (m_grown M k t))) (k + 1) from by rw [m_basketAt_L5, if_neg (Nat.not_le.mpr c11)]]
      exact ih (r + ((nI (m_times code k)) * (m_grown M k t))) (k + 1) (by omega) (by omega)
set_option maxRecDepth 100000 in
set_option maxHeartbeats 4000000 in
theorem t_m_basketAt (l : Launch) (D : va_G) (N0 : Nat) (kA : Nat → ClassId) (mb : Nat) (hs : hT) (M : MS) (n : Nat) (hn : mb + 28 < n) (code : Nat) (t : Nat) (hcd : code < 2 ^ 31) (ht : t < 2 ^ 31) (h0 : mN M 0 ≤ 6) : nE l yX3_basketAt cX3_basketAt 5 (some .int) D N0 kA 1 0 0 [.ref (N0 + mb), .int (nI code), .int (nI t)] (mH N0 mb kA hs M) n (nX (some (.int (m_basketAt M code t))) (mH N0 mb kA hs M) n) := by
  refine nE_of (by decide) (Nat.le_of_ble_eq_true rfl) ?_
  intro p e s m args below meth c hC hnm
  refine n_loc (L' := [(0, .ref (N0 + mb)), (1, .int (nI code)), (2, .int (nI t))]) rfl ?_
  refine n_iconst (v := (nI 0)) hC dX3_basketAt_0 (by decide) ?_
  refine n_istore_n (L' := [(0, .ref (N0 + mb)), (1, .int (nI code)), (2, .int (nI t)), (3, .int (nI 0))]) hC dX3_basketAt_1 (by decide) rfl ?_
  refine n_iconst (v := (nI 0)) hC dX3_basketAt_2 (by decide) ?_
  refine n_istore (L' := [(0, .ref (N0 + mb)), (1, .int (nI code)), (2, .int (nI t)), (3, .int (nI 0)), (4, .int (nI 0))]) hC dX3_basketAt_3 (by decide) rfl ?_
  rw [show m_basketAt M code t = m_basketAt_L5 (mN M 0 + 1) M code t (nI 0) 0 from by rw [m_basketAt]]
  exact t_m_basketAt_L5 hn hC hcd ht h0 (mN M 0 + 1) (nI 0) 0 (by omega) (by omega)
def m_isBasket_L2 : Nat → MS → Nat → Nat → Bool
  | 0, _, _, _ => false
  | fu + 1, M, code, k => (if 6 ≤ k then (if (m_in ((nI (m_limbsOf code)).toInt64) 1 (3)) = true then (if (m_basketAt M code 0) = (m_basketAt M code 1) then (if (m_basketAt M code 0) = (m_basketAt M code 2) then (if (m_basketAt M code 0) = (m_basketAt M code 3) then true else false) else false) else false) else false) else (if 0 < (m_times code k) then (if (m_isFree M k) = true then m_isBasket_L2 fu M code (k + 1) else false) else m_isBasket_L2 fu M code (k + 1)))
def m_isBasket (M : MS) (code : Nat) : Bool := m_isBasket_L2 7 M code 0
theorem bX3_isBasket : nBV RX3 yX3_isBasket cX3_isBasket 3 (some .boolean) 1 := ⟨q1005, qs43, q55, q1006, by decide, by decide +kernel⟩
set_option maxRecDepth 100000 in
set_option maxHeartbeats 4000000 in
theorem t_m_isBasket_L2 {p : Program} {l : Launch} {e : Env} {s : State} {m : MethodId} {args : Array Value} {below : List Frame} {meth : Method} {c : Code} {D : va_G} {N0 : Nat} {kA : Nat → ClassId} {mb : Nat} {hs : hT} {M : MS} {n : Nat} (hn : mb + 28 < n) {code : Nat} (hC : nC p s m args meth c RX3 cX3_isBasket 3 (some .boolean) true D N0 kA) (hcd : code < 2 ^ 31) (h0 : mN M 0 ≤ 6) : ∀ (fu : Nat) (k : Nat) (hk : k ≤ 6) (hf : 6 < k + fu), nW p l e (nRm 3 0 0) s m args below meth c (nQ below (nX (some (.int (bI (m_isBasket_L2 fu M code k)))) (mH N0 mb kA hs M) n) D N0 s 0 0) D N0 3 2 [(0, .ref (N0 + mb)), (1, .int (nI code)), (2, .int (nI k))] [] (mH N0 mb kA hs M) n 0 0 := by
  intro fu
  induction fu with
  | zero =>
    intro k hk hf
    exfalso; omega
  | succ fu ih =>
    intro k hk hf
    refine n_iload_n hC dX3_isBasket_2 rfl ?_
    refine n_bipush (v := (nI 6)) hC dX3_isBasket_3 (by decide) ?_
    refine n_icmp_geN (tgt := 32) hC k 6 rfl rfl (by omega) (by omega) dX3_isBasket_5 (by decide) (fun c5 => ?_) (fun c5 => ?_)
    · refine n_aload_n hC dX3_isBasket_32 rfl ?_
      refine n_iload_n hC dX3_isBasket_33 rfl ?_
      refine n_iconst (v := (nI 0)) hC dX3_isBasket_34 (by decide) ?_
      refine n_callV1 hC (As := [.int (nI code), .int (nI 0)]) (rest := []) mc_o (by omega) rfl bX3_basketAt (t_m_basketAt l D N0 kA mb hs M n hn code 0 (by omega) (by omega) (by omega)) (by decide) (by decide) q1014 rfl (Nat.le_of_ble_eq_true rfl) dX3_isBasket_35 (Nat.le_of_ble_eq_true rfl) (Nat.le_of_ble_eq_true rfl) ?_
      refine n_stk (st' := [.int (m_basketAt M code 0)]) rfl ?_
      refine n_istore_n (L' := [(0, .ref (N0 + mb)), (1, .int (nI code)), (2, .int (m_basketAt M code 0))]) hC dX3_isBasket_38 (by decide) rfl ?_
      refine n_iload_n hC dX3_isBasket_39 rfl ?_
      refine n_callS1 hC (As := [.int (nI code)]) (rest := []) bX3_limbsOf (t_m_limbsOf l D N0 kA (mH N0 mb kA hs M) n code (by omega)) (by decide) (by decide) q1018 rfl (Nat.le_of_ble_eq_true rfl) dX3_isBasket_40 (Nat.le_of_ble_eq_true rfl) (Nat.le_of_ble_eq_true rfl) ?_
      refine n_stk (st' := [.int (nI (m_limbsOf code))]) rfl ?_
      refine n_i2l hC dX3_isBasket_43 ?_
      refine n_lconst (v := 1) hC dX3_isBasket_44 (by decide) ?_
      refine n_ldc2 hC dX3_isBasket_45 q1021 ?_
      refine n_callS1 hC (As := [.long ((nI (m_limbsOf code)).toInt64), .long 1, .long (3)]) (rest := []) bX3_in (t_m_in l D N0 kA (mH N0 mb kA hs M) n ((nI (m_limbsOf code)).toInt64) 1 (3) ) (by decide) (by decide) q822 rfl (Nat.le_of_ble_eq_true rfl) dX3_isBasket_48 (Nat.le_of_ble_eq_true rfl) (Nat.le_of_ble_eq_true rfl) ?_
      refine n_stk (st' := [.int (bI (m_in ((nI (m_limbsOf code)).toInt64) 1 (3)))]) rfl ?_
      refine n_if_eqB (tgt := 88) hC dX3_isBasket_51 (by decide) (fun c51 => ?_) (fun c51 => ?_)
      · refine n_iconst (v := (nI 0)) hC dX3_isBasket_88 (by decide) ?_
        have eq_ : m_isBasket_L2 (fu + 1) M code k = false := by rw [m_isBasket_L2, if_pos c5, if_neg (by rw [c51]; decide)]
        refine n_zret hC dX3_isBasket_89 (by decide) (Nat.le_of_ble_eq_true rfl) (Nat.le_of_ble_eq_true rfl) ?_
        rw [eq_]
        exact ⟨rfl, rfl, rfl⟩
      · refine n_iload_n hC dX3_isBasket_54 rfl ?_
        refine n_aload_n hC dX3_isBasket_55 rfl ?_
        refine n_iload_n hC dX3_isBasket_56 rfl ?_
        refine n_iconst (v := (nI 1)) hC dX3_isBasket_57 (by decide) ?_
        refine n_callV1 hC (As := [.int (nI code), .int (nI 1)]) (rest := [.int (m_basketAt M code 0)]) mc_o (by omega) rfl bX3_basketAt (t_m_basketAt l D N0 kA mb hs M n hn code 1 (by omega) (by omega) (by omega)) (by decide) (by decide) q1014 rfl (Nat.le_of_ble_eq_true rfl) dX3_isBasket_58 (Nat.le_of_ble_eq_true rfl) (Nat.le_of_ble_eq_true rfl) ?_
        refine n_stk (st' := [.int (m_basketAt M code 1), .int (m_basketAt M code 0)]) rfl ?_
        refine n_icmp_ne (tgt := 88) hC dX3_isBasket_61 (by decide) (fun c61 => ?_) (fun c61 => ?_)
        · refine n_iconst (v := (nI 0)) hC dX3_isBasket_88 (by decide) ?_
          have eq_ : m_isBasket_L2 (fu + 1) M code k = false := by rw [m_isBasket_L2, if_pos c5, if_pos c51, if_neg c61]
          refine n_zret hC dX3_isBasket_89 (by decide) (Nat.le_of_ble_eq_true rfl) (Nat.le_of_ble_eq_true rfl) ?_
          rw [eq_]
          exact ⟨rfl, rfl, rfl⟩
        · refine n_iload_n hC dX3_isBasket_64 rfl ?_
          refine n_aload_n hC dX3_isBasket_65 rfl ?_
          refine n_iload_n hC dX3_isBasket_66 rfl ?_
          refine n_iconst (v := (nI 2)) hC dX3_isBasket_67 (by decide) ?_
          refine n_callV1 hC (As := [.int (nI code), .int (nI 2)]) (rest := [.int (m_basketAt M code 0)]) mc_o (by omega) rfl bX3_basketAt (t_m_basketAt l D N0 kA mb hs M n hn code 2 (by omega) (by omega) (by omega)) (by decide) (by decide) q1014 rfl (Nat.le_of_ble_eq_true rfl) dX3_isBasket_68 (Nat.le_of_ble_eq_true rfl) (Nat.le_of_ble_eq_true rfl) ?_
          refine n_stk (st' := [.int (m_basketAt M code 2), .int (m_basketAt M code 0)]) rfl ?_
          refine n_icmp_ne (tgt := 88) hC dX3_isBasket_71 (by decide) (fun c71 => ?_) (fun c71 => ?_)
          · refine n_iconst (v := (nI 0)) hC dX3_isBasket_88 (by decide) ?_
            have eq_ : m_isBasket_L2 (fu + 1) M code k = false := by rw [m_isBasket_L2, if_pos c5, if_pos c51, if_pos c61, if_neg c71]
            refine n_zret hC dX3_isBasket_89 (by decide) (Nat.le_of_ble_eq_true rfl) (Nat.le_of_ble_eq_true rfl) ?_
            rw [eq_]
            exact ⟨rfl, rfl, rfl⟩
          · refine n_iload_n hC dX3_isBasket_74 rfl ?_
            refine n_aload_n hC dX3_isBasket_75 rfl ?_
            refine n_iload_n hC dX3_isBasket_76 rfl ?_
            refine n_iconst (v := (nI 3)) hC dX3_isBasket_77 (by decide) ?_
            refine n_callV1 hC (As := [.int (nI code), .int (nI 3)]) (rest := [.int (m_basketAt M code 0)]) mc_o (by omega) rfl bX3_basketAt (t_m_basketAt l D N0 kA mb hs M n hn code 3 (by omega) (by omega) (by omega)) (by decide) (by decide) q1014 rfl (Nat.le_of_ble_eq_true rfl) dX3_isBasket_78 (Nat.le_of_ble_eq_true rfl) (Nat.le_of_ble_eq_true rfl) ?_
            refine n_stk (st' := [.int (m_basketAt M code 3), .int (m_basketAt M code 0)]) rfl ?_
            refine n_icmp_ne (tgt := 88) hC dX3_isBasket_81 (by decide) (fun c81 => ?_) (fun c81 => ?_)
            · refine n_iconst (v := (nI 0)) hC dX3_isBasket_88 (by decide) ?_
              have eq_ : m_isBasket_L2 (fu + 1) M code k = false := by rw [m_isBasket_L2, if_pos c5, if_pos c51, if_pos c61, if_pos c71, if_neg c81]
              refine n_zret hC dX3_isBasket_89 (by decide) (Nat.le_of_ble_eq_true rfl) (Nat.le_of_ble_eq_true rfl) ?_
              rw [eq_]
              exact ⟨rfl, rfl, rfl⟩
            · refine n_iconst (v := (nI 1)) hC dX3_isBasket_84 (by decide) ?_
              refine n_goto (tgt := 89) hC dX3_isBasket_85 (by decide) ?_
              have eq_ : m_isBasket_L2 (fu + 1) M code k = true := by rw [m_isBasket_L2, if_pos c5, if_pos c51, if_pos c61, if_pos c71, if_pos c81]
              refine n_zret hC dX3_isBasket_89 (by decide) (Nat.le_of_ble_eq_true rfl) (Nat.le_of_ble_eq_true rfl) ?_
              rw [eq_]
              exact ⟨rfl, rfl, rfl⟩
    · refine n_iload_n hC dX3_isBasket_8 rfl ?_
      refine n_iload_n hC dX3_isBasket_9 rfl ?_
      refine n_callS1 hC (As := [.int (nI code), .int (nI k)]) (rest := []) bX3_times (t_m_times l D N0 kA (mH N0 mb kA hs M) n code k (by omega) (by omega)) (by decide) (by decide) q1007 rfl (Nat.le_of_ble_eq_true rfl) dX3_isBasket_10 (Nat.le_of_ble_eq_true rfl) (Nat.le_of_ble_eq_true rfl) ?_
      refine n_stk (st' := [.int (nI (m_times code k))]) rfl ?_
      refine n_if_leN (tgt := 26) hC (Nat.lt_trans (m_times_lt _ _) (by decide)) dX3_isBasket_13 (by decide) (fun c13 => ?_) (fun c13 => ?_)
      · refine n_iincN (a := k) (L' := [(0, .ref (N0 + mb)), (1, .int (nI code)), (2, .int (nI (k + 1)))]) hC dX3_isBasket_26 rfl (by decide) rfl ?_
        refine n_goto (tgt := 2) hC dX3_isBasket_29 (by decide) ?_
        rw [show m_isBasket_L2 (fu + 1) M code k = m_isBasket_L2 fu M code (k + 1) from by rw [m_isBasket_L2, if_neg (Nat.not_le.mpr c5), if_neg (by omega)]]
        exact ih (k + 1) (by omega) (by omega)
      · refine n_aload_n hC dX3_isBasket_16 rfl ?_
        refine n_iload_n hC dX3_isBasket_17 rfl ?_
        refine n_callV1 hC (As := [.int (nI k)]) (rest := []) mc_o (by omega) rfl bX3_isFree (t_m_isFree l D N0 kA mb hs M n hn k (by omega)) (by decide) (by decide) q1010 rfl (Nat.le_of_ble_eq_true rfl) dX3_isBasket_18 (Nat.le_of_ble_eq_true rfl) (Nat.le_of_ble_eq_true rfl) ?_
        refine n_stk (st' := [.int (bI (m_isFree M k))]) rfl ?_
        refine n_if_neB (tgt := 26) hC dX3_isBasket_21 (by decide) (fun c21 => ?_) (fun c21 => ?_)
        · refine n_iincN (a := k) (L' := [(0, .ref (N0 + mb)), (1, .int (nI code)), (2, .int (nI (k + 1)))]) hC dX3_isBasket_26 rfl (by decide) rfl ?_
          refine n_goto (tgt := 2) hC dX3_isBasket_29 (by decide) ?_
          rw [show m_isBasket_L2 (fu + 1) M code k = m_isBasket_L2 fu M code (k + 1) from by rw [m_isBasket_L2, if_neg (Nat.not_le.mpr c5), if_pos c13, if_pos c21]]
          exact ih (k + 1) (by omega) (by omega)
        · refine n_iconst (v := (nI 0)) hC dX3_isBasket_24 (by decide) ?_
          have eq_ : m_isBasket_L2 (fu + 1) M code k = false := by rw [m_isBasket_L2, if_neg (Nat.not_le.mpr c5), if_pos c13, if_neg (by rw [c21]; decide)]
          refine n_zret hC dX3_isBasket_25 (by decide) (Nat.le_of_ble_eq_true rfl) (Nat.le_of_ble_eq_true rfl) ?_
          rw [eq_]
          exact ⟨rfl, rfl, rfl⟩
set_option maxRecDepth 100000 in
set_option maxHeartbeats 4000000 in
theorem t_m_isBasket (l : Launch) (D : va_G) (N0 : Nat) (kA : Nat → ClassId) (mb : Nat) (hs : hT) (M : MS) (n : Nat) (hn : mb + 28 < n) (code : Nat) (hcd : code < 2 ^ 31) (h0 : mN M 0 ≤ 6) : nE l yX3_isBasket cX3_isBasket 3 (some .boolean) D N0 kA 3 0 0 [.ref (N0 + mb), .int (nI code)] (mH N0 mb kA hs M) n (nX (some (.int (bI (m_isBasket M code)))) (mH N0 mb kA hs M) n) := by
  refine nE_of (by decide) (Nat.le_of_ble_eq_true rfl) ?_
  intro p e s m args below meth c hC hnm
  refine n_loc (L' := [(0, .ref (N0 + mb)), (1, .int (nI code))]) rfl ?_
  refine n_iconst (v := (nI 0)) hC dX3_isBasket_0 (by decide) ?_
  refine n_istore_n (L' := [(0, .ref (N0 + mb)), (1, .int (nI code)), (2, .int (nI 0))]) hC dX3_isBasket_1 (by decide) rfl ?_
  rw [show m_isBasket M code = m_isBasket_L2 7 M code 0 from by rw [m_isBasket]]
  exact t_m_isBasket_L2 hn hC hcd h0 7 0 (by omega) (by omega)
def m_isAhead_L2 : Nat → Nat → Nat → Nat → Bool
  | 0, _, _, _ => false
  | fu + 1, a, b, k => (if 6 ≤ k then false else (if (m_times a k) = (m_times b k) then m_isAhead_L2 fu a b (k + 1) else (if 0 < (m_times a k) then (if (m_times b k) = 0 then true else (if (m_times b k) ≤ (m_times a k) then false else true)) else false)))
def m_isAhead (a : Nat) (b : Nat) : Bool := m_isAhead_L2 7 a b 0
theorem bX3_isAhead : nBS yX3_isAhead cX3_isAhead 5 (some .boolean) 2 := ⟨q1026, q55, q1027, by decide, by decide +kernel⟩
set_option maxRecDepth 100000 in
set_option maxHeartbeats 4000000 in
theorem t_m_isAhead_L2 {p : Program} {l : Launch} {e : Env} {s : State} {m : MethodId} {args : Array Value} {below : List Frame} {meth : Method} {c : Code} {D : va_G} {N0 : Nat} {kA : Nat → ClassId} {h : hT} {n : Nat} {a : Nat} {b : Nat} (hC : nC p s m args meth c RX3 cX3_isAhead 5 (some .boolean) true D N0 kA) (ha : a < 2 ^ 31) (hb : b < 2 ^ 31) : ∀ (fu : Nat) (k : Nat) (hk : k ≤ 6) (hf : 6 < k + fu), nW p l e (nRm 1 0 0) s m args below meth c (nQ below (nX (some (.int (bI (m_isAhead_L2 fu a b k)))) (h) n) D N0 s 0 0) D N0 5 2 [(0, .int (nI a)), (1, .int (nI b)), (2, .int (nI k))] [] (h) n 0 0 := by
  intro fu
  induction fu with
  | zero =>
    intro k hk hf
    exfalso; omega
  | succ fu ih =>
    intro k hk hf
    refine n_iload_n hC dX3_isAhead_2 rfl ?_
    refine n_bipush (v := (nI 6)) hC dX3_isAhead_3 (by decide) ?_
    refine n_icmp_geN (tgt := 54) hC k 6 rfl rfl (by omega) (by omega) dX3_isAhead_5 (by decide) (fun c5 => ?_) (fun c5 => ?_)
    · refine n_iconst (v := (nI 0)) hC dX3_isAhead_54 (by decide) ?_
      have eq_ : m_isAhead_L2 (fu + 1) a b k = false := by rw [m_isAhead_L2, if_pos c5]
      refine n_zret hC dX3_isAhead_55 (by decide) (Nat.le_of_ble_eq_true rfl) (Nat.le_of_ble_eq_true rfl) ?_
      rw [eq_]
      exact ⟨rfl, rfl, rfl⟩
    · refine n_iload_n hC dX3_isAhead_8 rfl ?_
      refine n_iload_n hC dX3_isAhead_9 rfl ?_
      refine n_callS1 hC (As := [.int (nI a), .int (nI k)]) (rest := []) bX3_times (t_m_times l D N0 kA (h) n a k (by omega) (by omega)) (by decide) (by decide) q1007 rfl (Nat.le_of_ble_eq_true rfl) dX3_isAhead_10 (Nat.le_of_ble_eq_true rfl) (Nat.le_of_ble_eq_true rfl) ?_
      refine n_stk (st' := [.int (nI (m_times a k))]) rfl ?_
      refine n_istore_n (L' := [(0, .int (nI a)), (1, .int (nI b)), (2, .int (nI k)), (3, .int (nI (m_times a k)))]) hC dX3_isAhead_13 (by decide) rfl ?_
      refine n_iload_n hC dX3_isAhead_14 rfl ?_
      refine n_iload_n hC dX3_isAhead_15 rfl ?_
      refine n_callS1 hC (As := [.int (nI b), .int (nI k)]) (rest := []) bX3_times (t_m_times l D N0 kA (h) n b k (by omega) (by omega)) (by decide) (by decide) q1007 rfl (Nat.le_of_ble_eq_true rfl) dX3_isAhead_16 (Nat.le_of_ble_eq_true rfl) (Nat.le_of_ble_eq_true rfl) ?_
      refine n_stk (st' := [.int (nI (m_times b k))]) rfl ?_
      refine n_istore (L' := [(0, .int (nI a)), (1, .int (nI b)), (2, .int (nI k)), (3, .int (nI (m_times a k))), (4, .int (nI (m_times b k)))]) hC dX3_isAhead_19 (by decide) rfl ?_
      refine n_iload_n hC dX3_isAhead_21 rfl ?_
      refine n_iload hC dX3_isAhead_22 rfl ?_
      refine n_icmp_eqN (tgt := 48) hC (m_times a k) (m_times b k) rfl rfl (Nat.lt_trans (m_times_lt _ _) (by decide)) (Nat.lt_trans (m_times_lt _ _) (by decide)) dX3_isAhead_24 (by decide) (fun c24 => ?_) (fun c24 => ?_)
      · refine n_iincN (a := k) (L' := [(0, .int (nI a)), (1, .int (nI b)), (2, .int (nI (k + 1))), (3, .int (nI (m_times a k))), (4, .int (nI (m_times b k)))]) hC dX3_isAhead_48 rfl (by decide) rfl ?_
        refine n_goto (tgt := 2) hC dX3_isAhead_51 (by decide) ?_
        refine n_drop [0, 1, 2] (L' := [(0, .int (nI a)), (1, .int (nI b)), (2, .int (nI (k + 1)))]) rfl ?_
        rw [show m_isAhead_L2 (fu + 1) a b k = m_isAhead_L2 fu a b (k + 1) from by rw [m_isAhead_L2, if_neg (Nat.not_le.mpr c5), if_pos c24]]
        exact ih (k + 1) (by omega) (by omega)
      · refine n_iload_n hC dX3_isAhead_27 rfl ?_
        refine n_if_leN (tgt := 46) hC (Nat.lt_trans (m_times_lt _ _) (by decide)) dX3_isAhead_28 (by decide) (fun c28 => ?_) (fun c28 => ?_)
        · refine n_iconst (v := (nI 0)) hC dX3_isAhead_46 (by decide) ?_
          have eq_ : m_isAhead_L2 (fu + 1) a b k = false := by rw [m_isAhead_L2, if_neg (Nat.not_le.mpr c5), if_neg c24, if_neg (by omega)]
          refine n_zret hC dX3_isAhead_47 (by decide) (Nat.le_of_ble_eq_true rfl) (Nat.le_of_ble_eq_true rfl) ?_
          rw [eq_]
          exact ⟨rfl, rfl, rfl⟩
        · refine n_iload hC dX3_isAhead_31 rfl ?_
          refine n_if_eqN (tgt := 42) hC (Nat.lt_trans (m_times_lt _ _) (by decide)) dX3_isAhead_33 (by decide) (fun c33 => ?_) (fun c33 => ?_)
          · refine n_iconst (v := (nI 1)) hC dX3_isAhead_42 (by decide) ?_
            refine n_goto (tgt := 47) hC dX3_isAhead_43 (by decide) ?_
            have eq_ : m_isAhead_L2 (fu + 1) a b k = true := by rw [m_isAhead_L2, if_neg (Nat.not_le.mpr c5), if_neg c24, if_pos c28, if_pos c33]
            refine n_zret hC dX3_isAhead_47 (by decide) (Nat.le_of_ble_eq_true rfl) (Nat.le_of_ble_eq_true rfl) ?_
            rw [eq_]
            exact ⟨rfl, rfl, rfl⟩
          · refine n_iload_n hC dX3_isAhead_36 rfl ?_
            refine n_iload hC dX3_isAhead_37 rfl ?_
            refine n_icmp_geN (tgt := 46) hC (m_times a k) (m_times b k) rfl rfl (Nat.lt_trans (m_times_lt _ _) (by decide)) (Nat.lt_trans (m_times_lt _ _) (by decide)) dX3_isAhead_39 (by decide) (fun c39 => ?_) (fun c39 => ?_)
            · refine n_iconst (v := (nI 0)) hC dX3_isAhead_46 (by decide) ?_
              have eq_ : m_isAhead_L2 (fu + 1) a b k = false := by rw [m_isAhead_L2, if_neg (Nat.not_le.mpr c5), if_neg c24, if_pos c28, if_neg c33, if_pos c39]
              refine n_zret hC dX3_isAhead_47 (by decide) (Nat.le_of_ble_eq_true rfl) (Nat.le_of_ble_eq_true rfl) ?_
              rw [eq_]
              exact ⟨rfl, rfl, rfl⟩
            · refine n_iconst (v := (nI 1)) hC dX3_isAhead_42 (by decide) ?_
              refine n_goto (tgt := 47) hC dX3_isAhead_43 (by decide) ?_
              have eq_ : m_isAhead_L2 (fu + 1) a b k = true := by rw [m_isAhead_L2, if_neg (Nat.not_le.mpr c5), if_neg c24, if_pos c28, if_neg c33, if_neg (Nat.not_le.mpr c39)]
              refine n_zret hC dX3_isAhead_47 (by decide) (Nat.le_of_ble_eq_true rfl) (Nat.le_of_ble_eq_true rfl) ?_
              rw [eq_]
              exact ⟨rfl, rfl, rfl⟩
set_option maxRecDepth 100000 in
set_option maxHeartbeats 4000000 in
theorem t_m_isAhead (l : Launch) (D : va_G) (N0 : Nat) (kA : Nat → ClassId) (h : hT) (n : Nat) (a : Nat) (b : Nat) (ha : a < 2 ^ 31) (hb : b < 2 ^ 31) : nE l yX3_isAhead cX3_isAhead 5 (some .boolean) D N0 kA 1 0 0 [.int (nI a), .int (nI b)] (h) n (nX (some (.int (bI (m_isAhead a b)))) (h) n) := by
  refine nE_of (by decide) (Nat.le_of_ble_eq_true rfl) ?_
  intro p e s m args below meth c hC hnm
  refine n_loc (L' := [(0, .int (nI a)), (1, .int (nI b))]) rfl ?_
  refine n_iconst (v := (nI 0)) hC dX3_isAhead_0 (by decide) ?_
  refine n_istore_n (L' := [(0, .int (nI a)), (1, .int (nI b)), (2, .int (nI 0))]) hC dX3_isAhead_1 (by decide) rfl ?_
  rw [show m_isAhead a b = m_isAhead_L2 7 a b 0 from by rw [m_isAhead]]
  exact t_m_isAhead_L2 hC ha hb 7 0 (by omega) (by omega)
/-- the i-th of n figures of eight -/
def fig (code n i : Nat) : Nat := code / 2 ^ (3 * (n - 1 - i)) % 8
theorem fig_lt (code n i : Nat) : fig code n i < 8 := Nat.mod_lt _ (by decide)
theorem fig_sh : ∀ j, j < 11 → (((nI (3 * j)) &&& 31).toBitVec.smod 32).toNat = 3 * j := by decide +kernel
theorem fig_eq {code n i : Nat} (hc : code < 2 ^ 31) (hn : n ≤ 4) : (((nI code) >>> ((nI (3 * ((n - 1) - i))) &&& 31)) &&& (nI 7)) = nI (fig code n i) := by
  rw [pk_shrN hc _ (3 * (n - 1 - i)) (fig_sh _ (by omega)), pk_andN (by have := Nat.div_le_self code (2 ^ (3 * (n - 1 - i))); omega) 3 (by decide)]
  rfl
def m_figure (code : Nat) (z : Nat) (i : Nat) : Nat := fig code z i
theorem bX3_figure : nBS yX3_figure cX3_figure 3 (some .int) 3 := ⟨q1041, q55, q1042, by decide, by decide +kernel⟩
set_option maxRecDepth 100000 in
set_option maxHeartbeats 4000000 in
theorem t_m_figure (l : Launch) (D : va_G) (N0 : Nat) (kA : Nat → ClassId) (h : hT) (n : Nat) (code : Nat) (z : Nat) (i : Nat) (hc : code < 2 ^ 31) (hn4 : z ≤ 4) (hi : i < z) : nE l yX3_figure cX3_figure 3 (some .int) D N0 kA 0 0 0 [.int (nI code), .int (nI z), .int (nI i)] (h) n (nX (some (.int (nI (m_figure code z i)))) (h) n) := by
  refine nE_of (by decide) (Nat.le_of_ble_eq_true rfl) ?_
  intro p e s m args below meth c hC hnm
  refine n_loc (L' := [(0, .int (nI code)), (1, .int (nI z)), (2, .int (nI i))]) rfl ?_
  refine n_iload_n hC dX3_figure_0 rfl ?_
  refine n_iconst (v := (nI 3)) hC dX3_figure_1 (by decide) ?_
  refine n_iload_n hC dX3_figure_2 rfl ?_
  refine n_iconst (v := (nI 1)) hC dX3_figure_3 (by decide) ?_
  refine n_isubN hC (by omega) dX3_figure_4 ?_
  refine n_iload_n hC dX3_figure_5 rfl ?_
  refine n_isubN hC (by omega) dX3_figure_6 ?_
  refine n_imulN hC dX3_figure_7 ?_
  refine n_ishr hC dX3_figure_8 ?_
  refine n_bipush (v := (nI 7)) hC dX3_figure_9 (by decide) ?_
  refine n_iand hC dX3_figure_11 ?_
  refine n_top (fig code z i) (fig_eq hc hn4) ?_
  have eq_ : m_figure code z i = fig code z i := by rw [m_figure]
  refine n_iret hC dX3_figure_12 (Nat.le_of_ble_eq_true rfl) (Nat.le_of_ble_eq_true rfl) ?_
  rw [eq_]
  exact ⟨rfl, rfl, rfl⟩
/-- what the rates name -/
def mRa (M : MS) : Prop := mN M 7 ≤ 8 ∧ ∀ r, r < 8 → mB M 8 r < 6 ∧ mB M 9 r < 6 ∧ mB M 10 r ≤ 20 ∧ mB M 11 r ≤ 20
theorem mfig_lt (code z i : Nat) : m_figure code z i < 8 := fig_lt code z i
def m_isRow_L5 : Nat → MS → Nat → Nat → Int32 → Nat → Bool
  | 0, _, _, _, _, _ => false
  | fu + 1, M, code, z, r, i => (if z ≤ i then true else (if (mN M 7) ≤ (m_figure code z i) then false else (if (mN M 7) ≤ (m_figure code z ((i + 1) % z)) then false else (if (mB M 9 (m_figure code z i)) ≠ (mB M 8 (m_figure code z ((i + 1) % z))) then false else (if (m_has r (mB M 8 (m_figure code z i))) = true then false else m_isRow_L5 fu M code z (r ||| ((nI 1) <<< ((nI (mB M 8 (m_figure code z i))) &&& 31))) (i + 1))))))
def m_isRow (M : MS) (code : Nat) (z : Nat) : Bool := m_isRow_L5 (z + 1) M code z (nI 0) 0
theorem bX3_isRow : nBV RX3 yX3_isRow cX3_isRow 7 (some .boolean) 2 := ⟨q1038, qs47, q55, q1039, by decide, by decide +kernel⟩
set_option maxRecDepth 100000 in
set_option maxHeartbeats 4000000 in
theorem t_m_isRow_L5 {p : Program} {l : Launch} {e : Env} {s : State} {m : MethodId} {args : Array Value} {below : List Frame} {meth : Method} {c : Code} {D : va_G} {N0 : Nat} {kA : Nat → ClassId} {mb : Nat} {hs : hT} {M : MS} {n : Nat} (hn : mb + 28 < n) {code : Nat} {z : Nat} (hC : nC p s m args meth c RX3 cX3_isRow 7 (some .boolean) true D N0 kA) (hcd : code < 2 ^ 31) (hz : z ≤ 4) (hr : mRa M) : ∀ (fu : Nat) (r : Int32) (i : Nat) (hi : i ≤ z) (hf : z < i + fu), nW p l e (nRm 1 0 0) s m args below meth c (nQ below (nX (some (.int (bI (m_isRow_L5 fu M code z r i)))) (mH N0 mb kA hs M) n) D N0 s 0 0) D N0 7 5 [(0, .ref (N0 + mb)), (1, .int (nI code)), (2, .int (nI z)), (3, .int r), (4, .int (nI i))] [] (mH N0 mb kA hs M) n 0 0 := by
  intro fu
  induction fu with
  | zero =>
    intro r i hi hf
    exfalso; omega
  | succ fu ih =>
    intro r i hi hf
    have hr1 := hr.1
    have hr2 := hr.2
    refine n_iload hC dX3_isRow_5 rfl ?_
    refine n_iload_n hC dX3_isRow_7 rfl ?_
    refine n_icmp_geN (tgt := 102) hC i z rfl rfl (by omega) (by omega) dX3_isRow_8 (by decide) (fun c8 => ?_) (fun c8 => ?_)
    · refine n_iconst (v := (nI 1)) hC dX3_isRow_102 (by decide) ?_
      have eq_ : m_isRow_L5 (fu + 1) M code z r i = true := by rw [m_isRow_L5, if_pos c8]
      refine n_zret hC dX3_isRow_103 (by decide) (Nat.le_of_ble_eq_true rfl) (Nat.le_of_ble_eq_true rfl) ?_
      rw [eq_]
      exact ⟨rfl, rfl, rfl⟩
    · refine n_iload_n hC dX3_isRow_11 rfl ?_
      refine n_iload_n hC dX3_isRow_12 rfl ?_
      refine n_iload hC dX3_isRow_13 rfl ?_
      refine n_callS1 hC (As := [.int (nI code), .int (nI z), .int (nI i)]) (rest := []) bX3_figure (t_m_figure l D N0 kA (mH N0 mb kA hs M) n code z i (by omega) (by omega) (by omega)) (by decide) (by decide) q1040 rfl (Nat.le_of_ble_eq_true rfl) dX3_isRow_15 (Nat.le_of_ble_eq_true rfl) (Nat.le_of_ble_eq_true rfl) ?_
      refine n_stk (st' := [.int (nI (m_figure code z i))]) rfl ?_
      have f1 := mfig_lt code z i
      have g1 := hr2 _ f1
      refine n_istore (L' := [(0, .ref (N0 + mb)), (1, .int (nI code)), (2, .int (nI z)), (3, .int r), (4, .int (nI i)), (5, .int (nI (m_figure code z i)))]) hC dX3_isRow_18 (by decide) rfl ?_
      refine n_iload_n hC dX3_isRow_20 rfl ?_
      refine n_iload_n hC dX3_isRow_21 rfl ?_
      refine n_iload hC dX3_isRow_22 rfl ?_
      refine n_iconst (v := (nI 1)) hC dX3_isRow_24 (by decide) ?_
      refine n_iaddN hC dX3_isRow_25 ?_
      refine n_iload_n hC dX3_isRow_26 rfl ?_
      refine n_iremN hC (by omega) (by omega) (by omega) dX3_isRow_27 ?_
      refine n_callS1 hC (As := [.int (nI code), .int (nI z), .int (nI ((i + 1) % z))]) (rest := []) bX3_figure (t_m_figure l D N0 kA (mH N0 mb kA hs M) n code z ((i + 1) % z) (by omega) (by omega) (Nat.mod_lt _ (by omega))) (by decide) (by decide) q1040 rfl (Nat.le_of_ble_eq_true rfl) dX3_isRow_28 (Nat.le_of_ble_eq_true rfl) (Nat.le_of_ble_eq_true rfl) ?_
      refine n_stk (st' := [.int (nI (m_figure code z ((i + 1) % z)))]) rfl ?_
      have f2 := mfig_lt code z ((i + 1) % z)
      have g2 := hr2 _ f2
      refine n_istore (L' := [(0, .ref (N0 + mb)), (1, .int (nI code)), (2, .int (nI z)), (3, .int r), (4, .int (nI i)), (5, .int (nI (m_figure code z i))), (6, .int (nI (m_figure code z ((i + 1) % z))))]) hC dX3_isRow_31 (by decide) rfl ?_
      refine n_iload hC dX3_isRow_33 rfl ?_
      refine n_aload_n hC dX3_isRow_35 rfl ?_
      refine n_get hC cl3 (k := 7) (v := .int (nI (mN M 7))) mc_o (by omega) (by decide) q687 (mf_get N0 mb M (by decide)) dX3_isRow_36 ?_
      refine n_icmp_geN (tgt := 82) hC (m_figure code z i) (mN M 7) rfl rfl (by omega) (by omega) dX3_isRow_39 (by decide) (fun c39 => ?_) (fun c39 => ?_)
      · refine n_iconst (v := (nI 0)) hC dX3_isRow_82 (by decide) ?_
        have eq_ : m_isRow_L5 (fu + 1) M code z r i = false := by rw [m_isRow_L5, if_neg (Nat.not_le.mpr c8), if_pos c39]
        refine n_zret hC dX3_isRow_83 (by decide) (Nat.le_of_ble_eq_true rfl) (Nat.le_of_ble_eq_true rfl) ?_
        rw [eq_]
        exact ⟨rfl, rfl, rfl⟩
      · refine n_iload hC dX3_isRow_42 rfl ?_
        refine n_aload_n hC dX3_isRow_44 rfl ?_
        refine n_get hC cl3 (k := 7) (v := .int (nI (mN M 7))) mc_o (by omega) (by decide) q687 (mf_get N0 mb M (by decide)) dX3_isRow_45 ?_
        refine n_icmp_geN (tgt := 82) hC (m_figure code z ((i + 1) % z)) (mN M 7) rfl rfl (by omega) (by omega) dX3_isRow_48 (by decide) (fun c48 => ?_) (fun c48 => ?_)
        · refine n_iconst (v := (nI 0)) hC dX3_isRow_82 (by decide) ?_
          have eq_ : m_isRow_L5 (fu + 1) M code z r i = false := by rw [m_isRow_L5, if_neg (Nat.not_le.mpr c8), if_neg (Nat.not_le.mpr c39), if_pos c48]
          refine n_zret hC dX3_isRow_83 (by decide) (Nat.le_of_ble_eq_true rfl) (Nat.le_of_ble_eq_true rfl) ?_
          rw [eq_]
          exact ⟨rfl, rfl, rfl⟩
        · refine n_aload_n hC dX3_isRow_51 rfl ?_
          refine n_get hC cl3 (k := 9) (v := .ref (N0 + (mb + 7))) mc_o (by omega) (by decide) q689 (mf_get N0 mb M (by decide)) dX3_isRow_52 ?_
          refine n_iload hC dX3_isRow_55 rfl ?_
          refine n_iald hC (f := fun j => nI (mB M 9 j)) (mc_a (p := 7) (by decide) (by decide)) (by omega) (m_figure code z i) rfl (by omega) (by decide) dX3_isRow_57 ?_
          refine n_aload_n hC dX3_isRow_58 rfl ?_
          refine n_get hC cl3 (k := 8) (v := .ref (N0 + (mb + 6))) mc_o (by omega) (by decide) q688 (mf_get N0 mb M (by decide)) dX3_isRow_59 ?_
          refine n_iload hC dX3_isRow_62 rfl ?_
          refine n_iald hC (f := fun j => nI (mB M 8 j)) (mc_a (p := 6) (by decide) (by decide)) (by omega) (m_figure code z ((i + 1) % z)) rfl (by omega) (by decide) dX3_isRow_64 ?_
          refine n_icmp_neN (tgt := 82) hC (mB M 9 (m_figure code z i)) (mB M 8 (m_figure code z ((i + 1) % z))) rfl rfl (by omega) (by omega) dX3_isRow_65 (by decide) (fun c65 => ?_) (fun c65 => ?_)
          · refine n_iconst (v := (nI 0)) hC dX3_isRow_82 (by decide) ?_
            have eq_ : m_isRow_L5 (fu + 1) M code z r i = false := by rw [m_isRow_L5, if_neg (Nat.not_le.mpr c8), if_neg (Nat.not_le.mpr c39), if_neg (Nat.not_le.mpr c48), if_pos c65]
            refine n_zret hC dX3_isRow_83 (by decide) (Nat.le_of_ble_eq_true rfl) (Nat.le_of_ble_eq_true rfl) ?_
            rw [eq_]
            exact ⟨rfl, rfl, rfl⟩
          · refine n_iload_n hC dX3_isRow_68 rfl ?_
            refine n_aload_n hC dX3_isRow_69 rfl ?_
            refine n_get hC cl3 (k := 8) (v := .ref (N0 + (mb + 6))) mc_o (by omega) (by decide) q688 (mf_get N0 mb M (by decide)) dX3_isRow_70 ?_
            refine n_iload hC dX3_isRow_73 rfl ?_
            refine n_iald hC (f := fun j => nI (mB M 8 j)) (mc_a (p := 6) (by decide) (by decide)) (by omega) (m_figure code z i) rfl (by omega) (by decide) dX3_isRow_75 ?_
            refine n_callS1 hC (As := [.int r, .int (nI (mB M 8 (m_figure code z i)))]) (rest := []) bX3_has (t_m_has l D N0 kA (mH N0 mb kA hs M) n r (mB M 8 (m_figure code z i)) ) (by decide) (by decide) q906 rfl (Nat.le_of_ble_eq_true rfl) dX3_isRow_76 (Nat.le_of_ble_eq_true rfl) (Nat.le_of_ble_eq_true rfl) ?_
            refine n_stk (st' := [.int (bI (m_has r (mB M 8 (m_figure code z i))))]) rfl ?_
            refine n_if_eqB (tgt := 84) hC dX3_isRow_79 (by decide) (fun c79 => ?_) (fun c79 => ?_)
            · refine n_iload_n hC dX3_isRow_84 rfl ?_
              refine n_iconst (v := (nI 1)) hC dX3_isRow_85 (by decide) ?_
              refine n_aload_n hC dX3_isRow_86 rfl ?_
              refine n_get hC cl3 (k := 8) (v := .ref (N0 + (mb + 6))) mc_o (by omega) (by decide) q688 (mf_get N0 mb M (by decide)) dX3_isRow_87 ?_
              refine n_iload hC dX3_isRow_90 rfl ?_
              refine n_iald hC (f := fun j => nI (mB M 8 j)) (mc_a (p := 6) (by decide) (by decide)) (by omega) (m_figure code z i) rfl (by omega) (by decide) dX3_isRow_92 ?_
              refine n_ishl hC dX3_isRow_93 ?_
              refine n_ior hC dX3_isRow_94 ?_
              refine n_istore_n (L' := [(0, .ref (N0 + mb)), (1, .int (nI code)), (2, .int (nI z)), (3, .int (r ||| ((nI 1) <<< ((nI (mB M 8 (m_figure code z i))) &&& 31)))), (4, .int (nI i)), (5, .int (nI (m_figure code z i))), (6, .int (nI (m_figure code z ((i + 1) % z))))]) hC dX3_isRow_95 (by decide) rfl ?_
              refine n_iincN (a := i) (L' := [(0, .ref (N0 + mb)), (1, .int (nI code)), (2, .int (nI z)), (3, .int (r ||| ((nI 1) <<< ((nI (mB M 8 (m_figure code z i))) &&& 31)))), (4, .int (nI (i + 1))), (5, .int (nI (m_figure code z i))), (6, .int (nI (m_figure code z ((i + 1) % z))))]) hC dX3_isRow_96 rfl (by decide) rfl ?_
              refine n_goto (tgt := 5) hC dX3_isRow_99 (by decide) ?_
              refine n_drop [0, 1, 2, 3, 4] (L' := [(0, .ref (N0 + mb)), (1, .int (nI code)), (2, .int (nI z)), (3, .int (r ||| ((nI 1) <<< ((nI (mB M 8 (m_figure code z i))) &&& 31)))), (4, .int (nI (i + 1)))]) rfl ?_
              rw [show m_isRow_L5 (fu + 1) M code z r i = m_isRow_L5 fu M code z (r ||| ((nI 1) <<< ((nI (mB M 8 (m_figure code z i))) &&& 31))) (i + 1) from by rw [m_isRow_L5, if_neg (Nat.not_le.mpr c8), if_neg (Nat.not_le.mpr c39), if_neg (Nat.not_le.mpr c48), if_neg (not_not_intro c65), if_neg (by rw [c79]; decide)]]
              exact ih (r ||| ((nI 1) <<< ((nI (mB M 8 (m_figure code z i))) &&& 31))) (i + 1) (by omega) (by omega)
            · refine n_iconst (v := (nI 0)) hC dX3_isRow_82 (by decide) ?_
              have eq_ : m_isRow_L5 (fu + 1) M code z r i = false := by rw [m_isRow_L5, if_neg (Nat.not_le.mpr c8), if_neg (Nat.not_le.mpr c39), if_neg (Nat.not_le.mpr c48), if_neg (not_not_intro c65), if_pos c79]
              refine n_zret hC dX3_isRow_83 (by decide) (Nat.le_of_ble_eq_true rfl) (Nat.le_of_ble_eq_true rfl) ?_
              rw [eq_]
              exact ⟨rfl, rfl, rfl⟩
set_option maxRecDepth 100000 in
set_option maxHeartbeats 4000000 in
theorem t_m_isRow (l : Launch) (D : va_G) (N0 : Nat) (kA : Nat → ClassId) (mb : Nat) (hs : hT) (M : MS) (n : Nat) (hn : mb + 28 < n) (code : Nat) (z : Nat) (hcd : code < 2 ^ 31) (hz : z ≤ 4) (hr : mRa M) : nE l yX3_isRow cX3_isRow 7 (some .boolean) D N0 kA 1 0 0 [.ref (N0 + mb), .int (nI code), .int (nI z)] (mH N0 mb kA hs M) n (nX (some (.int (bI (m_isRow M code z)))) (mH N0 mb kA hs M) n) := by
  refine nE_of (by decide) (Nat.le_of_ble_eq_true rfl) ?_
  intro p e s m args below meth c hC hnm
  refine n_loc (L' := [(0, .ref (N0 + mb)), (1, .int (nI code)), (2, .int (nI z))]) rfl ?_
  have hr1 := hr.1
  have hr2 := hr.2
  refine n_iconst (v := (nI 0)) hC dX3_isRow_0 (by decide) ?_
  refine n_istore_n (L' := [(0, .ref (N0 + mb)), (1, .int (nI code)), (2, .int (nI z)), (3, .int (nI 0))]) hC dX3_isRow_1 (by decide) rfl ?_
  refine n_iconst (v := (nI 0)) hC dX3_isRow_2 (by decide) ?_
  refine n_istore (L' := [(0, .ref (N0 + mb)), (1, .int (nI code)), (2, .int (nI z)), (3, .int (nI 0)), (4, .int (nI 0))]) hC dX3_isRow_3 (by decide) rfl ?_
  rw [show m_isRow M code z = m_isRow_L5 (z + 1) M code z (nI 0) 0 from by rw [m_isRow]]
  exact t_m_isRow_L5 hn hC hcd hz hr (z + 1) (nI 0) 0 (by omega) (by omega)
def m_gains_L9 : Nat → MS → Nat → Nat → Int32 → Int64 → Int64 → Nat → Bool
  | 0, _, _, _, _, _, _, _ => false
  | fu + 1, M, code, z, w, u, v, i => (if z ≤ i then (if (lg_cmp v u) ≤ 0 then false else true) else (if (nI (m_figure code z i)) = w then (if (mB M 11 (m_figure code z i)) ≤ 1 then m_gains_L9 fu M code z w (u * ((nI (mB M 10 (m_figure code z i))).toInt64)) (v * ((nI (mB M 11 (m_figure code z i))).toInt64)) (i + 1) else m_gains_L9 fu M code z w (u * ((nI (mB M 10 (m_figure code z i))).toInt64)) (v * (((nI (mB M 11 (m_figure code z i))) - (nI 1)).toInt64)) (i + 1)) else m_gains_L9 fu M code z w (u * ((nI (mB M 10 (m_figure code z i))).toInt64)) (v * ((nI (mB M 11 (m_figure code z i))).toInt64)) (i + 1)))
def m_gains (M : MS) (code : Nat) (z : Nat) (w : Int32) : Bool := m_gains_L9 (z + 1) M code z w 1 1 0
theorem bX3_gains : nBV RX3 yX3_gains cX3_gains 10 (some .boolean) 3 := ⟨q1045, qs48, q55, q1046, by decide, by decide +kernel⟩
set_option maxRecDepth 100000 in
set_option maxHeartbeats 4000000 in
theorem t_m_gains_L9 {p : Program} {l : Launch} {e : Env} {s : State} {m : MethodId} {args : Array Value} {below : List Frame} {meth : Method} {c : Code} {D : va_G} {N0 : Nat} {kA : Nat → ClassId} {mb : Nat} {hs : hT} {M : MS} {n : Nat} (hn : mb + 28 < n) {code : Nat} {z : Nat} {w : Int32} (hC : nC p s m args meth c RX3 cX3_gains 10 (some .boolean) true D N0 kA) (hcd : code < 2 ^ 31) (hz : z ≤ 4) (hr : mRa M) : ∀ (fu : Nat) (u : Int64) (v : Int64) (i : Nat) (hi : i ≤ z) (hf : z < i + fu), nW p l e (nRm 1 0 0) s m args below meth c (nQ below (nX (some (.int (bI (m_gains_L9 fu M code z w u v i)))) (mH N0 mb kA hs M) n) D N0 s 0 0) D N0 10 9 [(0, .ref (N0 + mb)), (1, .int (nI code)), (2, .int (nI z)), (3, .int w), (4, .long u), (6, .long v), (8, .int (nI i))] [] (mH N0 mb kA hs M) n 0 0 := by
  intro fu
  induction fu with
  | zero =>
    intro u v i hi hf
    exfalso; omega
  | succ fu ih =>
    intro u v i hi hf
    have hr2 := hr.2
    refine n_iload hC dX3_gains_9 rfl ?_
    refine n_iload_n hC dX3_gains_11 rfl ?_
    refine n_icmp_geN (tgt := 86) hC i z rfl rfl (by omega) (by omega) dX3_gains_12 (by decide) (fun c12 => ?_) (fun c12 => ?_)
    · refine n_lload hC dX3_gains_86 rfl ?_
      refine n_lload hC dX3_gains_88 rfl ?_
      refine n_lcmp hC dX3_gains_90 ?_
      refine n_if_le (tgt := 98) hC dX3_gains_91 (by decide) (fun c91 => ?_) (fun c91 => ?_)
      · refine n_iconst (v := (nI 0)) hC dX3_gains_98 (by decide) ?_
        have eq_ : m_gains_L9 (fu + 1) M code z w u v i = false := by rw [m_gains_L9, if_pos c12, if_pos c91]
        refine n_zret hC dX3_gains_99 (by decide) (Nat.le_of_ble_eq_true rfl) (Nat.le_of_ble_eq_true rfl) ?_
        rw [eq_]
        exact ⟨rfl, rfl, rfl⟩
      · refine n_iconst (v := (nI 1)) hC dX3_gains_94 (by decide) ?_
        refine n_goto (tgt := 99) hC dX3_gains_95 (by decide) ?_
        have eq_ : m_gains_L9 (fu + 1) M code z w u v i = true := by rw [m_gains_L9, if_pos c12, if_neg c91]
        refine n_zret hC dX3_gains_99 (by decide) (Nat.le_of_ble_eq_true rfl) (Nat.le_of_ble_eq_true rfl) ?_
        rw [eq_]
        exact ⟨rfl, rfl, rfl⟩
    · refine n_iload_n hC dX3_gains_15 rfl ?_
      refine n_iload_n hC dX3_gains_16 rfl ?_
      refine n_iload hC dX3_gains_17 rfl ?_
      refine n_callS1 hC (As := [.int (nI code), .int (nI z), .int (nI i)]) (rest := []) bX3_figure (t_m_figure l D N0 kA (mH N0 mb kA hs M) n code z i (by omega) (by omega) (by omega)) (by decide) (by decide) q1040 rfl (Nat.le_of_ble_eq_true rfl) dX3_gains_19 (Nat.le_of_ble_eq_true rfl) (Nat.le_of_ble_eq_true rfl) ?_
      refine n_stk (st' := [.int (nI (m_figure code z i))]) rfl ?_
      have f1 := mfig_lt code z i
      have g1 := hr2 _ f1
      refine n_istore (L' := [(0, .ref (N0 + mb)), (1, .int (nI code)), (2, .int (nI z)), (3, .int w), (4, .long u), (6, .long v), (8, .int (nI i)), (9, .int (nI (m_figure code z i)))]) hC dX3_gains_22 (by decide) rfl ?_
      refine n_lload hC dX3_gains_24 rfl ?_
      refine n_aload_n hC dX3_gains_26 rfl ?_
      refine n_get hC cl3 (k := 10) (v := .ref (N0 + (mb + 8))) mc_o (by omega) (by decide) q690 (mf_get N0 mb M (by decide)) dX3_gains_27 ?_
      refine n_iload hC dX3_gains_30 rfl ?_
      refine n_iald hC (f := fun j => nI (mB M 10 j)) (mc_a (p := 8) (by decide) (by decide)) (by omega) (m_figure code z i) rfl (by omega) (by decide) dX3_gains_32 ?_
      refine n_i2l hC dX3_gains_33 ?_
      refine n_lmul hC dX3_gains_34 ?_
      refine n_lstore (L' := [(0, .ref (N0 + mb)), (1, .int (nI code)), (2, .int (nI z)), (3, .int w), (4, .long (u * ((nI (mB M 10 (m_figure code z i))).toInt64))), (6, .long v), (8, .int (nI i)), (9, .int (nI (m_figure code z i)))]) hC dX3_gains_35 (by decide) rfl ?_
      refine n_lload hC dX3_gains_37 rfl ?_
      refine n_iload hC dX3_gains_39 rfl ?_
      refine n_iload_n hC dX3_gains_41 rfl ?_
      refine n_icmp_ne (tgt := 69) hC dX3_gains_42 (by decide) (fun c42 => ?_) (fun c42 => ?_)
      · refine n_aload_n hC dX3_gains_69 rfl ?_
        refine n_get hC cl3 (k := 11) (v := .ref (N0 + (mb + 9))) mc_o (by omega) (by decide) q691 (mf_get N0 mb M (by decide)) dX3_gains_70 ?_
        refine n_iload hC dX3_gains_73 rfl ?_
        refine n_iald hC (f := fun j => nI (mB M 11 j)) (mc_a (p := 9) (by decide) (by decide)) (by omega) (m_figure code z i) rfl (by omega) (by decide) dX3_gains_75 ?_
        refine n_i2l hC dX3_gains_76 ?_
        refine n_lmul hC dX3_gains_77 ?_
        refine n_lstore (L' := [(0, .ref (N0 + mb)), (1, .int (nI code)), (2, .int (nI z)), (3, .int w), (4, .long (u * ((nI (mB M 10 (m_figure code z i))).toInt64))), (6, .long (v * ((nI (mB M 11 (m_figure code z i))).toInt64))), (8, .int (nI i)), (9, .int (nI (m_figure code z i)))]) hC dX3_gains_78 (by decide) rfl ?_
        refine n_iincN (a := i) (L' := [(0, .ref (N0 + mb)), (1, .int (nI code)), (2, .int (nI z)), (3, .int w), (4, .long (u * ((nI (mB M 10 (m_figure code z i))).toInt64))), (6, .long (v * ((nI (mB M 11 (m_figure code z i))).toInt64))), (8, .int (nI (i + 1))), (9, .int (nI (m_figure code z i)))]) hC dX3_gains_80 rfl (by decide) rfl ?_
        refine n_goto (tgt := 9) hC dX3_gains_83 (by decide) ?_
        refine n_drop [0, 1, 2, 3, 4, 5, 6] (L' := [(0, .ref (N0 + mb)), (1, .int (nI code)), (2, .int (nI z)), (3, .int w), (4, .long (u * ((nI (mB M 10 (m_figure code z i))).toInt64))), (6, .long (v * ((nI (mB M 11 (m_figure code z i))).toInt64))), (8, .int (nI (i + 1)))]) rfl ?_
        rw [show m_gains_L9 (fu + 1) M code z w u v i = m_gains_L9 fu M code z w (u * ((nI (mB M 10 (m_figure code z i))).toInt64)) (v * ((nI (mB M 11 (m_figure code z i))).toInt64)) (i + 1) from by rw [m_gains_L9, if_neg (Nat.not_le.mpr c12), if_neg c42]]
        exact ih (u * ((nI (mB M 10 (m_figure code z i))).toInt64)) (v * ((nI (mB M 11 (m_figure code z i))).toInt64)) (i + 1) (by omega) (by omega)
      · refine n_aload_n hC dX3_gains_45 rfl ?_
        refine n_get hC cl3 (k := 11) (v := .ref (N0 + (mb + 9))) mc_o (by omega) (by decide) q691 (mf_get N0 mb M (by decide)) dX3_gains_46 ?_
        refine n_iload hC dX3_gains_49 rfl ?_
        refine n_iald hC (f := fun j => nI (mB M 11 j)) (mc_a (p := 9) (by decide) (by decide)) (by omega) (m_figure code z i) rfl (by omega) (by decide) dX3_gains_51 ?_
        refine n_iconst (v := (nI 1)) hC dX3_gains_52 (by decide) ?_
        refine n_icmp_leN (tgt := 69) hC (mB M 11 (m_figure code z i)) 1 rfl rfl (by omega) (by omega) dX3_gains_53 (by decide) (fun c53 => ?_) (fun c53 => ?_)
        · refine n_aload_n hC dX3_gains_69 rfl ?_
          refine n_get hC cl3 (k := 11) (v := .ref (N0 + (mb + 9))) mc_o (by omega) (by decide) q691 (mf_get N0 mb M (by decide)) dX3_gains_70 ?_
          refine n_iload hC dX3_gains_73 rfl ?_
          refine n_iald hC (f := fun j => nI (mB M 11 j)) (mc_a (p := 9) (by decide) (by decide)) (by omega) (m_figure code z i) rfl (by omega) (by decide) dX3_gains_75 ?_
          refine n_i2l hC dX3_gains_76 ?_
          refine n_lmul hC dX3_gains_77 ?_
          refine n_lstore (L' := [(0, .ref (N0 + mb)), (1, .int (nI code)), (2, .int (nI z)), (3, .int w), (4, .long (u * ((nI (mB M 10 (m_figure code z i))).toInt64))), (6, .long (v * ((nI (mB M 11 (m_figure code z i))).toInt64))), (8, .int (nI i)), (9, .int (nI (m_figure code z i)))]) hC dX3_gains_78 (by decide) rfl ?_
          refine n_iincN (a := i) (L' := [(0, .ref (N0 + mb)), (1, .int (nI code)), (2, .int (nI z)), (3, .int w), (4, .long (u * ((nI (mB M 10 (m_figure code z i))).toInt64))), (6, .long (v * ((nI (mB M 11 (m_figure code z i))).toInt64))), (8, .int (nI (i + 1))), (9, .int (nI (m_figure code z i)))]) hC dX3_gains_80 rfl (by decide) rfl ?_
          refine n_goto (tgt := 9) hC dX3_gains_83 (by decide) ?_
          refine n_drop [0, 1, 2, 3, 4, 5, 6] (L' := [(0, .ref (N0 + mb)), (1, .int (nI code)), (2, .int (nI z)), (3, .int w), (4, .long (u * ((nI (mB M 10 (m_figure code z i))).toInt64))), (6, .long (v * ((nI (mB M 11 (m_figure code z i))).toInt64))), (8, .int (nI (i + 1)))]) rfl ?_
          rw [show m_gains_L9 (fu + 1) M code z w u v i = m_gains_L9 fu M code z w (u * ((nI (mB M 10 (m_figure code z i))).toInt64)) (v * ((nI (mB M 11 (m_figure code z i))).toInt64)) (i + 1) from by rw [m_gains_L9, if_neg (Nat.not_le.mpr c12), if_pos c42, if_pos c53]]
          exact ih (u * ((nI (mB M 10 (m_figure code z i))).toInt64)) (v * ((nI (mB M 11 (m_figure code z i))).toInt64)) (i + 1) (by omega) (by omega)
        · refine n_aload_n hC dX3_gains_56 rfl ?_
          refine n_get hC cl3 (k := 11) (v := .ref (N0 + (mb + 9))) mc_o (by omega) (by decide) q691 (mf_get N0 mb M (by decide)) dX3_gains_57 ?_
          refine n_iload hC dX3_gains_60 rfl ?_
          refine n_iald hC (f := fun j => nI (mB M 11 j)) (mc_a (p := 9) (by decide) (by decide)) (by omega) (m_figure code z i) rfl (by omega) (by decide) dX3_gains_62 ?_
          refine n_iconst (v := (nI 1)) hC dX3_gains_63 (by decide) ?_
          refine n_isub hC dX3_gains_64 ?_
          refine n_i2l hC dX3_gains_65 ?_
          refine n_goto (tgt := 77) hC dX3_gains_66 (by decide) ?_
          refine n_lmul hC dX3_gains_77 ?_
          refine n_lstore (L' := [(0, .ref (N0 + mb)), (1, .int (nI code)), (2, .int (nI z)), (3, .int w), (4, .long (u * ((nI (mB M 10 (m_figure code z i))).toInt64))), (6, .long (v * (((nI (mB M 11 (m_figure code z i))) - (nI 1)).toInt64))), (8, .int (nI i)), (9, .int (nI (m_figure code z i)))]) hC dX3_gains_78 (by decide) rfl ?_
          refine n_iincN (a := i) (L' := [(0, .ref (N0 + mb)), (1, .int (nI code)), (2, .int (nI z)), (3, .int w), (4, .long (u * ((nI (mB M 10 (m_figure code z i))).toInt64))), (6, .long (v * (((nI (mB M 11 (m_figure code z i))) - (nI 1)).toInt64))), (8, .int (nI (i + 1))), (9, .int (nI (m_figure code z i)))]) hC dX3_gains_80 rfl (by decide) rfl ?_
          refine n_goto (tgt := 9) hC dX3_gains_83 (by decide) ?_
          refine n_drop [0, 1, 2, 3, 4, 5, 6] (L' := [(0, .ref (N0 + mb)), (1, .int (nI code)), (2, .int (nI z)), (3, .int w), (4, .long (u * ((nI (mB M 10 (m_figure code z i))).toInt64))), (6, .long (v * (((nI (mB M 11 (m_figure code z i))) - (nI 1)).toInt64))), (8, .int (nI (i + 1)))]) rfl ?_
          rw [show m_gains_L9 (fu + 1) M code z w u v i = m_gains_L9 fu M code z w (u * ((nI (mB M 10 (m_figure code z i))).toInt64)) (v * (((nI (mB M 11 (m_figure code z i))) - (nI 1)).toInt64)) (i + 1) from by rw [m_gains_L9, if_neg (Nat.not_le.mpr c12), if_pos c42, if_neg (Nat.not_le.mpr c53)]]
          exact ih (u * ((nI (mB M 10 (m_figure code z i))).toInt64)) (v * (((nI (mB M 11 (m_figure code z i))) - (nI 1)).toInt64)) (i + 1) (by omega) (by omega)
set_option maxRecDepth 100000 in
set_option maxHeartbeats 4000000 in
theorem t_m_gains (l : Launch) (D : va_G) (N0 : Nat) (kA : Nat → ClassId) (mb : Nat) (hs : hT) (M : MS) (n : Nat) (hn : mb + 28 < n) (code : Nat) (z : Nat) (w : Int32) (hcd : code < 2 ^ 31) (hz : z ≤ 4) (hr : mRa M) : nE l yX3_gains cX3_gains 10 (some .boolean) D N0 kA 1 0 0 [.ref (N0 + mb), .int (nI code), .int (nI z), .int w] (mH N0 mb kA hs M) n (nX (some (.int (bI (m_gains M code z w)))) (mH N0 mb kA hs M) n) := by
  refine nE_of (by decide) (Nat.le_of_ble_eq_true rfl) ?_
  intro p e s m args below meth c hC hnm
  refine n_loc (L' := [(0, .ref (N0 + mb)), (1, .int (nI code)), (2, .int (nI z)), (3, .int w)]) rfl ?_
  have hr2 := hr.2
  refine n_lconst (v := 1) hC dX3_gains_0 (by decide) ?_
  refine n_lstore (L' := [(0, .ref (N0 + mb)), (1, .int (nI code)), (2, .int (nI z)), (3, .int w), (4, .long 1)]) hC dX3_gains_1 (by decide) rfl ?_
  refine n_lconst (v := 1) hC dX3_gains_3 (by decide) ?_
  refine n_lstore (L' := [(0, .ref (N0 + mb)), (1, .int (nI code)), (2, .int (nI z)), (3, .int w), (4, .long 1), (6, .long 1)]) hC dX3_gains_4 (by decide) rfl ?_
  refine n_iconst (v := (nI 0)) hC dX3_gains_6 (by decide) ?_
  refine n_istore (L' := [(0, .ref (N0 + mb)), (1, .int (nI code)), (2, .int (nI z)), (3, .int w), (4, .long 1), (6, .long 1), (8, .int (nI 0))]) hC dX3_gains_7 (by decide) rfl ?_
  rw [show m_gains M code z w = m_gains_L9 (z + 1) M code z w 1 1 0 from by rw [m_gains]]
  exact t_m_gains_L9 hn hC hcd hz hr (z + 1) 1 1 0 (by omega) (by omega)
def m_apartBy_L7 : Nat → MS → Nat → Int32 → Int32 → Nat → Int32
  | 0, _, _, _, _, _ => 0
  | fu + 1, M, code, r, u, k => (if 6 ≤ k then r else (if (m_lives M k) = true then (if (m_heirOf code k) = k then (-1) else (if (m_lives M (m_heirOf code k)) = true then (if (m_has u (m_heirOf code k)) = true then (-1) else m_apartBy_L7 fu M code (r + (m_apart (mA M 12 k) (mA M 12 (m_heirOf code k)))) (u ||| ((nI 1) <<< ((nI (m_heirOf code k)) &&& 31))) (k + 1)) else (-1))) else (if 0 < (m_heirOf code k) then (-1) else m_apartBy_L7 fu M code r u (k + 1))))
def m_apartBy (M : MS) (code : Nat) : Int32 := m_apartBy_L7 7 M code (nI 0) (nI 0) 0
theorem bX3_apartBy : nBV RX3 yX3_apartBy cX3_apartBy 6 (some .int) 1 := ⟨q1062, qs49, q55, q1063, by decide, by decide +kernel⟩
set_option maxRecDepth 100000 in
set_option maxHeartbeats 4000000 in
theorem t_m_apartBy_L7 {p : Program} {l : Launch} {e : Env} {s : State} {m : MethodId} {args : Array Value} {below : List Frame} {meth : Method} {c : Code} {D : va_G} {N0 : Nat} {kA : Nat → ClassId} {mb : Nat} {hs : hT} {M : MS} {n : Nat} (hn : mb + 28 < n) {code : Nat} (hC : nC p s m args meth c RX3 cX3_apartBy 6 (some .int) true D N0 kA) (hcd : code < 2 ^ 31) : ∀ (fu : Nat) (r : Int32) (u : Int32) (k : Nat) (hk : k ≤ 6) (hf : 6 < k + fu), nW p l e (nRm 2 0 0) s m args below meth c (nQ below (nX (some (.int (m_apartBy_L7 fu M code r u k))) (mH N0 mb kA hs M) n) D N0 s 0 0) D N0 6 7 [(0, .ref (N0 + mb)), (1, .int (nI code)), (2, .int r), (3, .int u), (4, .int (nI k))] [] (mH N0 mb kA hs M) n 0 0 := by
  intro fu
  induction fu with
  | zero =>
    intro r u k hk hf
    exfalso; omega
  | succ fu ih =>
    intro r u k hk hf
    refine n_iload hC dX3_apartBy_7 rfl ?_
    refine n_bipush (v := (nI 6)) hC dX3_apartBy_9 (by decide) ?_
    refine n_icmp_geN (tgt := 98) hC k 6 rfl rfl (by omega) (by omega) dX3_apartBy_11 (by decide) (fun c11 => ?_) (fun c11 => ?_)
    · refine n_iload_n hC dX3_apartBy_98 rfl ?_
      have eq_ : m_apartBy_L7 (fu + 1) M code r u k = r := by rw [m_apartBy_L7, if_pos c11]
      refine n_iret hC dX3_apartBy_99 (Nat.le_of_ble_eq_true rfl) (Nat.le_of_ble_eq_true rfl) ?_
      rw [eq_]
      exact ⟨rfl, rfl, rfl⟩
    · refine n_iload_n hC dX3_apartBy_14 rfl ?_
      refine n_iload hC dX3_apartBy_15 rfl ?_
      refine n_callS1 hC (As := [.int (nI code), .int (nI k)]) (rest := []) bX3_heirOf (t_m_heirOf l D N0 kA (mH N0 mb kA hs M) n code k (by omega) (by omega)) (by decide) (by decide) q1064 rfl (Nat.le_of_ble_eq_true rfl) dX3_apartBy_17 (Nat.le_of_ble_eq_true rfl) (Nat.le_of_ble_eq_true rfl) ?_
      refine n_stk (st' := [.int (nI (m_heirOf code k))]) rfl ?_
      have f1 := m_heirOf_lt code k
      refine n_istore (L' := [(0, .ref (N0 + mb)), (1, .int (nI code)), (2, .int r), (3, .int u), (4, .int (nI k)), (5, .int (nI (m_heirOf code k)))]) hC dX3_apartBy_20 (by decide) rfl ?_
      refine n_aload_n hC dX3_apartBy_22 rfl ?_
      refine n_iload hC dX3_apartBy_23 rfl ?_
      refine n_callV1 hC (As := [.int (nI k)]) (rest := []) mc_o (by omega) rfl bX3_lives (t_m_lives l D N0 kA mb hs M n hn k ) (by decide) (by decide) q902 rfl (Nat.le_of_ble_eq_true rfl) dX3_apartBy_25 (Nat.le_of_ble_eq_true rfl) (Nat.le_of_ble_eq_true rfl) ?_
      refine n_stk (st' := [.int (bI (m_lives M k))]) rfl ?_
      refine n_if_neB (tgt := 38) hC dX3_apartBy_28 (by decide) (fun c28 => ?_) (fun c28 => ?_)
      · refine n_iload hC dX3_apartBy_38 rfl ?_
        refine n_iload hC dX3_apartBy_40 rfl ?_
        refine n_icmp_eqN (tgt := 63) hC (m_heirOf code k) k rfl rfl (by omega) (by omega) dX3_apartBy_42 (by decide) (fun c42 => ?_) (fun c42 => ?_)
        · refine n_iconst (v := (-1)) hC dX3_apartBy_63 (by decide) ?_
          have eq_ : m_apartBy_L7 (fu + 1) M code r u k = (-1) := by rw [m_apartBy_L7, if_neg (Nat.not_le.mpr c11), if_pos c28, if_pos c42]
          refine n_iret hC dX3_apartBy_64 (Nat.le_of_ble_eq_true rfl) (Nat.le_of_ble_eq_true rfl) ?_
          rw [eq_]
          exact ⟨rfl, rfl, rfl⟩
        · refine n_aload_n hC dX3_apartBy_45 rfl ?_
          refine n_iload hC dX3_apartBy_46 rfl ?_
          refine n_callV1 hC (As := [.int (nI (m_heirOf code k))]) (rest := []) mc_o (by omega) rfl bX3_lives (t_m_lives l D N0 kA mb hs M n hn (m_heirOf code k) ) (by decide) (by decide) q902 rfl (Nat.le_of_ble_eq_true rfl) dX3_apartBy_48 (Nat.le_of_ble_eq_true rfl) (Nat.le_of_ble_eq_true rfl) ?_
          refine n_stk (st' := [.int (bI (m_lives M (m_heirOf code k)))]) rfl ?_
          refine n_if_eqB (tgt := 63) hC dX3_apartBy_51 (by decide) (fun c51 => ?_) (fun c51 => ?_)
          · refine n_iconst (v := (-1)) hC dX3_apartBy_63 (by decide) ?_
            have eq_ : m_apartBy_L7 (fu + 1) M code r u k = (-1) := by rw [m_apartBy_L7, if_neg (Nat.not_le.mpr c11), if_pos c28, if_neg c42, if_neg (by rw [c51]; decide)]
            refine n_iret hC dX3_apartBy_64 (Nat.le_of_ble_eq_true rfl) (Nat.le_of_ble_eq_true rfl) ?_
            rw [eq_]
            exact ⟨rfl, rfl, rfl⟩
          · refine n_iload_n hC dX3_apartBy_54 rfl ?_
            refine n_iload hC dX3_apartBy_55 rfl ?_
            refine n_callS1 hC (As := [.int u, .int (nI (m_heirOf code k))]) (rest := []) bX3_has (t_m_has l D N0 kA (mH N0 mb kA hs M) n u (m_heirOf code k) ) (by decide) (by decide) q906 rfl (Nat.le_of_ble_eq_true rfl) dX3_apartBy_57 (Nat.le_of_ble_eq_true rfl) (Nat.le_of_ble_eq_true rfl) ?_
            refine n_stk (st' := [.int (bI (m_has u (m_heirOf code k)))]) rfl ?_
            refine n_if_eqB (tgt := 65) hC dX3_apartBy_60 (by decide) (fun c60 => ?_) (fun c60 => ?_)
            · refine n_iload_n hC dX3_apartBy_65 rfl ?_
              refine n_iconst (v := (nI 1)) hC dX3_apartBy_66 (by decide) ?_
              refine n_iload hC dX3_apartBy_67 rfl ?_
              refine n_ishl hC dX3_apartBy_69 ?_
              refine n_ior hC dX3_apartBy_70 ?_
              refine n_istore_n (L' := [(0, .ref (N0 + mb)), (1, .int (nI code)), (2, .int r), (3, .int (u ||| ((nI 1) <<< ((nI (m_heirOf code k)) &&& 31)))), (4, .int (nI k)), (5, .int (nI (m_heirOf code k)))]) hC dX3_apartBy_71 (by decide) rfl ?_
              refine n_iload_n hC dX3_apartBy_72 rfl ?_
              refine n_aload_n hC dX3_apartBy_73 rfl ?_
              refine n_get hC cl3 (k := 12) (v := .ref (N0 + (mb + 10))) mc_o (by omega) (by decide) q692 (mf_get N0 mb M (by decide)) dX3_apartBy_74 ?_
              refine n_iload hC dX3_apartBy_77 rfl ?_
              refine n_iald hC (f := mA M 12) (mc_a (p := 10) (by decide) (by decide)) (by omega) k rfl (by omega) (by decide) dX3_apartBy_79 ?_
              refine n_aload_n hC dX3_apartBy_80 rfl ?_
              refine n_get hC cl3 (k := 12) (v := .ref (N0 + (mb + 10))) mc_o (by omega) (by decide) q692 (mf_get N0 mb M (by decide)) dX3_apartBy_81 ?_
              refine n_iload hC dX3_apartBy_84 rfl ?_
              refine n_iald hC (f := mA M 12) (mc_a (p := 10) (by decide) (by decide)) (by omega) (m_heirOf code k) rfl (by omega) (by decide) dX3_apartBy_86 ?_
              refine n_callS1 hC (As := [.int (mA M 12 k), .int (mA M 12 (m_heirOf code k))]) (rest := [.int r]) bX3_apart (t_m_apart l D N0 kA (mH N0 mb kA hs M) n (mA M 12 k) (mA M 12 (m_heirOf code k)) ) (by decide) (by decide) q1067 rfl (Nat.le_of_ble_eq_true rfl) dX3_apartBy_87 (Nat.le_of_ble_eq_true rfl) (Nat.le_of_ble_eq_true rfl) ?_
              refine n_stk (st' := [.int (m_apart (mA M 12 k) (mA M 12 (m_heirOf code k))), .int r]) rfl ?_
              refine n_iadd hC dX3_apartBy_90 ?_
              refine n_istore_n (L' := [(0, .ref (N0 + mb)), (1, .int (nI code)), (2, .int (r + (m_apart (mA M 12 k) (mA M 12 (m_heirOf code k))))), (3, .int (u ||| ((nI 1) <<< ((nI (m_heirOf code k)) &&& 31)))), (4, .int (nI k)), (5, .int (nI (m_heirOf code k)))]) hC dX3_apartBy_91 (by decide) rfl ?_
              refine n_iincN (a := k) (L' := [(0, .ref (N0 + mb)), (1, .int (nI code)), (2, .int (r + (m_apart (mA M 12 k) (mA M 12 (m_heirOf code k))))), (3, .int (u ||| ((nI 1) <<< ((nI (m_heirOf code k)) &&& 31)))), (4, .int (nI (k + 1))), (5, .int (nI (m_heirOf code k)))]) hC dX3_apartBy_92 rfl (by decide) rfl ?_
              refine n_goto (tgt := 7) hC dX3_apartBy_95 (by decide) ?_
              refine n_drop [0, 1, 2, 3, 4] (L' := [(0, .ref (N0 + mb)), (1, .int (nI code)), (2, .int (r + (m_apart (mA M 12 k) (mA M 12 (m_heirOf code k))))), (3, .int (u ||| ((nI 1) <<< ((nI (m_heirOf code k)) &&& 31)))), (4, .int (nI (k + 1)))]) rfl ?_
              rw [show m_apartBy_L7 (fu + 1) M code r u k = m_apartBy_L7 fu M code (r + (m_apart (mA M 12 k) (mA M 12 (m_heirOf code k)))) (u ||| ((nI 1) <<< ((nI (m_heirOf code k)) &&& 31))) (k + 1) from by rw [m_apartBy_L7, if_neg (Nat.not_le.mpr c11), if_pos c28, if_neg c42, if_pos c51, if_neg (by rw [c60]; decide)]]
              exact ih (r + (m_apart (mA M 12 k) (mA M 12 (m_heirOf code k)))) (u ||| ((nI 1) <<< ((nI (m_heirOf code k)) &&& 31))) (k + 1) (by omega) (by omega)
            · refine n_iconst (v := (-1)) hC dX3_apartBy_63 (by decide) ?_
              have eq_ : m_apartBy_L7 (fu + 1) M code r u k = (-1) := by rw [m_apartBy_L7, if_neg (Nat.not_le.mpr c11), if_pos c28, if_neg c42, if_pos c51, if_pos c60]
              refine n_iret hC dX3_apartBy_64 (Nat.le_of_ble_eq_true rfl) (Nat.le_of_ble_eq_true rfl) ?_
              rw [eq_]
              exact ⟨rfl, rfl, rfl⟩
      · refine n_iload hC dX3_apartBy_31 rfl ?_
        refine n_if_leN (tgt := 92) hC (by omega) dX3_apartBy_33 (by decide) (fun c33 => ?_) (fun c33 => ?_)
        · refine n_iincN (a := k) (L' := [(0, .ref (N0 + mb)), (1, .int (nI code)), (2, .int r), (3, .int u), (4, .int (nI (k + 1))), (5, .int (nI (m_heirOf code k)))]) hC dX3_apartBy_92 rfl (by decide) rfl ?_
          refine n_goto (tgt := 7) hC dX3_apartBy_95 (by decide) ?_
          refine n_drop [0, 1, 2, 3, 4] (L' := [(0, .ref (N0 + mb)), (1, .int (nI code)), (2, .int r), (3, .int u), (4, .int (nI (k + 1)))]) rfl ?_
          rw [show m_apartBy_L7 (fu + 1) M code r u k = m_apartBy_L7 fu M code r u (k + 1) from by rw [m_apartBy_L7, if_neg (Nat.not_le.mpr c11), if_neg (by rw [c28]; decide), if_neg (by omega)]]
          exact ih r u (k + 1) (by omega) (by omega)
        · refine n_iconst (v := (-1)) hC dX3_apartBy_36 (by decide) ?_
          have eq_ : m_apartBy_L7 (fu + 1) M code r u k = (-1) := by rw [m_apartBy_L7, if_neg (Nat.not_le.mpr c11), if_neg (by rw [c28]; decide), if_pos c33]
          refine n_iret hC dX3_apartBy_37 (Nat.le_of_ble_eq_true rfl) (Nat.le_of_ble_eq_true rfl) ?_
          rw [eq_]
          exact ⟨rfl, rfl, rfl⟩
set_option maxRecDepth 100000 in
set_option maxHeartbeats 4000000 in
theorem t_m_apartBy (l : Launch) (D : va_G) (N0 : Nat) (kA : Nat → ClassId) (mb : Nat) (hs : hT) (M : MS) (n : Nat) (hn : mb + 28 < n) (code : Nat) (hcd : code < 2 ^ 31) : nE l yX3_apartBy cX3_apartBy 6 (some .int) D N0 kA 2 0 0 [.ref (N0 + mb), .int (nI code)] (mH N0 mb kA hs M) n (nX (some (.int (m_apartBy M code))) (mH N0 mb kA hs M) n) := by
  refine nE_of (by decide) (Nat.le_of_ble_eq_true rfl) ?_
  intro p e s m args below meth c hC hnm
  refine n_loc (L' := [(0, .ref (N0 + mb)), (1, .int (nI code))]) rfl ?_
  refine n_iconst (v := (nI 0)) hC dX3_apartBy_0 (by decide) ?_
  refine n_istore_n (L' := [(0, .ref (N0 + mb)), (1, .int (nI code)), (2, .int (nI 0))]) hC dX3_apartBy_1 (by decide) rfl ?_
  refine n_iconst (v := (nI 0)) hC dX3_apartBy_2 (by decide) ?_
  refine n_istore_n (L' := [(0, .ref (N0 + mb)), (1, .int (nI code)), (2, .int (nI 0)), (3, .int (nI 0))]) hC dX3_apartBy_3 (by decide) rfl ?_
  refine n_iconst (v := (nI 0)) hC dX3_apartBy_4 (by decide) ?_
  refine n_istore (L' := [(0, .ref (N0 + mb)), (1, .int (nI code)), (2, .int (nI 0)), (3, .int (nI 0)), (4, .int (nI 0))]) hC dX3_apartBy_5 (by decide) rfl ?_
  rw [show m_apartBy M code = m_apartBy_L7 7 M code (nI 0) (nI 0) 0 from by rw [m_apartBy]]
  exact t_m_apartBy_L7 hn hC hcd 7 (nI 0) (nI 0) 0 (by omega) (by omega)
def m_heirs_L54 : Nat → MS → Int32 → Int32 → Int32 → Nat → Int32 × Int32
  | 0, _, _, _, _, _ => (0, 0)
  | fu + 1, M, k, b, w, code => (if 46656 ≤ code then (b, w) else (if (m_apartBy M code) < 0 then m_heirs_L54 fu M k b w (code + 1) else (if w ≤ (m_apartBy M code) then m_heirs_L54 fu M k b w (code + 1) else m_heirs_L54 fu M k (nI code) (m_apartBy M code) (code + 1))))
def m_heirs (M : MS) (k : Int32) : Int32 := (if k = (-1) then (if (m_bits (mA M 12 18)) < (nI 2) then (-1) else ((m_heirs_L54 (46657 + mN M 0) M k (-1) (nI 1000000) 0).2)) else (if (m_isLimb M k) = true then (if (m_bits (mA M 12 18)) < (nI 2) then (-1) else (if (nI (cl k)) = (-1) then ((m_heirs_L54 (46657 + mN M 0) M k (-1) (nI 1000000) 0).2) else (if (m_lives M (cl k)) = true then (nI (m_heirOf (cl (m_heirs_L54 (46657 + mN M 0) M k (-1) (nI 1000000) 0).1) (cl k))) else (-1)))) else (-1000000001)))
theorem bX3_heirs : nBV RX3 yX3_heirs cX3_heirs 7 (some .int) 1 := ⟨q1052, q1053, q55, q1054, by decide, by decide +kernel⟩
set_option maxRecDepth 100000 in
set_option maxHeartbeats 4000000 in
theorem t_m_heirs_L54 {p : Program} {l : Launch} {e : Env} {s : State} {m : MethodId} {args : Array Value} {below : List Frame} {meth : Method} {c : Code} {Q : State → Prop} {D : va_G} {N0 : Nat} {kA : Nat → ClassId} {mb : Nat} {hs : hT} {M : MS} {n : Nat} (hn : mb + 28 < n) {k : Int32} (hC : nC p s m args meth c RX3 cX3_heirs 7 (some .int) true D N0 kA) (h0 : mN M 0 ≤ 6) : ∀ (fu : Nat) (b : Int32) (w : Int32) (code : Nat) (hi : code ≤ 46656) (hf : 46656 < code + fu) (hK : nW p l e (nRm 3 0 0) s m args below meth c Q D N0 7 118 [(0, .ref (N0 + mb)), (1, .int k), (2, .int ((m_heirs_L54 fu M k b w code).1)), (3, .int ((m_heirs_L54 fu M k b w code).2))] [] (mH N0 mb kA hs M) n 0 0), nW p l e (nRm 3 0 0) s m args below meth c Q D N0 7 54 [(0, .ref (N0 + mb)), (1, .int k), (2, .int b), (3, .int w), (4, .int (nI code))] [] (mH N0 mb kA hs M) n 0 0 := by
  intro fu
  induction fu with
  | zero =>
    intro b w code hi hf hK
    exfalso; omega
  | succ fu ih =>
    intro b w code hi hf hK
    refine n_iload hC dX3_heirs_54 rfl ?_
    refine n_ldcw hC dX3_heirs_56 q1059 ?_
    refine n_top 46656 (by decide) ?_
    refine n_icmp_geN (tgt := 118) hC code 46656 rfl rfl (by omega) (by omega) dX3_heirs_59 (by decide) (fun c59 => ?_) (fun c59 => ?_)
    · refine n_drop [0, 1, 2, 3] (L' := [(0, .ref (N0 + mb)), (1, .int k), (2, .int b), (3, .int w)]) rfl ?_
      rw [m_heirs_L54, if_pos c59] at hK
      exact hK
    · refine n_aload_n hC dX3_heirs_62 rfl ?_
      refine n_iload hC dX3_heirs_63 rfl ?_
      refine n_callV1 hC (As := [.int (nI code)]) (rest := []) mc_o (by omega) rfl bX3_apartBy (t_m_apartBy l D N0 kA mb hs M n hn code (by omega)) (by decide) (by decide) q1060 rfl (Nat.le_of_ble_eq_true rfl) dX3_heirs_65 (Nat.le_of_ble_eq_true rfl) (Nat.le_of_ble_eq_true rfl) ?_
      refine n_stk (st' := [.int (m_apartBy M code)]) rfl ?_
      refine n_istore (L' := [(0, .ref (N0 + mb)), (1, .int k), (2, .int b), (3, .int w), (4, .int (nI code)), (5, .int (m_apartBy M code))]) hC dX3_heirs_68 (by decide) rfl ?_
      refine n_iload hC dX3_heirs_70 rfl ?_
      refine n_if_lt (tgt := 85) hC dX3_heirs_72 (by decide) (fun c72 => ?_) (fun c72 => ?_)
      · refine n_iconst (v := (nI 0)) hC dX3_heirs_85 (by decide) ?_
        refine n_istore (L' := [(0, .ref (N0 + mb)), (1, .int k), (2, .int b), (3, .int w), (4, .int (nI code)), (5, .int (m_apartBy M code)), (6, .int (nI 0))]) hC dX3_heirs_86 (by decide) rfl ?_
        refine n_iload hC dX3_heirs_88 rfl ?_
        refine n_if_eqT (tgt := 98) hC dX3_heirs_90 (by decide) (by decide) ?_
        refine n_iload_n hC dX3_heirs_98 rfl ?_
        refine n_istore_n (L' := [(0, .ref (N0 + mb)), (1, .int k), (2, .int b), (3, .int w), (4, .int (nI code)), (5, .int (m_apartBy M code)), (6, .int (nI 0))]) hC dX3_heirs_99 (by decide) rfl ?_
        refine n_iload hC dX3_heirs_100 rfl ?_
        refine n_if_eqT (tgt := 110) hC dX3_heirs_102 (by decide) (by decide) ?_
        refine n_iload_n hC dX3_heirs_110 rfl ?_
        refine n_istore_n (L' := [(0, .ref (N0 + mb)), (1, .int k), (2, .int b), (3, .int w), (4, .int (nI code)), (5, .int (m_apartBy M code)), (6, .int (nI 0))]) hC dX3_heirs_111 (by decide) rfl ?_
        refine n_iincN (a := code) (L' := [(0, .ref (N0 + mb)), (1, .int k), (2, .int b), (3, .int w), (4, .int (nI (code + 1))), (5, .int (m_apartBy M code)), (6, .int (nI 0))]) hC dX3_heirs_112 rfl (by decide) rfl ?_
        refine n_goto (tgt := 54) hC dX3_heirs_115 (by decide) ?_
        refine n_drop [0, 1, 2, 3, 4] (L' := [(0, .ref (N0 + mb)), (1, .int k), (2, .int b), (3, .int w), (4, .int (nI (code + 1)))]) rfl ?_
        rw [m_heirs_L54, if_neg (Nat.not_le.mpr c59), if_pos c72] at hK
        exact ih b w (code + 1) (by omega) (by omega) hK
      · refine n_iload hC dX3_heirs_75 rfl ?_
        refine n_iload_n hC dX3_heirs_77 rfl ?_
        refine n_icmp_ge (tgt := 85) hC dX3_heirs_78 (by decide) (fun c78 => ?_) (fun c78 => ?_)
        · refine n_iconst (v := (nI 0)) hC dX3_heirs_85 (by decide) ?_
          refine n_istore (L' := [(0, .ref (N0 + mb)), (1, .int k), (2, .int b), (3, .int w), (4, .int (nI code)), (5, .int (m_apartBy M code)), (6, .int (nI 0))]) hC dX3_heirs_86 (by decide) rfl ?_
          refine n_iload hC dX3_heirs_88 rfl ?_
          refine n_if_eqT (tgt := 98) hC dX3_heirs_90 (by decide) (by decide) ?_
          refine n_iload_n hC dX3_heirs_98 rfl ?_
          refine n_istore_n (L' := [(0, .ref (N0 + mb)), (1, .int k), (2, .int b), (3, .int w), (4, .int (nI code)), (5, .int (m_apartBy M code)), (6, .int (nI 0))]) hC dX3_heirs_99 (by decide) rfl ?_
          refine n_iload hC dX3_heirs_100 rfl ?_
          refine n_if_eqT (tgt := 110) hC dX3_heirs_102 (by decide) (by decide) ?_
          refine n_iload_n hC dX3_heirs_110 rfl ?_
          refine n_istore_n (L' := [(0, .ref (N0 + mb)), (1, .int k), (2, .int b), (3, .int w), (4, .int (nI code)), (5, .int (m_apartBy M code)), (6, .int (nI 0))]) hC dX3_heirs_111 (by decide) rfl ?_
          refine n_iincN (a := code) (L' := [(0, .ref (N0 + mb)), (1, .int k), (2, .int b), (3, .int w), (4, .int (nI (code + 1))), (5, .int (m_apartBy M code)), (6, .int (nI 0))]) hC dX3_heirs_112 rfl (by decide) rfl ?_
          refine n_goto (tgt := 54) hC dX3_heirs_115 (by decide) ?_
          refine n_drop [0, 1, 2, 3, 4] (L' := [(0, .ref (N0 + mb)), (1, .int k), (2, .int b), (3, .int w), (4, .int (nI (code + 1)))]) rfl ?_
          rw [m_heirs_L54, if_neg (Nat.not_le.mpr c59), if_neg c72, if_pos c78] at hK
          exact ih b w (code + 1) (by omega) (by omega) hK
        · refine n_iconst (v := (nI 1)) hC dX3_heirs_81 (by decide) ?_
          refine n_goto (tgt := 86) hC dX3_heirs_82 (by decide) ?_
          refine n_istore (L' := [(0, .ref (N0 + mb)), (1, .int k), (2, .int b), (3, .int w), (4, .int (nI code)), (5, .int (m_apartBy M code)), (6, .int (nI 1))]) hC dX3_heirs_86 (by decide) rfl ?_
          refine n_iload hC dX3_heirs_88 rfl ?_
          refine n_if_eqF (tgt := 98) hC dX3_heirs_90 (by decide) (by decide) ?_
          refine n_iload hC dX3_heirs_93 rfl ?_
          refine n_goto (tgt := 99) hC dX3_heirs_95 (by decide) ?_
          refine n_istore_n (L' := [(0, .ref (N0 + mb)), (1, .int k), (2, .int (nI code)), (3, .int w), (4, .int (nI code)), (5, .int (m_apartBy M code)), (6, .int (nI 1))]) hC dX3_heirs_99 (by decide) rfl ?_
          refine n_iload hC dX3_heirs_100 rfl ?_
          refine n_if_eqF (tgt := 110) hC dX3_heirs_102 (by decide) (by decide) ?_
          refine n_iload hC dX3_heirs_105 rfl ?_
          refine n_goto (tgt := 111) hC dX3_heirs_107 (by decide) ?_
          refine n_istore_n (L' := [(0, .ref (N0 + mb)), (1, .int k), (2, .int (nI code)), (3, .int (m_apartBy M code)), (4, .int (nI code)), (5, .int (m_apartBy M code)), (6, .int (nI 1))]) hC dX3_heirs_111 (by decide) rfl ?_
          refine n_iincN (a := code) (L' := [(0, .ref (N0 + mb)), (1, .int k), (2, .int (nI code)), (3, .int (m_apartBy M code)), (4, .int (nI (code + 1))), (5, .int (m_apartBy M code)), (6, .int (nI 1))]) hC dX3_heirs_112 rfl (by decide) rfl ?_
          refine n_goto (tgt := 54) hC dX3_heirs_115 (by decide) ?_
          refine n_drop [0, 1, 2, 3, 4] (L' := [(0, .ref (N0 + mb)), (1, .int k), (2, .int (nI code)), (3, .int (m_apartBy M code)), (4, .int (nI (code + 1)))]) rfl ?_
          rw [m_heirs_L54, if_neg (Nat.not_le.mpr c59), if_neg c72, if_neg c78] at hK
          exact ih (nI code) (m_apartBy M code) (code + 1) (by omega) (by omega) hK
set_option maxRecDepth 100000 in
set_option maxHeartbeats 4000000 in
theorem t_m_heirs (l : Launch) (D : va_G) (N0 : Nat) (kA : Nat → ClassId) (mb : Nat) (hs : hT) (M : MS) (n : Nat) (hn : mb + 28 < n) (k : Int32) (h0 : mN M 0 ≤ 6) (hB : 0 ≤ (m_heirs_L54 (46657 + mN M 0) M k (-1) (nI 1000000) 0).1) : nE l yX3_heirs cX3_heirs 7 (some .int) D N0 kA 3 0 0 [.ref (N0 + mb), .int k] (mH N0 mb kA hs M) n (nX (some (.int (m_heirs M k))) (mH N0 mb kA hs M) n) := by
  refine nE_of (by decide) (Nat.le_of_ble_eq_true rfl) ?_
  intro p e s m args below meth c hC hnm
  refine n_loc (L' := [(0, .ref (N0 + mb)), (1, .int k)]) rfl ?_
  refine n_iload_n hC dX3_heirs_0 rfl ?_
  refine n_iconst (v := (-1)) hC dX3_heirs_1 (by decide) ?_
  refine n_icmp_eq (tgt := 16) hC dX3_heirs_2 (by decide) (fun c2 => ?_) (fun c2 => ?_)
  · refine n_aload_n hC dX3_heirs_16 rfl ?_
    refine n_get hC cl3 (k := 12) (v := .ref (N0 + (mb + 10))) mc_o (by omega) (by decide) q692 (mf_get N0 mb M (by decide)) dX3_heirs_17 ?_
    refine n_bipush (v := (nI 18)) hC dX3_heirs_20 (by decide) ?_
    refine n_iald hC (f := mA M 12) (mc_a (p := 10) (by decide) (by decide)) (by omega) 18 rfl (by omega) (by decide) dX3_heirs_22 ?_
    refine n_callS1 hC (As := [.int (mA M 12 18)]) (rest := []) bX3_bits (t_m_bits l D N0 kA (mH N0 mb kA hs M) n (mA M 12 18) ) (by decide) (by decide) q1055 rfl (Nat.le_of_ble_eq_true rfl) dX3_heirs_23 (Nat.le_of_ble_eq_true rfl) (Nat.le_of_ble_eq_true rfl) ?_
    refine n_stk (st' := [.int (m_bits (mA M 12 18))]) rfl ?_
    refine n_iconst (v := (nI 2)) hC dX3_heirs_26 (by decide) ?_
    refine n_icmp_lt (tgt := 43) hC dX3_heirs_27 (by decide) (fun c27 => ?_) (fun c27 => ?_)
    · refine n_iconst (v := (-1)) hC dX3_heirs_43 (by decide) ?_
      have eq_ : m_heirs M k = (-1) := by rw [m_heirs, if_pos c2, if_pos c27]
      refine n_iret hC dX3_heirs_44 (Nat.le_of_ble_eq_true rfl) (Nat.le_of_ble_eq_true rfl) ?_
      rw [eq_]
      exact ⟨rfl, rfl, rfl⟩
    · refine n_iload_n hC dX3_heirs_30 rfl ?_
      refine n_iconst (v := (-1)) hC dX3_heirs_31 (by decide) ?_
      refine n_icmp_eqT (tgt := 45) hC dX3_heirs_32 (by decide) c2 ?_
      refine n_iconst (v := (-1)) hC dX3_heirs_45 (by decide) ?_
      refine n_istore_n (L' := [(0, .ref (N0 + mb)), (1, .int k), (2, .int (-1))]) hC dX3_heirs_46 (by decide) rfl ?_
      refine n_ldcw hC dX3_heirs_47 q1058 ?_
      refine n_top 1000000 (by decide) ?_
      refine n_istore_n (L' := [(0, .ref (N0 + mb)), (1, .int k), (2, .int (-1)), (3, .int (nI 1000000))]) hC dX3_heirs_50 (by decide) rfl ?_
      refine n_iconst (v := (nI 0)) hC dX3_heirs_51 (by decide) ?_
      refine n_istore (L' := [(0, .ref (N0 + mb)), (1, .int k), (2, .int (-1)), (3, .int (nI 1000000)), (4, .int (nI 0))]) hC dX3_heirs_52 (by decide) rfl ?_
      refine t_m_heirs_L54 hn hC h0 (46657 + mN M 0) (-1) (nI 1000000) 0 (by omega) (by omega) ?_
      refine n_iload_n hC dX3_heirs_118 rfl ?_
      refine n_iconst (v := (-1)) hC dX3_heirs_119 (by decide) ?_
      refine n_icmp_neF (tgt := 127) hC dX3_heirs_120 (by decide) c2 ?_
      refine n_iload_n hC dX3_heirs_123 rfl ?_
      refine n_goto (tgt := 132) hC dX3_heirs_124 (by decide) ?_
      have eq_ : m_heirs M k = ((m_heirs_L54 (46657 + mN M 0) M k (-1) (nI 1000000) 0).2) := by rw [m_heirs, if_pos c2, if_neg c27]
      refine n_iret hC dX3_heirs_132 (Nat.le_of_ble_eq_true rfl) (Nat.le_of_ble_eq_true rfl) ?_
      rw [eq_]
      exact ⟨rfl, rfl, rfl⟩
  · refine n_aload_n hC dX3_heirs_5 rfl ?_
    refine n_iload_n hC dX3_heirs_6 rfl ?_
    refine n_callV1 hC (As := [.int k]) (rest := []) mc_o (by omega) rfl bX3_isLimb (t_m_isLimb l D N0 kA mb hs M n hn k ) (by decide) (by decide) q889 rfl (Nat.le_of_ble_eq_true rfl) dX3_heirs_7 (Nat.le_of_ble_eq_true rfl) (Nat.le_of_ble_eq_true rfl) ?_
    refine n_stk (st' := [.int (bI (m_isLimb M k))]) rfl ?_
    refine n_if_neB (tgt := 16) hC dX3_heirs_10 (by decide) (fun c10 => ?_) (fun c10 => ?_)
    · have hk := isLimb_nat h0 c10
      have hk2 := hk.2
      refine n_aload_n hC dX3_heirs_16 rfl ?_
      refine n_get hC cl3 (k := 12) (v := .ref (N0 + (mb + 10))) mc_o (by omega) (by decide) q692 (mf_get N0 mb M (by decide)) dX3_heirs_17 ?_
      refine n_bipush (v := (nI 18)) hC dX3_heirs_20 (by decide) ?_
      refine n_iald hC (f := mA M 12) (mc_a (p := 10) (by decide) (by decide)) (by omega) 18 rfl (by omega) (by decide) dX3_heirs_22 ?_
      refine n_callS1 hC (As := [.int (mA M 12 18)]) (rest := []) bX3_bits (t_m_bits l D N0 kA (mH N0 mb kA hs M) n (mA M 12 18) ) (by decide) (by decide) q1055 rfl (Nat.le_of_ble_eq_true rfl) dX3_heirs_23 (Nat.le_of_ble_eq_true rfl) (Nat.le_of_ble_eq_true rfl) ?_
      refine n_stk (st' := [.int (m_bits (mA M 12 18))]) rfl ?_
      refine n_iconst (v := (nI 2)) hC dX3_heirs_26 (by decide) ?_
      refine n_icmp_lt (tgt := 43) hC dX3_heirs_27 (by decide) (fun c27 => ?_) (fun c27 => ?_)
      · refine n_iconst (v := (-1)) hC dX3_heirs_43 (by decide) ?_
        have eq_ : m_heirs M k = (-1) := by rw [m_heirs, if_neg c2, if_pos c10, if_pos c27]
        refine n_iret hC dX3_heirs_44 (Nat.le_of_ble_eq_true rfl) (Nat.le_of_ble_eq_true rfl) ?_
        rw [eq_]
        exact ⟨rfl, rfl, rfl⟩
      · refine n_iload_n hC dX3_heirs_30 rfl ?_
        refine n_top (cl k) hk.1 ?_
        refine n_iconst (v := (-1)) hC dX3_heirs_31 (by decide) ?_
        refine n_icmp_eq (tgt := 45) hC dX3_heirs_32 (by decide) (fun c32 => ?_) (fun c32 => ?_)
        · refine n_iconst (v := (-1)) hC dX3_heirs_45 (by decide) ?_
          refine n_istore_n (L' := [(0, .ref (N0 + mb)), (1, .int k), (2, .int (-1))]) hC dX3_heirs_46 (by decide) rfl ?_
          refine n_ldcw hC dX3_heirs_47 q1058 ?_
          refine n_top 1000000 (by decide) ?_
          refine n_istore_n (L' := [(0, .ref (N0 + mb)), (1, .int k), (2, .int (-1)), (3, .int (nI 1000000))]) hC dX3_heirs_50 (by decide) rfl ?_
          refine n_iconst (v := (nI 0)) hC dX3_heirs_51 (by decide) ?_
          refine n_istore (L' := [(0, .ref (N0 + mb)), (1, .int k), (2, .int (-1)), (3, .int (nI 1000000)), (4, .int (nI 0))]) hC dX3_heirs_52 (by decide) rfl ?_
          refine t_m_heirs_L54 hn hC h0 (46657 + mN M 0) (-1) (nI 1000000) 0 (by omega) (by omega) ?_
          refine n_iload_n hC dX3_heirs_118 rfl ?_
          refine n_top (cl k) hk.1 ?_
          refine n_iconst (v := (-1)) hC dX3_heirs_119 (by decide) ?_
          refine n_icmp_neF (tgt := 127) hC dX3_heirs_120 (by decide) c32 ?_
          refine n_iload_n hC dX3_heirs_123 rfl ?_
          refine n_goto (tgt := 132) hC dX3_heirs_124 (by decide) ?_
          have eq_ : m_heirs M k = ((m_heirs_L54 (46657 + mN M 0) M k (-1) (nI 1000000) 0).2) := by rw [m_heirs, if_neg c2, if_pos c10, if_neg c27, if_pos c32]
          refine n_iret hC dX3_heirs_132 (Nat.le_of_ble_eq_true rfl) (Nat.le_of_ble_eq_true rfl) ?_
          rw [eq_]
          exact ⟨rfl, rfl, rfl⟩
        · refine n_aload_n hC dX3_heirs_35 rfl ?_
          refine n_iload_n hC dX3_heirs_36 rfl ?_
          refine n_top (cl k) hk.1 ?_
          refine n_callV1 hC (As := [.int (nI (cl k))]) (rest := []) mc_o (by omega) rfl bX3_lives (t_m_lives l D N0 kA mb hs M n hn (cl k) ) (by decide) (by decide) q902 rfl (Nat.le_of_ble_eq_true rfl) dX3_heirs_37 (Nat.le_of_ble_eq_true rfl) (Nat.le_of_ble_eq_true rfl) ?_
          refine n_stk (st' := [.int (bI (m_lives M (cl k)))]) rfl ?_
          refine n_if_neB (tgt := 45) hC dX3_heirs_40 (by decide) (fun c40 => ?_) (fun c40 => ?_)
          · refine n_iconst (v := (-1)) hC dX3_heirs_45 (by decide) ?_
            refine n_istore_n (L' := [(0, .ref (N0 + mb)), (1, .int k), (2, .int (-1))]) hC dX3_heirs_46 (by decide) rfl ?_
            refine n_ldcw hC dX3_heirs_47 q1058 ?_
            refine n_top 1000000 (by decide) ?_
            refine n_istore_n (L' := [(0, .ref (N0 + mb)), (1, .int k), (2, .int (-1)), (3, .int (nI 1000000))]) hC dX3_heirs_50 (by decide) rfl ?_
            refine n_iconst (v := (nI 0)) hC dX3_heirs_51 (by decide) ?_
            refine n_istore (L' := [(0, .ref (N0 + mb)), (1, .int k), (2, .int (-1)), (3, .int (nI 1000000)), (4, .int (nI 0))]) hC dX3_heirs_52 (by decide) rfl ?_
            refine t_m_heirs_L54 hn hC h0 (46657 + mN M 0) (-1) (nI 1000000) 0 (by omega) (by omega) ?_
            refine n_iload_n hC dX3_heirs_118 rfl ?_
            refine n_top (cl k) hk.1 ?_
            refine n_iconst (v := (-1)) hC dX3_heirs_119 (by decide) ?_
            refine n_icmp_neT (tgt := 127) hC dX3_heirs_120 (by decide) c32 ?_
            refine n_iload_n hC dX3_heirs_127 rfl ?_
            refine n_top (cl (m_heirs_L54 (46657 + mN M 0) M k (-1) (nI 1000000) 0).1) (nI_cl hB) ?_
            refine n_iload_n hC dX3_heirs_128 rfl ?_
            refine n_top (cl k) hk.1 ?_
            refine n_callS1 hC (As := [.int (nI (cl (m_heirs_L54 (46657 + mN M 0) M k (-1) (nI 1000000) 0).1)), .int (nI (cl k))]) (rest := []) bX3_heirOf (t_m_heirOf l D N0 kA (mH N0 mb kA hs M) n (cl (m_heirs_L54 (46657 + mN M 0) M k (-1) (nI 1000000) 0).1) (cl k) (cl_lt _) (by omega)) (by decide) (by decide) q1064 rfl (Nat.le_of_ble_eq_true rfl) dX3_heirs_129 (Nat.le_of_ble_eq_true rfl) (Nat.le_of_ble_eq_true rfl) ?_
            refine n_stk (st' := [.int (nI (m_heirOf (cl (m_heirs_L54 (46657 + mN M 0) M k (-1) (nI 1000000) 0).1) (cl k)))]) rfl ?_
            have eq_ : m_heirs M k = (nI (m_heirOf (cl (m_heirs_L54 (46657 + mN M 0) M k (-1) (nI 1000000) 0).1) (cl k))) := by rw [m_heirs, if_neg c2, if_pos c10, if_neg c27, if_neg c32, if_pos c40]
            refine n_iret hC dX3_heirs_132 (Nat.le_of_ble_eq_true rfl) (Nat.le_of_ble_eq_true rfl) ?_
            rw [eq_]
            exact ⟨rfl, rfl, rfl⟩
          · refine n_iconst (v := (-1)) hC dX3_heirs_43 (by decide) ?_
            have eq_ : m_heirs M k = (-1) := by rw [m_heirs, if_neg c2, if_pos c10, if_neg c27, if_neg c32, if_neg (by rw [c40]; decide)]
            refine n_iret hC dX3_heirs_44 (Nat.le_of_ble_eq_true rfl) (Nat.le_of_ble_eq_true rfl) ?_
            rw [eq_]
            exact ⟨rfl, rfl, rfl⟩
    · refine n_ldc hC dX3_heirs_13 q893 ?_
      have eq_ : m_heirs M k = (-1000000001) := by rw [m_heirs, if_neg c2, if_neg (by rw [c10]; decide)]
      refine n_iret hC dX3_heirs_15 (Nat.le_of_ble_eq_true rfl) (Nat.le_of_ble_eq_true rfl) ?_
      rw [eq_]
      exact ⟨rfl, rfl, rfl⟩
def m_reach_L37 : Nat → MS → Int32 → Int32 → Int32 → Int32 → Nat → Int32
  | 0, _, _, _, _, _, _ => 0
  | fu + 1, M, k, w, a, b, i => (if 4 ≤ i then (if w = 0 then a else b) else (if a ≤ (m_measure M (cl k) i) then (if (m_measure M (cl k) i) ≤ b then m_reach_L37 fu M k w a b (i + 1) else m_reach_L37 fu M k w a (m_measure M (cl k) i) (i + 1)) else (if (m_measure M (cl k) i) ≤ b then m_reach_L37 fu M k w (m_measure M (cl k) i) b (i + 1) else m_reach_L37 fu M k w (m_measure M (cl k) i) (m_measure M (cl k) i) (i + 1))))
def m_reach (M : MS) (k : Int32) (w : Int32) : Int32 := (if (m_isLimb M k) = true then (if (m_in w.toInt64 0 1) = true then m_reach_L37 4 M k w (m_measure M (cl k) 0) (m_measure M (cl k) 0) 1 else (-1000000002)) else (-1000000001))
theorem bX3_reach : nBV RX3 yX3_reach cX3_reach 7 (some .int) 2 := ⟨q1071, q1072, q55, q1073, by decide, by decide +kernel⟩
set_option maxRecDepth 100000 in
set_option maxHeartbeats 4000000 in
theorem t_m_reach_L37 {p : Program} {l : Launch} {e : Env} {s : State} {m : MethodId} {args : Array Value} {below : List Frame} {meth : Method} {c : Code} {D : va_G} {N0 : Nat} {kA : Nat → ClassId} {mb : Nat} {hs : hT} {M : MS} {n : Nat} (hn : mb + 28 < n) {k : Int32} {w : Int32} (hC : nC p s m args meth c RX3 cX3_reach 7 (some .int) true D N0 kA) (h0 : mN M 0 ≤ 6) (hh : mHe M) : ∀ (fu : Nat) (a : Int32) (b : Int32) (i : Nat) (hk1 : k = nI (cl k)) (hk2 : cl k < mN M 0) (hi : i ≤ 4) (hf : 4 < i + fu), nW p l e (nRm 3 0 0) s m args below meth c (nQ below (nX (some (.int (m_reach_L37 fu M k w a b i))) (mH N0 mb kA hs M) n) D N0 s 0 0) D N0 7 37 [(0, .ref (N0 + mb)), (1, .int k), (2, .int w), (3, .int a), (4, .int b), (5, .int (nI i))] [] (mH N0 mb kA hs M) n 0 0 := by
  intro fu
  induction fu with
  | zero =>
    intro a b i hk1 hk2 hi hf
    exfalso; omega
  | succ fu ih =>
    intro a b i hk1 hk2 hi hf
    refine n_iload hC dX3_reach_37 rfl ?_
    refine n_iconst (v := (nI 4)) hC dX3_reach_39 (by decide) ?_
    refine n_icmp_geN (tgt := 87) hC i 4 rfl rfl (by omega) (by omega) dX3_reach_40 (by decide) (fun c40 => ?_) (fun c40 => ?_)
    · refine n_iload_n hC dX3_reach_87 rfl ?_
      refine n_if_ne (tgt := 95) hC dX3_reach_88 (by decide) (fun c88 => ?_) (fun c88 => ?_)
      · refine n_iload hC dX3_reach_95 rfl ?_
        have eq_ : m_reach_L37 (fu + 1) M k w a b i = b := by rw [m_reach_L37, if_pos c40, if_neg c88]
        refine n_iret hC dX3_reach_97 (Nat.le_of_ble_eq_true rfl) (Nat.le_of_ble_eq_true rfl) ?_
        rw [eq_]
        exact ⟨rfl, rfl, rfl⟩
      · refine n_iload_n hC dX3_reach_91 rfl ?_
        refine n_goto (tgt := 97) hC dX3_reach_92 (by decide) ?_
        have eq_ : m_reach_L37 (fu + 1) M k w a b i = a := by rw [m_reach_L37, if_pos c40, if_pos c88]
        refine n_iret hC dX3_reach_97 (Nat.le_of_ble_eq_true rfl) (Nat.le_of_ble_eq_true rfl) ?_
        rw [eq_]
        exact ⟨rfl, rfl, rfl⟩
    · refine n_aload_n hC dX3_reach_43 rfl ?_
      refine n_iload_n hC dX3_reach_44 rfl ?_
      refine n_top (cl k) hk1 ?_
      refine n_iload hC dX3_reach_45 rfl ?_
      refine n_callV1 hC (As := [.int (nI (cl k)), .int (nI i)]) (rest := []) mc_o (by omega) rfl bX3_measure (t_m_measure l D N0 kA mb hs M n hn (cl k) i (by omega) (by omega) hh) (by decide) (by decide) q898 rfl (Nat.le_of_ble_eq_true rfl) dX3_reach_47 (Nat.le_of_ble_eq_true rfl) (Nat.le_of_ble_eq_true rfl) ?_
      refine n_stk (st' := [.int (m_measure M (cl k) i)]) rfl ?_
      refine n_istore (L' := [(0, .ref (N0 + mb)), (1, .int k), (2, .int w), (3, .int a), (4, .int b), (5, .int (nI i)), (6, .int (m_measure M (cl k) i))]) hC dX3_reach_50 (by decide) rfl ?_
      refine n_iload hC dX3_reach_52 rfl ?_
      refine n_iload_n hC dX3_reach_54 rfl ?_
      refine n_icmp_ge (tgt := 63) hC dX3_reach_55 (by decide) (fun c55 => ?_) (fun c55 => ?_)
      · refine n_iload_n hC dX3_reach_63 rfl ?_
        refine n_istore_n (L' := [(0, .ref (N0 + mb)), (1, .int k), (2, .int w), (3, .int a), (4, .int b), (5, .int (nI i)), (6, .int (m_measure M (cl k) i))]) hC dX3_reach_64 (by decide) rfl ?_
        refine n_iload hC dX3_reach_65 rfl ?_
        refine n_iload hC dX3_reach_67 rfl ?_
        refine n_icmp_le (tgt := 77) hC dX3_reach_69 (by decide) (fun c69 => ?_) (fun c69 => ?_)
        · refine n_iload hC dX3_reach_77 rfl ?_
          refine n_istore (L' := [(0, .ref (N0 + mb)), (1, .int k), (2, .int w), (3, .int a), (4, .int b), (5, .int (nI i)), (6, .int (m_measure M (cl k) i))]) hC dX3_reach_79 (by decide) rfl ?_
          refine n_iincN (a := i) (L' := [(0, .ref (N0 + mb)), (1, .int k), (2, .int w), (3, .int a), (4, .int b), (5, .int (nI (i + 1))), (6, .int (m_measure M (cl k) i))]) hC dX3_reach_81 rfl (by decide) rfl ?_
          refine n_goto (tgt := 37) hC dX3_reach_84 (by decide) ?_
          refine n_drop [0, 1, 2, 3, 4, 5] (L' := [(0, .ref (N0 + mb)), (1, .int k), (2, .int w), (3, .int a), (4, .int b), (5, .int (nI (i + 1)))]) rfl ?_
          rw [show m_reach_L37 (fu + 1) M k w a b i = m_reach_L37 fu M k w a b (i + 1) from by rw [m_reach_L37, if_neg (Nat.not_le.mpr c40), if_pos c55, if_pos c69]]
          exact ih a b (i + 1) hk1 hk2 (by omega) (by omega)
        · refine n_iload hC dX3_reach_72 rfl ?_
          refine n_goto (tgt := 79) hC dX3_reach_74 (by decide) ?_
          refine n_istore (L' := [(0, .ref (N0 + mb)), (1, .int k), (2, .int w), (3, .int a), (4, .int (m_measure M (cl k) i)), (5, .int (nI i)), (6, .int (m_measure M (cl k) i))]) hC dX3_reach_79 (by decide) rfl ?_
          refine n_iincN (a := i) (L' := [(0, .ref (N0 + mb)), (1, .int k), (2, .int w), (3, .int a), (4, .int (m_measure M (cl k) i)), (5, .int (nI (i + 1))), (6, .int (m_measure M (cl k) i))]) hC dX3_reach_81 rfl (by decide) rfl ?_
          refine n_goto (tgt := 37) hC dX3_reach_84 (by decide) ?_
          refine n_drop [0, 1, 2, 3, 4, 5] (L' := [(0, .ref (N0 + mb)), (1, .int k), (2, .int w), (3, .int a), (4, .int (m_measure M (cl k) i)), (5, .int (nI (i + 1)))]) rfl ?_
          rw [show m_reach_L37 (fu + 1) M k w a b i = m_reach_L37 fu M k w a (m_measure M (cl k) i) (i + 1) from by rw [m_reach_L37, if_neg (Nat.not_le.mpr c40), if_pos c55, if_neg c69]]
          exact ih a (m_measure M (cl k) i) (i + 1) hk1 hk2 (by omega) (by omega)
      · refine n_iload hC dX3_reach_58 rfl ?_
        refine n_goto (tgt := 64) hC dX3_reach_60 (by decide) ?_
        refine n_istore_n (L' := [(0, .ref (N0 + mb)), (1, .int k), (2, .int w), (3, .int (m_measure M (cl k) i)), (4, .int b), (5, .int (nI i)), (6, .int (m_measure M (cl k) i))]) hC dX3_reach_64 (by decide) rfl ?_
        refine n_iload hC dX3_reach_65 rfl ?_
        refine n_iload hC dX3_reach_67 rfl ?_
        refine n_icmp_le (tgt := 77) hC dX3_reach_69 (by decide) (fun c69 => ?_) (fun c69 => ?_)
        · refine n_iload hC dX3_reach_77 rfl ?_
          refine n_istore (L' := [(0, .ref (N0 + mb)), (1, .int k), (2, .int w), (3, .int (m_measure M (cl k) i)), (4, .int b), (5, .int (nI i)), (6, .int (m_measure M (cl k) i))]) hC dX3_reach_79 (by decide) rfl ?_
          refine n_iincN (a := i) (L' := [(0, .ref (N0 + mb)), (1, .int k), (2, .int w), (3, .int (m_measure M (cl k) i)), (4, .int b), (5, .int (nI (i + 1))), (6, .int (m_measure M (cl k) i))]) hC dX3_reach_81 rfl (by decide) rfl ?_
          refine n_goto (tgt := 37) hC dX3_reach_84 (by decide) ?_
          refine n_drop [0, 1, 2, 3, 4, 5] (L' := [(0, .ref (N0 + mb)), (1, .int k), (2, .int w), (3, .int (m_measure M (cl k) i)), (4, .int b), (5, .int (nI (i + 1)))]) rfl ?_
          rw [show m_reach_L37 (fu + 1) M k w a b i = m_reach_L37 fu M k w (m_measure M (cl k) i) b (i + 1) from by rw [m_reach_L37, if_neg (Nat.not_le.mpr c40), if_neg c55, if_pos c69]]
          exact ih (m_measure M (cl k) i) b (i + 1) hk1 hk2 (by omega) (by omega)
        · refine n_iload hC dX3_reach_72 rfl ?_
          refine n_goto (tgt := 79) hC dX3_reach_74 (by decide) ?_
          refine n_istore (L' := [(0, .ref (N0 + mb)), (1, .int k), (2, .int w), (3, .int (m_measure M (cl k) i)), (4, .int (m_measure M (cl k) i)), (5, .int (nI i)), (6, .int (m_measure M (cl k) i))]) hC dX3_reach_79 (by decide) rfl ?_
          refine n_iincN (a := i) (L' := [(0, .ref (N0 + mb)), (1, .int k), (2, .int w), (3, .int (m_measure M (cl k) i)), (4, .int (m_measure M (cl k) i)), (5, .int (nI (i + 1))), (6, .int (m_measure M (cl k) i))]) hC dX3_reach_81 rfl (by decide) rfl ?_
          refine n_goto (tgt := 37) hC dX3_reach_84 (by decide) ?_
          refine n_drop [0, 1, 2, 3, 4, 5] (L' := [(0, .ref (N0 + mb)), (1, .int k), (2, .int w), (3, .int (m_measure M (cl k) i)), (4, .int (m_measure M (cl k) i)), (5, .int (nI (i + 1)))]) rfl ?_
          rw [show m_reach_L37 (fu + 1) M k w a b i = m_reach_L37 fu M k w (m_measure M (cl k) i) (m_measure M (cl k) i) (i + 1) from by rw [m_reach_L37, if_neg (Nat.not_le.mpr c40), if_neg c55, if_neg c69]]
          exact ih (m_measure M (cl k) i) (m_measure M (cl k) i) (i + 1) hk1 hk2 (by omega) (by omega)
set_option maxRecDepth 100000 in
set_option maxHeartbeats 4000000 in
theorem t_m_reach (l : Launch) (D : va_G) (N0 : Nat) (kA : Nat → ClassId) (mb : Nat) (hs : hT) (M : MS) (n : Nat) (hn : mb + 28 < n) (k : Int32) (w : Int32) (h0 : mN M 0 ≤ 6) (hh : mHe M) : nE l yX3_reach cX3_reach 7 (some .int) D N0 kA 3 0 0 [.ref (N0 + mb), .int k, .int w] (mH N0 mb kA hs M) n (nX (some (.int (m_reach M k w))) (mH N0 mb kA hs M) n) := by
  refine nE_of (by decide) (Nat.le_of_ble_eq_true rfl) ?_
  intro p e s m args below meth c hC hnm
  refine n_loc (L' := [(0, .ref (N0 + mb)), (1, .int k), (2, .int w)]) rfl ?_
  refine n_aload_n hC dX3_reach_0 rfl ?_
  refine n_iload_n hC dX3_reach_1 rfl ?_
  refine n_callV1 hC (As := [.int k]) (rest := []) mc_o (by omega) rfl bX3_isLimb (t_m_isLimb l D N0 kA mb hs M n hn k ) (by decide) (by decide) q889 rfl (Nat.le_of_ble_eq_true rfl) dX3_reach_2 (Nat.le_of_ble_eq_true rfl) (Nat.le_of_ble_eq_true rfl) ?_
  refine n_stk (st' := [.int (bI (m_isLimb M k))]) rfl ?_
  refine n_if_neB (tgt := 11) hC dX3_reach_5 (by decide) (fun c5 => ?_) (fun c5 => ?_)
  · have hk := isLimb_nat h0 c5
    have hk2 := hk.2
    refine n_iload_n hC dX3_reach_11 rfl ?_
    refine n_i2l hC dX3_reach_12 ?_
    refine n_lconst (v := 0) hC dX3_reach_13 (by decide) ?_
    refine n_lconst (v := 1) hC dX3_reach_14 (by decide) ?_
    refine n_callS1 hC (As := [.long w.toInt64, .long 0, .long 1]) (rest := []) bX3_in (t_m_in l D N0 kA (mH N0 mb kA hs M) n w.toInt64 0 1 ) (by decide) (by decide) q822 rfl (Nat.le_of_ble_eq_true rfl) dX3_reach_15 (Nat.le_of_ble_eq_true rfl) (Nat.le_of_ble_eq_true rfl) ?_
    refine n_stk (st' := [.int (bI (m_in w.toInt64 0 1))]) rfl ?_
    refine n_if_neB (tgt := 24) hC dX3_reach_18 (by decide) (fun c18 => ?_) (fun c18 => ?_)
    · refine n_aload_n hC dX3_reach_24 rfl ?_
      refine n_iload_n hC dX3_reach_25 rfl ?_
      refine n_top (cl k) hk.1 ?_
      refine n_iconst (v := (nI 0)) hC dX3_reach_26 (by decide) ?_
      refine n_callV1 hC (As := [.int (nI (cl k)), .int (nI 0)]) (rest := []) mc_o (by omega) rfl bX3_measure (t_m_measure l D N0 kA mb hs M n hn (cl k) 0 (by omega) (by omega) hh) (by decide) (by decide) q898 rfl (Nat.le_of_ble_eq_true rfl) dX3_reach_27 (Nat.le_of_ble_eq_true rfl) (Nat.le_of_ble_eq_true rfl) ?_
      refine n_stk (st' := [.int (m_measure M (cl k) 0)]) rfl ?_
      refine n_istore_n (L' := [(0, .ref (N0 + mb)), (1, .int k), (2, .int w), (3, .int (m_measure M (cl k) 0))]) hC dX3_reach_30 (by decide) rfl ?_
      refine n_iload_n hC dX3_reach_31 rfl ?_
      refine n_istore (L' := [(0, .ref (N0 + mb)), (1, .int k), (2, .int w), (3, .int (m_measure M (cl k) 0)), (4, .int (m_measure M (cl k) 0))]) hC dX3_reach_32 (by decide) rfl ?_
      refine n_iconst (v := (nI 1)) hC dX3_reach_34 (by decide) ?_
      refine n_istore (L' := [(0, .ref (N0 + mb)), (1, .int k), (2, .int w), (3, .int (m_measure M (cl k) 0)), (4, .int (m_measure M (cl k) 0)), (5, .int (nI 1))]) hC dX3_reach_35 (by decide) rfl ?_
      rw [show m_reach M k w = m_reach_L37 4 M k w (m_measure M (cl k) 0) (m_measure M (cl k) 0) 1 from by rw [m_reach, if_pos c5, if_pos c18]]
      exact t_m_reach_L37 hn hC h0 hh 4 (m_measure M (cl k) 0) (m_measure M (cl k) 0) 1 hk.1 hk2 (by omega) (by omega)
    · refine n_ldc hC dX3_reach_21 q825 ?_
      have eq_ : m_reach M k w = (-1000000002) := by rw [m_reach, if_pos c5, if_neg (by rw [c18]; decide)]
      refine n_iret hC dX3_reach_23 (Nat.le_of_ble_eq_true rfl) (Nat.le_of_ble_eq_true rfl) ?_
      rw [eq_]
      exact ⟨rfl, rfl, rfl⟩
  · refine n_ldc hC dX3_reach_8 q893 ?_
    have eq_ : m_reach M k w = (-1000000001) := by rw [m_reach, if_neg (by rw [c5]; decide)]
    refine n_iret hC dX3_reach_10 (Nat.le_of_ble_eq_true rfl) (Nat.le_of_ble_eq_true rfl) ?_
    rw [eq_]
    exact ⟨rfl, rfl, rfl⟩
def m_bestCopy_L52 : Nat → MS → Int32 → Int32 → Int32 → Int32 → Nat → Int32 → Nat → Int32
  | 0, _, _, _, _, _, _, _, _ => 0
  | fu + 1, M, k, w, a, b, i, r, j => (if 4 ≤ j then r else m_bestCopy_L52 fu M k w a b i (r + (m_apart (m_grown M (cl k) j) (m_grown M (cl k) i))) (j + 1))
def m_bestCopy_L32 : Nat → MS → Int32 → Int32 → Int32 → Int32 → Nat → Int32
  | 0, _, _, _, _, _, _ => 0
  | fu + 1, M, k, w, a, b, i => (if 4 ≤ i then (if w = 0 then a else b) else (if (m_lives M (cl k)) = true then (if a < 0 then (if b < 0 then m_bestCopy_L32 fu M k w (nI i) (m_bestCopy_L52 5 M k w a b i (nI 0) 0) (i + 1) else (if b ≤ (m_bestCopy_L52 5 M k w a b i (nI 0) 0) then m_bestCopy_L32 fu M k w (nI i) b (i + 1) else m_bestCopy_L32 fu M k w (nI i) (m_bestCopy_L52 5 M k w a b i (nI 0) 0) (i + 1))) else (if b ≤ (m_bestCopy_L52 5 M k w a b i (nI 0) 0) then (if b < 0 then m_bestCopy_L32 fu M k w a (m_bestCopy_L52 5 M k w a b i (nI 0) 0) (i + 1) else m_bestCopy_L32 fu M k w a b (i + 1)) else (if b < 0 then m_bestCopy_L32 fu M k w (nI i) (m_bestCopy_L52 5 M k w a b i (nI 0) 0) (i + 1) else m_bestCopy_L32 fu M k w (nI i) (m_bestCopy_L52 5 M k w a b i (nI 0) 0) (i + 1)))) else (if w = 0 then a else b)))
def m_bestCopy (M : MS) (k : Int32) (w : Int32) : Int32 := (if (m_isLimb M k) = true then (if (m_in w.toInt64 0 1) = true then m_bestCopy_L32 5 M k w (-1) (-1) 0 else (-1000000002)) else (-1000000001))
theorem bX3_bestCopy : nBV RX3 yX3_bestCopy cX3_bestCopy 8 (some .int) 2 := ⟨q1075, q1076, q55, q1077, by decide, by decide +kernel⟩
set_option maxRecDepth 100000 in
set_option maxHeartbeats 4000000 in
theorem t_m_bestCopy_L52 {p : Program} {l : Launch} {e : Env} {s : State} {m : MethodId} {args : Array Value} {below : List Frame} {meth : Method} {c : Code} {Q : State → Prop} {D : va_G} {N0 : Nat} {kA : Nat → ClassId} {mb : Nat} {hs : hT} {M : MS} {n : Nat} (hn : mb + 28 < n) {k : Int32} {w : Int32} (hC : nC p s m args meth c RX3 cX3_bestCopy 8 (some .int) true D N0 kA) (h0 : mN M 0 ≤ 6) : ∀ (fu : Nat) (a : Int32) (b : Int32) (i : Nat) (r : Int32) (j : Nat) (hk1 : k = nI (cl k)) (hk2 : cl k < mN M 0) (hi : i < 4) (hj : j ≤ 4) (hf : 4 < j + fu) (hK : nW p l e (nRm 2 0 0) s m args below meth c Q D N0 8 86 [(0, .ref (N0 + mb)), (1, .int k), (2, .int w), (3, .int a), (4, .int b), (5, .int (nI i)), (6, .int (m_bestCopy_L52 fu M k w a b i r j))] [] (mH N0 mb kA hs M) n 0 0), nW p l e (nRm 2 0 0) s m args below meth c Q D N0 8 52 [(0, .ref (N0 + mb)), (1, .int k), (2, .int w), (3, .int a), (4, .int b), (5, .int (nI i)), (6, .int r), (7, .int (nI j))] [] (mH N0 mb kA hs M) n 0 0 := by
  intro fu
  induction fu with
  | zero =>
    intro a b i r j hk1 hk2 hi hj hf hK
    exfalso; omega
  | succ fu ih =>
    intro a b i r j hk1 hk2 hi hj hf hK
    refine n_iload hC dX3_bestCopy_52 rfl ?_
    refine n_iconst (v := (nI 4)) hC dX3_bestCopy_54 (by decide) ?_
    refine n_icmp_geN (tgt := 86) hC j 4 rfl rfl (by omega) (by omega) dX3_bestCopy_55 (by decide) (fun c55 => ?_) (fun c55 => ?_)
    · refine n_drop [0, 1, 2, 3, 4, 5, 6] (L' := [(0, .ref (N0 + mb)), (1, .int k), (2, .int w), (3, .int a), (4, .int b), (5, .int (nI i)), (6, .int r)]) rfl ?_
      rw [m_bestCopy_L52, if_pos c55] at hK
      exact hK
    · refine n_iload hC dX3_bestCopy_58 rfl ?_
      refine n_aload_n hC dX3_bestCopy_60 rfl ?_
      refine n_iload_n hC dX3_bestCopy_61 rfl ?_
      refine n_top (cl k) hk1 ?_
      refine n_iload hC dX3_bestCopy_62 rfl ?_
      refine n_callV1 hC (As := [.int (nI (cl k)), .int (nI j)]) (rest := [.int r]) mc_o (by omega) rfl bX3_grown (t_m_grown l D N0 kA mb hs M n hn (cl k) j (by omega) (by omega)) (by decide) (by decide) q909 rfl (Nat.le_of_ble_eq_true rfl) dX3_bestCopy_64 (Nat.le_of_ble_eq_true rfl) (Nat.le_of_ble_eq_true rfl) ?_
      refine n_stk (st' := [.int (m_grown M (cl k) j), .int r]) rfl ?_
      refine n_aload_n hC dX3_bestCopy_67 rfl ?_
      refine n_iload_n hC dX3_bestCopy_68 rfl ?_
      refine n_top (cl k) hk1 ?_
      refine n_iload hC dX3_bestCopy_69 rfl ?_
      refine n_callV1 hC (As := [.int (nI (cl k)), .int (nI i)]) (rest := [.int (m_grown M (cl k) j), .int r]) mc_o (by omega) rfl bX3_grown (t_m_grown l D N0 kA mb hs M n hn (cl k) i (by omega) (by omega)) (by decide) (by decide) q909 rfl (Nat.le_of_ble_eq_true rfl) dX3_bestCopy_71 (Nat.le_of_ble_eq_true rfl) (Nat.le_of_ble_eq_true rfl) ?_
      refine n_stk (st' := [.int (m_grown M (cl k) i), .int (m_grown M (cl k) j), .int r]) rfl ?_
      refine n_callS1 hC (As := [.int (m_grown M (cl k) j), .int (m_grown M (cl k) i)]) (rest := [.int r]) bX3_apart (t_m_apart l D N0 kA (mH N0 mb kA hs M) n (m_grown M (cl k) j) (m_grown M (cl k) i) ) (by decide) (by decide) q1067 rfl (Nat.le_of_ble_eq_true rfl) dX3_bestCopy_74 (Nat.le_of_ble_eq_true rfl) (Nat.le_of_ble_eq_true rfl) ?_
      refine n_stk (st' := [.int (m_apart (m_grown M (cl k) j) (m_grown M (cl k) i)), .int r]) rfl ?_
      refine n_iadd hC dX3_bestCopy_77 ?_
      refine n_istore (L' := [(0, .ref (N0 + mb)), (1, .int k), (2, .int w), (3, .int a), (4, .int b), (5, .int (nI i)), (6, .int (r + (m_apart (m_grown M (cl k) j) (m_grown M (cl k) i)))), (7, .int (nI j))]) hC dX3_bestCopy_78 (by decide) rfl ?_
      refine n_iincN (a := j) (L' := [(0, .ref (N0 + mb)), (1, .int k), (2, .int w), (3, .int a), (4, .int b), (5, .int (nI i)), (6, .int (r + (m_apart (m_grown M (cl k) j) (m_grown M (cl k) i)))), (7, .int (nI (j + 1)))]) hC dX3_bestCopy_80 rfl (by decide) rfl ?_
      refine n_goto (tgt := 52) hC dX3_bestCopy_83 (by decide) ?_
      rw [m_bestCopy_L52, if_neg (Nat.not_le.mpr c55)] at hK
      exact ih a b i (r + (m_apart (m_grown M (cl k) j) (m_grown M (cl k) i))) (j + 1) hk1 hk2 (by omega) (by omega) (by omega) hK
set_option maxRecDepth 100000 in
set_option maxHeartbeats 4000000 in
theorem t_m_bestCopy_L32 {p : Program} {l : Launch} {e : Env} {s : State} {m : MethodId} {args : Array Value} {below : List Frame} {meth : Method} {c : Code} {D : va_G} {N0 : Nat} {kA : Nat → ClassId} {mb : Nat} {hs : hT} {M : MS} {n : Nat} (hn : mb + 28 < n) {k : Int32} {w : Int32} (hC : nC p s m args meth c RX3 cX3_bestCopy 8 (some .int) true D N0 kA) (h0 : mN M 0 ≤ 6) : ∀ (fu : Nat) (a : Int32) (b : Int32) (i : Nat) (hk1 : k = nI (cl k)) (hk2 : cl k < mN M 0) (hi : i ≤ 4) (hf : 4 < i + fu), nW p l e (nRm 2 0 0) s m args below meth c (nQ below (nX (some (.int (m_bestCopy_L32 fu M k w a b i))) (mH N0 mb kA hs M) n) D N0 s 0 0) D N0 8 32 [(0, .ref (N0 + mb)), (1, .int k), (2, .int w), (3, .int a), (4, .int b), (5, .int (nI i))] [] (mH N0 mb kA hs M) n 0 0 := by
  intro fu
  induction fu with
  | zero =>
    intro a b i hk1 hk2 hi hf
    exfalso; omega
  | succ fu ih =>
    intro a b i hk1 hk2 hi hf
    refine n_iload hC dX3_bestCopy_32 rfl ?_
    refine n_iconst (v := (nI 4)) hC dX3_bestCopy_34 (by decide) ?_
    refine n_icmp_geN (tgt := 131) hC i 4 rfl rfl (by omega) (by omega) dX3_bestCopy_35 (by decide) (fun c35 => ?_) (fun c35 => ?_)
    · refine n_iload_n hC dX3_bestCopy_131 rfl ?_
      refine n_if_ne (tgt := 139) hC dX3_bestCopy_132 (by decide) (fun c132 => ?_) (fun c132 => ?_)
      · refine n_iload hC dX3_bestCopy_139 rfl ?_
        have eq_ : m_bestCopy_L32 (fu + 1) M k w a b i = b := by rw [m_bestCopy_L32, if_pos c35, if_neg c132]
        refine n_iret hC dX3_bestCopy_141 (Nat.le_of_ble_eq_true rfl) (Nat.le_of_ble_eq_true rfl) ?_
        rw [eq_]
        exact ⟨rfl, rfl, rfl⟩
      · refine n_iload_n hC dX3_bestCopy_135 rfl ?_
        refine n_goto (tgt := 141) hC dX3_bestCopy_136 (by decide) ?_
        have eq_ : m_bestCopy_L32 (fu + 1) M k w a b i = a := by rw [m_bestCopy_L32, if_pos c35, if_pos c132]
        refine n_iret hC dX3_bestCopy_141 (Nat.le_of_ble_eq_true rfl) (Nat.le_of_ble_eq_true rfl) ?_
        rw [eq_]
        exact ⟨rfl, rfl, rfl⟩
    · refine n_aload_n hC dX3_bestCopy_38 rfl ?_
      refine n_iload_n hC dX3_bestCopy_39 rfl ?_
      refine n_top (cl k) hk1 ?_
      refine n_callV1 hC (As := [.int (nI (cl k))]) (rest := []) mc_o (by omega) rfl bX3_lives (t_m_lives l D N0 kA mb hs M n hn (cl k) ) (by decide) (by decide) q902 rfl (Nat.le_of_ble_eq_true rfl) dX3_bestCopy_40 (Nat.le_of_ble_eq_true rfl) (Nat.le_of_ble_eq_true rfl) ?_
      refine n_stk (st' := [.int (bI (m_lives M (cl k)))]) rfl ?_
      refine n_if_eqB (tgt := 131) hC dX3_bestCopy_43 (by decide) (fun c43 => ?_) (fun c43 => ?_)
      · refine n_iload_n hC dX3_bestCopy_131 rfl ?_
        refine n_if_ne (tgt := 139) hC dX3_bestCopy_132 (by decide) (fun c132 => ?_) (fun c132 => ?_)
        · refine n_iload hC dX3_bestCopy_139 rfl ?_
          have eq_ : m_bestCopy_L32 (fu + 1) M k w a b i = b := by rw [m_bestCopy_L32, if_neg (Nat.not_le.mpr c35), if_neg (by rw [c43]; decide), if_neg c132]
          refine n_iret hC dX3_bestCopy_141 (Nat.le_of_ble_eq_true rfl) (Nat.le_of_ble_eq_true rfl) ?_
          rw [eq_]
          exact ⟨rfl, rfl, rfl⟩
        · refine n_iload_n hC dX3_bestCopy_135 rfl ?_
          refine n_goto (tgt := 141) hC dX3_bestCopy_136 (by decide) ?_
          have eq_ : m_bestCopy_L32 (fu + 1) M k w a b i = a := by rw [m_bestCopy_L32, if_neg (Nat.not_le.mpr c35), if_neg (by rw [c43]; decide), if_pos c132]
          refine n_iret hC dX3_bestCopy_141 (Nat.le_of_ble_eq_true rfl) (Nat.le_of_ble_eq_true rfl) ?_
          rw [eq_]
          exact ⟨rfl, rfl, rfl⟩
      · refine n_iconst (v := (nI 0)) hC dX3_bestCopy_46 (by decide) ?_
        refine n_istore (L' := [(0, .ref (N0 + mb)), (1, .int k), (2, .int w), (3, .int a), (4, .int b), (5, .int (nI i)), (6, .int (nI 0))]) hC dX3_bestCopy_47 (by decide) rfl ?_
        refine n_iconst (v := (nI 0)) hC dX3_bestCopy_49 (by decide) ?_
        refine n_istore (L' := [(0, .ref (N0 + mb)), (1, .int k), (2, .int w), (3, .int a), (4, .int b), (5, .int (nI i)), (6, .int (nI 0)), (7, .int (nI 0))]) hC dX3_bestCopy_50 (by decide) rfl ?_
        refine t_m_bestCopy_L52 hn hC h0 5 a b i (nI 0) 0 hk1 hk2 (by omega) (by omega) (by omega) ?_
        refine n_iload_n hC dX3_bestCopy_86 rfl ?_
        refine n_if_lt (tgt := 97) hC dX3_bestCopy_87 (by decide) (fun c87 => ?_) (fun c87 => ?_)
        · refine n_iload hC dX3_bestCopy_97 rfl ?_
          refine n_goto (tgt := 103) hC dX3_bestCopy_99 (by decide) ?_
          refine n_istore_n (L' := [(0, .ref (N0 + mb)), (1, .int k), (2, .int w), (3, .int (nI i)), (4, .int b), (5, .int (nI i)), (6, .int (m_bestCopy_L52 5 M k w a b i (nI 0) 0))]) hC dX3_bestCopy_103 (by decide) rfl ?_
          refine n_iload hC dX3_bestCopy_104 rfl ?_
          refine n_if_lt (tgt := 116) hC dX3_bestCopy_106 (by decide) (fun c106 => ?_) (fun c106 => ?_)
          · refine n_iload hC dX3_bestCopy_116 rfl ?_
            refine n_goto (tgt := 123) hC dX3_bestCopy_118 (by decide) ?_
            refine n_istore (L' := [(0, .ref (N0 + mb)), (1, .int k), (2, .int w), (3, .int (nI i)), (4, .int (m_bestCopy_L52 5 M k w a b i (nI 0) 0)), (5, .int (nI i)), (6, .int (m_bestCopy_L52 5 M k w a b i (nI 0) 0))]) hC dX3_bestCopy_123 (by decide) rfl ?_
            refine n_iincN (a := i) (L' := [(0, .ref (N0 + mb)), (1, .int k), (2, .int w), (3, .int (nI i)), (4, .int (m_bestCopy_L52 5 M k w a b i (nI 0) 0)), (5, .int (nI (i + 1))), (6, .int (m_bestCopy_L52 5 M k w a b i (nI 0) 0))]) hC dX3_bestCopy_125 rfl (by decide) rfl ?_
            refine n_goto (tgt := 32) hC dX3_bestCopy_128 (by decide) ?_
            refine n_drop [0, 1, 2, 3, 4, 5] (L' := [(0, .ref (N0 + mb)), (1, .int k), (2, .int w), (3, .int (nI i)), (4, .int (m_bestCopy_L52 5 M k w a b i (nI 0) 0)), (5, .int (nI (i + 1)))]) rfl ?_
            rw [show m_bestCopy_L32 (fu + 1) M k w a b i = m_bestCopy_L32 fu M k w (nI i) (m_bestCopy_L52 5 M k w a b i (nI 0) 0) (i + 1) from by rw [m_bestCopy_L32, if_neg (Nat.not_le.mpr c35), if_pos c43, if_pos c87, if_pos c106]]
            exact ih (nI i) (m_bestCopy_L52 5 M k w a b i (nI 0) 0) (i + 1) hk1 hk2 (by omega) (by omega)
          · refine n_iload hC dX3_bestCopy_109 rfl ?_
            refine n_iload hC dX3_bestCopy_111 rfl ?_
            refine n_icmp_ge (tgt := 121) hC dX3_bestCopy_113 (by decide) (fun c113 => ?_) (fun c113 => ?_)
            · refine n_iload hC dX3_bestCopy_121 rfl ?_
              refine n_istore (L' := [(0, .ref (N0 + mb)), (1, .int k), (2, .int w), (3, .int (nI i)), (4, .int b), (5, .int (nI i)), (6, .int (m_bestCopy_L52 5 M k w a b i (nI 0) 0))]) hC dX3_bestCopy_123 (by decide) rfl ?_
              refine n_iincN (a := i) (L' := [(0, .ref (N0 + mb)), (1, .int k), (2, .int w), (3, .int (nI i)), (4, .int b), (5, .int (nI (i + 1))), (6, .int (m_bestCopy_L52 5 M k w a b i (nI 0) 0))]) hC dX3_bestCopy_125 rfl (by decide) rfl ?_
              refine n_goto (tgt := 32) hC dX3_bestCopy_128 (by decide) ?_
              refine n_drop [0, 1, 2, 3, 4, 5] (L' := [(0, .ref (N0 + mb)), (1, .int k), (2, .int w), (3, .int (nI i)), (4, .int b), (5, .int (nI (i + 1)))]) rfl ?_
              rw [show m_bestCopy_L32 (fu + 1) M k w a b i = m_bestCopy_L32 fu M k w (nI i) b (i + 1) from by rw [m_bestCopy_L32, if_neg (Nat.not_le.mpr c35), if_pos c43, if_pos c87, if_neg c106, if_pos c113]]
              exact ih (nI i) b (i + 1) hk1 hk2 (by omega) (by omega)
            · refine n_iload hC dX3_bestCopy_116 rfl ?_
              refine n_goto (tgt := 123) hC dX3_bestCopy_118 (by decide) ?_
              refine n_istore (L' := [(0, .ref (N0 + mb)), (1, .int k), (2, .int w), (3, .int (nI i)), (4, .int (m_bestCopy_L52 5 M k w a b i (nI 0) 0)), (5, .int (nI i)), (6, .int (m_bestCopy_L52 5 M k w a b i (nI 0) 0))]) hC dX3_bestCopy_123 (by decide) rfl ?_
              refine n_iincN (a := i) (L' := [(0, .ref (N0 + mb)), (1, .int k), (2, .int w), (3, .int (nI i)), (4, .int (m_bestCopy_L52 5 M k w a b i (nI 0) 0)), (5, .int (nI (i + 1))), (6, .int (m_bestCopy_L52 5 M k w a b i (nI 0) 0))]) hC dX3_bestCopy_125 rfl (by decide) rfl ?_
              refine n_goto (tgt := 32) hC dX3_bestCopy_128 (by decide) ?_
              refine n_drop [0, 1, 2, 3, 4, 5] (L' := [(0, .ref (N0 + mb)), (1, .int k), (2, .int w), (3, .int (nI i)), (4, .int (m_bestCopy_L52 5 M k w a b i (nI 0) 0)), (5, .int (nI (i + 1)))]) rfl ?_
              rw [show m_bestCopy_L32 (fu + 1) M k w a b i = m_bestCopy_L32 fu M k w (nI i) (m_bestCopy_L52 5 M k w a b i (nI 0) 0) (i + 1) from by rw [m_bestCopy_L32, if_neg (Nat.not_le.mpr c35), if_pos c43, if_pos c87, if_neg c106, if_neg c113]]
              exact ih (nI i) (m_bestCopy_L52 5 M k w a b i (nI 0) 0) (i + 1) hk1 hk2 (by omega) (by omega)
        · refine n_iload hC dX3_bestCopy_90 rfl ?_
          refine n_iload hC dX3_bestCopy_92 rfl ?_
          refine n_icmp_ge (tgt := 102) hC dX3_bestCopy_94 (by decide) (fun c94 => ?_) (fun c94 => ?_)
          · refine n_iload_n hC dX3_bestCopy_102 rfl ?_
            refine n_istore_n (L' := [(0, .ref (N0 + mb)), (1, .int k), (2, .int w), (3, .int a), (4, .int b), (5, .int (nI i)), (6, .int (m_bestCopy_L52 5 M k w a b i (nI 0) 0))]) hC dX3_bestCopy_103 (by decide) rfl ?_
            refine n_iload hC dX3_bestCopy_104 rfl ?_
            refine n_if_lt (tgt := 116) hC dX3_bestCopy_106 (by decide) (fun c106 => ?_) (fun c106 => ?_)
            · refine n_iload hC dX3_bestCopy_116 rfl ?_
              refine n_goto (tgt := 123) hC dX3_bestCopy_118 (by decide) ?_
              refine n_istore (L' := [(0, .ref (N0 + mb)), (1, .int k), (2, .int w), (3, .int a), (4, .int (m_bestCopy_L52 5 M k w a b i (nI 0) 0)), (5, .int (nI i)), (6, .int (m_bestCopy_L52 5 M k w a b i (nI 0) 0))]) hC dX3_bestCopy_123 (by decide) rfl ?_
              refine n_iincN (a := i) (L' := [(0, .ref (N0 + mb)), (1, .int k), (2, .int w), (3, .int a), (4, .int (m_bestCopy_L52 5 M k w a b i (nI 0) 0)), (5, .int (nI (i + 1))), (6, .int (m_bestCopy_L52 5 M k w a b i (nI 0) 0))]) hC dX3_bestCopy_125 rfl (by decide) rfl ?_
              refine n_goto (tgt := 32) hC dX3_bestCopy_128 (by decide) ?_
              refine n_drop [0, 1, 2, 3, 4, 5] (L' := [(0, .ref (N0 + mb)), (1, .int k), (2, .int w), (3, .int a), (4, .int (m_bestCopy_L52 5 M k w a b i (nI 0) 0)), (5, .int (nI (i + 1)))]) rfl ?_
              rw [show m_bestCopy_L32 (fu + 1) M k w a b i = m_bestCopy_L32 fu M k w a (m_bestCopy_L52 5 M k w a b i (nI 0) 0) (i + 1) from by rw [m_bestCopy_L32, if_neg (Nat.not_le.mpr c35), if_pos c43, if_neg c87, if_pos c94, if_pos c106]]
              exact ih a (m_bestCopy_L52 5 M k w a b i (nI 0) 0) (i + 1) hk1 hk2 (by omega) (by omega)
            · refine n_iload hC dX3_bestCopy_109 rfl ?_
              refine n_iload hC dX3_bestCopy_111 rfl ?_
              refine n_icmp_geT (tgt := 121) hC dX3_bestCopy_113 (by decide) c94 ?_
              refine n_iload hC dX3_bestCopy_121 rfl ?_
              refine n_istore (L' := [(0, .ref (N0 + mb)), (1, .int k), (2, .int w), (3, .int a), (4, .int b), (5, .int (nI i)), (6, .int (m_bestCopy_L52 5 M k w a b i (nI 0) 0))]) hC dX3_bestCopy_123 (by decide) rfl ?_
              refine n_iincN (a := i) (L' := [(0, .ref (N0 + mb)), (1, .int k), (2, .int w), (3, .int a), (4, .int b), (5, .int (nI (i + 1))), (6, .int (m_bestCopy_L52 5 M k w a b i (nI 0) 0))]) hC dX3_bestCopy_125 rfl (by decide) rfl ?_
              refine n_goto (tgt := 32) hC dX3_bestCopy_128 (by decide) ?_
              refine n_drop [0, 1, 2, 3, 4, 5] (L' := [(0, .ref (N0 + mb)), (1, .int k), (2, .int w), (3, .int a), (4, .int b), (5, .int (nI (i + 1)))]) rfl ?_
              rw [show m_bestCopy_L32 (fu + 1) M k w a b i = m_bestCopy_L32 fu M k w a b (i + 1) from by rw [m_bestCopy_L32, if_neg (Nat.not_le.mpr c35), if_pos c43, if_neg c87, if_pos c94, if_neg c106]]
              exact ih a b (i + 1) hk1 hk2 (by omega) (by omega)
          · refine n_iload hC dX3_bestCopy_97 rfl ?_
            refine n_goto (tgt := 103) hC dX3_bestCopy_99 (by decide) ?_
            refine n_istore_n (L' := [(0, .ref (N0 + mb)), (1, .int k), (2, .int w), (3, .int (nI i)), (4, .int b), (5, .int (nI i)), (6, .int (m_bestCopy_L52 5 M k w a b i (nI 0) 0))]) hC dX3_bestCopy_103 (by decide) rfl ?_
            refine n_iload hC dX3_bestCopy_104 rfl ?_
            refine n_if_lt (tgt := 116) hC dX3_bestCopy_106 (by decide) (fun c106 => ?_) (fun c106 => ?_)
            · refine n_iload hC dX3_bestCopy_116 rfl ?_
              refine n_goto (tgt := 123) hC dX3_bestCopy_118 (by decide) ?_
              refine n_istore (L' := [(0, .ref (N0 + mb)), (1, .int k), (2, .int w), (3, .int (nI i)), (4, .int (m_bestCopy_L52 5 M k w a b i (nI 0) 0)), (5, .int (nI i)), (6, .int (m_bestCopy_L52 5 M k w a b i (nI 0) 0))]) hC dX3_bestCopy_123 (by decide) rfl ?_
              refine n_iincN (a := i) (L' := [(0, .ref (N0 + mb)), (1, .int k), (2, .int w), (3, .int (nI i)), (4, .int (m_bestCopy_L52 5 M k w a b i (nI 0) 0)), (5, .int (nI (i + 1))), (6, .int (m_bestCopy_L52 5 M k w a b i (nI 0) 0))]) hC dX3_bestCopy_125 rfl (by decide) rfl ?_
              refine n_goto (tgt := 32) hC dX3_bestCopy_128 (by decide) ?_
              refine n_drop [0, 1, 2, 3, 4, 5] (L' := [(0, .ref (N0 + mb)), (1, .int k), (2, .int w), (3, .int (nI i)), (4, .int (m_bestCopy_L52 5 M k w a b i (nI 0) 0)), (5, .int (nI (i + 1)))]) rfl ?_
              rw [show m_bestCopy_L32 (fu + 1) M k w a b i = m_bestCopy_L32 fu M k w (nI i) (m_bestCopy_L52 5 M k w a b i (nI 0) 0) (i + 1) from by rw [m_bestCopy_L32, if_neg (Nat.not_le.mpr c35), if_pos c43, if_neg c87, if_neg c94, if_pos c106]]
              exact ih (nI i) (m_bestCopy_L52 5 M k w a b i (nI 0) 0) (i + 1) hk1 hk2 (by omega) (by omega)
            · refine n_iload hC dX3_bestCopy_109 rfl ?_
              refine n_iload hC dX3_bestCopy_111 rfl ?_
              refine n_icmp_geF (tgt := 121) hC dX3_bestCopy_113 (by decide) c94 ?_
              refine n_iload hC dX3_bestCopy_116 rfl ?_
              refine n_goto (tgt := 123) hC dX3_bestCopy_118 (by decide) ?_
              refine n_istore (L' := [(0, .ref (N0 + mb)), (1, .int k), (2, .int w), (3, .int (nI i)), (4, .int (m_bestCopy_L52 5 M k w a b i (nI 0) 0)), (5, .int (nI i)), (6, .int (m_bestCopy_L52 5 M k w a b i (nI 0) 0))]) hC dX3_bestCopy_123 (by decide) rfl ?_
              refine n_iincN (a := i) (L' := [(0, .ref (N0 + mb)), (1, .int k), (2, .int w), (3, .int (nI i)), (4, .int (m_bestCopy_L52 5 M k w a b i (nI 0) 0)), (5, .int (nI (i + 1))), (6, .int (m_bestCopy_L52 5 M k w a b i (nI 0) 0))]) hC dX3_bestCopy_125 rfl (by decide) rfl ?_
              refine n_goto (tgt := 32) hC dX3_bestCopy_128 (by decide) ?_
              refine n_drop [0, 1, 2, 3, 4, 5] (L' := [(0, .ref (N0 + mb)), (1, .int k), (2, .int w), (3, .int (nI i)), (4, .int (m_bestCopy_L52 5 M k w a b i (nI 0) 0)), (5, .int (nI (i + 1)))]) rfl ?_
              rw [show m_bestCopy_L32 (fu + 1) M k w a b i = m_bestCopy_L32 fu M k w (nI i) (m_bestCopy_L52 5 M k w a b i (nI 0) 0) (i + 1) from by rw [m_bestCopy_L32, if_neg (Nat.not_le.mpr c35), if_pos c43, if_neg c87, if_neg c94, if_neg c106]]
              exact ih (nI i) (m_bestCopy_L52 5 M k w a b i (nI 0) 0) (i + 1) hk1 hk2 (by omega) (by omega)
set_option maxRecDepth 100000 in
set_option maxHeartbeats 4000000 in
theorem t_m_bestCopy (l : Launch) (D : va_G) (N0 : Nat) (kA : Nat → ClassId) (mb : Nat) (hs : hT) (M : MS) (n : Nat) (hn : mb + 28 < n) (k : Int32) (w : Int32) (h0 : mN M 0 ≤ 6) : nE l yX3_bestCopy cX3_bestCopy 8 (some .int) D N0 kA 2 0 0 [.ref (N0 + mb), .int k, .int w] (mH N0 mb kA hs M) n (nX (some (.int (m_bestCopy M k w))) (mH N0 mb kA hs M) n) := by
  refine nE_of (by decide) (Nat.le_of_ble_eq_true rfl) ?_
  intro p e s m args below meth c hC hnm
  refine n_loc (L' := [(0, .ref (N0 + mb)), (1, .int k), (2, .int w)]) rfl ?_
  refine n_aload_n hC dX3_bestCopy_0 rfl ?_
  refine n_iload_n hC dX3_bestCopy_1 rfl ?_
  refine n_callV1 hC (As := [.int k]) (rest := []) mc_o (by omega) rfl bX3_isLimb (t_m_isLimb l D N0 kA mb hs M n hn k ) (by decide) (by decide) q889 rfl (Nat.le_of_ble_eq_true rfl) dX3_bestCopy_2 (Nat.le_of_ble_eq_true rfl) (Nat.le_of_ble_eq_true rfl) ?_
  refine n_stk (st' := [.int (bI (m_isLimb M k))]) rfl ?_
  refine n_if_neB (tgt := 11) hC dX3_bestCopy_5 (by decide) (fun c5 => ?_) (fun c5 => ?_)
  · have hk := isLimb_nat h0 c5
    have hk2 := hk.2
    refine n_iload_n hC dX3_bestCopy_11 rfl ?_
    refine n_i2l hC dX3_bestCopy_12 ?_
    refine n_lconst (v := 0) hC dX3_bestCopy_13 (by decide) ?_
    refine n_lconst (v := 1) hC dX3_bestCopy_14 (by decide) ?_
    refine n_callS1 hC (As := [.long w.toInt64, .long 0, .long 1]) (rest := []) bX3_in (t_m_in l D N0 kA (mH N0 mb kA hs M) n w.toInt64 0 1 ) (by decide) (by decide) q822 rfl (Nat.le_of_ble_eq_true rfl) dX3_bestCopy_15 (Nat.le_of_ble_eq_true rfl) (Nat.le_of_ble_eq_true rfl) ?_
    refine n_stk (st' := [.int (bI (m_in w.toInt64 0 1))]) rfl ?_
    refine n_if_neB (tgt := 24) hC dX3_bestCopy_18 (by decide) (fun c18 => ?_) (fun c18 => ?_)
    · refine n_iconst (v := (-1)) hC dX3_bestCopy_24 (by decide) ?_
      refine n_istore_n (L' := [(0, .ref (N0 + mb)), (1, .int k), (2, .int w), (3, .int (-1))]) hC dX3_bestCopy_25 (by decide) rfl ?_
      refine n_iconst (v := (-1)) hC dX3_bestCopy_26 (by decide) ?_
      refine n_istore (L' := [(0, .ref (N0 + mb)), (1, .int k), (2, .int w), (3, .int (-1)), (4, .int (-1))]) hC dX3_bestCopy_27 (by decide) rfl ?_
      refine n_iconst (v := (nI 0)) hC dX3_bestCopy_29 (by decide) ?_
      refine n_istore (L' := [(0, .ref (N0 + mb)), (1, .int k), (2, .int w), (3, .int (-1)), (4, .int (-1)), (5, .int (nI 0))]) hC dX3_bestCopy_30 (by decide) rfl ?_
      rw [show m_bestCopy M k w = m_bestCopy_L32 5 M k w (-1) (-1) 0 from by rw [m_bestCopy, if_pos c5, if_pos c18]]
      exact t_m_bestCopy_L32 hn hC h0 5 (-1) (-1) 0 hk.1 hk2 (by omega) (by omega)
    · refine n_ldc hC dX3_bestCopy_21 q825 ?_
      have eq_ : m_bestCopy M k w = (-1000000002) := by rw [m_bestCopy, if_pos c5, if_neg (by rw [c18]; decide)]
      refine n_iret hC dX3_bestCopy_23 (Nat.le_of_ble_eq_true rfl) (Nat.le_of_ble_eq_true rfl) ?_
      rw [eq_]
      exact ⟨rfl, rfl, rfl⟩
  · refine n_ldc hC dX3_bestCopy_8 q893 ?_
    have eq_ : m_bestCopy M k w = (-1000000001) := by rw [m_bestCopy, if_neg (by rw [c5]; decide)]
    refine n_iret hC dX3_bestCopy_10 (Nat.le_of_ble_eq_true rfl) (Nat.le_of_ble_eq_true rfl) ?_
    rw [eq_]
    exact ⟨rfl, rfl, rfl⟩
def m_nearest_L19 : Nat → MS → Int32 → Int32 → Nat → Int32
  | 0, _, _, _, _ => 0
  | fu + 1, M, v, b, k => (if (mN M 0) ≤ k then b else (if b < 0 then m_nearest_L19 fu M v (nI k) (k + 1) else (if (m_apart (m_measureNow M (cl b)) v) ≤ (m_apart (m_measureNow M k) v) then m_nearest_L19 fu M v (nI (cl b)) (k + 1) else m_nearest_L19 fu M v (nI k) (k + 1))))
def m_nearest (M : MS) (v : Int32) : Int32 := (if (m_in v.toInt64 0 (999)) = true then m_nearest_L19 (mN M 0 + 1) M v (-1) 0 else (-1000000002))
theorem bX3_nearest : nBV RX3 yX3_nearest cX3_nearest 4 (some .int) 1 := ⟨q1079, q1080, q55, q1081, by decide, by decide +kernel⟩
set_option maxRecDepth 100000 in
set_option maxHeartbeats 4000000 in
theorem t_m_nearest_L19 {p : Program} {l : Launch} {e : Env} {s : State} {m : MethodId} {args : Array Value} {below : List Frame} {meth : Method} {c : Code} {D : va_G} {N0 : Nat} {kA : Nat → ClassId} {mb : Nat} {hs : hT} {M : MS} {n : Nat} (hn : mb + 28 < n) {v : Int32} (hC : nC p s m args meth c RX3 cX3_nearest 4 (some .int) true D N0 kA) (h0 : mN M 0 ≤ 6) (hh : mHe M) (hS : mSe M) : ∀ (fu : Nat) (b : Int32) (k : Nat) (ib : 0 ≤ b → cl b < 6) (hk : k ≤ mN M 0) (hf : mN M 0 < k + fu), nW p l e (nRm 4 0 0) s m args below meth c (nQ below (nX (some (.int (m_nearest_L19 fu M v b k))) (mH N0 mb kA hs M) n) D N0 s 0 0) D N0 4 19 [(0, .ref (N0 + mb)), (1, .int v), (2, .int b), (3, .int (nI k))] [] (mH N0 mb kA hs M) n 0 0 := by
  intro fu
  induction fu with
  | zero =>
    intro b k ib hk hf
    exfalso; omega
  | succ fu ih =>
    intro b k ib hk hf
    refine n_iload_n hC dX3_nearest_19 rfl ?_
    refine n_aload_n hC dX3_nearest_20 rfl ?_
    refine n_get hC cl3 (k := 0) (v := .int (nI (mN M 0))) mc_o (by omega) (by decide) q680 (mf_get N0 mb M (by decide)) dX3_nearest_21 ?_
    refine n_icmp_geN (tgt := 64) hC k (mN M 0) rfl rfl (by omega) (by omega) dX3_nearest_24 (by decide) (fun c24 => ?_) (fun c24 => ?_)
    · refine n_iload_n hC dX3_nearest_64 rfl ?_
      have eq_ : m_nearest_L19 (fu + 1) M v b k = b := by rw [m_nearest_L19, if_pos c24]
      refine n_iret hC dX3_nearest_65 (Nat.le_of_ble_eq_true rfl) (Nat.le_of_ble_eq_true rfl) ?_
      rw [eq_]
      exact ⟨rfl, rfl, rfl⟩
    · refine n_iload_n hC dX3_nearest_27 rfl ?_
      refine n_if_lt (tgt := 52) hC dX3_nearest_28 (by decide) (fun c28 => ?_) (fun c28 => ?_)
      · refine n_iload_n hC dX3_nearest_52 rfl ?_
        refine n_goto (tgt := 57) hC dX3_nearest_53 (by decide) ?_
        refine n_istore_n (L' := [(0, .ref (N0 + mb)), (1, .int v), (2, .int (nI k)), (3, .int (nI k))]) hC dX3_nearest_57 (by decide) rfl ?_
        refine n_iincN (a := k) (L' := [(0, .ref (N0 + mb)), (1, .int v), (2, .int (nI k)), (3, .int (nI (k + 1)))]) hC dX3_nearest_58 rfl (by decide) rfl ?_
        refine n_goto (tgt := 19) hC dX3_nearest_61 (by decide) ?_
        rw [show m_nearest_L19 (fu + 1) M v b k = m_nearest_L19 fu M v (nI k) (k + 1) from by rw [m_nearest_L19, if_neg (Nat.not_le.mpr c24), if_pos c28]]
        exact ih (nI k) (k + 1) (by first | exact ib | exact nI_inv (by omega)) (by omega) (by omega)
      · have hb := nI_cl (Int32.not_lt.mp c28)
        have hb2 := ib (Int32.not_lt.mp c28)
        refine n_aload_n hC dX3_nearest_31 rfl ?_
        refine n_iload_n hC dX3_nearest_32 rfl ?_
        refine n_callV1 hC (As := [.int (nI k)]) (rest := []) mc_o (by omega) rfl bX3_measureNow (t_m_measureNow l D N0 kA mb hs M n hn k (by omega) hh hS) (by decide) (by decide) q894 rfl (Nat.le_of_ble_eq_true rfl) dX3_nearest_33 (Nat.le_of_ble_eq_true rfl) (Nat.le_of_ble_eq_true rfl) ?_
        refine n_stk (st' := [.int (m_measureNow M k)]) rfl ?_
        refine n_iload_n hC dX3_nearest_36 rfl ?_
        refine n_callS1 hC (As := [.int (m_measureNow M k), .int v]) (rest := []) bX3_apart (t_m_apart l D N0 kA (mH N0 mb kA hs M) n (m_measureNow M k) v ) (by decide) (by decide) q1067 rfl (Nat.le_of_ble_eq_true rfl) dX3_nearest_37 (Nat.le_of_ble_eq_true rfl) (Nat.le_of_ble_eq_true rfl) ?_
        refine n_stk (st' := [.int (m_apart (m_measureNow M k) v)]) rfl ?_
        refine n_aload_n hC dX3_nearest_40 rfl ?_
        refine n_iload_n hC dX3_nearest_41 rfl ?_
        refine n_top (cl b) hb ?_
        refine n_callV1 hC (As := [.int (nI (cl b))]) (rest := [.int (m_apart (m_measureNow M k) v)]) mc_o (by omega) rfl bX3_measureNow (t_m_measureNow l D N0 kA mb hs M n hn (cl b) (by omega) hh hS) (by decide) (by decide) q894 rfl (Nat.le_of_ble_eq_true rfl) dX3_nearest_42 (Nat.le_of_ble_eq_true rfl) (Nat.le_of_ble_eq_true rfl) ?_
        refine n_stk (st' := [.int (m_measureNow M (cl b)), .int (m_apart (m_measureNow M k) v)]) rfl ?_
        refine n_iload_n hC dX3_nearest_45 rfl ?_
        refine n_callS1 hC (As := [.int (m_measureNow M (cl b)), .int v]) (rest := [.int (m_apart (m_measureNow M k) v)]) bX3_apart (t_m_apart l D N0 kA (mH N0 mb kA hs M) n (m_measureNow M (cl b)) v ) (by decide) (by decide) q1067 rfl (Nat.le_of_ble_eq_true rfl) dX3_nearest_46 (Nat.le_of_ble_eq_true rfl) (Nat.le_of_ble_eq_true rfl) ?_
        refine n_stk (st' := [.int (m_apart (m_measureNow M (cl b)) v), .int (m_apart (m_measureNow M k) v)]) rfl ?_
        refine n_icmp_ge (tgt := 56) hC dX3_nearest_49 (by decide) (fun c49 => ?_) (fun c49 => ?_)
        · refine n_iload_n hC dX3_nearest_56 rfl ?_
          refine n_top (cl b) hb ?_
          refine n_istore_n (L' := [(0, .ref (N0 + mb)), (1, .int v), (2, .int (nI (cl b))), (3, .int (nI k))]) hC dX3_nearest_57 (by decide) rfl ?_
          refine n_iincN (a := k) (L' := [(0, .ref (N0 + mb)), (1, .int v), (2, .int (nI (cl b))), (3, .int (nI (k + 1)))]) hC dX3_nearest_58 rfl (by decide) rfl ?_
          refine n_goto (tgt := 19) hC dX3_nearest_61 (by decide) ?_
          rw [show m_nearest_L19 (fu + 1) M v b k = m_nearest_L19 fu M v (nI (cl b)) (k + 1) from by rw [m_nearest_L19, if_neg (Nat.not_le.mpr c24), if_neg c28, if_pos c49]]
          exact ih (nI (cl b)) (k + 1) (by first | exact ib | exact nI_inv (by omega)) (by omega) (by omega)
        · refine n_iload_n hC dX3_nearest_52 rfl ?_
          refine n_goto (tgt := 57) hC dX3_nearest_53 (by decide) ?_
          refine n_istore_n (L' := [(0, .ref (N0 + mb)), (1, .int v), (2, .int (nI k)), (3, .int (nI k))]) hC dX3_nearest_57 (by decide) rfl ?_
          refine n_iincN (a := k) (L' := [(0, .ref (N0 + mb)), (1, .int v), (2, .int (nI k)), (3, .int (nI (k + 1)))]) hC dX3_nearest_58 rfl (by decide) rfl ?_
          refine n_goto (tgt := 19) hC dX3_nearest_61 (by decide) ?_
          rw [show m_nearest_L19 (fu + 1) M v b k = m_nearest_L19 fu M v (nI k) (k + 1) from by rw [m_nearest_L19, if_neg (Nat.not_le.mpr c24), if_neg c28, if_neg c49]]
          exact ih (nI k) (k + 1) (by first | exact ib | exact nI_inv (by omega)) (by omega) (by omega)
set_option maxRecDepth 100000 in
set_option maxHeartbeats 4000000 in
theorem t_m_nearest (l : Launch) (D : va_G) (N0 : Nat) (kA : Nat → ClassId) (mb : Nat) (hs : hT) (M : MS) (n : Nat) (hn : mb + 28 < n) (v : Int32) (h0 : mN M 0 ≤ 6) (hh : mHe M) (hS : mSe M) : nE l yX3_nearest cX3_nearest 4 (some .int) D N0 kA 4 0 0 [.ref (N0 + mb), .int v] (mH N0 mb kA hs M) n (nX (some (.int (m_nearest M v))) (mH N0 mb kA hs M) n) := by
  refine nE_of (by decide) (Nat.le_of_ble_eq_true rfl) ?_
  intro p e s m args below meth c hC hnm
  refine n_loc (L' := [(0, .ref (N0 + mb)), (1, .int v)]) rfl ?_
  refine n_iload_n hC dX3_nearest_0 rfl ?_
  refine n_i2l hC dX3_nearest_1 ?_
  refine n_lconst (v := 0) hC dX3_nearest_2 (by decide) ?_
  refine n_ldc2 hC dX3_nearest_3 q1082 ?_
  refine n_callS1 hC (As := [.long v.toInt64, .long 0, .long (999)]) (rest := []) bX3_in (t_m_in l D N0 kA (mH N0 mb kA hs M) n v.toInt64 0 (999) ) (by decide) (by decide) q822 rfl (Nat.le_of_ble_eq_true rfl) dX3_nearest_6 (Nat.le_of_ble_eq_true rfl) (Nat.le_of_ble_eq_true rfl) ?_
  refine n_stk (st' := [.int (bI (m_in v.toInt64 0 (999)))]) rfl ?_
  refine n_if_neB (tgt := 15) hC dX3_nearest_9 (by decide) (fun c9 => ?_) (fun c9 => ?_)
  · refine n_iconst (v := (-1)) hC dX3_nearest_15 (by decide) ?_
    refine n_istore_n (L' := [(0, .ref (N0 + mb)), (1, .int v), (2, .int (-1))]) hC dX3_nearest_16 (by decide) rfl ?_
    refine n_iconst (v := (nI 0)) hC dX3_nearest_17 (by decide) ?_
    refine n_istore_n (L' := [(0, .ref (N0 + mb)), (1, .int v), (2, .int (-1)), (3, .int (nI 0))]) hC dX3_nearest_18 (by decide) rfl ?_
    rw [show m_nearest M v = m_nearest_L19 (mN M 0 + 1) M v (-1) 0 from by rw [m_nearest, if_pos c9]]
    exact t_m_nearest_L19 hn hC h0 hh hS (mN M 0 + 1) (-1) 0 (fun z => absurd z (by decide)) (by omega) (by omega)
  · refine n_ldc hC dX3_nearest_12 q825 ?_
    have eq_ : m_nearest M v = (-1000000002) := by rw [m_nearest, if_neg (by rw [c9]; decide)]
    refine n_iret hC dX3_nearest_14 (Nat.le_of_ble_eq_true rfl) (Nat.le_of_ble_eq_true rfl) ?_
    rw [eq_]
    exact ⟨rfl, rfl, rfl⟩
def m_odds_L68 : Nat → MS → Int32 → Int32 → Int32 → Nat → Int64 → Nat → Int32
  | 0, _, _, _, _, _, _, _ => 0
  | fu + 1, M, k, v, q, y, u, i => (if (cl v) ≤ i then u.toInt32 else m_odds_L68 fu M k v q y ((u * (((nI 100) - (nI y)).toInt64)) / (100)) (i + 1))
def m_odds (M : MS) (k : Int32) (v : Int32) (q : Int32) : Int32 := (if (m_isLimb M k) = true then (if (m_in v.toInt64 0 (60)) = true then (if (m_in q.toInt64 0 (100)) = true then (if 100 ≤ ((cl q) + (2 * (cl k))) then m_odds_L68 (cl v + 1) M k v q 100 (1000000000) 0 else m_odds_L68 (cl v + 1) M k v q ((cl q) + (2 * (cl k))) (1000000000) 0) else (-1000000002)) else (-1000000002)) else (-1000000001))
theorem bX3_odds : nBV RX3 yX3_odds cX3_odds 8 (some .int) 3 := ⟨q1084, q1085, q55, q1086, by decide, by decide +kernel⟩
set_option maxRecDepth 100000 in
set_option maxHeartbeats 4000000 in
theorem t_m_odds_L68 {p : Program} {l : Launch} {e : Env} {s : State} {m : MethodId} {args : Array Value} {below : List Frame} {meth : Method} {c : Code} {D : va_G} {N0 : Nat} {kA : Nat → ClassId} {mb : Nat} {hs : hT} {M : MS} {n : Nat} (hn : mb + 28 < n) {k : Int32} {v : Int32} {q : Int32} (hC : nC p s m args meth c RX3 cX3_odds 8 (some .int) true D N0 kA) (h0 : mN M 0 ≤ 6) : ∀ (fu : Nat) (y : Nat) (u : Int64) (i : Nat) (hv1 : v = nI (cl v)) (hv2 : cl v ≤ 60) (hi : i ≤ cl v) (hf : cl v < i + fu), nW p l e (nRm 2 0 0) s m args below meth c (nQ below (nX (some (.int (m_odds_L68 fu M k v q y u i))) (mH N0 mb kA hs M) n) D N0 s 0 0) D N0 8 68 [(0, .ref (N0 + mb)), (1, .int k), (2, .int v), (3, .int q), (4, .int (nI y)), (5, .long u), (7, .int (nI i))] [] (mH N0 mb kA hs M) n 0 0 := by
  intro fu
  induction fu with
  | zero =>
    intro y u i hv1 hv2 hi hf
    exfalso; omega
  | succ fu ih =>
    intro y u i hv1 hv2 hi hf
    refine n_iload hC dX3_odds_68 rfl ?_
    refine n_iload_n hC dX3_odds_70 rfl ?_
    refine n_top (cl v) hv1 ?_
    refine n_icmp_geN (tgt := 95) hC i (cl v) rfl rfl (by omega) (by omega) dX3_odds_71 (by decide) (fun c71 => ?_) (fun c71 => ?_)
    · refine n_lload hC dX3_odds_95 rfl ?_
      refine n_l2i hC dX3_odds_97 ?_
      have eq_ : m_odds_L68 (fu + 1) M k v q y u i = u.toInt32 := by rw [m_odds_L68, if_pos c71]
      refine n_iret hC dX3_odds_98 (Nat.le_of_ble_eq_true rfl) (Nat.le_of_ble_eq_true rfl) ?_
      rw [eq_]
      exact ⟨rfl, rfl, rfl⟩
    · refine n_lload hC dX3_odds_74 rfl ?_
      refine n_bipush (v := (nI 100)) hC dX3_odds_76 (by decide) ?_
      refine n_iload hC dX3_odds_78 rfl ?_
      refine n_isub hC dX3_odds_80 ?_
      refine n_i2l hC dX3_odds_81 ?_
      refine n_lmul hC dX3_odds_82 ?_
      refine n_ldc2 hC dX3_odds_83 q1088 ?_
      refine n_ldiv hC dX3_odds_86 (by decide) ?_
      refine n_lstore (L' := [(0, .ref (N0 + mb)), (1, .int k), (2, .int v), (3, .int q), (4, .int (nI y)), (5, .long ((u * (((nI 100) - (nI y)).toInt64)) / (100))), (7, .int (nI i))]) hC dX3_odds_87 (by decide) rfl ?_
      refine n_iincN (a := i) (L' := [(0, .ref (N0 + mb)), (1, .int k), (2, .int v), (3, .int q), (4, .int (nI y)), (5, .long ((u * (((nI 100) - (nI y)).toInt64)) / (100))), (7, .int (nI (i + 1)))]) hC dX3_odds_89 rfl (by decide) rfl ?_
      refine n_goto (tgt := 68) hC dX3_odds_92 (by decide) ?_
      rw [show m_odds_L68 (fu + 1) M k v q y u i = m_odds_L68 fu M k v q y ((u * (((nI 100) - (nI y)).toInt64)) / (100)) (i + 1) from by rw [m_odds_L68, if_neg (Nat.not_le.mpr c71)]]
      exact ih y ((u * (((nI 100) - (nI y)).toInt64)) / (100)) (i + 1) hv1 hv2 (by omega) (by omega)
set_option maxRecDepth 100000 in
set_option maxHeartbeats 4000000 in
theorem t_m_odds (l : Launch) (D : va_G) (N0 : Nat) (kA : Nat → ClassId) (mb : Nat) (hs : hT) (M : MS) (n : Nat) (hn : mb + 28 < n) (k : Int32) (v : Int32) (q : Int32) (h0 : mN M 0 ≤ 6) : nE l yX3_odds cX3_odds 8 (some .int) D N0 kA 2 0 0 [.ref (N0 + mb), .int k, .int v, .int q] (mH N0 mb kA hs M) n (nX (some (.int (m_odds M k v q))) (mH N0 mb kA hs M) n) := by
  refine nE_of (by decide) (Nat.le_of_ble_eq_true rfl) ?_
  intro p e s m args below meth c hC hnm
  refine n_loc (L' := [(0, .ref (N0 + mb)), (1, .int k), (2, .int v), (3, .int q)]) rfl ?_
  refine n_aload_n hC dX3_odds_0 rfl ?_
  refine n_iload_n hC dX3_odds_1 rfl ?_
  refine n_callV1 hC (As := [.int k]) (rest := []) mc_o (by omega) rfl bX3_isLimb (t_m_isLimb l D N0 kA mb hs M n hn k ) (by decide) (by decide) q889 rfl (Nat.le_of_ble_eq_true rfl) dX3_odds_2 (Nat.le_of_ble_eq_true rfl) (Nat.le_of_ble_eq_true rfl) ?_
  refine n_stk (st' := [.int (bI (m_isLimb M k))]) rfl ?_
  refine n_if_neB (tgt := 11) hC dX3_odds_5 (by decide) (fun c5 => ?_) (fun c5 => ?_)
  · have hk := isLimb_nat h0 c5
    have hk2 := hk.2
    refine n_iload_n hC dX3_odds_11 rfl ?_
    refine n_i2l hC dX3_odds_12 ?_
    refine n_lconst (v := 0) hC dX3_odds_13 (by decide) ?_
    refine n_ldc2 hC dX3_odds_14 q1087 ?_
    refine n_callS1 hC (As := [.long v.toInt64, .long 0, .long (60)]) (rest := []) bX3_in (t_m_in l D N0 kA (mH N0 mb kA hs M) n v.toInt64 0 (60) ) (by decide) (by decide) q822 rfl (Nat.le_of_ble_eq_true rfl) dX3_odds_17 (Nat.le_of_ble_eq_true rfl) (Nat.le_of_ble_eq_true rfl) ?_
    refine n_stk (st' := [.int (bI (m_in v.toInt64 0 (60)))]) rfl ?_
    refine n_if_eqB (tgt := 35) hC dX3_odds_20 (by decide) (fun c20 => ?_) (fun c20 => ?_)
    · refine n_ldc hC dX3_odds_35 q825 ?_
      have eq_ : m_odds M k v q = (-1000000002) := by rw [m_odds, if_pos c5, if_neg (by rw [c20]; decide)]
      refine n_iret hC dX3_odds_37 (Nat.le_of_ble_eq_true rfl) (Nat.le_of_ble_eq_true rfl) ?_
      rw [eq_]
      exact ⟨rfl, rfl, rfl⟩
    · have hv := (in_cst (x := v) 0 60 rfl rfl).mp c20
      have hv1 := nI_cl hv.1
      have hv2 := hv.2
      refine n_iload_n hC dX3_odds_23 rfl ?_
      refine n_i2l hC dX3_odds_24 ?_
      refine n_lconst (v := 0) hC dX3_odds_25 (by decide) ?_
      refine n_ldc2 hC dX3_odds_26 q1088 ?_
      refine n_callS1 hC (As := [.long q.toInt64, .long 0, .long (100)]) (rest := []) bX3_in (t_m_in l D N0 kA (mH N0 mb kA hs M) n q.toInt64 0 (100) ) (by decide) (by decide) q822 rfl (Nat.le_of_ble_eq_true rfl) dX3_odds_29 (Nat.le_of_ble_eq_true rfl) (Nat.le_of_ble_eq_true rfl) ?_
      refine n_stk (st' := [.int (bI (m_in q.toInt64 0 (100)))]) rfl ?_
      refine n_if_neB (tgt := 38) hC dX3_odds_32 (by decide) (fun c32 => ?_) (fun c32 => ?_)
      · have hq := (in_cst (x := q) 0 100 rfl rfl).mp c32
        have hq1 := nI_cl hq.1
        have hq2 := hq.2
        refine n_iload_n hC dX3_odds_38 rfl ?_
        refine n_top (cl q) hq1 ?_
        refine n_iconst (v := (nI 2)) hC dX3_odds_39 (by decide) ?_
        refine n_iload_n hC dX3_odds_40 rfl ?_
        refine n_top (cl k) hk.1 ?_
        refine n_imulN hC dX3_odds_41 ?_
        refine n_iaddN hC dX3_odds_42 ?_
        refine n_bipush (v := (nI 100)) hC dX3_odds_43 (by decide) ?_
        refine n_icmp_geN (tgt := 56) hC ((cl q) + (2 * (cl k))) 100 rfl rfl (by omega) (by omega) dX3_odds_45 (by decide) (fun c45 => ?_) (fun c45 => ?_)
        · refine n_bipush (v := (nI 100)) hC dX3_odds_56 (by decide) ?_
          refine n_istore (L' := [(0, .ref (N0 + mb)), (1, .int k), (2, .int v), (3, .int q), (4, .int (nI 100))]) hC dX3_odds_58 (by decide) rfl ?_
          refine n_ldc2 hC dX3_odds_60 q1089 ?_
          refine n_lstore (L' := [(0, .ref (N0 + mb)), (1, .int k), (2, .int v), (3, .int q), (4, .int (nI 100)), (5, .long (1000000000))]) hC dX3_odds_63 (by decide) rfl ?_
          refine n_iconst (v := (nI 0)) hC dX3_odds_65 (by decide) ?_
          refine n_istore (L' := [(0, .ref (N0 + mb)), (1, .int k), (2, .int v), (3, .int q), (4, .int (nI 100)), (5, .long (1000000000)), (7, .int (nI 0))]) hC dX3_odds_66 (by decide) rfl ?_
          rw [show m_odds M k v q = m_odds_L68 (cl v + 1) M k v q 100 (1000000000) 0 from by rw [m_odds, if_pos c5, if_pos c20, if_pos c32, if_pos c45]]
          exact t_m_odds_L68 hn hC h0 (cl v + 1) 100 (1000000000) 0 hv1 hv.2.2 (by omega) (by omega)
        · refine n_iload_n hC dX3_odds_48 rfl ?_
          refine n_top (cl q) hq1 ?_
          refine n_iconst (v := (nI 2)) hC dX3_odds_49 (by decide) ?_
          refine n_iload_n hC dX3_odds_50 rfl ?_
          refine n_top (cl k) hk.1 ?_
          refine n_imulN hC dX3_odds_51 ?_
          refine n_iaddN hC dX3_odds_52 ?_
          refine n_goto (tgt := 58) hC dX3_odds_53 (by decide) ?_
          refine n_istore (L' := [(0, .ref (N0 + mb)), (1, .int k), (2, .int v), (3, .int q), (4, .int (nI ((cl q) + (2 * (cl k)))))]) hC dX3_odds_58 (by decide) rfl ?_
          refine n_ldc2 hC dX3_odds_60 q1089 ?_
          refine n_lstore (L' := [(0, .ref (N0 + mb)), (1, .int k), (2, .int v), (3, .int q), (4, .int (nI ((cl q) + (2 * (cl k))))), (5, .long (1000000000))]) hC dX3_odds_63 (by decide) rfl ?_
          refine n_iconst (v := (nI 0)) hC dX3_odds_65 (by decide) ?_
          refine n_istore (L' := [(0, .ref (N0 + mb)), (1, .int k), (2, .int v), (3, .int q), (4, .int (nI ((cl q) + (2 * (cl k))))), (5, .long (1000000000)), (7, .int (nI 0))]) hC dX3_odds_66 (by decide) rfl ?_
          rw [show m_odds M k v q = m_odds_L68 (cl v + 1) M k v q ((cl q) + (2 * (cl k))) (1000000000) 0 from by rw [m_odds, if_pos c5, if_pos c20, if_pos c32, if_neg (Nat.not_le.mpr c45)]]
          exact t_m_odds_L68 hn hC h0 (cl v + 1) ((cl q) + (2 * (cl k))) (1000000000) 0 hv1 hv.2.2 (by omega) (by omega)
      · refine n_ldc hC dX3_odds_35 q825 ?_
        have eq_ : m_odds M k v q = (-1000000002) := by rw [m_odds, if_pos c5, if_pos c20, if_neg (by rw [c32]; decide)]
        refine n_iret hC dX3_odds_37 (Nat.le_of_ble_eq_true rfl) (Nat.le_of_ble_eq_true rfl) ?_
        rw [eq_]
        exact ⟨rfl, rfl, rfl⟩
  · refine n_ldc hC dX3_odds_8 q893 ?_
    have eq_ : m_odds M k v q = (-1000000001) := by rw [m_odds, if_neg (by rw [c5]; decide)]
    refine n_iret hC dX3_odds_10 (Nat.le_of_ble_eq_true rfl) (Nat.le_of_ble_eq_true rfl) ?_
    rw [eq_]
    exact ⟨rfl, rfl, rfl⟩
def m_used_L17 : Nat → MS → Int32 → Nat → Bool → Nat → Bool
  | 0, _, _, _, _, _ => false
  | fu + 1, M, r, k, b, i => (if (mN M 37) ≤ i then b else (if b = true then (if ((mA M 38 i) * (m_measureNow M k)) = (mA M 39 i) then m_used_L17 fu M r k true (i + 1) else m_used_L17 fu M r k false (i + 1)) else m_used_L17 fu M r k false (i + 1)))
def m_used_L4 : Nat → MS → Int32 → Nat → Int32
  | 0, _, _, _ => 0
  | fu + 1, M, r, k => (if (mN M 0) ≤ k then r else (if (m_used_L17 (mN M 37 + 1) M r k true 0) = true then m_used_L4 fu M (r ||| ((nI 1) <<< ((nI k) &&& 31))) (k + 1) else m_used_L4 fu M (r ||| (nI 0)) (k + 1)))
def m_used (M : MS) : Int32 := m_used_L4 (mN M 0 + 1) M (nI 0) 0
theorem bX3_used : nBV RX3 yX3_used cX3_used 5 (some .int) 0 := ⟨q1097, q1098, q55, q1099, by decide, by decide +kernel⟩
set_option maxRecDepth 100000 in
set_option maxHeartbeats 4000000 in
theorem t_m_used_L17 {p : Program} {l : Launch} {e : Env} {s : State} {m : MethodId} {args : Array Value} {below : List Frame} {meth : Method} {c : Code} {Q : State → Prop} {D : va_G} {N0 : Nat} {kA : Nat → ClassId} {mb : Nat} {hs : hT} {M : MS} {n : Nat} (hn : mb + 28 < n)  (hC : nC p s m args meth c RX3 cX3_used 5 (some .int) true D N0 kA) (h0 : mN M 0 ≤ 6) (hh : mHe M) (hS : mSe M) (h37 : mN M 37 ≤ 8) : ∀ (fu : Nat) (r : Int32) (k : Nat) (b : Bool) (i : Nat) (hk : k < mN M 0) (hi : i ≤ mN M 37) (hf : mN M 37 < i + fu) (hK : nW p l e (nRm 4 0 0) s m args below meth c Q D N0 5 65 [(0, .ref (N0 + mb)), (1, .int r), (2, .int (nI k)), (3, .int (bI (m_used_L17 fu M r k b i)))] [] (mH N0 mb kA hs M) n 0 0), nW p l e (nRm 4 0 0) s m args below meth c Q D N0 5 17 [(0, .ref (N0 + mb)), (1, .int r), (2, .int (nI k)), (3, .int (bI b)), (4, .int (nI i))] [] (mH N0 mb kA hs M) n 0 0 := by
  intro fu
  induction fu with
  | zero =>
    intro r k b i hk hi hf hK
    exfalso; omega
  | succ fu ih =>
    intro r k b i hk hi hf hK
    refine n_iload hC dX3_used_17 rfl ?_
    refine n_aload_n hC dX3_used_19 rfl ?_
    refine n_get hC cl3 (k := 37) (v := .int (nI (mN M 37))) mc_o (by omega) (by decide) q717 (mf_get N0 mb M (by decide)) dX3_used_20 ?_
    refine n_icmp_geN (tgt := 65) hC i (mN M 37) rfl rfl (by omega) (by omega) dX3_used_23 (by decide) (fun c23 => ?_) (fun c23 => ?_)
    · refine n_drop [0, 1, 2, 3] (L' := [(0, .ref (N0 + mb)), (1, .int r), (2, .int (nI k)), (3, .int (bI b))]) rfl ?_
      rw [m_used_L17, if_pos c23] at hK
      exact hK
    · refine n_iload_n hC dX3_used_26 rfl ?_
      refine n_if_eqB (tgt := 57) hC dX3_used_27 (by decide) (fun c27 => ?_) (fun c27 => ?_)
      · refine n_iconst (v := (nI 0)) hC dX3_used_57 (by decide) ?_
        refine n_istore_n (L' := [(0, .ref (N0 + mb)), (1, .int r), (2, .int (nI k)), (3, .int (nI 0)), (4, .int (nI i))]) hC dX3_used_58 (by decide) rfl ?_
        refine n_iincN (a := i) (L' := [(0, .ref (N0 + mb)), (1, .int r), (2, .int (nI k)), (3, .int (nI 0)), (4, .int (nI (i + 1)))]) hC dX3_used_59 rfl (by decide) rfl ?_
        refine n_goto (tgt := 17) hC dX3_used_62 (by decide) ?_
        rw [m_used_L17, if_neg (Nat.not_le.mpr c23), if_neg (by rw [c27]; decide)] at hK
        exact ih r k false (i + 1) (by omega) (by omega) (by omega) hK
      · refine n_aload_n hC dX3_used_30 rfl ?_
        refine n_get hC cl3 (k := 38) (v := .ref (N0 + (mb + 23))) mc_o (by omega) (by decide) q718 (mf_get N0 mb M (by decide)) dX3_used_31 ?_
        refine n_iload hC dX3_used_34 rfl ?_
        refine n_iald hC (f := mA M 38) (mc_a (p := 23) (by decide) (by decide)) (by omega) i rfl (by omega) (by decide) dX3_used_36 ?_
        refine n_aload_n hC dX3_used_37 rfl ?_
        refine n_iload_n hC dX3_used_38 rfl ?_
        refine n_callV1 hC (As := [.int (nI k)]) (rest := [.int (mA M 38 i)]) mc_o (by omega) rfl bX3_measureNow (t_m_measureNow l D N0 kA mb hs M n hn k (by omega) hh hS) (by decide) (by decide) q894 rfl (Nat.le_of_ble_eq_true rfl) dX3_used_39 (Nat.le_of_ble_eq_true rfl) (Nat.le_of_ble_eq_true rfl) ?_
        refine n_stk (st' := [.int (m_measureNow M k), .int (mA M 38 i)]) rfl ?_
        refine n_imul hC dX3_used_42 ?_
        refine n_aload_n hC dX3_used_43 rfl ?_
        refine n_get hC cl3 (k := 39) (v := .ref (N0 + (mb + 24))) mc_o (by omega) (by decide) q719 (mf_get N0 mb M (by decide)) dX3_used_44 ?_
        refine n_iload hC dX3_used_47 rfl ?_
        refine n_iald hC (f := mA M 39) (mc_a (p := 24) (by decide) (by decide)) (by omega) i rfl (by omega) (by decide) dX3_used_49 ?_
        refine n_icmp_ne (tgt := 57) hC dX3_used_50 (by decide) (fun c50 => ?_) (fun c50 => ?_)
        · refine n_iconst (v := (nI 0)) hC dX3_used_57 (by decide) ?_
          refine n_istore_n (L' := [(0, .ref (N0 + mb)), (1, .int r), (2, .int (nI k)), (3, .int (nI 0)), (4, .int (nI i))]) hC dX3_used_58 (by decide) rfl ?_
          refine n_iincN (a := i) (L' := [(0, .ref (N0 + mb)), (1, .int r), (2, .int (nI k)), (3, .int (nI 0)), (4, .int (nI (i + 1)))]) hC dX3_used_59 rfl (by decide) rfl ?_
          refine n_goto (tgt := 17) hC dX3_used_62 (by decide) ?_
          rw [m_used_L17, if_neg (Nat.not_le.mpr c23), if_pos c27, if_neg c50] at hK
          exact ih r k false (i + 1) (by omega) (by omega) (by omega) hK
        · refine n_iconst (v := (nI 1)) hC dX3_used_53 (by decide) ?_
          refine n_goto (tgt := 58) hC dX3_used_54 (by decide) ?_
          refine n_istore_n (L' := [(0, .ref (N0 + mb)), (1, .int r), (2, .int (nI k)), (3, .int (nI 1)), (4, .int (nI i))]) hC dX3_used_58 (by decide) rfl ?_
          refine n_iincN (a := i) (L' := [(0, .ref (N0 + mb)), (1, .int r), (2, .int (nI k)), (3, .int (nI 1)), (4, .int (nI (i + 1)))]) hC dX3_used_59 rfl (by decide) rfl ?_
          refine n_goto (tgt := 17) hC dX3_used_62 (by decide) ?_
          rw [m_used_L17, if_neg (Nat.not_le.mpr c23), if_pos c27, if_pos c50] at hK
          exact ih r k true (i + 1) (by omega) (by omega) (by omega) hK
set_option maxRecDepth 100000 in
set_option maxHeartbeats 4000000 in
theorem t_m_used_L4 {p : Program} {l : Launch} {e : Env} {s : State} {m : MethodId} {args : Array Value} {below : List Frame} {meth : Method} {c : Code} {D : va_G} {N0 : Nat} {kA : Nat → ClassId} {mb : Nat} {hs : hT} {M : MS} {n : Nat} (hn : mb + 28 < n)  (hC : nC p s m args meth c RX3 cX3_used 5 (some .int) true D N0 kA) (h0 : mN M 0 ≤ 6) (hh : mHe M) (hS : mSe M) (h37 : mN M 37 ≤ 8) : ∀ (fu : Nat) (r : Int32) (k : Nat) (hk : k ≤ mN M 0) (hf : mN M 0 < k + fu), nW p l e (nRm 4 0 0) s m args below meth c (nQ below (nX (some (.int (m_used_L4 fu M r k))) (mH N0 mb kA hs M) n) D N0 s 0 0) D N0 5 4 [(0, .ref (N0 + mb)), (1, .int r), (2, .int (nI k))] [] (mH N0 mb kA hs M) n 0 0 := by
  intro fu
  induction fu with
  | zero =>
    intro r k hk hf
    exfalso; omega
  | succ fu ih =>
    intro r k hk hf
    refine n_iload_n hC dX3_used_4 rfl ?_
    refine n_aload_n hC dX3_used_5 rfl ?_
    refine n_get hC cl3 (k := 0) (v := .int (nI (mN M 0))) mc_o (by omega) (by decide) q680 (mf_get N0 mb M (by decide)) dX3_used_6 ?_
    refine n_icmp_geN (tgt := 85) hC k (mN M 0) rfl rfl (by omega) (by omega) dX3_used_9 (by decide) (fun c9 => ?_) (fun c9 => ?_)
    · refine n_iload_n hC dX3_used_85 rfl ?_
      have eq_ : m_used_L4 (fu + 1) M r k = r := by rw [m_used_L4, if_pos c9]
      refine n_iret hC dX3_used_86 (Nat.le_of_ble_eq_true rfl) (Nat.le_of_ble_eq_true rfl) ?_
      rw [eq_]
      exact ⟨rfl, rfl, rfl⟩
    · refine n_iconst (v := (nI 1)) hC dX3_used_12 (by decide) ?_
      refine n_istore_n (L' := [(0, .ref (N0 + mb)), (1, .int r), (2, .int (nI k)), (3, .int (nI 1))]) hC dX3_used_13 (by decide) rfl ?_
      refine n_iconst (v := (nI 0)) hC dX3_used_14 (by decide) ?_
      refine n_istore (L' := [(0, .ref (N0 + mb)), (1, .int r), (2, .int (nI k)), (3, .int (nI 1)), (4, .int (nI 0))]) hC dX3_used_15 (by decide) rfl ?_
      refine t_m_used_L17 hn hC h0 hh hS h37 (mN M 37 + 1) r k true 0 (by omega) (by omega) (by omega) ?_
      refine n_iload_n hC dX3_used_65 rfl ?_
      refine n_iload_n hC dX3_used_66 rfl ?_
      refine n_if_eqB (tgt := 76) hC dX3_used_67 (by decide) (fun c67 => ?_) (fun c67 => ?_)
      · refine n_iconst (v := (nI 0)) hC dX3_used_76 (by decide) ?_
        refine n_ior hC dX3_used_77 ?_
        refine n_istore_n (L' := [(0, .ref (N0 + mb)), (1, .int (r ||| (nI 0))), (2, .int (nI k)), (3, .int (bI (m_used_L17 (mN M 37 + 1) M r k true 0)))]) hC dX3_used_78 (by decide) rfl ?_
        refine n_iincN (a := k) (L' := [(0, .ref (N0 + mb)), (1, .int (r ||| (nI 0))), (2, .int (nI (k + 1))), (3, .int (bI (m_used_L17 (mN M 37 + 1) M r k true 0)))]) hC dX3_used_79 rfl (by decide) rfl ?_
        refine n_goto (tgt := 4) hC dX3_used_82 (by decide) ?_
        refine n_drop [0, 1, 2] (L' := [(0, .ref (N0 + mb)), (1, .int (r ||| (nI 0))), (2, .int (nI (k + 1)))]) rfl ?_
        rw [show m_used_L4 (fu + 1) M r k = m_used_L4 fu M (r ||| (nI 0)) (k + 1) from by rw [m_used_L4, if_neg (Nat.not_le.mpr c9), if_neg (by rw [c67]; decide)]]
        exact ih (r ||| (nI 0)) (k + 1) (by omega) (by omega)
      · refine n_iconst (v := (nI 1)) hC dX3_used_70 (by decide) ?_
        refine n_iload_n hC dX3_used_71 rfl ?_
        refine n_ishl hC dX3_used_72 ?_
        refine n_goto (tgt := 77) hC dX3_used_73 (by decide) ?_
        refine n_ior hC dX3_used_77 ?_
        refine n_istore_n (L' := [(0, .ref (N0 + mb)), (1, .int (r ||| ((nI 1) <<< ((nI k) &&& 31)))), (2, .int (nI k)), (3, .int (bI (m_used_L17 (mN M 37 + 1) M r k true 0)))]) hC dX3_used_78 (by decide) rfl ?_
        refine n_iincN (a := k) (L' := [(0, .ref (N0 + mb)), (1, .int (r ||| ((nI 1) <<< ((nI k) &&& 31)))), (2, .int (nI (k + 1))), (3, .int (bI (m_used_L17 (mN M 37 + 1) M r k true 0)))]) hC dX3_used_79 rfl (by decide) rfl ?_
        refine n_goto (tgt := 4) hC dX3_used_82 (by decide) ?_
        refine n_drop [0, 1, 2] (L' := [(0, .ref (N0 + mb)), (1, .int (r ||| ((nI 1) <<< ((nI k) &&& 31)))), (2, .int (nI (k + 1)))]) rfl ?_
        rw [show m_used_L4 (fu + 1) M r k = m_used_L4 fu M (r ||| ((nI 1) <<< ((nI k) &&& 31))) (k + 1) from by rw [m_used_L4, if_neg (Nat.not_le.mpr c9), if_pos c67]]
        exact ih (r ||| ((nI 1) <<< ((nI k) &&& 31))) (k + 1) (by omega) (by omega)
set_option maxRecDepth 100000 in
set_option maxHeartbeats 4000000 in
theorem t_m_used (l : Launch) (D : va_G) (N0 : Nat) (kA : Nat → ClassId) (mb : Nat) (hs : hT) (M : MS) (n : Nat) (hn : mb + 28 < n)  (h0 : mN M 0 ≤ 6) (hh : mHe M) (hS : mSe M) (h37 : mN M 37 ≤ 8) : nE l yX3_used cX3_used 5 (some .int) D N0 kA 4 0 0 [.ref (N0 + mb)] (mH N0 mb kA hs M) n (nX (some (.int (m_used M))) (mH N0 mb kA hs M) n) := by
  refine nE_of (by decide) (Nat.le_of_ble_eq_true rfl) ?_
  intro p e s m args below meth c hC hnm
  refine n_loc (L' := [(0, .ref (N0 + mb))]) rfl ?_
  refine n_iconst (v := (nI 0)) hC dX3_used_0 (by decide) ?_
  refine n_istore_n (L' := [(0, .ref (N0 + mb)), (1, .int (nI 0))]) hC dX3_used_1 (by decide) rfl ?_
  refine n_iconst (v := (nI 0)) hC dX3_used_2 (by decide) ?_
  refine n_istore_n (L' := [(0, .ref (N0 + mb)), (1, .int (nI 0)), (2, .int (nI 0))]) hC dX3_used_3 (by decide) rfl ?_
  rw [show m_used M = m_used_L4 (mN M 0 + 1) M (nI 0) 0 from by rw [m_used]]
  exact t_m_used_L4 hn hC h0 hh hS h37 (mN M 0 + 1) (nI 0) 0 (by omega) (by omega)
def m_bale_L39 : Nat → MS → Int32 → Nat → Bool → Nat → Nat → Bool
  | 0, _, _, _, _, _, _ => false
  | fu + 1, M, r, i, b, j, q => (if j ≤ q then b else (if (m_has r j) = true then (if (m_has r q) = true then (if b = true then (if (m_measure M j ((cl (mA M 12 19)) + i)) = (m_measure M q ((cl (mA M 12 19)) + i)) then m_bale_L39 fu M r i false j (q + 1) else m_bale_L39 fu M r i true j (q + 1)) else m_bale_L39 fu M r i false j (q + 1)) else (if b = true then m_bale_L39 fu M r i true j (q + 1) else m_bale_L39 fu M r i false j (q + 1))) else (if b = true then m_bale_L39 fu M r i true j (q + 1) else m_bale_L39 fu M r i false j (q + 1))))
def m_bale_L27 : Nat → MS → Int32 → Nat → Bool → Nat → Bool
  | 0, _, _, _, _, _ => false
  | fu + 1, M, r, i, b, j => (if (mN M 0) ≤ j then b else m_bale_L27 fu M r i (m_bale_L39 (j + 1) M r i b j 0) (j + 1))
def m_bale_L17 : Nat → MS → Int32 → Nat → Int32
  | 0, _, _, _ => 0
  | fu + 1, M, r, i => (if 4 ≤ i then (-1) else (if (m_bale_L27 (mN M 0 + 1) M r i true 0) = true then (nI i) else m_bale_L17 fu M r (i + 1)))
def m_bale (M : MS) : Int32 := (if (nI 2) ≤ (m_bits (m_used M)) then m_bale_L17 5 M (m_used M) 0 else (-1))
theorem bX3_bale : nBV RX3 yX3_bale cX3_bale 7 (some .int) 0 := ⟨q1101, q1102, q55, q1103, by decide, by decide +kernel⟩
set_option maxRecDepth 100000 in
set_option maxHeartbeats 4000000 in
theorem t_m_bale_L39 {p : Program} {l : Launch} {e : Env} {s : State} {m : MethodId} {args : Array Value} {below : List Frame} {meth : Method} {c : Code} {Q : State → Prop} {D : va_G} {N0 : Nat} {kA : Nat → ClassId} {mb : Nat} {hs : hT} {M : MS} {n : Nat} (hn : mb + 28 < n)  (hC : nC p s m args meth c RX3 cX3_bale 7 (some .int) true D N0 kA) (h0 : mN M 0 ≤ 6) (hh : mHe M) (hS : mSe M) (h37 : mN M 37 ≤ 8) : ∀ (fu : Nat) (r : Int32) (i : Nat) (b : Bool) (j : Nat) (q : Nat) (hi : i < 4) (hj : j < mN M 0) (hq : q ≤ j) (hf : j < q + fu) (hK : nW p l e (nRm 5 0 0) s m args below meth c Q D N0 7 125 [(0, .ref (N0 + mb)), (1, .int r), (2, .int (nI i)), (3, .int (bI (m_bale_L39 fu M r i b j q))), (4, .int (nI j))] [] (mH N0 mb kA hs M) n 0 0), nW p l e (nRm 5 0 0) s m args below meth c Q D N0 7 39 [(0, .ref (N0 + mb)), (1, .int r), (2, .int (nI i)), (3, .int (bI b)), (4, .int (nI j)), (5, .int (nI q))] [] (mH N0 mb kA hs M) n 0 0 := by
  intro fu
  induction fu with
  | zero =>
    intro r i b j q hi hj hq hf hK
    exfalso; omega
  | succ fu ih =>
    intro r i b j q hi hj hq hf hK
    have hS2 := hS.2
    refine n_iload hC dX3_bale_39 rfl ?_
    refine n_iload hC dX3_bale_41 rfl ?_
    refine n_icmp_geN (tgt := 125) hC q j rfl rfl (by omega) (by omega) dX3_bale_43 (by decide) (fun c43 => ?_) (fun c43 => ?_)
    · refine n_drop [0, 1, 2, 3, 4] (L' := [(0, .ref (N0 + mb)), (1, .int r), (2, .int (nI i)), (3, .int (bI b)), (4, .int (nI j))]) rfl ?_
      rw [m_bale_L39, if_pos c43] at hK
      exact hK
    · refine n_iload_n hC dX3_bale_46 rfl ?_
      refine n_iload hC dX3_bale_47 rfl ?_
      refine n_callS1 hC (As := [.int r, .int (nI j)]) (rest := []) bX3_has (t_m_has l D N0 kA (mH N0 mb kA hs M) n r j ) (by decide) (by decide) q906 rfl (Nat.le_of_ble_eq_true rfl) dX3_bale_49 (Nat.le_of_ble_eq_true rfl) (Nat.le_of_ble_eq_true rfl) ?_
      refine n_stk (st' := [.int (bI (m_has r j))]) rfl ?_
      refine n_if_eqB (tgt := 68) hC dX3_bale_52 (by decide) (fun c52 => ?_) (fun c52 => ?_)
      · refine n_iconst (v := (nI 0)) hC dX3_bale_68 (by decide) ?_
        refine n_istore (L' := [(0, .ref (N0 + mb)), (1, .int r), (2, .int (nI i)), (3, .int (bI b)), (4, .int (nI j)), (5, .int (nI q)), (6, .int (nI 0))]) hC dX3_bale_69 (by decide) rfl ?_
        refine n_iload_n hC dX3_bale_71 rfl ?_
        refine n_if_eqB (tgt := 117) hC dX3_bale_72 (by decide) (fun c72 => ?_) (fun c72 => ?_)
        · refine n_iconst (v := (nI 0)) hC dX3_bale_117 (by decide) ?_
          refine n_istore_n (L' := [(0, .ref (N0 + mb)), (1, .int r), (2, .int (nI i)), (3, .int (nI 0)), (4, .int (nI j)), (5, .int (nI q)), (6, .int (nI 0))]) hC dX3_bale_118 (by decide) rfl ?_
          refine n_iincN (a := q) (L' := [(0, .ref (N0 + mb)), (1, .int r), (2, .int (nI i)), (3, .int (nI 0)), (4, .int (nI j)), (5, .int (nI (q + 1))), (6, .int (nI 0))]) hC dX3_bale_119 rfl (by decide) rfl ?_
          refine n_goto (tgt := 39) hC dX3_bale_122 (by decide) ?_
          refine n_drop [0, 1, 2, 3, 4, 5] (L' := [(0, .ref (N0 + mb)), (1, .int r), (2, .int (nI i)), (3, .int (nI 0)), (4, .int (nI j)), (5, .int (nI (q + 1)))]) rfl ?_
          rw [m_bale_L39, if_neg (Nat.not_le.mpr c43), if_neg (by rw [c52]; decide), if_neg (by rw [c72]; decide)] at hK
          exact ih r i false j (q + 1) (by omega) (by omega) (by omega) (by omega) hK
        · refine n_iload hC dX3_bale_75 rfl ?_
          refine n_if_eqT (tgt := 113) hC dX3_bale_77 (by decide) (by decide) ?_
          refine n_iconst (v := (nI 1)) hC dX3_bale_113 (by decide) ?_
          refine n_goto (tgt := 118) hC dX3_bale_114 (by decide) ?_
          refine n_istore_n (L' := [(0, .ref (N0 + mb)), (1, .int r), (2, .int (nI i)), (3, .int (nI 1)), (4, .int (nI j)), (5, .int (nI q)), (6, .int (nI 0))]) hC dX3_bale_118 (by decide) rfl ?_
          refine n_iincN (a := q) (L' := [(0, .ref (N0 + mb)), (1, .int r), (2, .int (nI i)), (3, .int (nI 1)), (4, .int (nI j)), (5, .int (nI (q + 1))), (6, .int (nI 0))]) hC dX3_bale_119 rfl (by decide) rfl ?_
          refine n_goto (tgt := 39) hC dX3_bale_122 (by decide) ?_
          refine n_drop [0, 1, 2, 3, 4, 5] (L' := [(0, .ref (N0 + mb)), (1, .int r), (2, .int (nI i)), (3, .int (nI 1)), (4, .int (nI j)), (5, .int (nI (q + 1)))]) rfl ?_
          rw [m_bale_L39, if_neg (Nat.not_le.mpr c43), if_neg (by rw [c52]; decide), if_pos c72] at hK
          exact ih r i true j (q + 1) (by omega) (by omega) (by omega) (by omega) hK
      · refine n_iload_n hC dX3_bale_55 rfl ?_
        refine n_iload hC dX3_bale_56 rfl ?_
        refine n_callS1 hC (As := [.int r, .int (nI q)]) (rest := []) bX3_has (t_m_has l D N0 kA (mH N0 mb kA hs M) n r q ) (by decide) (by decide) q906 rfl (Nat.le_of_ble_eq_true rfl) dX3_bale_58 (Nat.le_of_ble_eq_true rfl) (Nat.le_of_ble_eq_true rfl) ?_
        refine n_stk (st' := [.int (bI (m_has r q))]) rfl ?_
        refine n_if_eqB (tgt := 68) hC dX3_bale_61 (by decide) (fun c61 => ?_) (fun c61 => ?_)
        · refine n_iconst (v := (nI 0)) hC dX3_bale_68 (by decide) ?_
          refine n_istore (L' := [(0, .ref (N0 + mb)), (1, .int r), (2, .int (nI i)), (3, .int (bI b)), (4, .int (nI j)), (5, .int (nI q)), (6, .int (nI 0))]) hC dX3_bale_69 (by decide) rfl ?_
          refine n_iload_n hC dX3_bale_71 rfl ?_
          refine n_if_eqB (tgt := 117) hC dX3_bale_72 (by decide) (fun c72 => ?_) (fun c72 => ?_)
          · refine n_iconst (v := (nI 0)) hC dX3_bale_117 (by decide) ?_
            refine n_istore_n (L' := [(0, .ref (N0 + mb)), (1, .int r), (2, .int (nI i)), (3, .int (nI 0)), (4, .int (nI j)), (5, .int (nI q)), (6, .int (nI 0))]) hC dX3_bale_118 (by decide) rfl ?_
            refine n_iincN (a := q) (L' := [(0, .ref (N0 + mb)), (1, .int r), (2, .int (nI i)), (3, .int (nI 0)), (4, .int (nI j)), (5, .int (nI (q + 1))), (6, .int (nI 0))]) hC dX3_bale_119 rfl (by decide) rfl ?_
            refine n_goto (tgt := 39) hC dX3_bale_122 (by decide) ?_
            refine n_drop [0, 1, 2, 3, 4, 5] (L' := [(0, .ref (N0 + mb)), (1, .int r), (2, .int (nI i)), (3, .int (nI 0)), (4, .int (nI j)), (5, .int (nI (q + 1)))]) rfl ?_
            rw [m_bale_L39, if_neg (Nat.not_le.mpr c43), if_pos c52, if_neg (by rw [c61]; decide), if_neg (by rw [c72]; decide)] at hK
            exact ih r i false j (q + 1) (by omega) (by omega) (by omega) (by omega) hK
          · refine n_iload hC dX3_bale_75 rfl ?_
            refine n_if_eqT (tgt := 113) hC dX3_bale_77 (by decide) (by decide) ?_
            refine n_iconst (v := (nI 1)) hC dX3_bale_113 (by decide) ?_
            refine n_goto (tgt := 118) hC dX3_bale_114 (by decide) ?_
            refine n_istore_n (L' := [(0, .ref (N0 + mb)), (1, .int r), (2, .int (nI i)), (3, .int (nI 1)), (4, .int (nI j)), (5, .int (nI q)), (6, .int (nI 0))]) hC dX3_bale_118 (by decide) rfl ?_
            refine n_iincN (a := q) (L' := [(0, .ref (N0 + mb)), (1, .int r), (2, .int (nI i)), (3, .int (nI 1)), (4, .int (nI j)), (5, .int (nI (q + 1))), (6, .int (nI 0))]) hC dX3_bale_119 rfl (by decide) rfl ?_
            refine n_goto (tgt := 39) hC dX3_bale_122 (by decide) ?_
            refine n_drop [0, 1, 2, 3, 4, 5] (L' := [(0, .ref (N0 + mb)), (1, .int r), (2, .int (nI i)), (3, .int (nI 1)), (4, .int (nI j)), (5, .int (nI (q + 1)))]) rfl ?_
            rw [m_bale_L39, if_neg (Nat.not_le.mpr c43), if_pos c52, if_neg (by rw [c61]; decide), if_pos c72] at hK
            exact ih r i true j (q + 1) (by omega) (by omega) (by omega) (by omega) hK
        · refine n_iconst (v := (nI 1)) hC dX3_bale_64 (by decide) ?_
          refine n_goto (tgt := 69) hC dX3_bale_65 (by decide) ?_
          refine n_istore (L' := [(0, .ref (N0 + mb)), (1, .int r), (2, .int (nI i)), (3, .int (bI b)), (4, .int (nI j)), (5, .int (nI q)), (6, .int (nI 1))]) hC dX3_bale_69 (by decide) rfl ?_
          refine n_iload_n hC dX3_bale_71 rfl ?_
          refine n_if_eqB (tgt := 117) hC dX3_bale_72 (by decide) (fun c72 => ?_) (fun c72 => ?_)
          · refine n_iconst (v := (nI 0)) hC dX3_bale_117 (by decide) ?_
            refine n_istore_n (L' := [(0, .ref (N0 + mb)), (1, .int r), (2, .int (nI i)), (3, .int (nI 0)), (4, .int (nI j)), (5, .int (nI q)), (6, .int (nI 1))]) hC dX3_bale_118 (by decide) rfl ?_
            refine n_iincN (a := q) (L' := [(0, .ref (N0 + mb)), (1, .int r), (2, .int (nI i)), (3, .int (nI 0)), (4, .int (nI j)), (5, .int (nI (q + 1))), (6, .int (nI 1))]) hC dX3_bale_119 rfl (by decide) rfl ?_
            refine n_goto (tgt := 39) hC dX3_bale_122 (by decide) ?_
            refine n_drop [0, 1, 2, 3, 4, 5] (L' := [(0, .ref (N0 + mb)), (1, .int r), (2, .int (nI i)), (3, .int (nI 0)), (4, .int (nI j)), (5, .int (nI (q + 1)))]) rfl ?_
            rw [m_bale_L39, if_neg (Nat.not_le.mpr c43), if_pos c52, if_pos c61, if_neg (by rw [c72]; decide)] at hK
            exact ih r i false j (q + 1) (by omega) (by omega) (by omega) (by omega) hK
          · refine n_iload hC dX3_bale_75 rfl ?_
            refine n_if_eqF (tgt := 113) hC dX3_bale_77 (by decide) (by decide) ?_
            refine n_aload_n hC dX3_bale_80 rfl ?_
            refine n_iload hC dX3_bale_81 rfl ?_
            refine n_aload_n hC dX3_bale_83 rfl ?_
            refine n_get hC cl3 (k := 12) (v := .ref (N0 + (mb + 10))) mc_o (by omega) (by decide) q692 (mf_get N0 mb M (by decide)) dX3_bale_84 ?_
            refine n_bipush (v := (nI 19)) hC dX3_bale_87 (by decide) ?_
            refine n_iald hC (f := mA M 12) (mc_a (p := 10) (by decide) (by decide)) (by omega) 19 rfl (by omega) (by decide) dX3_bale_89 ?_
            refine n_top (cl (mA M 12 19)) (nI_cl hS.1) ?_
            refine n_iload_n hC dX3_bale_90 rfl ?_
            refine n_iaddN hC dX3_bale_91 ?_
            refine n_callV1 hC (As := [.int (nI j), .int (nI ((cl (mA M 12 19)) + i))]) (rest := []) mc_o (by omega) rfl bX3_measure (t_m_measure l D N0 kA mb hs M n hn j ((cl (mA M 12 19)) + i) (by omega) (by omega) hh) (by decide) (by decide) q898 rfl (Nat.le_of_ble_eq_true rfl) dX3_bale_92 (Nat.le_of_ble_eq_true rfl) (Nat.le_of_ble_eq_true rfl) ?_
            refine n_stk (st' := [.int (m_measure M j ((cl (mA M 12 19)) + i))]) rfl ?_
            refine n_aload_n hC dX3_bale_95 rfl ?_
            refine n_iload hC dX3_bale_96 rfl ?_
            refine n_aload_n hC dX3_bale_98 rfl ?_
            refine n_get hC cl3 (k := 12) (v := .ref (N0 + (mb + 10))) mc_o (by omega) (by decide) q692 (mf_get N0 mb M (by decide)) dX3_bale_99 ?_
            refine n_bipush (v := (nI 19)) hC dX3_bale_102 (by decide) ?_
            refine n_iald hC (f := mA M 12) (mc_a (p := 10) (by decide) (by decide)) (by omega) 19 rfl (by omega) (by decide) dX3_bale_104 ?_
            refine n_top (cl (mA M 12 19)) (nI_cl hS.1) ?_
            refine n_iload_n hC dX3_bale_105 rfl ?_
            refine n_iaddN hC dX3_bale_106 ?_
            refine n_callV1 hC (As := [.int (nI q), .int (nI ((cl (mA M 12 19)) + i))]) (rest := [.int (m_measure M j ((cl (mA M 12 19)) + i))]) mc_o (by omega) rfl bX3_measure (t_m_measure l D N0 kA mb hs M n hn q ((cl (mA M 12 19)) + i) (by omega) (by omega) hh) (by decide) (by decide) q898 rfl (Nat.le_of_ble_eq_true rfl) dX3_bale_107 (Nat.le_of_ble_eq_true rfl) (Nat.le_of_ble_eq_true rfl) ?_
            refine n_stk (st' := [.int (m_measure M q ((cl (mA M 12 19)) + i)), .int (m_measure M j ((cl (mA M 12 19)) + i))]) rfl ?_
            refine n_icmp_eq (tgt := 117) hC dX3_bale_110 (by decide) (fun c110 => ?_) (fun c110 => ?_)
            · refine n_iconst (v := (nI 0)) hC dX3_bale_117 (by decide) ?_
              refine n_istore_n (L' := [(0, .ref (N0 + mb)), (1, .int r), (2, .int (nI i)), (3, .int (nI 0)), (4, .int (nI j)), (5, .int (nI q)), (6, .int (nI 1))]) hC dX3_bale_118 (by decide) rfl ?_
              refine n_iincN (a := q) (L' := [(0, .ref (N0 + mb)), (1, .int r), (2, .int (nI i)), (3, .int (nI 0)), (4, .int (nI j)), (5, .int (nI (q + 1))), (6, .int (nI 1))]) hC dX3_bale_119 rfl (by decide) rfl ?_
              refine n_goto (tgt := 39) hC dX3_bale_122 (by decide) ?_
              refine n_drop [0, 1, 2, 3, 4, 5] (L' := [(0, .ref (N0 + mb)), (1, .int r), (2, .int (nI i)), (3, .int (nI 0)), (4, .int (nI j)), (5, .int (nI (q + 1)))]) rfl ?_
              rw [m_bale_L39, if_neg (Nat.not_le.mpr c43), if_pos c52, if_pos c61, if_pos c72, if_pos c110] at hK
              exact ih r i false j (q + 1) (by omega) (by omega) (by omega) (by omega) hK
            · refine n_iconst (v := (nI 1)) hC dX3_bale_113 (by decide) ?_
              refine n_goto (tgt := 118) hC dX3_bale_114 (by decide) ?_
              refine n_istore_n (L' := [(0, .ref (N0 + mb)), (1, .int r), (2, .int (nI i)), (3, .int (nI 1)), (4, .int (nI j)), (5, .int (nI q)), (6, .int (nI 1))]) hC dX3_bale_118 (by decide) rfl ?_
              refine n_iincN (a := q) (L' := [(0, .ref (N0 + mb)), (1, .int r), (2, .int (nI i)), (3, .int (nI 1)), (4, .int (nI j)), (5, .int (nI (q + 1))), (6, .int (nI 1))]) hC dX3_bale_119 rfl (by decide) rfl ?_
              refine n_goto (tgt := 39) hC dX3_bale_122 (by decide) ?_
              refine n_drop [0, 1, 2, 3, 4, 5] (L' := [(0, .ref (N0 + mb)), (1, .int r), (2, .int (nI i)), (3, .int (nI 1)), (4, .int (nI j)), (5, .int (nI (q + 1)))]) rfl ?_
              rw [m_bale_L39, if_neg (Nat.not_le.mpr c43), if_pos c52, if_pos c61, if_pos c72, if_neg c110] at hK
              exact ih r i true j (q + 1) (by omega) (by omega) (by omega) (by omega) hK
set_option maxRecDepth 100000 in
set_option maxHeartbeats 4000000 in
theorem t_m_bale_L27 {p : Program} {l : Launch} {e : Env} {s : State} {m : MethodId} {args : Array Value} {below : List Frame} {meth : Method} {c : Code} {Q : State → Prop} {D : va_G} {N0 : Nat} {kA : Nat → ClassId} {mb : Nat} {hs : hT} {M : MS} {n : Nat} (hn : mb + 28 < n)  (hC : nC p s m args meth c RX3 cX3_bale 7 (some .int) true D N0 kA) (h0 : mN M 0 ≤ 6) (hh : mHe M) (hS : mSe M) (h37 : mN M 37 ≤ 8) : ∀ (fu : Nat) (r : Int32) (i : Nat) (b : Bool) (j : Nat) (hi : i < 4) (hj : j ≤ mN M 0) (hf : mN M 0 < j + fu) (hK : nW p l e (nRm 5 0 0) s m args below meth c Q D N0 7 131 [(0, .ref (N0 + mb)), (1, .int r), (2, .int (nI i)), (3, .int (bI (m_bale_L27 fu M r i b j)))] [] (mH N0 mb kA hs M) n 0 0), nW p l e (nRm 5 0 0) s m args below meth c Q D N0 7 27 [(0, .ref (N0 + mb)), (1, .int r), (2, .int (nI i)), (3, .int (bI b)), (4, .int (nI j))] [] (mH N0 mb kA hs M) n 0 0 := by
  intro fu
  induction fu with
  | zero =>
    intro r i b j hi hj hf hK
    exfalso; omega
  | succ fu ih =>
    intro r i b j hi hj hf hK
    have hS2 := hS.2
    refine n_iload hC dX3_bale_27 rfl ?_
    refine n_aload_n hC dX3_bale_29 rfl ?_
    refine n_get hC cl3 (k := 0) (v := .int (nI (mN M 0))) mc_o (by omega) (by decide) q680 (mf_get N0 mb M (by decide)) dX3_bale_30 ?_
    refine n_icmp_geN (tgt := 131) hC j (mN M 0) rfl rfl (by omega) (by omega) dX3_bale_33 (by decide) (fun c33 => ?_) (fun c33 => ?_)
    · refine n_drop [0, 1, 2, 3] (L' := [(0, .ref (N0 + mb)), (1, .int r), (2, .int (nI i)), (3, .int (bI b))]) rfl ?_
      rw [m_bale_L27, if_pos c33] at hK
      exact hK
    · refine n_iconst (v := (nI 0)) hC dX3_bale_36 (by decide) ?_
      refine n_istore (L' := [(0, .ref (N0 + mb)), (1, .int r), (2, .int (nI i)), (3, .int (bI b)), (4, .int (nI j)), (5, .int (nI 0))]) hC dX3_bale_37 (by decide) rfl ?_
      refine t_m_bale_L39 hn hC h0 hh hS h37 (j + 1) r i b j 0 (by omega) (by omega) (by omega) (by omega) ?_
      refine n_iincN (a := j) (L' := [(0, .ref (N0 + mb)), (1, .int r), (2, .int (nI i)), (3, .int (bI (m_bale_L39 (j + 1) M r i b j 0))), (4, .int (nI (j + 1)))]) hC dX3_bale_125 rfl (by decide) rfl ?_
      refine n_goto (tgt := 27) hC dX3_bale_128 (by decide) ?_
      rw [m_bale_L27, if_neg (Nat.not_le.mpr c33)] at hK
      exact ih r i (m_bale_L39 (j + 1) M r i b j 0) (j + 1) (by omega) (by omega) (by omega) hK
set_option maxRecDepth 100000 in
set_option maxHeartbeats 4000000 in
theorem t_m_bale_L17 {p : Program} {l : Launch} {e : Env} {s : State} {m : MethodId} {args : Array Value} {below : List Frame} {meth : Method} {c : Code} {D : va_G} {N0 : Nat} {kA : Nat → ClassId} {mb : Nat} {hs : hT} {M : MS} {n : Nat} (hn : mb + 28 < n)  (hC : nC p s m args meth c RX3 cX3_bale 7 (some .int) true D N0 kA) (h0 : mN M 0 ≤ 6) (hh : mHe M) (hS : mSe M) (h37 : mN M 37 ≤ 8) : ∀ (fu : Nat) (r : Int32) (i : Nat) (hi : i ≤ 4) (hf : 4 < i + fu), nW p l e (nRm 5 0 0) s m args below meth c (nQ below (nX (some (.int (m_bale_L17 fu M r i))) (mH N0 mb kA hs M) n) D N0 s 0 0) D N0 7 17 [(0, .ref (N0 + mb)), (1, .int r), (2, .int (nI i))] [] (mH N0 mb kA hs M) n 0 0 := by
  intro fu
  induction fu with
  | zero =>
    intro r i hi hf
    exfalso; omega
  | succ fu ih =>
    intro r i hi hf
    have hS2 := hS.2
    refine n_iload_n hC dX3_bale_17 rfl ?_
    refine n_iconst (v := (nI 4)) hC dX3_bale_18 (by decide) ?_
    refine n_icmp_geN (tgt := 143) hC i 4 rfl rfl (by omega) (by omega) dX3_bale_19 (by decide) (fun c19 => ?_) (fun c19 => ?_)
    · refine n_iconst (v := (-1)) hC dX3_bale_143 (by decide) ?_
      have eq_ : m_bale_L17 (fu + 1) M r i = (-1) := by rw [m_bale_L17, if_pos c19]
      refine n_iret hC dX3_bale_144 (Nat.le_of_ble_eq_true rfl) (Nat.le_of_ble_eq_true rfl) ?_
      rw [eq_]
      exact ⟨rfl, rfl, rfl⟩
    · refine n_iconst (v := (nI 1)) hC dX3_bale_22 (by decide) ?_
      refine n_istore_n (L' := [(0, .ref (N0 + mb)), (1, .int r), (2, .int (nI i)), (3, .int (nI 1))]) hC dX3_bale_23 (by decide) rfl ?_
      refine n_iconst (v := (nI 0)) hC dX3_bale_24 (by decide) ?_
      refine n_istore (L' := [(0, .ref (N0 + mb)), (1, .int r), (2, .int (nI i)), (3, .int (nI 1)), (4, .int (nI 0))]) hC dX3_bale_25 (by decide) rfl ?_
      refine t_m_bale_L27 hn hC h0 hh hS h37 (mN M 0 + 1) r i true 0 (by omega) (by omega) (by omega) ?_
      refine n_iload_n hC dX3_bale_131 rfl ?_
      refine n_if_eqB (tgt := 137) hC dX3_bale_132 (by decide) (fun c132 => ?_) (fun c132 => ?_)
      · refine n_iincN (a := i) (L' := [(0, .ref (N0 + mb)), (1, .int r), (2, .int (nI (i + 1))), (3, .int (bI (m_bale_L27 (mN M 0 + 1) M r i true 0)))]) hC dX3_bale_137 rfl (by decide) rfl ?_
        refine n_goto (tgt := 17) hC dX3_bale_140 (by decide) ?_
        refine n_drop [0, 1, 2] (L' := [(0, .ref (N0 + mb)), (1, .int r), (2, .int (nI (i + 1)))]) rfl ?_
        rw [show m_bale_L17 (fu + 1) M r i = m_bale_L17 fu M r (i + 1) from by rw [m_bale_L17, if_neg (Nat.not_le.mpr c19), if_neg (by rw [c132]; decide)]]
        exact ih r (i + 1) (by omega) (by omega)
      · refine n_iload_n hC dX3_bale_135 rfl ?_
        have eq_ : m_bale_L17 (fu + 1) M r i = (nI i) := by rw [m_bale_L17, if_neg (Nat.not_le.mpr c19), if_pos c132]
        refine n_iret hC dX3_bale_136 (Nat.le_of_ble_eq_true rfl) (Nat.le_of_ble_eq_true rfl) ?_
        rw [eq_]
        exact ⟨rfl, rfl, rfl⟩
set_option maxRecDepth 100000 in
set_option maxHeartbeats 4000000 in
theorem t_m_bale (l : Launch) (D : va_G) (N0 : Nat) (kA : Nat → ClassId) (mb : Nat) (hs : hT) (M : MS) (n : Nat) (hn : mb + 28 < n)  (h0 : mN M 0 ≤ 6) (hh : mHe M) (hS : mSe M) (h37 : mN M 37 ≤ 8) : nE l yX3_bale cX3_bale 7 (some .int) D N0 kA 5 0 0 [.ref (N0 + mb)] (mH N0 mb kA hs M) n (nX (some (.int (m_bale M))) (mH N0 mb kA hs M) n) := by
  refine nE_of (by decide) (Nat.le_of_ble_eq_true rfl) ?_
  intro p e s m args below meth c hC hnm
  refine n_loc (L' := [(0, .ref (N0 + mb))]) rfl ?_
  have hS2 := hS.2
  refine n_aload_n hC dX3_bale_0 rfl ?_
  refine n_callV1 hC (As := []) (rest := []) mc_o (by omega) rfl bX3_used (t_m_used l D N0 kA mb hs M n hn  (by omega) hh hS (by omega)) (by decide) (by decide) q1104 rfl (Nat.le_of_ble_eq_true rfl) dX3_bale_1 (Nat.le_of_ble_eq_true rfl) (Nat.le_of_ble_eq_true rfl) ?_
  refine n_stk (st' := [.int (m_used M)]) rfl ?_
  refine n_istore_n (L' := [(0, .ref (N0 + mb)), (1, .int (m_used M))]) hC dX3_bale_4 (by decide) rfl ?_
  refine n_iload_n hC dX3_bale_5 rfl ?_
  refine n_callS1 hC (As := [.int (m_used M)]) (rest := []) bX3_bits (t_m_bits l D N0 kA (mH N0 mb kA hs M) n (m_used M) ) (by decide) (by decide) q1055 rfl (Nat.le_of_ble_eq_true rfl) dX3_bale_6 (Nat.le_of_ble_eq_true rfl) (Nat.le_of_ble_eq_true rfl) ?_
  refine n_stk (st' := [.int (m_bits (m_used M))]) rfl ?_
  refine n_iconst (v := (nI 2)) hC dX3_bale_9 (by decide) ?_
  refine n_icmp_ge (tgt := 15) hC dX3_bale_10 (by decide) (fun c10 => ?_) (fun c10 => ?_)
  · refine n_iconst (v := (nI 0)) hC dX3_bale_15 (by decide) ?_
    refine n_istore_n (L' := [(0, .ref (N0 + mb)), (1, .int (m_used M)), (2, .int (nI 0))]) hC dX3_bale_16 (by decide) rfl ?_
    rw [show m_bale M = m_bale_L17 5 M (m_used M) 0 from by rw [m_bale, if_pos c10]]
    exact t_m_bale_L17 hn hC h0 hh hS h37 5 (m_used M) 0 (by omega) (by omega)
  · refine n_iconst (v := (-1)) hC dX3_bale_13 (by decide) ?_
    have eq_ : m_bale M = (-1) := by rw [m_bale, if_neg c10]
    refine n_iret hC dX3_bale_14 (Nat.le_of_ble_eq_true rfl) (Nat.le_of_ble_eq_true rfl) ?_
    rw [eq_]
    exact ⟨rfl, rfl, rfl⟩
def m_judge_L2 : Nat → MS → Nat → Int32
  | 0, _, _ => 0
  | fu + 1, M, i => (if (mN M 40) ≤ i then (-1) else (if (m_measureNow M (mB M 41 i)) = (mA M 42 i) then m_judge_L2 fu M (i + 1) else (nI i)))
def m_judge (M : MS) : Int32 := m_judge_L2 (mN M 40 + 1) M 0
theorem bX3_judge : nBV RX3 yX3_judge cX3_judge 2 (some .int) 0 := ⟨q1114, q1115, q55, q1116, by decide, by decide +kernel⟩
set_option maxRecDepth 100000 in
set_option maxHeartbeats 4000000 in
theorem t_m_judge_L2 {p : Program} {l : Launch} {e : Env} {s : State} {m : MethodId} {args : Array Value} {below : List Frame} {meth : Method} {c : Code} {D : va_G} {N0 : Nat} {kA : Nat → ClassId} {mb : Nat} {hs : hT} {M : MS} {n : Nat} (hn : mb + 28 < n)  (hC : nC p s m args meth c RX3 cX3_judge 2 (some .int) true D N0 kA) (hh : mHe M) (hS : mSe M) (h40 : mN M 40 ≤ 15) (hb : ∀ i, i < mN M 40 → mB M 41 i < 6) : ∀ (fu : Nat) (i : Nat) (hi : i ≤ mN M 40) (hf : mN M 40 < i + fu), nW p l e (nRm 4 0 0) s m args below meth c (nQ below (nX (some (.int (m_judge_L2 fu M i))) (mH N0 mb kA hs M) n) D N0 s 0 0) D N0 2 2 [(0, .ref (N0 + mb)), (1, .int (nI i))] [] (mH N0 mb kA hs M) n 0 0 := by
  intro fu
  induction fu with
  | zero =>
    intro i hi hf
    exfalso; omega
  | succ fu ih =>
    intro i hi hf
    refine n_iload_n hC dX3_judge_2 rfl ?_
    refine n_aload_n hC dX3_judge_3 rfl ?_
    refine n_get hC cl3 (k := 40) (v := .int (nI (mN M 40))) mc_o (by omega) (by decide) q720 (mf_get N0 mb M (by decide)) dX3_judge_4 ?_
    refine n_icmp_geN (tgt := 37) hC i (mN M 40) rfl rfl (by omega) (by omega) dX3_judge_7 (by decide) (fun c7 => ?_) (fun c7 => ?_)
    · refine n_iconst (v := (-1)) hC dX3_judge_37 (by decide) ?_
      have eq_ : m_judge_L2 (fu + 1) M i = (-1) := by rw [m_judge_L2, if_pos c7]
      refine n_iret hC dX3_judge_38 (Nat.le_of_ble_eq_true rfl) (Nat.le_of_ble_eq_true rfl) ?_
      rw [eq_]
      exact ⟨rfl, rfl, rfl⟩
    · have hbi := hb i (by omega)
      refine n_aload_n hC dX3_judge_10 rfl ?_
      refine n_aload_n hC dX3_judge_11 rfl ?_
      refine n_get hC cl3 (k := 41) (v := .ref (N0 + (mb + 25))) mc_o (by omega) (by decide) q721 (mf_get N0 mb M (by decide)) dX3_judge_12 ?_
      refine n_iload_n hC dX3_judge_15 rfl ?_
      refine n_iald hC (f := fun j => nI (mB M 41 j)) (mc_a (p := 25) (by decide) (by decide)) (by omega) i rfl (by omega) (by decide) dX3_judge_16 ?_
      refine n_callV1 hC (As := [.int (nI (mB M 41 i))]) (rest := []) mc_o (by omega) rfl bX3_measureNow (t_m_measureNow l D N0 kA mb hs M n hn (mB M 41 i) (by omega) hh hS) (by decide) (by decide) q894 rfl (Nat.le_of_ble_eq_true rfl) dX3_judge_17 (Nat.le_of_ble_eq_true rfl) (Nat.le_of_ble_eq_true rfl) ?_
      refine n_stk (st' := [.int (m_measureNow M (mB M 41 i))]) rfl ?_
      refine n_aload_n hC dX3_judge_20 rfl ?_
      refine n_get hC cl3 (k := 42) (v := .ref (N0 + (mb + 26))) mc_o (by omega) (by decide) q722 (mf_get N0 mb M (by decide)) dX3_judge_21 ?_
      refine n_iload_n hC dX3_judge_24 rfl ?_
      refine n_iald hC (f := mA M 42) (mc_a (p := 26) (by decide) (by decide)) (by omega) i rfl (by omega) (by decide) dX3_judge_25 ?_
      refine n_icmp_eq (tgt := 31) hC dX3_judge_26 (by decide) (fun c26 => ?_) (fun c26 => ?_)
      · refine n_iincN (a := i) (L' := [(0, .ref (N0 + mb)), (1, .int (nI (i + 1)))]) hC dX3_judge_31 rfl (by decide) rfl ?_
        refine n_goto (tgt := 2) hC dX3_judge_34 (by decide) ?_
        rw [show m_judge_L2 (fu + 1) M i = m_judge_L2 fu M (i + 1) from by rw [m_judge_L2, if_neg (Nat.not_le.mpr c7), if_pos c26]]
        exact ih (i + 1) (by omega) (by omega)
      · refine n_iload_n hC dX3_judge_29 rfl ?_
        have eq_ : m_judge_L2 (fu + 1) M i = (nI i) := by rw [m_judge_L2, if_neg (Nat.not_le.mpr c7), if_neg c26]
        refine n_iret hC dX3_judge_30 (Nat.le_of_ble_eq_true rfl) (Nat.le_of_ble_eq_true rfl) ?_
        rw [eq_]
        exact ⟨rfl, rfl, rfl⟩
set_option maxRecDepth 100000 in
set_option maxHeartbeats 4000000 in
theorem t_m_judge (l : Launch) (D : va_G) (N0 : Nat) (kA : Nat → ClassId) (mb : Nat) (hs : hT) (M : MS) (n : Nat) (hn : mb + 28 < n)  (hh : mHe M) (hS : mSe M) (h40 : mN M 40 ≤ 15) (hb : ∀ i, i < mN M 40 → mB M 41 i < 6) : nE l yX3_judge cX3_judge 2 (some .int) D N0 kA 4 0 0 [.ref (N0 + mb)] (mH N0 mb kA hs M) n (nX (some (.int (m_judge M))) (mH N0 mb kA hs M) n) := by
  refine nE_of (by decide) (Nat.le_of_ble_eq_true rfl) ?_
  intro p e s m args below meth c hC hnm
  refine n_loc (L' := [(0, .ref (N0 + mb))]) rfl ?_
  refine n_iconst (v := (nI 0)) hC dX3_judge_0 (by decide) ?_
  refine n_istore_n (L' := [(0, .ref (N0 + mb)), (1, .int (nI 0))]) hC dX3_judge_1 (by decide) rfl ?_
  rw [show m_judge M = m_judge_L2 (mN M 40 + 1) M 0 from by rw [m_judge]]
  exact t_m_judge_L2 hn hC hh hS h40 hb (mN M 40 + 1) 0 (by omega) (by omega)
