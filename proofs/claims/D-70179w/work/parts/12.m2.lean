/-! numbers in a range -/
theorem m_in_iff (v a b : Int64) : m_in v a b = true ↔ a ≤ v ∧ v ≤ b := by
  unfold m_in
  simp only [lg_cmp_lt, lg_cmp_gt]
  constructor
  · intro h
    split at h
    · cases h
    · next h1 =>
      split at h
      · cases h
      · next h2 => exact ⟨Int64.not_lt.mp h1, Int64.not_lt.mp h2⟩
  · rintro ⟨h1, h2⟩
    rw [if_neg (Int64.not_lt.mpr h1), if_neg (Int64.not_lt.mpr h2)]
theorem in_int {x : Int32} {a b : Int64} : m_in x.toInt64 a b = true ↔ a.toInt ≤ x.toInt ∧ x.toInt ≤ b.toInt := by
  rw [m_in_iff, Int64.le_iff_toInt_le, Int64.le_iff_toInt_le, Int32.toInt_toInt64]
theorem le0 {x : Int32} : 0 ≤ x ↔ 0 ≤ x.toInt := by
  rw [Int32.le_iff_toInt_le]
  simp
theorem cl_int {x : Int32} (h : 0 ≤ x.toInt) : (cl x : Int) = x.toInt := by
  show ((x.toInt.toNat : Nat) : Int) = _
  omega
theorem in_cst {x : Int32} {a b : Int64} (A B : Nat) (ha : a.toInt = A) (hb : b.toInt = B) : m_in x.toInt64 a b = true ↔ 0 ≤ x ∧ A ≤ cl x ∧ cl x ≤ B := by
  rw [in_int, ha, hb, le0]
  constructor
  · rintro ⟨h1, h2⟩
    have h0 : 0 ≤ x.toInt := by omega
    have := cl_int h0
    omega
  · rintro ⟨h0, h1, h2⟩
    have := cl_int h0
    omega
theorem sub1_toInt {n : Nat} (hn : n < 2 ^ 30) : ((nI n) - (nI 1)).toInt = (n : Int) - 1 := pk_sub_toInt hn (by decide)
theorem in_nat {k : Int32} {n : Nat} (hn : n < 2 ^ 30) : m_in k.toInt64 0 ((nI n) - (nI 1)).toInt64 = true ↔ 0 ≤ k ∧ cl k < n := by
  rw [in_int, Int32.toInt_toInt64, sub1_toInt hn, le0]
  show (0 : Int) ≤ _ ∧ _ ↔ _
  constructor
  · rintro ⟨h1, h2⟩
    have := cl_int h1
    omega
  · rintro ⟨h1, h2⟩
    have := cl_int h1
    omega
theorem isLimb_nat {M : MS} {k : Int32} (h0 : mN M 0 ≤ 6) (h : m_isLimb M k = true) : k = nI (cl k) ∧ cl k < mN M 0 := by
  have h1 := (in_nat (by omega)).mp h
  exact ⟨nI_cl h1.1, h1.2⟩
/-- heirs are limbs or none -/
def mHe (M : MS) : Prop := ∀ a, a < 6 → 0 ≤ mA M 2 a → cl (mA M 2 a) < 6
/-- the seasons are a small natural -/
def mSe (M : MS) : Prop := 0 ≤ mA M 12 19 ∧ cl (mA M 12 19) < 30000
/-- what a contract names -/
def mCo (M : MS) : Prop := mN M 3 ≤ 6 ∧ ∀ c, c < mN M 3 → mB M 4 c ≤ 99 ∧ mB M 5 c < 6
theorem nI_inv {j : Nat} (h : j < 6) : 0 ≤ nI j → cl (nI j) < 6 := fun _ => by rw [cl_nI (by omega)]; exact h
def m_measure_L5 : Nat → MS → Nat → Nat → Int32 → Nat → Int32
  | 0, _, _, _, _, _ => 0
  | fu + 1, M, k, t, q, i => (if 6 < i then (nI 0) else (if q < 0 then (nI 0) else (if (mA M 12 (6 + (cl q))) < 0 then (if (m_lives M (cl q)) = true then (m_grown M (cl q) t) else m_measure_L5 fu M k t (mA M 2 (cl q)) (i + 1)) else (mA M 12 (6 + (cl q))))))
def m_measure (M : MS) (k : Nat) (t : Nat) : Int32 := m_measure_L5 8 M k t (nI k) 0
theorem bX3_measure : nBV RX3 yX3_measure cX3_measure 5 (some .int) 2 := ⟨q900, qs32, q55, q901, by decide, by decide +kernel⟩
set_option maxRecDepth 100000 in
set_option maxHeartbeats 4000000 in
theorem t_m_measure_L5 {p : Program} {l : Launch} {e : Env} {s : State} {m : MethodId} {args : Array Value} {below : List Frame} {meth : Method} {c : Code} {D : va_G} {N0 : Nat} {kA : Nat → ClassId} {mb : Nat} {hs : hT} {M : MS} {n : Nat} (hn : mb + 28 < n) {k : Nat} {t : Nat} (hC : nC p s m args meth c RX3 cX3_measure 5 (some .int) true D N0 kA) (hk : k < 6) (ht : t < 2 ^ 31) (hh : mHe M) : ∀ (fu : Nat) (q : Int32) (i : Nat) (iq : 0 ≤ q → cl q < 6) (hi : i ≤ 7) (hf : 7 < i + fu), nW p l e (nRm 2 0 0) s m args below meth c (nQ below (nX (some (.int (m_measure_L5 fu M k t q i))) (mH N0 mb kA hs M) n) D N0 s 0 0) D N0 5 5 [(0, .ref (N0 + mb)), (1, .int (nI k)), (2, .int (nI t)), (3, .int q), (4, .int (nI i))] [] (mH N0 mb kA hs M) n 0 0 := by
  intro fu
  induction fu with
  | zero =>
    intro q i iq hi hf
    exfalso; omega
  | succ fu ih =>
    intro q i iq hi hf
    refine n_iload hC dX3_measure_5 rfl ?_
    refine n_bipush (v := (nI 6)) hC dX3_measure_7 (by decide) ?_
    refine n_icmp_gtN (tgt := 66) hC i 6 rfl rfl (by omega) (by omega) dX3_measure_9 (by decide) (fun c9 => ?_) (fun c9 => ?_)
    · refine n_iconst (v := (nI 0)) hC dX3_measure_66 (by decide) ?_
      have eq_ : m_measure_L5 (fu + 1) M k t q i = (nI 0) := by rw [m_measure_L5, if_pos c9]
      refine n_iret hC dX3_measure_67 (Nat.le_of_ble_eq_true rfl) (Nat.le_of_ble_eq_true rfl) ?_
      rw [eq_]
      exact ⟨rfl, rfl, rfl⟩
    · refine n_iload_n hC dX3_measure_12 rfl ?_
      refine n_if_lt (tgt := 66) hC dX3_measure_13 (by decide) (fun c13 => ?_) (fun c13 => ?_)
      · refine n_iconst (v := (nI 0)) hC dX3_measure_66 (by decide) ?_
        have eq_ : m_measure_L5 (fu + 1) M k t q i = (nI 0) := by rw [m_measure_L5, if_neg (Nat.not_lt.mpr c9), if_pos c13]
        refine n_iret hC dX3_measure_67 (Nat.le_of_ble_eq_true rfl) (Nat.le_of_ble_eq_true rfl) ?_
        rw [eq_]
        exact ⟨rfl, rfl, rfl⟩
      · have hq := nI_cl (Int32.not_lt.mp c13)
        have hq2 := iq (Int32.not_lt.mp c13)
        refine n_aload_n hC dX3_measure_16 rfl ?_
        refine n_get hC cl3 (k := 12) (v := .ref (N0 + (mb + 10))) mc_o (by omega) (by decide) q692 (mf_get N0 mb M (by decide)) dX3_measure_17 ?_
        refine n_bipush (v := (nI 6)) hC dX3_measure_20 (by decide) ?_
        refine n_iload_n hC dX3_measure_22 rfl ?_
        refine n_top (cl q) hq ?_
        refine n_iaddN hC dX3_measure_23 ?_
        refine n_iald hC (f := mA M 12) (mc_a (p := 10) (by decide) (by decide)) (by omega) (6 + (cl q)) rfl (by omega) (by decide) dX3_measure_24 ?_
        refine n_if_lt (tgt := 38) hC dX3_measure_25 (by decide) (fun c25 => ?_) (fun c25 => ?_)
        · refine n_aload_n hC dX3_measure_38 rfl ?_
          refine n_iload_n hC dX3_measure_39 rfl ?_
          refine n_top (cl q) hq ?_
          refine n_callV1 hC (As := [.int (nI (cl q))]) (rest := []) mc_o (by omega) rfl bX3_lives (t_m_lives l D N0 kA mb hs M n hn (cl q) ) (by decide) (by decide) q902 rfl (Nat.le_of_ble_eq_true rfl) dX3_measure_40 (Nat.le_of_ble_eq_true rfl) (Nat.le_of_ble_eq_true rfl) ?_
          refine n_stk (st' := [.int (bI (m_lives M (cl q)))]) rfl ?_
          refine n_if_eqB (tgt := 53) hC dX3_measure_43 (by decide) (fun c43 => ?_) (fun c43 => ?_)
          · refine n_aload_n hC dX3_measure_53 rfl ?_
            refine n_get hC cl3 (k := 2) (v := .ref (N0 + (mb + 2))) mc_o (by omega) (by decide) q682 (mf_get N0 mb M (by decide)) dX3_measure_54 ?_
            refine n_iload_n hC dX3_measure_57 rfl ?_
            refine n_top (cl q) hq ?_
            refine n_iald hC (f := mA M 2) (mc_a (p := 2) (by decide) (by decide)) (by omega) (cl q) rfl (by omega) (by decide) dX3_measure_58 ?_
            refine n_istore_n (L' := [(0, .ref (N0 + mb)), (1, .int (nI k)), (2, .int (nI t)), (3, .int (mA M 2 (cl q))), (4, .int (nI i))]) hC dX3_measure_59 (by decide) rfl ?_
            refine n_iincN (a := i) (L' := [(0, .ref (N0 + mb)), (1, .int (nI k)), (2, .int (nI t)), (3, .int (mA M 2 (cl q))), (4, .int (nI (i + 1)))]) hC dX3_measure_60 rfl (by decide) rfl ?_
            refine n_goto (tgt := 5) hC dX3_measure_63 (by decide) ?_
            rw [show m_measure_L5 (fu + 1) M k t q i = m_measure_L5 fu M k t (mA M 2 (cl q)) (i + 1) from by rw [m_measure_L5, if_neg (Nat.not_lt.mpr c9), if_neg c13, if_pos c25, if_neg (by rw [c43]; decide)]]
            exact ih (mA M 2 (cl q)) (i + 1) (hh (cl q) hq2) (by omega) (by omega)
          · refine n_aload_n hC dX3_measure_46 rfl ?_
            refine n_iload_n hC dX3_measure_47 rfl ?_
            refine n_top (cl q) hq ?_
            refine n_iload_n hC dX3_measure_48 rfl ?_
            refine n_callV1 hC (As := [.int (nI (cl q)), .int (nI t)]) (rest := []) mc_o (by omega) rfl bX3_grown (t_m_grown l D N0 kA mb hs M n hn (cl q) t hq2 ht) (by decide) (by decide) q909 rfl (Nat.le_of_ble_eq_true rfl) dX3_measure_49 (Nat.le_of_ble_eq_true rfl) (Nat.le_of_ble_eq_true rfl) ?_
            refine n_stk (st' := [.int (m_grown M (cl q) t)]) rfl ?_
            have eq_ : m_measure_L5 (fu + 1) M k t q i = (m_grown M (cl q) t) := by rw [m_measure_L5, if_neg (Nat.not_lt.mpr c9), if_neg c13, if_pos c25, if_pos c43]
            refine n_iret hC dX3_measure_52 (Nat.le_of_ble_eq_true rfl) (Nat.le_of_ble_eq_true rfl) ?_
            rw [eq_]
            exact ⟨rfl, rfl, rfl⟩
        · refine n_aload_n hC dX3_measure_28 rfl ?_
          refine n_get hC cl3 (k := 12) (v := .ref (N0 + (mb + 10))) mc_o (by omega) (by decide) q692 (mf_get N0 mb M (by decide)) dX3_measure_29 ?_
          refine n_bipush (v := (nI 6)) hC dX3_measure_32 (by decide) ?_
          refine n_iload_n hC dX3_measure_34 rfl ?_
          refine n_top (cl q) hq ?_
          refine n_iaddN hC dX3_measure_35 ?_
          refine n_iald hC (f := mA M 12) (mc_a (p := 10) (by decide) (by decide)) (by omega) (6 + (cl q)) rfl (by omega) (by decide) dX3_measure_36 ?_
          have eq_ : m_measure_L5 (fu + 1) M k t q i = (mA M 12 (6 + (cl q))) := by rw [m_measure_L5, if_neg (Nat.not_lt.mpr c9), if_neg c13, if_neg c25]
          refine n_iret hC dX3_measure_37 (Nat.le_of_ble_eq_true rfl) (Nat.le_of_ble_eq_true rfl) ?_
          rw [eq_]
          exact ⟨rfl, rfl, rfl⟩
set_option maxRecDepth 100000 in
set_option maxHeartbeats 4000000 in
theorem t_m_measure (l : Launch) (D : va_G) (N0 : Nat) (kA : Nat → ClassId) (mb : Nat) (hs : hT) (M : MS) (n : Nat) (hn : mb + 28 < n) (k : Nat) (t : Nat) (hk : k < 6) (ht : t < 2 ^ 31) (hh : mHe M) : nE l yX3_measure cX3_measure 5 (some .int) D N0 kA 2 0 0 [.ref (N0 + mb), .int (nI k), .int (nI t)] (mH N0 mb kA hs M) n (nX (some (.int (m_measure M k t))) (mH N0 mb kA hs M) n) := by
  refine nE_of (by decide) (Nat.le_of_ble_eq_true rfl) ?_
  intro p e s m args below meth c hC hnm
  refine n_loc (L' := [(0, .ref (N0 + mb)), (1, .int (nI k)), (2, .int (nI t))]) rfl ?_
  refine n_iload_n hC dX3_measure_0 rfl ?_
  refine n_istore_n (L' := [(0, .ref (N0 + mb)), (1, .int (nI k)), (2, .int (nI t)), (3, .int (nI k))]) hC dX3_measure_1 (by decide) rfl ?_
  refine n_iconst (v := (nI 0)) hC dX3_measure_2 (by decide) ?_
  refine n_istore (L' := [(0, .ref (N0 + mb)), (1, .int (nI k)), (2, .int (nI t)), (3, .int (nI k)), (4, .int (nI 0))]) hC dX3_measure_3 (by decide) rfl ?_
  rw [show m_measure M k t = m_measure_L5 8 M k t (nI k) 0 from by rw [m_measure]]
  exact t_m_measure_L5 hn hC hk ht hh 8 (nI k) 0 (nI_inv hk) (by omega) (by omega)
def m_measureNow (M : MS) (k : Nat) : Int32 := (m_measure M k (cl (mA M 12 19)))
theorem bX3_measureNow : nBV RX3 yX3_measureNow cX3_measureNow 2 (some .int) 1 := ⟨q896, qs31, q55, q897, by decide, by decide +kernel⟩
set_option maxRecDepth 100000 in
set_option maxHeartbeats 4000000 in
theorem t_m_measureNow (l : Launch) (D : va_G) (N0 : Nat) (kA : Nat → ClassId) (mb : Nat) (hs : hT) (M : MS) (n : Nat) (hn : mb + 28 < n) (k : Nat) (hk : k < 6) (hh : mHe M) (hS : mSe M) : nE l yX3_measureNow cX3_measureNow 2 (some .int) D N0 kA 3 0 0 [.ref (N0 + mb), .int (nI k)] (mH N0 mb kA hs M) n (nX (some (.int (m_measureNow M k))) (mH N0 mb kA hs M) n) := by
  refine nE_of (by decide) (Nat.le_of_ble_eq_true rfl) ?_
  intro p e s m args below meth c hC hnm
  refine n_loc (L' := [(0, .ref (N0 + mb)), (1, .int (nI k))]) rfl ?_
  have hS2 := hS.2
  refine n_aload_n hC dX3_measureNow_0 rfl ?_
  refine n_iload_n hC dX3_measureNow_1 rfl ?_
  refine n_aload_n hC dX3_measureNow_2 rfl ?_
  refine n_get hC cl3 (k := 12) (v := .ref (N0 + (mb + 10))) mc_o (by omega) (by decide) q692 (mf_get N0 mb M (by decide)) dX3_measureNow_3 ?_
  refine n_bipush (v := (nI 19)) hC dX3_measureNow_6 (by decide) ?_
  refine n_iald hC (f := mA M 12) (mc_a (p := 10) (by decide) (by decide)) (by omega) 19 rfl (by omega) (by decide) dX3_measureNow_8 ?_
  refine n_top (cl (mA M 12 19)) (nI_cl hS.1) ?_
  refine n_callV1 hC (As := [.int (nI k), .int (nI (cl (mA M 12 19)))]) (rest := []) mc_o (by omega) rfl bX3_measure (t_m_measure l D N0 kA mb hs M n hn k (cl (mA M 12 19)) hk (by omega) hh) (by decide) (by decide) q898 rfl (Nat.le_of_ble_eq_true rfl) dX3_measureNow_9 (Nat.le_of_ble_eq_true rfl) (Nat.le_of_ble_eq_true rfl) ?_
  refine n_stk (st' := [.int (m_measure M k (cl (mA M 12 19)))]) rfl ?_
  have eq_ : m_measureNow M k = (m_measure M k (cl (mA M 12 19))) := by rw [m_measureNow]
  refine n_iret hC dX3_measureNow_12 (Nat.le_of_ble_eq_true rfl) (Nat.le_of_ble_eq_true rfl) ?_
  rw [eq_]
  exact ⟨rfl, rfl, rfl⟩
def m_told (M : MS) (w : Int32) : Int32 := (if w = (nI 0) then (nI (mN M 0)) else (if w = (nI 1) then (nI (mN M 3)) else (if w = (nI 2) then (nI (mN M 7)) else (if w = (nI 3) then (nI (mN M 15)) else (if w = (nI 4) then (mA M 12 19) else (if w = (nI 5) then (mA M 12 18) else (if w = (nI 6) then (m_copied M) else (if w = (nI 7) then (mA M 12 20) else (if w = (nI 8) then (mA M 12 21) else (if w = (nI 9) then (nI (mN M 37)) else (if w = (nI 10) then (nI (mN M 40)) else (if w = (nI 11) then (nI (mN M 33)) else (-1000000002)))))))))))))
theorem bX3_told : nBV RX3 yX3_told cX3_told 2 (some .int) 1 := ⟨q878, q879, q55, q880, by decide, by decide +kernel⟩
set_option maxRecDepth 100000 in
set_option maxHeartbeats 4000000 in
theorem t_m_told (l : Launch) (D : va_G) (N0 : Nat) (kA : Nat → ClassId) (mb : Nat) (hs : hT) (M : MS) (n : Nat) (hn : mb + 28 < n) (w : Int32) (h0 : mN M 0 ≤ 6) : nE l yX3_told cX3_told 2 (some .int) D N0 kA 1 0 0 [.ref (N0 + mb), .int w] (mH N0 mb kA hs M) n (nX (some (.int (m_told M w))) (mH N0 mb kA hs M) n) := by
  refine nE_of (by decide) (Nat.le_of_ble_eq_true rfl) ?_
  intro p e s m args below meth c hC hnm
  refine n_loc (L' := [(0, .ref (N0 + mb)), (1, .int w)]) rfl ?_
  refine n_iload_n hC dX3_told_0 rfl ?_
  rcases (Decidable.em (w = (nI 0))) with w1_0 | w1_0
  · refine n_tabIn (tgt := 64) (off := 63) hC dX3_told_1 (by rw [w1_0]; decide) (by rw [w1_0]; decide) (by rw [w1_0]; rfl) (by decide) ?_
    refine n_aload_n hC dX3_told_64 rfl ?_
    refine n_get hC cl3 (k := 0) (v := .int (nI (mN M 0))) mc_o (by omega) (by decide) q680 (mf_get N0 mb M (by decide)) dX3_told_65 ?_
    have eq_ : m_told M w = (nI (mN M 0)) := by rw [m_told, if_pos w1_0]
    refine n_iret hC dX3_told_68 (Nat.le_of_ble_eq_true rfl) (Nat.le_of_ble_eq_true rfl) ?_
    rw [eq_]
    exact ⟨rfl, rfl, rfl⟩
  · rcases (Decidable.em (w = (nI 1))) with w1_1 | w1_1
    · refine n_tabIn (tgt := 69) (off := 68) hC dX3_told_1 (by rw [w1_1]; decide) (by rw [w1_1]; decide) (by rw [w1_1]; rfl) (by decide) ?_
      refine n_aload_n hC dX3_told_69 rfl ?_
      refine n_get hC cl3 (k := 3) (v := .int (nI (mN M 3))) mc_o (by omega) (by decide) q683 (mf_get N0 mb M (by decide)) dX3_told_70 ?_
      have eq_ : m_told M w = (nI (mN M 3)) := by rw [m_told, if_neg w1_0, if_pos w1_1]
      refine n_iret hC dX3_told_73 (Nat.le_of_ble_eq_true rfl) (Nat.le_of_ble_eq_true rfl) ?_
      rw [eq_]
      exact ⟨rfl, rfl, rfl⟩
    · rcases (Decidable.em (w = (nI 2))) with w1_2 | w1_2
      · refine n_tabIn (tgt := 74) (off := 73) hC dX3_told_1 (by rw [w1_2]; decide) (by rw [w1_2]; decide) (by rw [w1_2]; rfl) (by decide) ?_
        refine n_aload_n hC dX3_told_74 rfl ?_
        refine n_get hC cl3 (k := 7) (v := .int (nI (mN M 7))) mc_o (by omega) (by decide) q687 (mf_get N0 mb M (by decide)) dX3_told_75 ?_
        have eq_ : m_told M w = (nI (mN M 7)) := by rw [m_told, if_neg w1_0, if_neg w1_1, if_pos w1_2]
        refine n_iret hC dX3_told_78 (Nat.le_of_ble_eq_true rfl) (Nat.le_of_ble_eq_true rfl) ?_
        rw [eq_]
        exact ⟨rfl, rfl, rfl⟩
      · rcases (Decidable.em (w = (nI 3))) with w1_3 | w1_3
        · refine n_tabIn (tgt := 79) (off := 78) hC dX3_told_1 (by rw [w1_3]; decide) (by rw [w1_3]; decide) (by rw [w1_3]; rfl) (by decide) ?_
          refine n_aload_n hC dX3_told_79 rfl ?_
          refine n_get hC cl3 (k := 15) (v := .int (nI (mN M 15))) mc_o (by omega) (by decide) q695 (mf_get N0 mb M (by decide)) dX3_told_80 ?_
          have eq_ : m_told M w = (nI (mN M 15)) := by rw [m_told, if_neg w1_0, if_neg w1_1, if_neg w1_2, if_pos w1_3]
          refine n_iret hC dX3_told_83 (Nat.le_of_ble_eq_true rfl) (Nat.le_of_ble_eq_true rfl) ?_
          rw [eq_]
          exact ⟨rfl, rfl, rfl⟩
        · rcases (Decidable.em (w = (nI 4))) with w1_4 | w1_4
          · refine n_tabIn (tgt := 84) (off := 83) hC dX3_told_1 (by rw [w1_4]; decide) (by rw [w1_4]; decide) (by rw [w1_4]; rfl) (by decide) ?_
            refine n_aload_n hC dX3_told_84 rfl ?_
            refine n_get hC cl3 (k := 12) (v := .ref (N0 + (mb + 10))) mc_o (by omega) (by decide) q692 (mf_get N0 mb M (by decide)) dX3_told_85 ?_
            refine n_bipush (v := (nI 19)) hC dX3_told_88 (by decide) ?_
            refine n_iald hC (f := mA M 12) (mc_a (p := 10) (by decide) (by decide)) (by omega) 19 rfl (by omega) (by decide) dX3_told_90 ?_
            have eq_ : m_told M w = (mA M 12 19) := by rw [m_told, if_neg w1_0, if_neg w1_1, if_neg w1_2, if_neg w1_3, if_pos w1_4]
            refine n_iret hC dX3_told_91 (Nat.le_of_ble_eq_true rfl) (Nat.le_of_ble_eq_true rfl) ?_
            rw [eq_]
            exact ⟨rfl, rfl, rfl⟩
          · rcases (Decidable.em (w = (nI 5))) with w1_5 | w1_5
            · refine n_tabIn (tgt := 92) (off := 91) hC dX3_told_1 (by rw [w1_5]; decide) (by rw [w1_5]; decide) (by rw [w1_5]; rfl) (by decide) ?_
              refine n_aload_n hC dX3_told_92 rfl ?_
              refine n_get hC cl3 (k := 12) (v := .ref (N0 + (mb + 10))) mc_o (by omega) (by decide) q692 (mf_get N0 mb M (by decide)) dX3_told_93 ?_
              refine n_bipush (v := (nI 18)) hC dX3_told_96 (by decide) ?_
              refine n_iald hC (f := mA M 12) (mc_a (p := 10) (by decide) (by decide)) (by omega) 18 rfl (by omega) (by decide) dX3_told_98 ?_
              have eq_ : m_told M w = (mA M 12 18) := by rw [m_told, if_neg w1_0, if_neg w1_1, if_neg w1_2, if_neg w1_3, if_neg w1_4, if_pos w1_5]
              refine n_iret hC dX3_told_99 (Nat.le_of_ble_eq_true rfl) (Nat.le_of_ble_eq_true rfl) ?_
              rw [eq_]
              exact ⟨rfl, rfl, rfl⟩
            · rcases (Decidable.em (w = (nI 6))) with w1_6 | w1_6
              · refine n_tabIn (tgt := 100) (off := 99) hC dX3_told_1 (by rw [w1_6]; decide) (by rw [w1_6]; decide) (by rw [w1_6]; rfl) (by decide) ?_
                refine n_aload_n hC dX3_told_100 rfl ?_
                refine n_callV1 hC (As := []) (rest := []) mc_o (by omega) rfl bX3_copied (t_m_copied l D N0 kA mb hs M n hn  h0) (by decide) (by decide) q881 rfl (Nat.le_of_ble_eq_true rfl) dX3_told_101 (Nat.le_of_ble_eq_true rfl) (Nat.le_of_ble_eq_true rfl) ?_
                refine n_stk (st' := [.int (m_copied M)]) rfl ?_
                have eq_ : m_told M w = (m_copied M) := by rw [m_told, if_neg w1_0, if_neg w1_1, if_neg w1_2, if_neg w1_3, if_neg w1_4, if_neg w1_5, if_pos w1_6]
                refine n_iret hC dX3_told_104 (Nat.le_of_ble_eq_true rfl) (Nat.le_of_ble_eq_true rfl) ?_
                rw [eq_]
                exact ⟨rfl, rfl, rfl⟩
              · rcases (Decidable.em (w = (nI 7))) with w1_7 | w1_7
                · refine n_tabIn (tgt := 105) (off := 104) hC dX3_told_1 (by rw [w1_7]; decide) (by rw [w1_7]; decide) (by rw [w1_7]; rfl) (by decide) ?_
                  refine n_aload_n hC dX3_told_105 rfl ?_
                  refine n_get hC cl3 (k := 12) (v := .ref (N0 + (mb + 10))) mc_o (by omega) (by decide) q692 (mf_get N0 mb M (by decide)) dX3_told_106 ?_
                  refine n_bipush (v := (nI 20)) hC dX3_told_109 (by decide) ?_
                  refine n_iald hC (f := mA M 12) (mc_a (p := 10) (by decide) (by decide)) (by omega) 20 rfl (by omega) (by decide) dX3_told_111 ?_
                  have eq_ : m_told M w = (mA M 12 20) := by rw [m_told, if_neg w1_0, if_neg w1_1, if_neg w1_2, if_neg w1_3, if_neg w1_4, if_neg w1_5, if_neg w1_6, if_pos w1_7]
                  refine n_iret hC dX3_told_112 (Nat.le_of_ble_eq_true rfl) (Nat.le_of_ble_eq_true rfl) ?_
                  rw [eq_]
                  exact ⟨rfl, rfl, rfl⟩
                · rcases (Decidable.em (w = (nI 8))) with w1_8 | w1_8
                  · refine n_tabIn (tgt := 113) (off := 112) hC dX3_told_1 (by rw [w1_8]; decide) (by rw [w1_8]; decide) (by rw [w1_8]; rfl) (by decide) ?_
                    refine n_aload_n hC dX3_told_113 rfl ?_
                    refine n_get hC cl3 (k := 12) (v := .ref (N0 + (mb + 10))) mc_o (by omega) (by decide) q692 (mf_get N0 mb M (by decide)) dX3_told_114 ?_
                    refine n_bipush (v := (nI 21)) hC dX3_told_117 (by decide) ?_
                    refine n_iald hC (f := mA M 12) (mc_a (p := 10) (by decide) (by decide)) (by omega) 21 rfl (by omega) (by decide) dX3_told_119 ?_
                    have eq_ : m_told M w = (mA M 12 21) := by rw [m_told, if_neg w1_0, if_neg w1_1, if_neg w1_2, if_neg w1_3, if_neg w1_4, if_neg w1_5, if_neg w1_6, if_neg w1_7, if_pos w1_8]
                    refine n_iret hC dX3_told_120 (Nat.le_of_ble_eq_true rfl) (Nat.le_of_ble_eq_true rfl) ?_
                    rw [eq_]
                    exact ⟨rfl, rfl, rfl⟩
                  · rcases (Decidable.em (w = (nI 9))) with w1_9 | w1_9
                    · refine n_tabIn (tgt := 121) (off := 120) hC dX3_told_1 (by rw [w1_9]; decide) (by rw [w1_9]; decide) (by rw [w1_9]; rfl) (by decide) ?_
                      refine n_aload_n hC dX3_told_121 rfl ?_
                      refine n_get hC cl3 (k := 37) (v := .int (nI (mN M 37))) mc_o (by omega) (by decide) q717 (mf_get N0 mb M (by decide)) dX3_told_122 ?_
                      have eq_ : m_told M w = (nI (mN M 37)) := by rw [m_told, if_neg w1_0, if_neg w1_1, if_neg w1_2, if_neg w1_3, if_neg w1_4, if_neg w1_5, if_neg w1_6, if_neg w1_7, if_neg w1_8, if_pos w1_9]
                      refine n_iret hC dX3_told_125 (Nat.le_of_ble_eq_true rfl) (Nat.le_of_ble_eq_true rfl) ?_
                      rw [eq_]
                      exact ⟨rfl, rfl, rfl⟩
                    · rcases (Decidable.em (w = (nI 10))) with w1_10 | w1_10
                      · refine n_tabIn (tgt := 126) (off := 125) hC dX3_told_1 (by rw [w1_10]; decide) (by rw [w1_10]; decide) (by rw [w1_10]; rfl) (by decide) ?_
                        refine n_aload_n hC dX3_told_126 rfl ?_
                        refine n_get hC cl3 (k := 40) (v := .int (nI (mN M 40))) mc_o (by omega) (by decide) q720 (mf_get N0 mb M (by decide)) dX3_told_127 ?_
                        have eq_ : m_told M w = (nI (mN M 40)) := by rw [m_told, if_neg w1_0, if_neg w1_1, if_neg w1_2, if_neg w1_3, if_neg w1_4, if_neg w1_5, if_neg w1_6, if_neg w1_7, if_neg w1_8, if_neg w1_9, if_pos w1_10]
                        refine n_iret hC dX3_told_130 (Nat.le_of_ble_eq_true rfl) (Nat.le_of_ble_eq_true rfl) ?_
                        rw [eq_]
                        exact ⟨rfl, rfl, rfl⟩
                      · rcases (Decidable.em (w = (nI 11))) with w1_11 | w1_11
                        · refine n_tabIn (tgt := 131) (off := 130) hC dX3_told_1 (by rw [w1_11]; decide) (by rw [w1_11]; decide) (by rw [w1_11]; rfl) (by decide) ?_
                          refine n_aload_n hC dX3_told_131 rfl ?_
                          refine n_get hC cl3 (k := 33) (v := .int (nI (mN M 33))) mc_o (by omega) (by decide) q713 (mf_get N0 mb M (by decide)) dX3_told_132 ?_
                          have eq_ : m_told M w = (nI (mN M 33)) := by rw [m_told, if_neg w1_0, if_neg w1_1, if_neg w1_2, if_neg w1_3, if_neg w1_4, if_neg w1_5, if_neg w1_6, if_neg w1_7, if_neg w1_8, if_neg w1_9, if_neg w1_10, if_pos w1_11]
                          refine n_iret hC dX3_told_135 (Nat.le_of_ble_eq_true rfl) (Nat.le_of_ble_eq_true rfl) ?_
                          rw [eq_]
                          exact ⟨rfl, rfl, rfl⟩
                        · refine n_tabOut (tgt := 136) hC dX3_told_1 (sw_out 11 (fun k hk => by have hk : k = 0 ∨ k = 1 ∨ k = 2 ∨ k = 3 ∨ k = 4 ∨ k = 5 ∨ k = 6 ∨ k = 7 ∨ k = 8 ∨ k = 9 ∨ k = 10 ∨ k = 11 := (by omega); rcases hk with rfl | rfl | rfl | rfl | rfl | rfl | rfl | rfl | rfl | rfl | rfl | rfl <;> assumption)) (by decide) ?_
                          refine n_ldc hC dX3_told_136 q825 ?_
                          have eq_ : m_told M w = (-1000000002) := by rw [m_told, if_neg w1_0, if_neg w1_1, if_neg w1_2, if_neg w1_3, if_neg w1_4, if_neg w1_5, if_neg w1_6, if_neg w1_7, if_neg w1_8, if_neg w1_9, if_neg w1_10, if_neg w1_11]
                          refine n_iret hC dX3_told_138 (Nat.le_of_ble_eq_true rfl) (Nat.le_of_ble_eq_true rfl) ?_
                          rw [eq_]
                          exact ⟨rfl, rfl, rfl⟩
def m_limb (M : MS) (k : Int32) (w : Int32) : Int32 := (if (m_isLimb M k) = true then (if w = (nI 0) then (mA M 12 (cl k)) else (if w = (nI 1) then (m_measureNow M (cl k)) else (if w = (nI 2) then (mA M 2 (cl k)) else (if w = (nI 3) then (if (m_lives M (cl k)) = true then (nI 1) else (nI 0)) else (if w = (nI 4) then (mA M 12 (6 + (cl k))) else (if (m_in w.toInt64 (5) (8)) = true then ((mA M 1 (((4 * (cl k)) + (cl w)) - 5)) + (nI 9)) else (-1000000002))))))) else (-1000000001))
theorem bX3_limb : nBV RX3 yX3_limb cX3_limb 3 (some .int) 2 := ⟨q886, q887, q55, q888, by decide, by decide +kernel⟩
set_option maxRecDepth 100000 in
set_option maxHeartbeats 4000000 in
theorem t_m_limb (l : Launch) (D : va_G) (N0 : Nat) (kA : Nat → ClassId) (mb : Nat) (hs : hT) (M : MS) (n : Nat) (hn : mb + 28 < n) (k : Int32) (w : Int32) (h0 : mN M 0 ≤ 6) (hh : mHe M) (hS : mSe M) : nE l yX3_limb cX3_limb 3 (some .int) D N0 kA 4 0 0 [.ref (N0 + mb), .int k, .int w] (mH N0 mb kA hs M) n (nX (some (.int (m_limb M k w))) (mH N0 mb kA hs M) n) := by
  refine nE_of (by decide) (Nat.le_of_ble_eq_true rfl) ?_
  intro p e s m args below meth c hC hnm
  refine n_loc (L' := [(0, .ref (N0 + mb)), (1, .int k), (2, .int w)]) rfl ?_
  have hS2 := hS.2
  refine n_aload_n hC dX3_limb_0 rfl ?_
  refine n_iload_n hC dX3_limb_1 rfl ?_
  refine n_callV1 hC (As := [.int k]) (rest := []) mc_o (by omega) rfl bX3_isLimb (t_m_isLimb l D N0 kA mb hs M n hn k ) (by decide) (by decide) q889 rfl (Nat.le_of_ble_eq_true rfl) dX3_limb_2 (Nat.le_of_ble_eq_true rfl) (Nat.le_of_ble_eq_true rfl) ?_
  refine n_stk (st' := [.int (bI (m_isLimb M k))]) rfl ?_
  refine n_if_neB (tgt := 11) hC dX3_limb_5 (by decide) (fun c5 => ?_) (fun c5 => ?_)
  · have hk := isLimb_nat h0 c5
    have hk2 := hk.2
    refine n_iload_n hC dX3_limb_11 rfl ?_
    rcases (Decidable.em (w = (nI 0))) with w12_0 | w12_0
    · refine n_tabIn (tgt := 48) (off := 36) hC dX3_limb_12 (by rw [w12_0]; decide) (by rw [w12_0]; decide) (by rw [w12_0]; rfl) (by decide) ?_
      refine n_aload_n hC dX3_limb_48 rfl ?_
      refine n_get hC cl3 (k := 12) (v := .ref (N0 + (mb + 10))) mc_o (by omega) (by decide) q692 (mf_get N0 mb M (by decide)) dX3_limb_49 ?_
      refine n_iload_n hC dX3_limb_52 rfl ?_
      refine n_top (cl k) hk.1 ?_
      refine n_iald hC (f := mA M 12) (mc_a (p := 10) (by decide) (by decide)) (by omega) (cl k) rfl (by omega) (by decide) dX3_limb_53 ?_
      have eq_ : m_limb M k w = (mA M 12 (cl k)) := by rw [m_limb, if_pos c5, if_pos w12_0]
      refine n_iret hC dX3_limb_54 (Nat.le_of_ble_eq_true rfl) (Nat.le_of_ble_eq_true rfl) ?_
      rw [eq_]
      exact ⟨rfl, rfl, rfl⟩
    · rcases (Decidable.em (w = (nI 1))) with w12_1 | w12_1
      · refine n_tabIn (tgt := 55) (off := 43) hC dX3_limb_12 (by rw [w12_1]; decide) (by rw [w12_1]; decide) (by rw [w12_1]; rfl) (by decide) ?_
        refine n_aload_n hC dX3_limb_55 rfl ?_
        refine n_iload_n hC dX3_limb_56 rfl ?_
        refine n_top (cl k) hk.1 ?_
        refine n_callV1 hC (As := [.int (nI (cl k))]) (rest := []) mc_o (by omega) rfl bX3_measureNow (t_m_measureNow l D N0 kA mb hs M n hn (cl k) (by omega) hh hS) (by decide) (by decide) q894 rfl (Nat.le_of_ble_eq_true rfl) dX3_limb_57 (Nat.le_of_ble_eq_true rfl) (Nat.le_of_ble_eq_true rfl) ?_
        refine n_stk (st' := [.int (m_measureNow M (cl k))]) rfl ?_
        have eq_ : m_limb M k w = (m_measureNow M (cl k)) := by rw [m_limb, if_pos c5, if_neg w12_0, if_pos w12_1]
        refine n_iret hC dX3_limb_60 (Nat.le_of_ble_eq_true rfl) (Nat.le_of_ble_eq_true rfl) ?_
        rw [eq_]
        exact ⟨rfl, rfl, rfl⟩
      · rcases (Decidable.em (w = (nI 2))) with w12_2 | w12_2
        · refine n_tabIn (tgt := 61) (off := 49) hC dX3_limb_12 (by rw [w12_2]; decide) (by rw [w12_2]; decide) (by rw [w12_2]; rfl) (by decide) ?_
          refine n_aload_n hC dX3_limb_61 rfl ?_
          refine n_get hC cl3 (k := 2) (v := .ref (N0 + (mb + 2))) mc_o (by omega) (by decide) q682 (mf_get N0 mb M (by decide)) dX3_limb_62 ?_
          refine n_iload_n hC dX3_limb_65 rfl ?_
          refine n_top (cl k) hk.1 ?_
          refine n_iald hC (f := mA M 2) (mc_a (p := 2) (by decide) (by decide)) (by omega) (cl k) rfl (by omega) (by decide) dX3_limb_66 ?_
          have eq_ : m_limb M k w = (mA M 2 (cl k)) := by rw [m_limb, if_pos c5, if_neg w12_0, if_neg w12_1, if_pos w12_2]
          refine n_iret hC dX3_limb_67 (Nat.le_of_ble_eq_true rfl) (Nat.le_of_ble_eq_true rfl) ?_
          rw [eq_]
          exact ⟨rfl, rfl, rfl⟩
        · rcases (Decidable.em (w = (nI 3))) with w12_3 | w12_3
          · refine n_tabIn (tgt := 68) (off := 56) hC dX3_limb_12 (by rw [w12_3]; decide) (by rw [w12_3]; decide) (by rw [w12_3]; rfl) (by decide) ?_
            refine n_aload_n hC dX3_limb_68 rfl ?_
            refine n_iload_n hC dX3_limb_69 rfl ?_
            refine n_top (cl k) hk.1 ?_
            refine n_callV1 hC (As := [.int (nI (cl k))]) (rest := []) mc_o (by omega) rfl bX3_lives (t_m_lives l D N0 kA mb hs M n hn (cl k) ) (by decide) (by decide) q902 rfl (Nat.le_of_ble_eq_true rfl) dX3_limb_70 (Nat.le_of_ble_eq_true rfl) (Nat.le_of_ble_eq_true rfl) ?_
            refine n_stk (st' := [.int (bI (m_lives M (cl k)))]) rfl ?_
            refine n_if_eqB (tgt := 80) hC dX3_limb_73 (by decide) (fun c73 => ?_) (fun c73 => ?_)
            · refine n_iconst (v := (nI 0)) hC dX3_limb_80 (by decide) ?_
              have eq_ : m_limb M k w = (nI 0) := by rw [m_limb, if_pos c5, if_neg w12_0, if_neg w12_1, if_neg w12_2, if_pos w12_3, if_neg (by rw [c73]; decide)]
              refine n_iret hC dX3_limb_81 (Nat.le_of_ble_eq_true rfl) (Nat.le_of_ble_eq_true rfl) ?_
              rw [eq_]
              exact ⟨rfl, rfl, rfl⟩
            · refine n_iconst (v := (nI 1)) hC dX3_limb_76 (by decide) ?_
              refine n_goto (tgt := 81) hC dX3_limb_77 (by decide) ?_
              have eq_ : m_limb M k w = (nI 1) := by rw [m_limb, if_pos c5, if_neg w12_0, if_neg w12_1, if_neg w12_2, if_pos w12_3, if_pos c73]
              refine n_iret hC dX3_limb_81 (Nat.le_of_ble_eq_true rfl) (Nat.le_of_ble_eq_true rfl) ?_
              rw [eq_]
              exact ⟨rfl, rfl, rfl⟩
          · rcases (Decidable.em (w = (nI 4))) with w12_4 | w12_4
            · refine n_tabIn (tgt := 82) (off := 70) hC dX3_limb_12 (by rw [w12_4]; decide) (by rw [w12_4]; decide) (by rw [w12_4]; rfl) (by decide) ?_
              refine n_aload_n hC dX3_limb_82 rfl ?_
              refine n_get hC cl3 (k := 12) (v := .ref (N0 + (mb + 10))) mc_o (by omega) (by decide) q692 (mf_get N0 mb M (by decide)) dX3_limb_83 ?_
              refine n_bipush (v := (nI 6)) hC dX3_limb_86 (by decide) ?_
              refine n_iload_n hC dX3_limb_88 rfl ?_
              refine n_top (cl k) hk.1 ?_
              refine n_iaddN hC dX3_limb_89 ?_
              refine n_iald hC (f := mA M 12) (mc_a (p := 10) (by decide) (by decide)) (by omega) (6 + (cl k)) rfl (by omega) (by decide) dX3_limb_90 ?_
              have eq_ : m_limb M k w = (mA M 12 (6 + (cl k))) := by rw [m_limb, if_pos c5, if_neg w12_0, if_neg w12_1, if_neg w12_2, if_neg w12_3, if_pos w12_4]
              refine n_iret hC dX3_limb_91 (Nat.le_of_ble_eq_true rfl) (Nat.le_of_ble_eq_true rfl) ?_
              rw [eq_]
              exact ⟨rfl, rfl, rfl⟩
            · refine n_tabOut (tgt := 92) hC dX3_limb_12 (sw_out 4 (fun k hk => by have hk : k = 0 ∨ k = 1 ∨ k = 2 ∨ k = 3 ∨ k = 4 := (by omega); rcases hk with rfl | rfl | rfl | rfl | rfl <;> assumption)) (by decide) ?_
              refine n_iload_n hC dX3_limb_92 rfl ?_
              refine n_i2l hC dX3_limb_93 ?_
              refine n_ldc2 hC dX3_limb_94 q913 ?_
              refine n_ldc2 hC dX3_limb_97 q914 ?_
              refine n_callS1 hC (As := [.long w.toInt64, .long (5), .long (8)]) (rest := []) bX3_in (t_m_in l D N0 kA (mH N0 mb kA hs M) n w.toInt64 (5) (8) ) (by decide) (by decide) q822 rfl (Nat.le_of_ble_eq_true rfl) dX3_limb_100 (Nat.le_of_ble_eq_true rfl) (Nat.le_of_ble_eq_true rfl) ?_
              refine n_stk (st' := [.int (bI (m_in w.toInt64 (5) (8)))]) rfl ?_
              refine n_if_eqB (tgt := 124) hC dX3_limb_103 (by decide) (fun c103 => ?_) (fun c103 => ?_)
              · refine n_ldc hC dX3_limb_124 q825 ?_
                have eq_ : m_limb M k w = (-1000000002) := by rw [m_limb, if_pos c5, if_neg w12_0, if_neg w12_1, if_neg w12_2, if_neg w12_3, if_neg w12_4, if_neg (by rw [c103]; decide)]
                refine n_iret hC dX3_limb_126 (Nat.le_of_ble_eq_true rfl) (Nat.le_of_ble_eq_true rfl) ?_
                rw [eq_]
                exact ⟨rfl, rfl, rfl⟩
              · have hw := (in_cst (x := w) 5 8 rfl rfl).mp c103
                have hw1 := nI_cl hw.1
                have hw2 := hw.2
                refine n_aload_n hC dX3_limb_106 rfl ?_
                refine n_get hC cl3 (k := 1) (v := .ref (N0 + (mb + 1))) mc_o (by omega) (by decide) q681 (mf_get N0 mb M (by decide)) dX3_limb_107 ?_
                refine n_iconst (v := (nI 4)) hC dX3_limb_110 (by decide) ?_
                refine n_iload_n hC dX3_limb_111 rfl ?_
                refine n_top (cl k) hk.1 ?_
                refine n_imulN hC dX3_limb_112 ?_
                refine n_iload_n hC dX3_limb_113 rfl ?_
                refine n_top (cl w) hw1 ?_
                refine n_iaddN hC dX3_limb_114 ?_
                refine n_iconst (v := (nI 5)) hC dX3_limb_115 (by decide) ?_
                refine n_isubN hC (by omega) dX3_limb_116 ?_
                refine n_iald hC (f := mA M 1) (mc_a (p := 1) (by decide) (by decide)) (by omega) (((4 * (cl k)) + (cl w)) - 5) rfl (by omega) (by decide) dX3_limb_117 ?_
                refine n_bipush (v := (nI 9)) hC dX3_limb_118 (by decide) ?_
                refine n_iadd hC dX3_limb_120 ?_
                refine n_goto (tgt := 126) hC dX3_limb_121 (by decide) ?_
                have eq_ : m_limb M k w = ((mA M 1 (((4 * (cl k)) + (cl w)) - 5)) + (nI 9)) := by rw [m_limb, if_pos c5, if_neg w12_0, if_neg w12_1, if_neg w12_2, if_neg w12_3, if_neg w12_4, if_pos c103]
                refine n_iret hC dX3_limb_126 (Nat.le_of_ble_eq_true rfl) (Nat.le_of_ble_eq_true rfl) ?_
                rw [eq_]
                exact ⟨rfl, rfl, rfl⟩
  · refine n_ldc hC dX3_limb_8 q893 ?_
    have eq_ : m_limb M k w = (-1000000001) := by rw [m_limb, if_neg (by rw [c5]; decide)]
    refine n_iret hC dX3_limb_10 (Nat.le_of_ble_eq_true rfl) (Nat.le_of_ble_eq_true rfl) ?_
    rw [eq_]
    exact ⟨rfl, rfl, rfl⟩
def m_contract (M : MS) (k : Int32) (w : Int32) : Int32 := (if (m_in k.toInt64 0 (((nI (mN M 3)) - (nI 1)).toInt64)) = true then (if w = (nI 0) then (nI (mB M 4 (cl k))) else (if w = (nI 1) then (nI (mB M 5 (cl k))) else (if w = (nI 2) then (nI (mB M 6 (cl k))) else (if w = (nI 3) then (mA M 12 (12 + (cl k))) else (-1000000002))))) else (-1000000001))
theorem bX3_contract : nBV RX3 yX3_contract cX3_contract 3 (some .int) 2 := ⟨q916, q917, q55, q918, by decide, by decide +kernel⟩
set_option maxRecDepth 100000 in
set_option maxHeartbeats 4000000 in
theorem t_m_contract (l : Launch) (D : va_G) (N0 : Nat) (kA : Nat → ClassId) (mb : Nat) (hs : hT) (M : MS) (n : Nat) (hn : mb + 28 < n) (k : Int32) (w : Int32) (h3 : mN M 3 ≤ 6) : nE l yX3_contract cX3_contract 3 (some .int) D N0 kA 1 0 0 [.ref (N0 + mb), .int k, .int w] (mH N0 mb kA hs M) n (nX (some (.int (m_contract M k w))) (mH N0 mb kA hs M) n) := by
  refine nE_of (by decide) (Nat.le_of_ble_eq_true rfl) ?_
  intro p e s m args below meth c hC hnm
  refine n_loc (L' := [(0, .ref (N0 + mb)), (1, .int k), (2, .int w)]) rfl ?_
  refine n_iload_n hC dX3_contract_0 rfl ?_
  refine n_i2l hC dX3_contract_1 ?_
  refine n_lconst (v := 0) hC dX3_contract_2 (by decide) ?_
  refine n_aload_n hC dX3_contract_3 rfl ?_
  refine n_get hC cl3 (k := 3) (v := .int (nI (mN M 3))) mc_o (by omega) (by decide) q683 (mf_get N0 mb M (by decide)) dX3_contract_4 ?_
  refine n_iconst (v := (nI 1)) hC dX3_contract_7 (by decide) ?_
  refine n_isub hC dX3_contract_8 ?_
  refine n_i2l hC dX3_contract_9 ?_
  refine n_callS1 hC (As := [.long k.toInt64, .long 0, .long (((nI (mN M 3)) - (nI 1)).toInt64)]) (rest := []) bX3_in (t_m_in l D N0 kA (mH N0 mb kA hs M) n k.toInt64 0 (((nI (mN M 3)) - (nI 1)).toInt64) ) (by decide) (by decide) q822 rfl (Nat.le_of_ble_eq_true rfl) dX3_contract_10 (Nat.le_of_ble_eq_true rfl) (Nat.le_of_ble_eq_true rfl) ?_
  refine n_stk (st' := [.int (bI (m_in k.toInt64 0 (((nI (mN M 3)) - (nI 1)).toInt64)))]) rfl ?_
  refine n_if_neB (tgt := 19) hC dX3_contract_13 (by decide) (fun c13 => ?_) (fun c13 => ?_)
  · have hk := (in_nat (by omega)).mp c13
    have hk1 := nI_cl hk.1
    have hk2 := hk.2
    refine n_iload_n hC dX3_contract_19 rfl ?_
    rcases (Decidable.em (w = (nI 0))) with w20_0 | w20_0
    · refine n_tabIn (tgt := 52) (off := 32) hC dX3_contract_20 (by rw [w20_0]; decide) (by rw [w20_0]; decide) (by rw [w20_0]; rfl) (by decide) ?_
      refine n_aload_n hC dX3_contract_52 rfl ?_
      refine n_get hC cl3 (k := 4) (v := .ref (N0 + (mb + 3))) mc_o (by omega) (by decide) q684 (mf_get N0 mb M (by decide)) dX3_contract_53 ?_
      refine n_iload_n hC dX3_contract_56 rfl ?_
      refine n_top (cl k) hk1 ?_
      refine n_iald hC (f := fun j => nI (mB M 4 j)) (mc_a (p := 3) (by decide) (by decide)) (by omega) (cl k) rfl (by omega) (by decide) dX3_contract_57 ?_
      have eq_ : m_contract M k w = (nI (mB M 4 (cl k))) := by rw [m_contract, if_pos c13, if_pos w20_0]
      refine n_iret hC dX3_contract_58 (Nat.le_of_ble_eq_true rfl) (Nat.le_of_ble_eq_true rfl) ?_
      rw [eq_]
      exact ⟨rfl, rfl, rfl⟩
    · rcases (Decidable.em (w = (nI 1))) with w20_1 | w20_1
      · refine n_tabIn (tgt := 59) (off := 39) hC dX3_contract_20 (by rw [w20_1]; decide) (by rw [w20_1]; decide) (by rw [w20_1]; rfl) (by decide) ?_
        refine n_aload_n hC dX3_contract_59 rfl ?_
        refine n_get hC cl3 (k := 5) (v := .ref (N0 + (mb + 4))) mc_o (by omega) (by decide) q685 (mf_get N0 mb M (by decide)) dX3_contract_60 ?_
        refine n_iload_n hC dX3_contract_63 rfl ?_
        refine n_top (cl k) hk1 ?_
        refine n_iald hC (f := fun j => nI (mB M 5 j)) (mc_a (p := 4) (by decide) (by decide)) (by omega) (cl k) rfl (by omega) (by decide) dX3_contract_64 ?_
        have eq_ : m_contract M k w = (nI (mB M 5 (cl k))) := by rw [m_contract, if_pos c13, if_neg w20_0, if_pos w20_1]
        refine n_iret hC dX3_contract_65 (Nat.le_of_ble_eq_true rfl) (Nat.le_of_ble_eq_true rfl) ?_
        rw [eq_]
        exact ⟨rfl, rfl, rfl⟩
      · rcases (Decidable.em (w = (nI 2))) with w20_2 | w20_2
        · refine n_tabIn (tgt := 66) (off := 46) hC dX3_contract_20 (by rw [w20_2]; decide) (by rw [w20_2]; decide) (by rw [w20_2]; rfl) (by decide) ?_
          refine n_aload_n hC dX3_contract_66 rfl ?_
          refine n_get hC cl3 (k := 6) (v := .ref (N0 + (mb + 5))) mc_o (by omega) (by decide) q686 (mf_get N0 mb M (by decide)) dX3_contract_67 ?_
          refine n_iload_n hC dX3_contract_70 rfl ?_
          refine n_top (cl k) hk1 ?_
          refine n_iald hC (f := fun j => nI (mB M 6 j)) (mc_a (p := 5) (by decide) (by decide)) (by omega) (cl k) rfl (by omega) (by decide) dX3_contract_71 ?_
          have eq_ : m_contract M k w = (nI (mB M 6 (cl k))) := by rw [m_contract, if_pos c13, if_neg w20_0, if_neg w20_1, if_pos w20_2]
          refine n_iret hC dX3_contract_72 (Nat.le_of_ble_eq_true rfl) (Nat.le_of_ble_eq_true rfl) ?_
          rw [eq_]
          exact ⟨rfl, rfl, rfl⟩
        · rcases (Decidable.em (w = (nI 3))) with w20_3 | w20_3
          · refine n_tabIn (tgt := 73) (off := 53) hC dX3_contract_20 (by rw [w20_3]; decide) (by rw [w20_3]; decide) (by rw [w20_3]; rfl) (by decide) ?_
            refine n_aload_n hC dX3_contract_73 rfl ?_
            refine n_get hC cl3 (k := 12) (v := .ref (N0 + (mb + 10))) mc_o (by omega) (by decide) q692 (mf_get N0 mb M (by decide)) dX3_contract_74 ?_
            refine n_bipush (v := (nI 12)) hC dX3_contract_77 (by decide) ?_
            refine n_iload_n hC dX3_contract_79 rfl ?_
            refine n_top (cl k) hk1 ?_
            refine n_iaddN hC dX3_contract_80 ?_
            refine n_iald hC (f := mA M 12) (mc_a (p := 10) (by decide) (by decide)) (by omega) (12 + (cl k)) rfl (by omega) (by decide) dX3_contract_81 ?_
            have eq_ : m_contract M k w = (mA M 12 (12 + (cl k))) := by rw [m_contract, if_pos c13, if_neg w20_0, if_neg w20_1, if_neg w20_2, if_pos w20_3]
            refine n_iret hC dX3_contract_82 (Nat.le_of_ble_eq_true rfl) (Nat.le_of_ble_eq_true rfl) ?_
            rw [eq_]
            exact ⟨rfl, rfl, rfl⟩
          · refine n_tabOut (tgt := 83) hC dX3_contract_20 (sw_out 3 (fun k hk => by have hk : k = 0 ∨ k = 1 ∨ k = 2 ∨ k = 3 := (by omega); rcases hk with rfl | rfl | rfl | rfl <;> assumption)) (by decide) ?_
            refine n_ldc hC dX3_contract_83 q825 ?_
            have eq_ : m_contract M k w = (-1000000002) := by rw [m_contract, if_pos c13, if_neg w20_0, if_neg w20_1, if_neg w20_2, if_neg w20_3]
            refine n_iret hC dX3_contract_85 (Nat.le_of_ble_eq_true rfl) (Nat.le_of_ble_eq_true rfl) ?_
            rw [eq_]
            exact ⟨rfl, rfl, rfl⟩
  · refine n_ldc hC dX3_contract_16 q893 ?_
    have eq_ : m_contract M k w = (-1000000001) := by rw [m_contract, if_neg (by rw [c13]; decide)]
    refine n_iret hC dX3_contract_18 (Nat.le_of_ble_eq_true rfl) (Nat.le_of_ble_eq_true rfl) ?_
    rw [eq_]
    exact ⟨rfl, rfl, rfl⟩
def m_rate (M : MS) (k : Int32) (w : Int32) : Int32 := (if (m_in k.toInt64 0 (((nI (mN M 7)) - (nI 1)).toInt64)) = true then (if w = (nI 0) then (nI (mB M 8 (cl k))) else (if w = (nI 1) then (nI (mB M 9 (cl k))) else (if w = (nI 2) then (nI (mB M 10 (cl k))) else (if w = (nI 3) then (nI (mB M 11 (cl k))) else (-1000000002))))) else (-1000000001))
theorem bX3_rate : nBV RX3 yX3_rate cX3_rate 3 (some .int) 2 := ⟨q920, q921, q55, q922, by decide, by decide +kernel⟩
set_option maxRecDepth 100000 in
set_option maxHeartbeats 4000000 in
theorem t_m_rate (l : Launch) (D : va_G) (N0 : Nat) (kA : Nat → ClassId) (mb : Nat) (hs : hT) (M : MS) (n : Nat) (hn : mb + 28 < n) (k : Int32) (w : Int32) (h7 : mN M 7 ≤ 8) : nE l yX3_rate cX3_rate 3 (some .int) D N0 kA 1 0 0 [.ref (N0 + mb), .int k, .int w] (mH N0 mb kA hs M) n (nX (some (.int (m_rate M k w))) (mH N0 mb kA hs M) n) := by
  refine nE_of (by decide) (Nat.le_of_ble_eq_true rfl) ?_
  intro p e s m args below meth c hC hnm
  refine n_loc (L' := [(0, .ref (N0 + mb)), (1, .int k), (2, .int w)]) rfl ?_
  refine n_iload_n hC dX3_rate_0 rfl ?_
  refine n_i2l hC dX3_rate_1 ?_
  refine n_lconst (v := 0) hC dX3_rate_2 (by decide) ?_
  refine n_aload_n hC dX3_rate_3 rfl ?_
  refine n_get hC cl3 (k := 7) (v := .int (nI (mN M 7))) mc_o (by omega) (by decide) q687 (mf_get N0 mb M (by decide)) dX3_rate_4 ?_
  refine n_iconst (v := (nI 1)) hC dX3_rate_7 (by decide) ?_
  refine n_isub hC dX3_rate_8 ?_
  refine n_i2l hC dX3_rate_9 ?_
  refine n_callS1 hC (As := [.long k.toInt64, .long 0, .long (((nI (mN M 7)) - (nI 1)).toInt64)]) (rest := []) bX3_in (t_m_in l D N0 kA (mH N0 mb kA hs M) n k.toInt64 0 (((nI (mN M 7)) - (nI 1)).toInt64) ) (by decide) (by decide) q822 rfl (Nat.le_of_ble_eq_true rfl) dX3_rate_10 (Nat.le_of_ble_eq_true rfl) (Nat.le_of_ble_eq_true rfl) ?_
  refine n_stk (st' := [.int (bI (m_in k.toInt64 0 (((nI (mN M 7)) - (nI 1)).toInt64)))]) rfl ?_
  refine n_if_neB (tgt := 19) hC dX3_rate_13 (by decide) (fun c13 => ?_) (fun c13 => ?_)
  · have hk := (in_nat (by omega)).mp c13
    have hk1 := nI_cl hk.1
    have hk2 := hk.2
    refine n_iload_n hC dX3_rate_19 rfl ?_
    rcases (Decidable.em (w = (nI 0))) with w20_0 | w20_0
    · refine n_tabIn (tgt := 52) (off := 32) hC dX3_rate_20 (by rw [w20_0]; decide) (by rw [w20_0]; decide) (by rw [w20_0]; rfl) (by decide) ?_
      refine n_aload_n hC dX3_rate_52 rfl ?_
      refine n_get hC cl3 (k := 8) (v := .ref (N0 + (mb + 6))) mc_o (by omega) (by decide) q688 (mf_get N0 mb M (by decide)) dX3_rate_53 ?_
      refine n_iload_n hC dX3_rate_56 rfl ?_
      refine n_top (cl k) hk1 ?_
      refine n_iald hC (f := fun j => nI (mB M 8 j)) (mc_a (p := 6) (by decide) (by decide)) (by omega) (cl k) rfl (by omega) (by decide) dX3_rate_57 ?_
      have eq_ : m_rate M k w = (nI (mB M 8 (cl k))) := by rw [m_rate, if_pos c13, if_pos w20_0]
      refine n_iret hC dX3_rate_58 (Nat.le_of_ble_eq_true rfl) (Nat.le_of_ble_eq_true rfl) ?_
      rw [eq_]
      exact ⟨rfl, rfl, rfl⟩
    · rcases (Decidable.em (w = (nI 1))) with w20_1 | w20_1
      · refine n_tabIn (tgt := 59) (off := 39) hC dX3_rate_20 (by rw [w20_1]; decide) (by rw [w20_1]; decide) (by rw [w20_1]; rfl) (by decide) ?_
        refine n_aload_n hC dX3_rate_59 rfl ?_
        refine n_get hC cl3 (k := 9) (v := .ref (N0 + (mb + 7))) mc_o (by omega) (by decide) q689 (mf_get N0 mb M (by decide)) dX3_rate_60 ?_
        refine n_iload_n hC dX3_rate_63 rfl ?_
        refine n_top (cl k) hk1 ?_
        refine n_iald hC (f := fun j => nI (mB M 9 j)) (mc_a (p := 7) (by decide) (by decide)) (by omega) (cl k) rfl (by omega) (by decide) dX3_rate_64 ?_
        have eq_ : m_rate M k w = (nI (mB M 9 (cl k))) := by rw [m_rate, if_pos c13, if_neg w20_0, if_pos w20_1]
        refine n_iret hC dX3_rate_65 (Nat.le_of_ble_eq_true rfl) (Nat.le_of_ble_eq_true rfl) ?_
        rw [eq_]
        exact ⟨rfl, rfl, rfl⟩
      · rcases (Decidable.em (w = (nI 2))) with w20_2 | w20_2
        · refine n_tabIn (tgt := 66) (off := 46) hC dX3_rate_20 (by rw [w20_2]; decide) (by rw [w20_2]; decide) (by rw [w20_2]; rfl) (by decide) ?_
          refine n_aload_n hC dX3_rate_66 rfl ?_
          refine n_get hC cl3 (k := 10) (v := .ref (N0 + (mb + 8))) mc_o (by omega) (by decide) q690 (mf_get N0 mb M (by decide)) dX3_rate_67 ?_
          refine n_iload_n hC dX3_rate_70 rfl ?_
          refine n_top (cl k) hk1 ?_
          refine n_iald hC (f := fun j => nI (mB M 10 j)) (mc_a (p := 8) (by decide) (by decide)) (by omega) (cl k) rfl (by omega) (by decide) dX3_rate_71 ?_
          have eq_ : m_rate M k w = (nI (mB M 10 (cl k))) := by rw [m_rate, if_pos c13, if_neg w20_0, if_neg w20_1, if_pos w20_2]
          refine n_iret hC dX3_rate_72 (Nat.le_of_ble_eq_true rfl) (Nat.le_of_ble_eq_true rfl) ?_
          rw [eq_]
          exact ⟨rfl, rfl, rfl⟩
        · rcases (Decidable.em (w = (nI 3))) with w20_3 | w20_3
          · refine n_tabIn (tgt := 73) (off := 53) hC dX3_rate_20 (by rw [w20_3]; decide) (by rw [w20_3]; decide) (by rw [w20_3]; rfl) (by decide) ?_
            refine n_aload_n hC dX3_rate_73 rfl ?_
            refine n_get hC cl3 (k := 11) (v := .ref (N0 + (mb + 9))) mc_o (by omega) (by decide) q691 (mf_get N0 mb M (by decide)) dX3_rate_74 ?_
            refine n_iload_n hC dX3_rate_77 rfl ?_
            refine n_top (cl k) hk1 ?_
            refine n_iald hC (f := fun j => nI (mB M 11 j)) (mc_a (p := 9) (by decide) (by decide)) (by omega) (cl k) rfl (by omega) (by decide) dX3_rate_78 ?_
            have eq_ : m_rate M k w = (nI (mB M 11 (cl k))) := by rw [m_rate, if_pos c13, if_neg w20_0, if_neg w20_1, if_neg w20_2, if_pos w20_3]
            refine n_iret hC dX3_rate_79 (Nat.le_of_ble_eq_true rfl) (Nat.le_of_ble_eq_true rfl) ?_
            rw [eq_]
            exact ⟨rfl, rfl, rfl⟩
          · refine n_tabOut (tgt := 80) hC dX3_rate_20 (sw_out 3 (fun k hk => by have hk : k = 0 ∨ k = 1 ∨ k = 2 ∨ k = 3 := (by omega); rcases hk with rfl | rfl | rfl | rfl <;> assumption)) (by decide) ?_
            refine n_ldc hC dX3_rate_80 q825 ?_
            have eq_ : m_rate M k w = (-1000000002) := by rw [m_rate, if_pos c13, if_neg w20_0, if_neg w20_1, if_neg w20_2, if_neg w20_3]
            refine n_iret hC dX3_rate_82 (Nat.le_of_ble_eq_true rfl) (Nat.le_of_ble_eq_true rfl) ?_
            rw [eq_]
            exact ⟨rfl, rfl, rfl⟩
  · refine n_ldc hC dX3_rate_16 q893 ?_
    have eq_ : m_rate M k w = (-1000000001) := by rw [m_rate, if_neg (by rw [c13]; decide)]
    refine n_iret hC dX3_rate_18 (Nat.le_of_ble_eq_true rfl) (Nat.le_of_ble_eq_true rfl) ?_
    rw [eq_]
    exact ⟨rfl, rfl, rfl⟩
def m_seasonsRefused (M : MS) (v : Int32) : Int32 := (if (m_in v.toInt64 1 (40)) = true then (if (mN M 0) = 0 then (-1000000003) else (if (cl (mA M 12 19)) ≤ 9000 then (nI 0) else (-1000000004))) else (-1000000002))
theorem bX3_seasonsRefused : nBV RX3 yX3_seasonsRefused cX3_seasonsRefused 2 (some .int) 1 := ⟨q929, qs35, q55, q930, by decide, by decide +kernel⟩
set_option maxRecDepth 100000 in
set_option maxHeartbeats 4000000 in
theorem t_m_seasonsRefused (l : Launch) (D : va_G) (N0 : Nat) (kA : Nat → ClassId) (mb : Nat) (hs : hT) (M : MS) (n : Nat) (hn : mb + 28 < n) (v : Int32) (h0 : mN M 0 ≤ 6) (hS : mSe M) : nE l yX3_seasonsRefused cX3_seasonsRefused 2 (some .int) D N0 kA 1 0 0 [.ref (N0 + mb), .int v] (mH N0 mb kA hs M) n (nX (some (.int (m_seasonsRefused M v))) (mH N0 mb kA hs M) n) := by
  refine nE_of (by decide) (Nat.le_of_ble_eq_true rfl) ?_
  intro p e s m args below meth c hC hnm
  refine n_loc (L' := [(0, .ref (N0 + mb)), (1, .int v)]) rfl ?_
  have hS2 := hS.2
  refine n_iload_n hC dX3_seasonsRefused_0 rfl ?_
  refine n_i2l hC dX3_seasonsRefused_1 ?_
  refine n_lconst (v := 1) hC dX3_seasonsRefused_2 (by decide) ?_
  refine n_ldc2 hC dX3_seasonsRefused_3 q931 ?_
  refine n_callS1 hC (As := [.long v.toInt64, .long 1, .long (40)]) (rest := []) bX3_in (t_m_in l D N0 kA (mH N0 mb kA hs M) n v.toInt64 1 (40) ) (by decide) (by decide) q822 rfl (Nat.le_of_ble_eq_true rfl) dX3_seasonsRefused_6 (Nat.le_of_ble_eq_true rfl) (Nat.le_of_ble_eq_true rfl) ?_
  refine n_stk (st' := [.int (bI (m_in v.toInt64 1 (40)))]) rfl ?_
  refine n_if_neB (tgt := 15) hC dX3_seasonsRefused_9 (by decide) (fun c9 => ?_) (fun c9 => ?_)
  · refine n_aload_n hC dX3_seasonsRefused_15 rfl ?_
    refine n_get hC cl3 (k := 0) (v := .int (nI (mN M 0))) mc_o (by omega) (by decide) q680 (mf_get N0 mb M (by decide)) dX3_seasonsRefused_16 ?_
    refine n_if_neN (tgt := 27) hC (by omega) dX3_seasonsRefused_19 (by decide) (fun c19 => ?_) (fun c19 => ?_)
    · refine n_aload_n hC dX3_seasonsRefused_27 rfl ?_
      refine n_get hC cl3 (k := 12) (v := .ref (N0 + (mb + 10))) mc_o (by omega) (by decide) q692 (mf_get N0 mb M (by decide)) dX3_seasonsRefused_28 ?_
      refine n_bipush (v := (nI 19)) hC dX3_seasonsRefused_31 (by decide) ?_
      refine n_iald hC (f := mA M 12) (mc_a (p := 10) (by decide) (by decide)) (by omega) 19 rfl (by omega) (by decide) dX3_seasonsRefused_33 ?_
      refine n_top (cl (mA M 12 19)) (nI_cl hS.1) ?_
      refine n_sipush (v := (nI 9000)) hC dX3_seasonsRefused_34 (by decide) ?_
      refine n_icmp_leN (tgt := 45) hC (cl (mA M 12 19)) 9000 rfl rfl (by omega) (by omega) dX3_seasonsRefused_37 (by decide) (fun c37 => ?_) (fun c37 => ?_)
      · refine n_iconst (v := (nI 0)) hC dX3_seasonsRefused_45 (by decide) ?_
        have eq_ : m_seasonsRefused M v = (nI 0) := by rw [m_seasonsRefused, if_pos c9, if_neg c19, if_pos c37]
        refine n_iret hC dX3_seasonsRefused_46 (Nat.le_of_ble_eq_true rfl) (Nat.le_of_ble_eq_true rfl) ?_
        rw [eq_]
        exact ⟨rfl, rfl, rfl⟩
      · refine n_ldc hC dX3_seasonsRefused_40 q826 ?_
        refine n_goto (tgt := 46) hC dX3_seasonsRefused_42 (by decide) ?_
        have eq_ : m_seasonsRefused M v = (-1000000004) := by rw [m_seasonsRefused, if_pos c9, if_neg c19, if_neg (Nat.not_le.mpr c37)]
        refine n_iret hC dX3_seasonsRefused_46 (Nat.le_of_ble_eq_true rfl) (Nat.le_of_ble_eq_true rfl) ?_
        rw [eq_]
        exact ⟨rfl, rfl, rfl⟩
    · refine n_ldc hC dX3_seasonsRefused_22 q932 ?_
      refine n_goto (tgt := 46) hC dX3_seasonsRefused_24 (by decide) ?_
      have eq_ : m_seasonsRefused M v = (-1000000003) := by rw [m_seasonsRefused, if_pos c9, if_pos c19]
      refine n_iret hC dX3_seasonsRefused_46 (Nat.le_of_ble_eq_true rfl) (Nat.le_of_ble_eq_true rfl) ?_
      rw [eq_]
      exact ⟨rfl, rfl, rfl⟩
  · refine n_ldc hC dX3_seasonsRefused_12 q825 ?_
    have eq_ : m_seasonsRefused M v = (-1000000002) := by rw [m_seasonsRefused, if_neg (by rw [c9]; decide)]
    refine n_iret hC dX3_seasonsRefused_14 (Nat.le_of_ble_eq_true rfl) (Nat.le_of_ble_eq_true rfl) ?_
    rw [eq_]
    exact ⟨rfl, rfl, rfl⟩
def m_firstNought_L4 : Nat → MS → Int32 → Nat → Int32
  | 0, _, _, _ => 0
  | fu + 1, M, b, i => (if (mN M 3) ≤ i then b else (if (mB M 4 i) < (cl (mA M 12 19)) then m_firstNought_L4 fu M b (i + 1) else (if (m_measure M (mB M 5 i) (mB M 4 i)) = 0 then (if b < 0 then m_firstNought_L4 fu M (nI i) (i + 1) else (if (mB M 4 (cl b)) ≤ (mB M 4 i) then m_firstNought_L4 fu M (nI (cl b)) (i + 1) else m_firstNought_L4 fu M (nI i) (i + 1))) else m_firstNought_L4 fu M b (i + 1))))
def m_firstNought (M : MS) : Int32 := m_firstNought_L4 (mN M 3 + 1) M (-1) 0
theorem bX3_firstNought : nBV RX3 yX3_firstNought cX3_firstNought 4 (some .int) 0 := ⟨q987, q988, q55, q989, by decide, by decide +kernel⟩
set_option maxRecDepth 100000 in
set_option maxHeartbeats 4000000 in
theorem t_m_firstNought_L4 {p : Program} {l : Launch} {e : Env} {s : State} {m : MethodId} {args : Array Value} {below : List Frame} {meth : Method} {c : Code} {D : va_G} {N0 : Nat} {kA : Nat → ClassId} {mb : Nat} {hs : hT} {M : MS} {n : Nat} (hn : mb + 28 < n)  (hC : nC p s m args meth c RX3 cX3_firstNought 4 (some .int) true D N0 kA) (hh : mHe M) (hS : mSe M) (hc : mCo M) : ∀ (fu : Nat) (b : Int32) (i : Nat) (ib : 0 ≤ b → cl b < mN M 3) (hi : i ≤ mN M 3) (hf : mN M 3 < i + fu), nW p l e (nRm 3 0 0) s m args below meth c (nQ below (nX (some (.int (m_firstNought_L4 fu M b i))) (mH N0 mb kA hs M) n) D N0 s 0 0) D N0 4 4 [(0, .ref (N0 + mb)), (1, .int b), (2, .int (nI i))] [] (mH N0 mb kA hs M) n 0 0 := by
  intro fu
  induction fu with
  | zero =>
    intro b i ib hi hf
    exfalso; omega
  | succ fu ih =>
    intro b i ib hi hf
    have hS2 := hS.2
    have hc1 := hc.1
    have hc2 := hc.2
    refine n_iload_n hC dX3_firstNought_4 rfl ?_
    refine n_aload_n hC dX3_firstNought_5 rfl ?_
    refine n_get hC cl3 (k := 3) (v := .int (nI (mN M 3))) mc_o (by omega) (by decide) q683 (mf_get N0 mb M (by decide)) dX3_firstNought_6 ?_
    refine n_icmp_geN (tgt := 88) hC i (mN M 3) rfl rfl (by omega) (by omega) dX3_firstNought_9 (by decide) (fun c9 => ?_) (fun c9 => ?_)
    · refine n_iload_n hC dX3_firstNought_88 rfl ?_
      have eq_ : m_firstNought_L4 (fu + 1) M b i = b := by rw [m_firstNought_L4, if_pos c9]
      refine n_iret hC dX3_firstNought_89 (Nat.le_of_ble_eq_true rfl) (Nat.le_of_ble_eq_true rfl) ?_
      rw [eq_]
      exact ⟨rfl, rfl, rfl⟩
    · have hci := hc2 i (by omega)
      refine n_aload_n hC dX3_firstNought_12 rfl ?_
      refine n_get hC cl3 (k := 4) (v := .ref (N0 + (mb + 3))) mc_o (by omega) (by decide) q684 (mf_get N0 mb M (by decide)) dX3_firstNought_13 ?_
      refine n_iload_n hC dX3_firstNought_16 rfl ?_
      refine n_iald hC (f := fun j => nI (mB M 4 j)) (mc_a (p := 3) (by decide) (by decide)) (by omega) i rfl (by omega) (by decide) dX3_firstNought_17 ?_
      refine n_aload_n hC dX3_firstNought_18 rfl ?_
      refine n_get hC cl3 (k := 12) (v := .ref (N0 + (mb + 10))) mc_o (by omega) (by decide) q692 (mf_get N0 mb M (by decide)) dX3_firstNought_19 ?_
      refine n_bipush (v := (nI 19)) hC dX3_firstNought_22 (by decide) ?_
      refine n_iald hC (f := mA M 12) (mc_a (p := 10) (by decide) (by decide)) (by omega) 19 rfl (by omega) (by decide) dX3_firstNought_24 ?_
      refine n_top (cl (mA M 12 19)) (nI_cl hS.1) ?_
      refine n_icmp_ltN (tgt := 51) hC (mB M 4 i) (cl (mA M 12 19)) rfl rfl (by omega) (by omega) dX3_firstNought_25 (by decide) (fun c25 => ?_) (fun c25 => ?_)
      · refine n_iconst (v := (nI 0)) hC dX3_firstNought_51 (by decide) ?_
        refine n_istore_n (L' := [(0, .ref (N0 + mb)), (1, .int b), (2, .int (nI i)), (3, .int (nI 0))]) hC dX3_firstNought_52 (by decide) rfl ?_
        refine n_iload_n hC dX3_firstNought_53 rfl ?_
        refine n_if_eqT (tgt := 80) hC dX3_firstNought_54 (by decide) (by decide) ?_
        refine n_iload_n hC dX3_firstNought_80 rfl ?_
        refine n_istore_n (L' := [(0, .ref (N0 + mb)), (1, .int b), (2, .int (nI i)), (3, .int (nI 0))]) hC dX3_firstNought_81 (by decide) rfl ?_
        refine n_iincN (a := i) (L' := [(0, .ref (N0 + mb)), (1, .int b), (2, .int (nI (i + 1))), (3, .int (nI 0))]) hC dX3_firstNought_82 rfl (by decide) rfl ?_
        refine n_goto (tgt := 4) hC dX3_firstNought_85 (by decide) ?_
        refine n_drop [0, 1, 2] (L' := [(0, .ref (N0 + mb)), (1, .int b), (2, .int (nI (i + 1)))]) rfl ?_
        rw [show m_firstNought_L4 (fu + 1) M b i = m_firstNought_L4 fu M b (i + 1) from by rw [m_firstNought_L4, if_neg (Nat.not_le.mpr c9), if_pos c25]]
        exact ih b (i + 1) (by first | exact ib | exact (fun _ => by rw [cl_nI (by omega)]; omega)) (by omega) (by omega)
      · refine n_aload_n hC dX3_firstNought_28 rfl ?_
        refine n_aload_n hC dX3_firstNought_29 rfl ?_
        refine n_get hC cl3 (k := 5) (v := .ref (N0 + (mb + 4))) mc_o (by omega) (by decide) q685 (mf_get N0 mb M (by decide)) dX3_firstNought_30 ?_
        refine n_iload_n hC dX3_firstNought_33 rfl ?_
        refine n_iald hC (f := fun j => nI (mB M 5 j)) (mc_a (p := 4) (by decide) (by decide)) (by omega) i rfl (by omega) (by decide) dX3_firstNought_34 ?_
        refine n_aload_n hC dX3_firstNought_35 rfl ?_
        refine n_get hC cl3 (k := 4) (v := .ref (N0 + (mb + 3))) mc_o (by omega) (by decide) q684 (mf_get N0 mb M (by decide)) dX3_firstNought_36 ?_
        refine n_iload_n hC dX3_firstNought_39 rfl ?_
        refine n_iald hC (f := fun j => nI (mB M 4 j)) (mc_a (p := 3) (by decide) (by decide)) (by omega) i rfl (by omega) (by decide) dX3_firstNought_40 ?_
        refine n_callV1 hC (As := [.int (nI (mB M 5 i)), .int (nI (mB M 4 i))]) (rest := []) mc_o (by omega) rfl bX3_measure (t_m_measure l D N0 kA mb hs M n hn (mB M 5 i) (mB M 4 i) (by omega) (by omega) hh) (by decide) (by decide) q898 rfl (Nat.le_of_ble_eq_true rfl) dX3_firstNought_41 (Nat.le_of_ble_eq_true rfl) (Nat.le_of_ble_eq_true rfl) ?_
        refine n_stk (st' := [.int (m_measure M (mB M 5 i) (mB M 4 i))]) rfl ?_
        refine n_if_ne (tgt := 51) hC dX3_firstNought_44 (by decide) (fun c44 => ?_) (fun c44 => ?_)
        · refine n_iconst (v := (nI 0)) hC dX3_firstNought_51 (by decide) ?_
          refine n_istore_n (L' := [(0, .ref (N0 + mb)), (1, .int b), (2, .int (nI i)), (3, .int (nI 0))]) hC dX3_firstNought_52 (by decide) rfl ?_
          refine n_iload_n hC dX3_firstNought_53 rfl ?_
          refine n_if_eqT (tgt := 80) hC dX3_firstNought_54 (by decide) (by decide) ?_
          refine n_iload_n hC dX3_firstNought_80 rfl ?_
          refine n_istore_n (L' := [(0, .ref (N0 + mb)), (1, .int b), (2, .int (nI i)), (3, .int (nI 0))]) hC dX3_firstNought_81 (by decide) rfl ?_
          refine n_iincN (a := i) (L' := [(0, .ref (N0 + mb)), (1, .int b), (2, .int (nI (i + 1))), (3, .int (nI 0))]) hC dX3_firstNought_82 rfl (by decide) rfl ?_
          refine n_goto (tgt := 4) hC dX3_firstNought_85 (by decide) ?_
          refine n_drop [0, 1, 2] (L' := [(0, .ref (N0 + mb)), (1, .int b), (2, .int (nI (i + 1)))]) rfl ?_
          rw [show m_firstNought_L4 (fu + 1) M b i = m_firstNought_L4 fu M b (i + 1) from by rw [m_firstNought_L4, if_neg (Nat.not_le.mpr c9), if_neg (Nat.not_lt.mpr c25), if_neg c44]]
          exact ih b (i + 1) (by first | exact ib | exact (fun _ => by rw [cl_nI (by omega)]; omega)) (by omega) (by omega)
        · refine n_iconst (v := (nI 1)) hC dX3_firstNought_47 (by decide) ?_
          refine n_goto (tgt := 52) hC dX3_firstNought_48 (by decide) ?_
          refine n_istore_n (L' := [(0, .ref (N0 + mb)), (1, .int b), (2, .int (nI i)), (3, .int (nI 1))]) hC dX3_firstNought_52 (by decide) rfl ?_
          refine n_iload_n hC dX3_firstNought_53 rfl ?_
          refine n_if_eqF (tgt := 80) hC dX3_firstNought_54 (by decide) (by decide) ?_
          refine n_iload_n hC dX3_firstNought_57 rfl ?_
          refine n_if_lt (tgt := 76) hC dX3_firstNought_58 (by decide) (fun c58 => ?_) (fun c58 => ?_)
          · refine n_iload_n hC dX3_firstNought_76 rfl ?_
            refine n_goto (tgt := 81) hC dX3_firstNought_77 (by decide) ?_
            refine n_istore_n (L' := [(0, .ref (N0 + mb)), (1, .int (nI i)), (2, .int (nI i)), (3, .int (nI 1))]) hC dX3_firstNought_81 (by decide) rfl ?_
            refine n_iincN (a := i) (L' := [(0, .ref (N0 + mb)), (1, .int (nI i)), (2, .int (nI (i + 1))), (3, .int (nI 1))]) hC dX3_firstNought_82 rfl (by decide) rfl ?_
            refine n_goto (tgt := 4) hC dX3_firstNought_85 (by decide) ?_
            refine n_drop [0, 1, 2] (L' := [(0, .ref (N0 + mb)), (1, .int (nI i)), (2, .int (nI (i + 1)))]) rfl ?_
            rw [show m_firstNought_L4 (fu + 1) M b i = m_firstNought_L4 fu M (nI i) (i + 1) from by rw [m_firstNought_L4, if_neg (Nat.not_le.mpr c9), if_neg (Nat.not_lt.mpr c25), if_pos c44, if_pos c58]]
            exact ih (nI i) (i + 1) (by first | exact ib | exact (fun _ => by rw [cl_nI (by omega)]; omega)) (by omega) (by omega)
          · have hb := nI_cl (Int32.not_lt.mp c58)
            have hb2 := ib (Int32.not_lt.mp c58)
            have hcb := hc2 (cl b) (by omega)
            refine n_aload_n hC dX3_firstNought_61 rfl ?_
            refine n_get hC cl3 (k := 4) (v := .ref (N0 + (mb + 3))) mc_o (by omega) (by decide) q684 (mf_get N0 mb M (by decide)) dX3_firstNought_62 ?_
            refine n_iload_n hC dX3_firstNought_65 rfl ?_
            refine n_iald hC (f := fun j => nI (mB M 4 j)) (mc_a (p := 3) (by decide) (by decide)) (by omega) i rfl (by omega) (by decide) dX3_firstNought_66 ?_
            refine n_aload_n hC dX3_firstNought_67 rfl ?_
            refine n_get hC cl3 (k := 4) (v := .ref (N0 + (mb + 3))) mc_o (by omega) (by decide) q684 (mf_get N0 mb M (by decide)) dX3_firstNought_68 ?_
            refine n_iload_n hC dX3_firstNought_71 rfl ?_
            refine n_top (cl b) hb ?_
            refine n_iald hC (f := fun j => nI (mB M 4 j)) (mc_a (p := 3) (by decide) (by decide)) (by omega) (cl b) rfl (by omega) (by decide) dX3_firstNought_72 ?_
            refine n_icmp_geN (tgt := 80) hC (mB M 4 i) (mB M 4 (cl b)) rfl rfl (by omega) (by omega) dX3_firstNought_73 (by decide) (fun c73 => ?_) (fun c73 => ?_)
            · refine n_iload_n hC dX3_firstNought_80 rfl ?_
              refine n_top (cl b) hb ?_
              refine n_istore_n (L' := [(0, .ref (N0 + mb)), (1, .int (nI (cl b))), (2, .int (nI i)), (3, .int (nI 1))]) hC dX3_firstNought_81 (by decide) rfl ?_
              refine n_iincN (a := i) (L' := [(0, .ref (N0 + mb)), (1, .int (nI (cl b))), (2, .int (nI (i + 1))), (3, .int (nI 1))]) hC dX3_firstNought_82 rfl (by decide) rfl ?_
              refine n_goto (tgt := 4) hC dX3_firstNought_85 (by decide) ?_
              refine n_drop [0, 1, 2] (L' := [(0, .ref (N0 + mb)), (1, .int (nI (cl b))), (2, .int (nI (i + 1)))]) rfl ?_
              rw [show m_firstNought_L4 (fu + 1) M b i = m_firstNought_L4 fu M (nI (cl b)) (i + 1) from by rw [m_firstNought_L4, if_neg (Nat.not_le.mpr c9), if_neg (Nat.not_lt.mpr c25), if_pos c44, if_neg c58, if_pos c73]]
              exact ih (nI (cl b)) (i + 1) (by first | exact ib | exact (fun _ => by rw [cl_nI (by omega)]; omega)) (by omega) (by omega)
            · refine n_iload_n hC dX3_firstNought_76 rfl ?_
              refine n_goto (tgt := 81) hC dX3_firstNought_77 (by decide) ?_
              refine n_istore_n (L' := [(0, .ref (N0 + mb)), (1, .int (nI i)), (2, .int (nI i)), (3, .int (nI 1))]) hC dX3_firstNought_81 (by decide) rfl ?_
              refine n_iincN (a := i) (L' := [(0, .ref (N0 + mb)), (1, .int (nI i)), (2, .int (nI (i + 1))), (3, .int (nI 1))]) hC dX3_firstNought_82 rfl (by decide) rfl ?_
              refine n_goto (tgt := 4) hC dX3_firstNought_85 (by decide) ?_
              refine n_drop [0, 1, 2] (L' := [(0, .ref (N0 + mb)), (1, .int (nI i)), (2, .int (nI (i + 1)))]) rfl ?_
              rw [show m_firstNought_L4 (fu + 1) M b i = m_firstNought_L4 fu M (nI i) (i + 1) from by rw [m_firstNought_L4, if_neg (Nat.not_le.mpr c9), if_neg (Nat.not_lt.mpr c25), if_pos c44, if_neg c58, if_neg (Nat.not_le.mpr c73)]]
              exact ih (nI i) (i + 1) (by first | exact ib | exact (fun _ => by rw [cl_nI (by omega)]; omega)) (by omega) (by omega)
set_option maxRecDepth 100000 in
set_option maxHeartbeats 4000000 in
theorem t_m_firstNought (l : Launch) (D : va_G) (N0 : Nat) (kA : Nat → ClassId) (mb : Nat) (hs : hT) (M : MS) (n : Nat) (hn : mb + 28 < n)  (hh : mHe M) (hS : mSe M) (hc : mCo M) : nE l yX3_firstNought cX3_firstNought 4 (some .int) D N0 kA 3 0 0 [.ref (N0 + mb)] (mH N0 mb kA hs M) n (nX (some (.int (m_firstNought M))) (mH N0 mb kA hs M) n) := by
  refine nE_of (by decide) (Nat.le_of_ble_eq_true rfl) ?_
  intro p e s m args below meth c hC hnm
  refine n_loc (L' := [(0, .ref (N0 + mb))]) rfl ?_
  have hS2 := hS.2
  have hc1 := hc.1
  have hc2 := hc.2
  refine n_iconst (v := (-1)) hC dX3_firstNought_0 (by decide) ?_
  refine n_istore_n (L' := [(0, .ref (N0 + mb)), (1, .int (-1))]) hC dX3_firstNought_1 (by decide) rfl ?_
  refine n_iconst (v := (nI 0)) hC dX3_firstNought_2 (by decide) ?_
  refine n_istore_n (L' := [(0, .ref (N0 + mb)), (1, .int (-1)), (2, .int (nI 0))]) hC dX3_firstNought_3 (by decide) rfl ?_
  rw [show m_firstNought M = m_firstNought_L4 (mN M 3 + 1) M (-1) 0 from by rw [m_firstNought]]
  exact t_m_firstNought_L4 hn hC hh hS hc (mN M 3 + 1) (-1) 0 (fun z => absurd z (by decide)) (by omega) (by omega)
def m_means (M : MS) (k : Int32) (v : Int32) : Int32 := (if (m_in k.toInt64 0 (((nI (mN M 3)) - (nI 1)).toInt64)) = true then (if (m_in v.toInt64 0 (99)) = true then ((nI (mB M 6 (cl k))) * (m_measure M (mB M 5 (cl k)) (cl v))) else (-1000000002)) else (-1000000001))
theorem bX3_means : nBV RX3 yX3_means cX3_means 3 (some .int) 2 := ⟨q991, q992, q55, q993, by decide, by decide +kernel⟩
set_option maxRecDepth 100000 in
set_option maxHeartbeats 4000000 in
theorem t_m_means (l : Launch) (D : va_G) (N0 : Nat) (kA : Nat → ClassId) (mb : Nat) (hs : hT) (M : MS) (n : Nat) (hn : mb + 28 < n) (k : Int32) (v : Int32) (hh : mHe M) (hc : mCo M) : nE l yX3_means cX3_means 3 (some .int) D N0 kA 3 0 0 [.ref (N0 + mb), .int k, .int v] (mH N0 mb kA hs M) n (nX (some (.int (m_means M k v))) (mH N0 mb kA hs M) n) := by
  refine nE_of (by decide) (Nat.le_of_ble_eq_true rfl) ?_
  intro p e s m args below meth c hC hnm
  refine n_loc (L' := [(0, .ref (N0 + mb)), (1, .int k), (2, .int v)]) rfl ?_
  have hc1 := hc.1
  have hc2 := hc.2
  refine n_iload_n hC dX3_means_0 rfl ?_
  refine n_i2l hC dX3_means_1 ?_
  refine n_lconst (v := 0) hC dX3_means_2 (by decide) ?_
  refine n_aload_n hC dX3_means_3 rfl ?_
  refine n_get hC cl3 (k := 3) (v := .int (nI (mN M 3))) mc_o (by omega) (by decide) q683 (mf_get N0 mb M (by decide)) dX3_means_4 ?_
  refine n_iconst (v := (nI 1)) hC dX3_means_7 (by decide) ?_
  refine n_isub hC dX3_means_8 ?_
  refine n_i2l hC dX3_means_9 ?_
  refine n_callS1 hC (As := [.long k.toInt64, .long 0, .long (((nI (mN M 3)) - (nI 1)).toInt64)]) (rest := []) bX3_in (t_m_in l D N0 kA (mH N0 mb kA hs M) n k.toInt64 0 (((nI (mN M 3)) - (nI 1)).toInt64) ) (by decide) (by decide) q822 rfl (Nat.le_of_ble_eq_true rfl) dX3_means_10 (Nat.le_of_ble_eq_true rfl) (Nat.le_of_ble_eq_true rfl) ?_
  refine n_stk (st' := [.int (bI (m_in k.toInt64 0 (((nI (mN M 3)) - (nI 1)).toInt64)))]) rfl ?_
  refine n_if_neB (tgt := 19) hC dX3_means_13 (by decide) (fun c13 => ?_) (fun c13 => ?_)
  · have hk := (in_nat (by omega)).mp c13
    have hk1 := nI_cl hk.1
    have hk2 := hk.2
    have hci := hc2 (cl k) hk2
    refine n_iload_n hC dX3_means_19 rfl ?_
    refine n_i2l hC dX3_means_20 ?_
    refine n_lconst (v := 0) hC dX3_means_21 (by decide) ?_
    refine n_ldc2 hC dX3_means_22 q994 ?_
    refine n_callS1 hC (As := [.long v.toInt64, .long 0, .long (99)]) (rest := []) bX3_in (t_m_in l D N0 kA (mH N0 mb kA hs M) n v.toInt64 0 (99) ) (by decide) (by decide) q822 rfl (Nat.le_of_ble_eq_true rfl) dX3_means_25 (Nat.le_of_ble_eq_true rfl) (Nat.le_of_ble_eq_true rfl) ?_
    refine n_stk (st' := [.int (bI (m_in v.toInt64 0 (99)))]) rfl ?_
    refine n_if_eqB (tgt := 52) hC dX3_means_28 (by decide) (fun c28 => ?_) (fun c28 => ?_)
    · refine n_ldc hC dX3_means_52 q825 ?_
      have eq_ : m_means M k v = (-1000000002) := by rw [m_means, if_pos c13, if_neg (by rw [c28]; decide)]
      refine n_iret hC dX3_means_54 (Nat.le_of_ble_eq_true rfl) (Nat.le_of_ble_eq_true rfl) ?_
      rw [eq_]
      exact ⟨rfl, rfl, rfl⟩
    · have hv := (in_cst (x := v) 0 99 rfl rfl).mp c28
      have hv1 := nI_cl hv.1
      have hv2 := hv.2
      refine n_aload_n hC dX3_means_31 rfl ?_
      refine n_get hC cl3 (k := 6) (v := .ref (N0 + (mb + 5))) mc_o (by omega) (by decide) q686 (mf_get N0 mb M (by decide)) dX3_means_32 ?_
      refine n_iload_n hC dX3_means_35 rfl ?_
      refine n_top (cl k) hk1 ?_
      refine n_iald hC (f := fun j => nI (mB M 6 j)) (mc_a (p := 5) (by decide) (by decide)) (by omega) (cl k) rfl (by omega) (by decide) dX3_means_36 ?_
      refine n_aload_n hC dX3_means_37 rfl ?_
      refine n_aload_n hC dX3_means_38 rfl ?_
      refine n_get hC cl3 (k := 5) (v := .ref (N0 + (mb + 4))) mc_o (by omega) (by decide) q685 (mf_get N0 mb M (by decide)) dX3_means_39 ?_
      refine n_iload_n hC dX3_means_42 rfl ?_
      refine n_top (cl k) hk1 ?_
      refine n_iald hC (f := fun j => nI (mB M 5 j)) (mc_a (p := 4) (by decide) (by decide)) (by omega) (cl k) rfl (by omega) (by decide) dX3_means_43 ?_
      refine n_iload_n hC dX3_means_44 rfl ?_
      refine n_top (cl v) hv1 ?_
      refine n_callV1 hC (As := [.int (nI (mB M 5 (cl k))), .int (nI (cl v))]) (rest := [.int (nI (mB M 6 (cl k)))]) mc_o (by omega) rfl bX3_measure (t_m_measure l D N0 kA mb hs M n hn (mB M 5 (cl k)) (cl v) (by omega) (by omega) hh) (by decide) (by decide) q898 rfl (Nat.le_of_ble_eq_true rfl) dX3_means_45 (Nat.le_of_ble_eq_true rfl) (Nat.le_of_ble_eq_true rfl) ?_
      refine n_stk (st' := [.int (m_measure M (mB M 5 (cl k)) (cl v)), .int (nI (mB M 6 (cl k)))]) rfl ?_
      refine n_imul hC dX3_means_48 ?_
      refine n_goto (tgt := 54) hC dX3_means_49 (by decide) ?_
      have eq_ : m_means M k v = ((nI (mB M 6 (cl k))) * (m_measure M (mB M 5 (cl k)) (cl v))) := by rw [m_means, if_pos c13, if_pos c28]
      refine n_iret hC dX3_means_54 (Nat.le_of_ble_eq_true rfl) (Nat.le_of_ble_eq_true rfl) ?_
      rw [eq_]
      exact ⟨rfl, rfl, rfl⟩
  · refine n_ldc hC dX3_means_16 q893 ?_
    have eq_ : m_means M k v = (-1000000001) := by rw [m_means, if_neg (by rw [c13]; decide)]
    refine n_iret hC dX3_means_18 (Nat.le_of_ble_eq_true rfl) (Nat.le_of_ble_eq_true rfl) ?_
    rw [eq_]
    exact ⟨rfl, rfl, rfl⟩
