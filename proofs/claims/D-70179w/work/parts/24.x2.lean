theorem x_isIn_iff (v a b : Int32) : x_isIn v a b = true ↔ a ≤ v ∧ v ≤ b := by
  unfold x_isIn
  constructor
  · intro h
    split at h
    · cases h
    · next h1 =>
      split at h
      · cases h
      · next h2 => exact ⟨Int32.not_lt.mp h1, Int32.not_lt.mp h2⟩
  · rintro ⟨h1, h2⟩
    rw [if_neg (Int32.not_lt.mpr h1), if_neg (Int32.not_lt.mpr h2)]
theorem xin_cst {x : Int32} (A B : Nat) (hA : A < 2 ^ 31) (hB : B < 2 ^ 31) : x_isIn x (nI A) (nI B) = true ↔ 0 ≤ x ∧ A ≤ cl x ∧ cl x ≤ B := by
  rw [x_isIn_iff, Int32.le_iff_toInt_le, Int32.le_iff_toInt_le, nI_toInt hA, nI_toInt hB, le0]
  constructor
  · rintro ⟨h1, h2⟩
    have h0 : 0 ≤ x.toInt := by omega
    have := cl_int h0
    omega
  · rintro ⟨h0, h1, h2⟩
    have := cl_int h0
    omega
theorem xin_nat {k : Int32} {n : Nat} (hn : n < 2 ^ 30) : x_isIn k (nI 0) ((nI n) - (nI 1)) = true ↔ 0 ≤ k ∧ cl k < n := by
  rw [x_isIn_iff, Int32.le_iff_toInt_le, Int32.le_iff_toInt_le, sub1_toInt hn, le0, nI_toInt (by decide)]
  constructor
  · rintro ⟨h1, h2⟩
    have h0 : 0 ≤ k.toInt := by omega
    have := cl_int h0
    omega
  · rintro ⟨h1, h2⟩
    have := cl_int h1
    omega
/-- heirs are limbs or none -/
def xHe (P : PS) : Prop := ∀ a, a < pN P 1 → lI P a 2 ≠ -1 → 0 ≤ lI P a 2 ∧ cl (lI P a 2) < pN P 1
def xCo (P : PS) : Prop := pN P 5 ≤ 6 ∧ ∀ c, c < pN P 5 → pB P 2 c ≤ 99 ∧ pB P 3 c < pN P 1
def xRa (P : PS) : Prop := pN P 10 ≤ 8 ∧ ∀ r, r < pN P 10 → pB P 6 r < pN P 1 ∧ pB P 7 r < pN P 1 ∧ 1 ≤ pB P 8 r ∧ pB P 8 r ≤ 20 ∧ 1 ≤ pB P 9 r ∧ pB P 9 r ≤ 20
theorem nI_inv2 {j m : Nat} (h : j < m) (hm : m ≤ 6) : nI j ≠ -1 → 0 ≤ nI j ∧ cl (nI j) < m := fun _ => ⟨nI_pos' (by omega), by rw [cl_nI (by omega)]; exact h⟩
noncomputable def x_measure_L5 : Nat → PS → XS → Nat → Nat → Int32 → Nat → Int32
  | 0, _, _, _, _, _, _ => 0
  | fu + 1, P, X, k, t, q, i => (if 6 < i then (nI 0) else (if q = (-1) then (nI 0) else (if (sA X 0 1 (cl q)) = (-1) then (if (x_has (sI X 0 3) (cl q)) = true then (x_own P X (cl q) t) else x_measure_L5 fu P X k t (lI P (cl q) 2) (i + 1)) else (sA X 0 1 (cl q)))))
noncomputable def x_measure (P : PS) (X : XS) (k : Nat) (t : Nat) : Int32 := x_measure_L5 8 P X k t (nI k) 0
theorem bX2_measure : nBV RX2 yX2_measure cX2_measure 5 (some .int) 2 := ⟨q456, q457, q53, q458, by decide, by decide +kernel⟩
set_option maxRecDepth 100000 in
set_option maxHeartbeats 4000000 in
theorem t_x_measure_L5 {p : Program} {l : Launch} {e : Env} {s : State} {m : MethodId} {args : Array Value} {below : List Frame} {meth : Method} {c : Code} {D : va_G} {N0 : Nat} {kA : Nat → ClassId} {hs : hT} {P : PS} {X : XS} {n : Nat} (hn : xOk P n) {k : Nat} {t : Nat} (hC : nC p s m args meth c RX2 cX2_measure 5 (some .int) true D N0 kA) (hk : k < pN P 1) (ht : t < 2 ^ 31) (hh : xHe P) : ∀ (fu : Nat) (q : Int32) (i : Nat) (iq : q ≠ -1 → 0 ≤ q ∧ cl q < pN P 1) (hi : i ≤ 7) (hf : 7 < i + fu), nW p l e (nRm 2 0 0) s m args below meth c (nQ below (nX (some (.int (x_measure_L5 fu P X k t q i))) (xH N0 kA hs P X) n) D N0 s 0 0) D N0 5 5 [(0, .ref (N0 + (sAd 0))), (1, .int (nI k)), (2, .int (nI t)), (3, .int q), (4, .int (nI i))] [] (xH N0 kA hs P X) n 0 0 := by
  intro fu
  induction fu with
  | zero =>
    intro q i iq hi hf
    exfalso; omega
  | succ fu ih =>
    intro q i iq hi hf
    have hm6 := pN_le hn
    refine n_iload hC dX2_measure_5 rfl ?_
    refine n_bipush (v := (nI 6)) hC dX2_measure_7 (by decide) ?_
    refine n_icmp_gtN (tgt := 74) hC i 6 rfl rfl (by omega) (by omega) dX2_measure_9 (by decide) (fun c9 => ?_) (fun c9 => ?_)
    · refine n_iconst (v := (nI 0)) hC dX2_measure_74 (by decide) ?_
      have eq_ : x_measure_L5 (fu + 1) P X k t q i = (nI 0) := by rw [x_measure_L5, if_pos c9]
      refine n_iret hC dX2_measure_75 (Nat.le_of_ble_eq_true rfl) (Nat.le_of_ble_eq_true rfl) ?_
      rw [eq_]
      exact ⟨rfl, rfl, rfl⟩
    · refine n_iload_n hC dX2_measure_12 rfl ?_
      refine n_iconst (v := (-1)) hC dX2_measure_13 (by decide) ?_
      refine n_icmp_eq (tgt := 74) hC dX2_measure_14 (by decide) (fun c14 => ?_) (fun c14 => ?_)
      · refine n_iconst (v := (nI 0)) hC dX2_measure_74 (by decide) ?_
        have eq_ : x_measure_L5 (fu + 1) P X k t q i = (nI 0) := by rw [x_measure_L5, if_neg (Nat.not_lt.mpr c9), if_pos c14]
        refine n_iret hC dX2_measure_75 (Nat.le_of_ble_eq_true rfl) (Nat.le_of_ble_eq_true rfl) ?_
        rw [eq_]
        exact ⟨rfl, rfl, rfl⟩
      · have hq1 := iq c14
        have hq := nI_cl hq1.1
        have hq2 := hq1.2
        refine n_aload_n hC dX2_measure_17 rfl ?_
        refine n_get hC cl2 (k := 1) (v := .ref (N0 + (sAd 0 + 2))) (xc_so (by decide)) (s_lt0 hn (by decide)) (by decide) q148 (sf_get N0 X 0 (by decide)) dX2_measure_18 ?_
        refine n_iload_n hC dX2_measure_21 rfl ?_
        refine n_top (cl q) hq ?_
        refine n_iald hC (f := sA X 0 1) (xc_s (r := 2) (by decide) (by decide)) (s_lt hn (by decide) (by decide)) (cl q) rfl (by omega) (by decide) dX2_measure_22 ?_
        refine n_iconst (v := (-1)) hC dX2_measure_23 (by decide) ?_
        refine n_icmp_eq (tgt := 34) hC dX2_measure_24 (by decide) (fun c24 => ?_) (fun c24 => ?_)
        · refine n_aload_n hC dX2_measure_34 rfl ?_
          refine n_get hC cl2 (k := 3) (v := .int (sI X 0 3)) (xc_so (by decide)) (s_lt0 hn (by decide)) (by decide) q152 (sf_get N0 X 0 (by decide)) dX2_measure_35 ?_
          refine n_iload_n hC dX2_measure_38 rfl ?_
          refine n_top (cl q) hq ?_
          refine n_callSN1 hC (As := [.int (sI X 0 3), .int (nI (cl q))]) (rest := []) bX0_has (t_x_has l D N0 kA (xH N0 kA hs P X) n (sI X 0 3) (cl q) ) (by decide) (by decide) q459 rfl (Nat.le_of_ble_eq_true rfl) dX2_measure_39 (Nat.le_of_ble_eq_true rfl) (Nat.le_of_ble_eq_true rfl) ?_
          refine n_stk (st' := [.int (bI (x_has (sI X 0 3) (cl q)))]) rfl ?_
          refine n_if_eqB (tgt := 52) hC dX2_measure_42 (by decide) (fun c42 => ?_) (fun c42 => ?_)
          · refine n_aload_n hC dX2_measure_52 rfl ?_
            refine n_get hC cl2 (k := 9) (v := .ref (N0 + 0)) (xc_so (by decide)) (s_lt0 hn (by decide)) (by decide) q163 (sf_get N0 X 0 (by decide)) dX2_measure_53 ?_
            refine n_getN hC cl0 (k := 0) (v := .ref (N0 + (pb P))) xc_o (x_lt hn) (by decide) q193 (xf_get N0 P X (by decide)) dX2_measure_56 ?_
            refine n_getN hC cl1 (k := 0) (v := .ref (N0 + (pb P + 1))) (xc_po hn) (p_lt0 hn) (by decide) q81 (pf_get N0 P (by decide)) dX2_measure_59 ?_
            refine n_iload_n hC dX2_measure_62 rfl ?_
            refine n_top (cl q) hq ?_
            refine n_aald hC (t0 := 3) (f := pLim N0 P) (v := .ref (N0 + (pb P + (9 + 2 * (cl q))))) (xc_p (r := 1) hn (by omega)) (p_lt hn (by omega)) rfl (cl q) rfl (by omega) (by decide) (lim_at (by omega)) dX2_measure_63 ?_
            refine n_getN hC cl6 (k := 2) (v := .int (lI P (cl q) 2)) (xc_l hn (by omega)) (l_lt hn (by omega)).1 (by decide) q408 rfl dX2_measure_64 ?_
            refine n_istore_n (L' := [(0, .ref (N0 + (sAd 0))), (1, .int (nI k)), (2, .int (nI t)), (3, .int (lI P (cl q) 2)), (4, .int (nI i))]) hC dX2_measure_67 (by decide) rfl ?_
            refine n_iincN (a := i) (L' := [(0, .ref (N0 + (sAd 0))), (1, .int (nI k)), (2, .int (nI t)), (3, .int (lI P (cl q) 2)), (4, .int (nI (i + 1)))]) hC dX2_measure_68 rfl (by decide) rfl ?_
            refine n_goto (tgt := 5) hC dX2_measure_71 (by decide) ?_
            rw [show x_measure_L5 (fu + 1) P X k t q i = x_measure_L5 fu P X k t (lI P (cl q) 2) (i + 1) from by rw [x_measure_L5, if_neg (Nat.not_lt.mpr c9), if_neg c14, if_pos c24, if_neg (by rw [c42]; decide)]]
            exact ih (lI P (cl q) 2) (i + 1) (hh (cl q) hq2) (by omega) (by omega)
          · refine n_aload_n hC dX2_measure_45 rfl ?_
            refine n_iload_n hC dX2_measure_46 rfl ?_
            refine n_top (cl q) hq ?_
            refine n_iload_n hC dX2_measure_47 rfl ?_
            refine n_callV1 hC (As := [.int (nI (cl q)), .int (nI t)]) (rest := []) (xc_so (by decide)) (s_lt0 hn (by decide)) rfl bX2_own (t_x_own l D N0 kA hs P X n hn (cl q) t hq2 ht) (by decide) (by decide) q462 rfl (Nat.le_of_ble_eq_true rfl) dX2_measure_48 (Nat.le_of_ble_eq_true rfl) (Nat.le_of_ble_eq_true rfl) ?_
            refine n_stk (st' := [.int (x_own P X (cl q) t)]) rfl ?_
            have eq_ : x_measure_L5 (fu + 1) P X k t q i = (x_own P X (cl q) t) := by rw [x_measure_L5, if_neg (Nat.not_lt.mpr c9), if_neg c14, if_pos c24, if_pos c42]
            refine n_iret hC dX2_measure_51 (Nat.le_of_ble_eq_true rfl) (Nat.le_of_ble_eq_true rfl) ?_
            rw [eq_]
            exact ⟨rfl, rfl, rfl⟩
        · refine n_aload_n hC dX2_measure_27 rfl ?_
          refine n_get hC cl2 (k := 1) (v := .ref (N0 + (sAd 0 + 2))) (xc_so (by decide)) (s_lt0 hn (by decide)) (by decide) q148 (sf_get N0 X 0 (by decide)) dX2_measure_28 ?_
          refine n_iload_n hC dX2_measure_31 rfl ?_
          refine n_top (cl q) hq ?_
          refine n_iald hC (f := sA X 0 1) (xc_s (r := 2) (by decide) (by decide)) (s_lt hn (by decide) (by decide)) (cl q) rfl (by omega) (by decide) dX2_measure_32 ?_
          have eq_ : x_measure_L5 (fu + 1) P X k t q i = (sA X 0 1 (cl q)) := by rw [x_measure_L5, if_neg (Nat.not_lt.mpr c9), if_neg c14, if_neg c24]
          refine n_iret hC dX2_measure_33 (Nat.le_of_ble_eq_true rfl) (Nat.le_of_ble_eq_true rfl) ?_
          rw [eq_]
          exact ⟨rfl, rfl, rfl⟩
set_option maxRecDepth 100000 in
set_option maxHeartbeats 4000000 in
theorem t_x_measure (l : Launch) (D : va_G) (N0 : Nat) (kA : Nat → ClassId) (hs : hT) (P : PS) (X : XS) (n : Nat) (hn : xOk P n) (k : Nat) (t : Nat) (hk : k < pN P 1) (ht : t < 2 ^ 31) (hh : xHe P) : nE l yX2_measure cX2_measure 5 (some .int) D N0 kA 2 0 0 [.ref (N0 + (sAd 0)), .int (nI k), .int (nI t)] (xH N0 kA hs P X) n (nX (some (.int (x_measure P X k t))) (xH N0 kA hs P X) n) := by
  refine nE_of (by decide) (Nat.le_of_ble_eq_true rfl) ?_
  intro p e s m args below meth c hC hnm
  refine n_loc (L' := [(0, .ref (N0 + (sAd 0))), (1, .int (nI k)), (2, .int (nI t))]) rfl ?_
  have hm6 := pN_le hn
  refine n_iload_n hC dX2_measure_0 rfl ?_
  refine n_istore_n (L' := [(0, .ref (N0 + (sAd 0))), (1, .int (nI k)), (2, .int (nI t)), (3, .int (nI k))]) hC dX2_measure_1 (by decide) rfl ?_
  refine n_iconst (v := (nI 0)) hC dX2_measure_2 (by decide) ?_
  refine n_istore (L' := [(0, .ref (N0 + (sAd 0))), (1, .int (nI k)), (2, .int (nI t)), (3, .int (nI k)), (4, .int (nI 0))]) hC dX2_measure_3 (by decide) rfl ?_
  rw [show x_measure P X k t = x_measure_L5 8 P X k t (nI k) 0 from by rw [x_measure]]
  exact t_x_measure_L5 hn hC hk ht hh 8 (nI k) 0 (nI_inv2 hk hm6) (by omega) (by omega)
noncomputable def x_isLimb (P : PS) (X : XS) (k : Int32) : Bool := (x_isIn k (nI 0) ((nI (pN P 1)) - (nI 1)))
theorem bX0_isLimb : nBV RX0 yX0_isLimb cX0_isLimb 2 (some .boolean) 1 := ⟨q448, qs9, q51, q449, by decide, by decide +kernel⟩
set_option maxRecDepth 100000 in
set_option maxHeartbeats 4000000 in
theorem t_x_isLimb (l : Launch) (D : va_G) (N0 : Nat) (kA : Nat → ClassId) (hs : hT) (P : PS) (X : XS) (n : Nat) (hn : xOk P n) (k : Int32)  : nE l yX0_isLimb cX0_isLimb 2 (some .boolean) D N0 kA 1 0 0 [.ref (N0 + 0), .int k] (xH N0 kA hs P X) n (nX (some (.int (bI (x_isLimb P X k)))) (xH N0 kA hs P X) n) := by
  refine nE_of (by decide) (Nat.le_of_ble_eq_true rfl) ?_
  intro p e s m args below meth c hC hnm
  refine n_loc (L' := [(0, .ref (N0 + 0)), (1, .int k)]) rfl ?_
  refine n_iload_n hC dX0_isLimb_0 rfl ?_
  refine n_iconst (v := (nI 0)) hC dX0_isLimb_1 (by decide) ?_
  refine n_aload_n hC dX0_isLimb_2 rfl ?_
  refine n_get hC cl0 (k := 0) (v := .ref (N0 + (pb P))) xc_o (x_lt hn) (by decide) q194 (xf_get N0 P X (by decide)) dX0_isLimb_3 ?_
  refine n_getN hC cl1 (k := 1) (v := .int (nI (pN P 1))) (xc_po hn) (p_lt0 hn) (by decide) q86 (pf_get N0 P (by decide)) dX0_isLimb_6 ?_
  refine n_iconst (v := (nI 1)) hC dX0_isLimb_9 (by decide) ?_
  refine n_isub hC dX0_isLimb_10 ?_
  refine n_callS1 hC (As := [.int k, .int (nI 0), .int ((nI (pN P 1)) - (nI 1))]) (rest := []) bX0_isIn (t_x_isIn l D N0 kA (xH N0 kA hs P X) n k (nI 0) ((nI (pN P 1)) - (nI 1)) ) (by decide) (by decide) q269 rfl (Nat.le_of_ble_eq_true rfl) dX0_isLimb_11 (Nat.le_of_ble_eq_true rfl) (Nat.le_of_ble_eq_true rfl) ?_
  refine n_stk (st' := [.int (bI (x_isIn k (nI 0) ((nI (pN P 1)) - (nI 1))))]) rfl ?_
  have eq_ : x_isLimb P X k = (x_isIn k (nI 0) ((nI (pN P 1)) - (nI 1))) := by rw [x_isLimb]
  refine n_zret hC dX0_isLimb_14 (show narrow .boolean (.int (bI (x_isIn k (nI 0) ((nI (pN P 1)) - (nI 1))))) = _ from by cases (x_isIn k (nI 0) ((nI (pN P 1)) - (nI 1))) <;> decide) (Nat.le_of_ble_eq_true rfl) (Nat.le_of_ble_eq_true rfl) ?_
  rw [eq_]
  exact ⟨rfl, rfl, rfl⟩
noncomputable def x_isContract (P : PS) (X : XS) (k : Int32) : Bool := (x_isIn k (nI 0) ((nI (pN P 5)) - (nI 1)))
theorem bX0_isContract : nBV RX0 yX0_isContract cX0_isContract 2 (some .boolean) 1 := ⟨q476, qs10, q51, q477, by decide, by decide +kernel⟩
set_option maxRecDepth 100000 in
set_option maxHeartbeats 4000000 in
theorem t_x_isContract (l : Launch) (D : va_G) (N0 : Nat) (kA : Nat → ClassId) (hs : hT) (P : PS) (X : XS) (n : Nat) (hn : xOk P n) (k : Int32)  : nE l yX0_isContract cX0_isContract 2 (some .boolean) D N0 kA 1 0 0 [.ref (N0 + 0), .int k] (xH N0 kA hs P X) n (nX (some (.int (bI (x_isContract P X k)))) (xH N0 kA hs P X) n) := by
  refine nE_of (by decide) (Nat.le_of_ble_eq_true rfl) ?_
  intro p e s m args below meth c hC hnm
  refine n_loc (L' := [(0, .ref (N0 + 0)), (1, .int k)]) rfl ?_
  refine n_iload_n hC dX0_isContract_0 rfl ?_
  refine n_iconst (v := (nI 0)) hC dX0_isContract_1 (by decide) ?_
  refine n_aload_n hC dX0_isContract_2 rfl ?_
  refine n_get hC cl0 (k := 0) (v := .ref (N0 + (pb P))) xc_o (x_lt hn) (by decide) q194 (xf_get N0 P X (by decide)) dX0_isContract_3 ?_
  refine n_getN hC cl1 (k := 5) (v := .int (nI (pN P 5))) (xc_po hn) (p_lt0 hn) (by decide) q101 (pf_get N0 P (by decide)) dX0_isContract_6 ?_
  refine n_iconst (v := (nI 1)) hC dX0_isContract_9 (by decide) ?_
  refine n_isub hC dX0_isContract_10 ?_
  refine n_callS1 hC (As := [.int k, .int (nI 0), .int ((nI (pN P 5)) - (nI 1))]) (rest := []) bX0_isIn (t_x_isIn l D N0 kA (xH N0 kA hs P X) n k (nI 0) ((nI (pN P 5)) - (nI 1)) ) (by decide) (by decide) q269 rfl (Nat.le_of_ble_eq_true rfl) dX0_isContract_11 (Nat.le_of_ble_eq_true rfl) (Nat.le_of_ble_eq_true rfl) ?_
  refine n_stk (st' := [.int (bI (x_isIn k (nI 0) ((nI (pN P 5)) - (nI 1))))]) rfl ?_
  have eq_ : x_isContract P X k = (x_isIn k (nI 0) ((nI (pN P 5)) - (nI 1))) := by rw [x_isContract]
  refine n_zret hC dX0_isContract_14 (show narrow .boolean (.int (bI (x_isIn k (nI 0) ((nI (pN P 5)) - (nI 1))))) = _ from by cases (x_isIn k (nI 0) ((nI (pN P 5)) - (nI 1))) <;> decide) (Nat.le_of_ble_eq_true rfl) (Nat.le_of_ble_eq_true rfl) ?_
  rw [eq_]
  exact ⟨rfl, rfl, rfl⟩
noncomputable def x_copies_L4 : Nat → PS → XS → Int32 → Nat → Int32
  | 0, _, _, _, _ => 0
  | fu + 1, P, X, r, k => (if (pN P 1) ≤ k then r else (if (sA X 0 1 k) = (-1) then x_copies_L4 fu P X (r ||| (nI 0)) (k + 1) else x_copies_L4 fu P X (r ||| ((nI 1) <<< ((nI k) &&& 31))) (k + 1)))
noncomputable def x_copies (P : PS) (X : XS) : Int32 := x_copies_L4 (pN P 1 + 1) P X (nI 0) 0
theorem bX0_copies : nBV RX0 yX0_copies cX0_copies 3 (some .int) 0 := ⟨q440, qs8, q51, q441, by decide, by decide +kernel⟩
set_option maxRecDepth 100000 in
set_option maxHeartbeats 4000000 in
theorem t_x_copies_L4 {p : Program} {l : Launch} {e : Env} {s : State} {m : MethodId} {args : Array Value} {below : List Frame} {meth : Method} {c : Code} {D : va_G} {N0 : Nat} {kA : Nat → ClassId} {hs : hT} {P : PS} {X : XS} {n : Nat} (hn : xOk P n)  (hC : nC p s m args meth c RX0 cX0_copies 3 (some .int) true D N0 kA)  : ∀ (fu : Nat) (r : Int32) (k : Nat) (hk : k ≤ pN P 1) (hf : pN P 1 < k + fu), nW p l e (nRm 0 0 0) s m args below meth c (nQ below (nX (some (.int (x_copies_L4 fu P X r k))) (xH N0 kA hs P X) n) D N0 s 0 0) D N0 3 4 [(0, .ref (N0 + 0)), (1, .int r), (2, .int (nI k))] [] (xH N0 kA hs P X) n 0 0 := by
  intro fu
  induction fu with
  | zero =>
    intro r k hk hf
    exfalso; omega
  | succ fu ih =>
    intro r k hk hf
    have hm6 := pN_le hn
    refine n_iload_n hC dX0_copies_4 rfl ?_
    refine n_aload_n hC dX0_copies_5 rfl ?_
    refine n_get hC cl0 (k := 0) (v := .ref (N0 + (pb P))) xc_o (x_lt hn) (by decide) q194 (xf_get N0 P X (by decide)) dX0_copies_6 ?_
    refine n_getN hC cl1 (k := 1) (v := .int (nI (pN P 1))) (xc_po hn) (p_lt0 hn) (by decide) q86 (pf_get N0 P (by decide)) dX0_copies_9 ?_
    refine n_icmp_geN (tgt := 44) hC k (pN P 1) rfl rfl (by omega) (by omega) dX0_copies_12 (by decide) (fun c12 => ?_) (fun c12 => ?_)
    · refine n_iload_n hC dX0_copies_44 rfl ?_
      have eq_ : x_copies_L4 (fu + 1) P X r k = r := by rw [x_copies_L4, if_pos c12]
      refine n_iret hC dX0_copies_45 (Nat.le_of_ble_eq_true rfl) (Nat.le_of_ble_eq_true rfl) ?_
      rw [eq_]
      exact ⟨rfl, rfl, rfl⟩
    · refine n_iload_n hC dX0_copies_15 rfl ?_
      refine n_aload_n hC dX0_copies_16 rfl ?_
      refine n_get hC cl0 (k := 1) (v := .ref (N0 + (sAd 0))) xc_o (x_lt hn) (by decide) q195 (xf_get N0 P X (by decide)) dX0_copies_17 ?_
      refine n_getN hC cl2 (k := 1) (v := .ref (N0 + (sAd 0 + 2))) (xc_so (by decide)) (s_lt0 hn (by decide)) (by decide) q149 (sf_get N0 X 0 (by decide)) dX0_copies_20 ?_
      refine n_iload_n hC dX0_copies_23 rfl ?_
      refine n_iald hC (f := sA X 0 1) (xc_s (r := 2) (by decide) (by decide)) (s_lt hn (by decide) (by decide)) k rfl (by omega) (by decide) dX0_copies_24 ?_
      refine n_iconst (v := (-1)) hC dX0_copies_25 (by decide) ?_
      refine n_icmp_eq (tgt := 35) hC dX0_copies_26 (by decide) (fun c26 => ?_) (fun c26 => ?_)
      · refine n_iconst (v := (nI 0)) hC dX0_copies_35 (by decide) ?_
        refine n_ior hC dX0_copies_36 ?_
        refine n_istore_n (L' := [(0, .ref (N0 + 0)), (1, .int (r ||| (nI 0))), (2, .int (nI k))]) hC dX0_copies_37 (by decide) rfl ?_
        refine n_iincN (a := k) (L' := [(0, .ref (N0 + 0)), (1, .int (r ||| (nI 0))), (2, .int (nI (k + 1)))]) hC dX0_copies_38 rfl (by decide) rfl ?_
        refine n_goto (tgt := 4) hC dX0_copies_41 (by decide) ?_
        rw [show x_copies_L4 (fu + 1) P X r k = x_copies_L4 fu P X (r ||| (nI 0)) (k + 1) from by rw [x_copies_L4, if_neg (Nat.not_le.mpr c12), if_pos c26]]
        exact ih (r ||| (nI 0)) (k + 1) (by omega) (by omega)
      · refine n_iconst (v := (nI 1)) hC dX0_copies_29 (by decide) ?_
        refine n_iload_n hC dX0_copies_30 rfl ?_
        refine n_ishl hC dX0_copies_31 ?_
        refine n_goto (tgt := 36) hC dX0_copies_32 (by decide) ?_
        refine n_ior hC dX0_copies_36 ?_
        refine n_istore_n (L' := [(0, .ref (N0 + 0)), (1, .int (r ||| ((nI 1) <<< ((nI k) &&& 31)))), (2, .int (nI k))]) hC dX0_copies_37 (by decide) rfl ?_
        refine n_iincN (a := k) (L' := [(0, .ref (N0 + 0)), (1, .int (r ||| ((nI 1) <<< ((nI k) &&& 31)))), (2, .int (nI (k + 1)))]) hC dX0_copies_38 rfl (by decide) rfl ?_
        refine n_goto (tgt := 4) hC dX0_copies_41 (by decide) ?_
        rw [show x_copies_L4 (fu + 1) P X r k = x_copies_L4 fu P X (r ||| ((nI 1) <<< ((nI k) &&& 31))) (k + 1) from by rw [x_copies_L4, if_neg (Nat.not_le.mpr c12), if_neg c26]]
        exact ih (r ||| ((nI 1) <<< ((nI k) &&& 31))) (k + 1) (by omega) (by omega)
set_option maxRecDepth 100000 in
set_option maxHeartbeats 4000000 in
theorem t_x_copies (l : Launch) (D : va_G) (N0 : Nat) (kA : Nat → ClassId) (hs : hT) (P : PS) (X : XS) (n : Nat) (hn : xOk P n)   : nE l yX0_copies cX0_copies 3 (some .int) D N0 kA 0 0 0 [.ref (N0 + 0)] (xH N0 kA hs P X) n (nX (some (.int (x_copies P X))) (xH N0 kA hs P X) n) := by
  refine nE_of (by decide) (Nat.le_of_ble_eq_true rfl) ?_
  intro p e s m args below meth c hC hnm
  refine n_loc (L' := [(0, .ref (N0 + 0))]) rfl ?_
  have hm6 := pN_le hn
  refine n_iconst (v := (nI 0)) hC dX0_copies_0 (by decide) ?_
  refine n_istore_n (L' := [(0, .ref (N0 + 0)), (1, .int (nI 0))]) hC dX0_copies_1 (by decide) rfl ?_
  refine n_iconst (v := (nI 0)) hC dX0_copies_2 (by decide) ?_
  refine n_istore_n (L' := [(0, .ref (N0 + 0)), (1, .int (nI 0)), (2, .int (nI 0))]) hC dX0_copies_3 (by decide) rfl ?_
  rw [show x_copies P X = x_copies_L4 (pN P 1 + 1) P X (nI 0) 0 from by rw [x_copies]]
  exact t_x_copies_L4 hn hC  (pN P 1 + 1) (nI 0) 0 (by omega) (by omega)
noncomputable def x_told (P : PS) (X : XS) (w : Int32) : Int32 := (if w = (nI 0) then (nI (pN P 1)) else (if w = (nI 1) then (nI (pN P 5)) else (if w = (nI 2) then (nI (pN P 10)) else (if w = (nI 3) then (nI (xN X 11)) else (if w = (nI 4) then (nI (sN X 0)) else (if w = (nI 5) then (sI X 0 3) else (if w = (nI 6) then (x_copies P X) else (if w = (nI 7) then (sI X 0 6) else (if w = (nI 8) then (sI X 0 4) else (if w = (nI 9) then (nI (xN X 6)) else (if w = (nI 10) then (nI (xN X 9)) else (if w = (nI 11) then (nI (xN X 3)) else (-1000000002)))))))))))))
theorem bX0_told : nBV RX0 yX0_told cX0_told 2 (some .int) 1 := ⟨q435, q436, q51, q437, by decide, by decide +kernel⟩
set_option maxRecDepth 100000 in
set_option maxHeartbeats 4000000 in
theorem t_x_told (l : Launch) (D : va_G) (N0 : Nat) (kA : Nat → ClassId) (hs : hT) (P : PS) (X : XS) (n : Nat) (hn : xOk P n) (w : Int32)  : nE l yX0_told cX0_told 2 (some .int) D N0 kA 1 0 0 [.ref (N0 + 0), .int w] (xH N0 kA hs P X) n (nX (some (.int (x_told P X w))) (xH N0 kA hs P X) n) := by
  refine nE_of (by decide) (Nat.le_of_ble_eq_true rfl) ?_
  intro p e s m args below meth c hC hnm
  refine n_loc (L' := [(0, .ref (N0 + 0)), (1, .int w)]) rfl ?_
  refine n_iload_n hC dX0_told_0 rfl ?_
  rcases (Decidable.em (w = (nI 0))) with w1_0 | w1_0
  · refine n_tabIn (tgt := 64) (off := 63) hC dX0_told_1 (by rw [w1_0]; decide) (by rw [w1_0]; decide) (by rw [w1_0]; rfl) (by decide) ?_
    refine n_aload_n hC dX0_told_64 rfl ?_
    refine n_get hC cl0 (k := 0) (v := .ref (N0 + (pb P))) xc_o (x_lt hn) (by decide) q194 (xf_get N0 P X (by decide)) dX0_told_65 ?_
    refine n_getN hC cl1 (k := 1) (v := .int (nI (pN P 1))) (xc_po hn) (p_lt0 hn) (by decide) q86 (pf_get N0 P (by decide)) dX0_told_68 ?_
    have eq_ : x_told P X w = (nI (pN P 1)) := by rw [x_told, if_pos w1_0]
    refine n_iret hC dX0_told_71 (Nat.le_of_ble_eq_true rfl) (Nat.le_of_ble_eq_true rfl) ?_
    rw [eq_]
    exact ⟨rfl, rfl, rfl⟩
  · rcases (Decidable.em (w = (nI 1))) with w1_1 | w1_1
    · refine n_tabIn (tgt := 72) (off := 71) hC dX0_told_1 (by rw [w1_1]; decide) (by rw [w1_1]; decide) (by rw [w1_1]; rfl) (by decide) ?_
      refine n_aload_n hC dX0_told_72 rfl ?_
      refine n_get hC cl0 (k := 0) (v := .ref (N0 + (pb P))) xc_o (x_lt hn) (by decide) q194 (xf_get N0 P X (by decide)) dX0_told_73 ?_
      refine n_getN hC cl1 (k := 5) (v := .int (nI (pN P 5))) (xc_po hn) (p_lt0 hn) (by decide) q101 (pf_get N0 P (by decide)) dX0_told_76 ?_
      have eq_ : x_told P X w = (nI (pN P 5)) := by rw [x_told, if_neg w1_0, if_pos w1_1]
      refine n_iret hC dX0_told_79 (Nat.le_of_ble_eq_true rfl) (Nat.le_of_ble_eq_true rfl) ?_
      rw [eq_]
      exact ⟨rfl, rfl, rfl⟩
    · rcases (Decidable.em (w = (nI 2))) with w1_2 | w1_2
      · refine n_tabIn (tgt := 80) (off := 79) hC dX0_told_1 (by rw [w1_2]; decide) (by rw [w1_2]; decide) (by rw [w1_2]; rfl) (by decide) ?_
        refine n_aload_n hC dX0_told_80 rfl ?_
        refine n_get hC cl0 (k := 0) (v := .ref (N0 + (pb P))) xc_o (x_lt hn) (by decide) q194 (xf_get N0 P X (by decide)) dX0_told_81 ?_
        refine n_getN hC cl1 (k := 10) (v := .int (nI (pN P 10))) (xc_po hn) (p_lt0 hn) (by decide) q115 (pf_get N0 P (by decide)) dX0_told_84 ?_
        have eq_ : x_told P X w = (nI (pN P 10)) := by rw [x_told, if_neg w1_0, if_neg w1_1, if_pos w1_2]
        refine n_iret hC dX0_told_87 (Nat.le_of_ble_eq_true rfl) (Nat.le_of_ble_eq_true rfl) ?_
        rw [eq_]
        exact ⟨rfl, rfl, rfl⟩
      · rcases (Decidable.em (w = (nI 3))) with w1_3 | w1_3
        · refine n_tabIn (tgt := 88) (off := 87) hC dX0_told_1 (by rw [w1_3]; decide) (by rw [w1_3]; decide) (by rw [w1_3]; rfl) (by decide) ?_
          refine n_aload_n hC dX0_told_88 rfl ?_
          refine n_get hC cl0 (k := 11) (v := .int (nI (xN X 11))) xc_o (x_lt hn) (by decide) q205 (xf_get N0 P X (by decide)) dX0_told_89 ?_
          have eq_ : x_told P X w = (nI (xN X 11)) := by rw [x_told, if_neg w1_0, if_neg w1_1, if_neg w1_2, if_pos w1_3]
          refine n_iret hC dX0_told_92 (Nat.le_of_ble_eq_true rfl) (Nat.le_of_ble_eq_true rfl) ?_
          rw [eq_]
          exact ⟨rfl, rfl, rfl⟩
        · rcases (Decidable.em (w = (nI 4))) with w1_4 | w1_4
          · refine n_tabIn (tgt := 93) (off := 92) hC dX0_told_1 (by rw [w1_4]; decide) (by rw [w1_4]; decide) (by rw [w1_4]; rfl) (by decide) ?_
            refine n_aload_n hC dX0_told_93 rfl ?_
            refine n_get hC cl0 (k := 1) (v := .ref (N0 + (sAd 0))) xc_o (x_lt hn) (by decide) q195 (xf_get N0 P X (by decide)) dX0_told_94 ?_
            refine n_getN hC cl2 (k := 5) (v := .int (nI (sN X 0))) (xc_so (by decide)) (s_lt0 hn (by decide)) (by decide) q157 (sf_get N0 X 0 (by decide)) dX0_told_97 ?_
            have eq_ : x_told P X w = (nI (sN X 0)) := by rw [x_told, if_neg w1_0, if_neg w1_1, if_neg w1_2, if_neg w1_3, if_pos w1_4]
            refine n_iret hC dX0_told_100 (Nat.le_of_ble_eq_true rfl) (Nat.le_of_ble_eq_true rfl) ?_
            rw [eq_]
            exact ⟨rfl, rfl, rfl⟩
          · rcases (Decidable.em (w = (nI 5))) with w1_5 | w1_5
            · refine n_tabIn (tgt := 101) (off := 100) hC dX0_told_1 (by rw [w1_5]; decide) (by rw [w1_5]; decide) (by rw [w1_5]; rfl) (by decide) ?_
              refine n_aload_n hC dX0_told_101 rfl ?_
              refine n_get hC cl0 (k := 1) (v := .ref (N0 + (sAd 0))) xc_o (x_lt hn) (by decide) q195 (xf_get N0 P X (by decide)) dX0_told_102 ?_
              refine n_getN hC cl2 (k := 3) (v := .int (sI X 0 3)) (xc_so (by decide)) (s_lt0 hn (by decide)) (by decide) q153 (sf_get N0 X 0 (by decide)) dX0_told_105 ?_
              have eq_ : x_told P X w = (sI X 0 3) := by rw [x_told, if_neg w1_0, if_neg w1_1, if_neg w1_2, if_neg w1_3, if_neg w1_4, if_pos w1_5]
              refine n_iret hC dX0_told_108 (Nat.le_of_ble_eq_true rfl) (Nat.le_of_ble_eq_true rfl) ?_
              rw [eq_]
              exact ⟨rfl, rfl, rfl⟩
            · rcases (Decidable.em (w = (nI 6))) with w1_6 | w1_6
              · refine n_tabIn (tgt := 109) (off := 108) hC dX0_told_1 (by rw [w1_6]; decide) (by rw [w1_6]; decide) (by rw [w1_6]; rfl) (by decide) ?_
                refine n_aload_n hC dX0_told_109 rfl ?_
                refine n_callV1 hC (As := []) (rest := []) xc_o (x_lt hn) rfl bX0_copies (t_x_copies l D N0 kA hs P X n hn  ) (by decide) (by decide) q438 rfl (Nat.le_of_ble_eq_true rfl) dX0_told_110 (Nat.le_of_ble_eq_true rfl) (Nat.le_of_ble_eq_true rfl) ?_
                refine n_stk (st' := [.int (x_copies P X)]) rfl ?_
                have eq_ : x_told P X w = (x_copies P X) := by rw [x_told, if_neg w1_0, if_neg w1_1, if_neg w1_2, if_neg w1_3, if_neg w1_4, if_neg w1_5, if_pos w1_6]
                refine n_iret hC dX0_told_113 (Nat.le_of_ble_eq_true rfl) (Nat.le_of_ble_eq_true rfl) ?_
                rw [eq_]
                exact ⟨rfl, rfl, rfl⟩
              · rcases (Decidable.em (w = (nI 7))) with w1_7 | w1_7
                · refine n_tabIn (tgt := 114) (off := 113) hC dX0_told_1 (by rw [w1_7]; decide) (by rw [w1_7]; decide) (by rw [w1_7]; rfl) (by decide) ?_
                  refine n_aload_n hC dX0_told_114 rfl ?_
                  refine n_get hC cl0 (k := 1) (v := .ref (N0 + (sAd 0))) xc_o (x_lt hn) (by decide) q195 (xf_get N0 P X (by decide)) dX0_told_115 ?_
                  refine n_getN hC cl2 (k := 6) (v := .int (sI X 0 6)) (xc_so (by decide)) (s_lt0 hn (by decide)) (by decide) q159 (sf_get N0 X 0 (by decide)) dX0_told_118 ?_
                  have eq_ : x_told P X w = (sI X 0 6) := by rw [x_told, if_neg w1_0, if_neg w1_1, if_neg w1_2, if_neg w1_3, if_neg w1_4, if_neg w1_5, if_neg w1_6, if_pos w1_7]
                  refine n_iret hC dX0_told_121 (Nat.le_of_ble_eq_true rfl) (Nat.le_of_ble_eq_true rfl) ?_
                  rw [eq_]
                  exact ⟨rfl, rfl, rfl⟩
                · rcases (Decidable.em (w = (nI 8))) with w1_8 | w1_8
                  · refine n_tabIn (tgt := 122) (off := 121) hC dX0_told_1 (by rw [w1_8]; decide) (by rw [w1_8]; decide) (by rw [w1_8]; rfl) (by decide) ?_
                    refine n_aload_n hC dX0_told_122 rfl ?_
                    refine n_get hC cl0 (k := 1) (v := .ref (N0 + (sAd 0))) xc_o (x_lt hn) (by decide) q195 (xf_get N0 P X (by decide)) dX0_told_123 ?_
                    refine n_getN hC cl2 (k := 4) (v := .int (sI X 0 4)) (xc_so (by decide)) (s_lt0 hn (by decide)) (by decide) q155 (sf_get N0 X 0 (by decide)) dX0_told_126 ?_
                    have eq_ : x_told P X w = (sI X 0 4) := by rw [x_told, if_neg w1_0, if_neg w1_1, if_neg w1_2, if_neg w1_3, if_neg w1_4, if_neg w1_5, if_neg w1_6, if_neg w1_7, if_pos w1_8]
                    refine n_iret hC dX0_told_129 (Nat.le_of_ble_eq_true rfl) (Nat.le_of_ble_eq_true rfl) ?_
                    rw [eq_]
                    exact ⟨rfl, rfl, rfl⟩
                  · rcases (Decidable.em (w = (nI 9))) with w1_9 | w1_9
                    · refine n_tabIn (tgt := 130) (off := 129) hC dX0_told_1 (by rw [w1_9]; decide) (by rw [w1_9]; decide) (by rw [w1_9]; rfl) (by decide) ?_
                      refine n_aload_n hC dX0_told_130 rfl ?_
                      refine n_get hC cl0 (k := 6) (v := .int (nI (xN X 6))) xc_o (x_lt hn) (by decide) q200 (xf_get N0 P X (by decide)) dX0_told_131 ?_
                      have eq_ : x_told P X w = (nI (xN X 6)) := by rw [x_told, if_neg w1_0, if_neg w1_1, if_neg w1_2, if_neg w1_3, if_neg w1_4, if_neg w1_5, if_neg w1_6, if_neg w1_7, if_neg w1_8, if_pos w1_9]
                      refine n_iret hC dX0_told_134 (Nat.le_of_ble_eq_true rfl) (Nat.le_of_ble_eq_true rfl) ?_
                      rw [eq_]
                      exact ⟨rfl, rfl, rfl⟩
                    · rcases (Decidable.em (w = (nI 10))) with w1_10 | w1_10
                      · refine n_tabIn (tgt := 135) (off := 134) hC dX0_told_1 (by rw [w1_10]; decide) (by rw [w1_10]; decide) (by rw [w1_10]; rfl) (by decide) ?_
                        refine n_aload_n hC dX0_told_135 rfl ?_
                        refine n_get hC cl0 (k := 9) (v := .int (nI (xN X 9))) xc_o (x_lt hn) (by decide) q203 (xf_get N0 P X (by decide)) dX0_told_136 ?_
                        have eq_ : x_told P X w = (nI (xN X 9)) := by rw [x_told, if_neg w1_0, if_neg w1_1, if_neg w1_2, if_neg w1_3, if_neg w1_4, if_neg w1_5, if_neg w1_6, if_neg w1_7, if_neg w1_8, if_neg w1_9, if_pos w1_10]
                        refine n_iret hC dX0_told_139 (Nat.le_of_ble_eq_true rfl) (Nat.le_of_ble_eq_true rfl) ?_
                        rw [eq_]
                        exact ⟨rfl, rfl, rfl⟩
                      · rcases (Decidable.em (w = (nI 11))) with w1_11 | w1_11
                        · refine n_tabIn (tgt := 140) (off := 139) hC dX0_told_1 (by rw [w1_11]; decide) (by rw [w1_11]; decide) (by rw [w1_11]; rfl) (by decide) ?_
                          refine n_aload_n hC dX0_told_140 rfl ?_
                          refine n_get hC cl0 (k := 3) (v := .int (nI (xN X 3))) xc_o (x_lt hn) (by decide) q197 (xf_get N0 P X (by decide)) dX0_told_141 ?_
                          have eq_ : x_told P X w = (nI (xN X 3)) := by rw [x_told, if_neg w1_0, if_neg w1_1, if_neg w1_2, if_neg w1_3, if_neg w1_4, if_neg w1_5, if_neg w1_6, if_neg w1_7, if_neg w1_8, if_neg w1_9, if_neg w1_10, if_pos w1_11]
                          refine n_iret hC dX0_told_144 (Nat.le_of_ble_eq_true rfl) (Nat.le_of_ble_eq_true rfl) ?_
                          rw [eq_]
                          exact ⟨rfl, rfl, rfl⟩
                        · refine n_tabOut (tgt := 145) hC dX0_told_1 (sw_out 11 (fun k hk => by have hk : k = 0 ∨ k = 1 ∨ k = 2 ∨ k = 3 ∨ k = 4 ∨ k = 5 ∨ k = 6 ∨ k = 7 ∨ k = 8 ∨ k = 9 ∨ k = 10 ∨ k = 11 := (by omega); rcases hk with rfl | rfl | rfl | rfl | rfl | rfl | rfl | rfl | rfl | rfl | rfl | rfl <;> assumption)) (by decide) ?_
                          refine n_ldc hC dX0_told_145 q272 ?_
                          have eq_ : x_told P X w = (-1000000002) := by rw [x_told, if_neg w1_0, if_neg w1_1, if_neg w1_2, if_neg w1_3, if_neg w1_4, if_neg w1_5, if_neg w1_6, if_neg w1_7, if_neg w1_8, if_neg w1_9, if_neg w1_10, if_neg w1_11]
                          refine n_iret hC dX0_told_147 (Nat.le_of_ble_eq_true rfl) (Nat.le_of_ble_eq_true rfl) ?_
                          rw [eq_]
                          exact ⟨rfl, rfl, rfl⟩
noncomputable def x_limb (P : PS) (X : XS) (k : Int32) (w : Int32) : Int32 := (if (x_isLimb P X k) = true then (if (x_isIn w (nI 5) (nI 8)) = true then ((x_adds P X (cl k) ((cl w) - 5)) + (nI 9)) else (if w = (nI 0) then (sA X 0 0 (cl k)) else (if w = (nI 1) then (x_measure P X (cl k) (sN X 0)) else (if w = (nI 2) then (lI P (cl k) 2) else (if w = (nI 3) then (((sI X 0 3) >>> ((nI (cl k)) &&& 31)) &&& (nI 1)) else (if w = (nI 4) then (sA X 0 1 (cl k)) else (-1000000002))))))) else (-1000000001))
theorem bX0_limb : nBV RX0 yX0_limb cX0_limb 3 (some .int) 2 := ⟨q443, q444, q51, q445, by decide, by decide +kernel⟩
set_option maxRecDepth 100000 in
set_option maxHeartbeats 4000000 in
theorem t_x_limb (l : Launch) (D : va_G) (N0 : Nat) (kA : Nat → ClassId) (hs : hT) (P : PS) (X : XS) (n : Nat) (hn : xOk P n) (k : Int32) (w : Int32) (hh : xHe P) (hS : sN X 0 < 30000) : nE l yX0_limb cX0_limb 3 (some .int) D N0 kA 3 0 0 [.ref (N0 + 0), .int k, .int w] (xH N0 kA hs P X) n (nX (some (.int (x_limb P X k w))) (xH N0 kA hs P X) n) := by
  refine nE_of (by decide) (Nat.le_of_ble_eq_true rfl) ?_
  intro p e s m args below meth c hC hnm
  refine n_loc (L' := [(0, .ref (N0 + 0)), (1, .int k), (2, .int w)]) rfl ?_
  have hm6 := pN_le hn
  refine n_aload_n hC dX0_limb_0 rfl ?_
  refine n_iload_n hC dX0_limb_1 rfl ?_
  refine n_callV1 hC (As := [.int k]) (rest := []) xc_o (x_lt hn) rfl bX0_isLimb (t_x_isLimb l D N0 kA hs P X n hn k ) (by decide) (by decide) q446 rfl (Nat.le_of_ble_eq_true rfl) dX0_limb_2 (Nat.le_of_ble_eq_true rfl) (Nat.le_of_ble_eq_true rfl) ?_
  refine n_stk (st' := [.int (bI (x_isLimb P X k))]) rfl ?_
  refine n_if_neB (tgt := 11) hC dX0_limb_5 (by decide) (fun c5 => ?_) (fun c5 => ?_)
  · have hk0 := (xin_nat (k := k) (by omega)).mp c5
    have hk1 := nI_cl hk0.1
    have hk2 := hk0.2
    refine n_iload_n hC dX0_limb_11 rfl ?_
    refine n_iconst (v := (nI 5)) hC dX0_limb_12 (by decide) ?_
    refine n_bipush (v := (nI 8)) hC dX0_limb_13 (by decide) ?_
    refine n_callS1 hC (As := [.int w, .int (nI 5), .int (nI 8)]) (rest := []) bX0_isIn (t_x_isIn l D N0 kA (xH N0 kA hs P X) n w (nI 5) (nI 8) ) (by decide) (by decide) q269 rfl (Nat.le_of_ble_eq_true rfl) dX0_limb_15 (Nat.le_of_ble_eq_true rfl) (Nat.le_of_ble_eq_true rfl) ?_
    refine n_stk (st' := [.int (bI (x_isIn w (nI 5) (nI 8)))]) rfl ?_
    refine n_if_eqB (tgt := 40) hC dX0_limb_18 (by decide) (fun c18 => ?_) (fun c18 => ?_)
    · refine n_iload_n hC dX0_limb_40 rfl ?_
      rcases (Decidable.em (w = (nI 0))) with w41_0 | w41_0
      · refine n_tabIn (tgt := 76) (off := 35) hC dX0_limb_41 (by rw [w41_0]; decide) (by rw [w41_0]; decide) (by rw [w41_0]; rfl) (by decide) ?_
        refine n_aload_n hC dX0_limb_76 rfl ?_
        refine n_get hC cl0 (k := 1) (v := .ref (N0 + (sAd 0))) xc_o (x_lt hn) (by decide) q195 (xf_get N0 P X (by decide)) dX0_limb_77 ?_
        refine n_getN hC cl2 (k := 0) (v := .ref (N0 + (sAd 0 + 1))) (xc_so (by decide)) (s_lt0 hn (by decide)) (by decide) q147 (sf_get N0 X 0 (by decide)) dX0_limb_80 ?_
        refine n_iload_n hC dX0_limb_83 rfl ?_
        refine n_top (cl k) hk1 ?_
        refine n_iald hC (f := sA X 0 0) (xc_s (r := 1) (by decide) (by decide)) (s_lt hn (by decide) (by decide)) (cl k) rfl (by omega) (by decide) dX0_limb_84 ?_
        have eq_ : x_limb P X k w = (sA X 0 0 (cl k)) := by rw [x_limb, if_pos c5, if_neg (by rw [c18]; decide), if_pos w41_0]
        refine n_iret hC dX0_limb_85 (Nat.le_of_ble_eq_true rfl) (Nat.le_of_ble_eq_true rfl) ?_
        rw [eq_]
        exact ⟨rfl, rfl, rfl⟩
      · rcases (Decidable.em (w = (nI 1))) with w41_1 | w41_1
        · refine n_tabIn (tgt := 86) (off := 45) hC dX0_limb_41 (by rw [w41_1]; decide) (by rw [w41_1]; decide) (by rw [w41_1]; rfl) (by decide) ?_
          refine n_aload_n hC dX0_limb_86 rfl ?_
          refine n_get hC cl0 (k := 1) (v := .ref (N0 + (sAd 0))) xc_o (x_lt hn) (by decide) q195 (xf_get N0 P X (by decide)) dX0_limb_87 ?_
          refine n_iload_n hC dX0_limb_90 rfl ?_
          refine n_top (cl k) hk1 ?_
          refine n_aload_n hC dX0_limb_91 rfl ?_
          refine n_get hC cl0 (k := 1) (v := .ref (N0 + (sAd 0))) xc_o (x_lt hn) (by decide) q195 (xf_get N0 P X (by decide)) dX0_limb_92 ?_
          refine n_getN hC cl2 (k := 5) (v := .int (nI (sN X 0))) (xc_so (by decide)) (s_lt0 hn (by decide)) (by decide) q157 (sf_get N0 X 0 (by decide)) dX0_limb_95 ?_
          refine n_callV1 hC (As := [.int (nI (cl k)), .int (nI (sN X 0))]) (rest := []) (xc_so (by decide)) (s_lt0 hn (by decide)) rfl bX2_measure (t_x_measure l D N0 kA hs P X n hn (cl k) (sN X 0) (by omega) (by omega) hh) (by decide) (by decide) q455 rfl (Nat.le_of_ble_eq_true rfl) dX0_limb_98 (Nat.le_of_ble_eq_true rfl) (Nat.le_of_ble_eq_true rfl) ?_
          refine n_stk (st' := [.int (x_measure P X (cl k) (sN X 0))]) rfl ?_
          have eq_ : x_limb P X k w = (x_measure P X (cl k) (sN X 0)) := by rw [x_limb, if_pos c5, if_neg (by rw [c18]; decide), if_neg w41_0, if_pos w41_1]
          refine n_iret hC dX0_limb_101 (Nat.le_of_ble_eq_true rfl) (Nat.le_of_ble_eq_true rfl) ?_
          rw [eq_]
          exact ⟨rfl, rfl, rfl⟩
        · rcases (Decidable.em (w = (nI 2))) with w41_2 | w41_2
          · refine n_tabIn (tgt := 102) (off := 61) hC dX0_limb_41 (by rw [w41_2]; decide) (by rw [w41_2]; decide) (by rw [w41_2]; rfl) (by decide) ?_
            refine n_aload_n hC dX0_limb_102 rfl ?_
            refine n_get hC cl0 (k := 0) (v := .ref (N0 + (pb P))) xc_o (x_lt hn) (by decide) q194 (xf_get N0 P X (by decide)) dX0_limb_103 ?_
            refine n_getN hC cl1 (k := 0) (v := .ref (N0 + (pb P + 1))) (xc_po hn) (p_lt0 hn) (by decide) q83 (pf_get N0 P (by decide)) dX0_limb_106 ?_
            refine n_iload_n hC dX0_limb_109 rfl ?_
            refine n_top (cl k) hk1 ?_
            refine n_aald hC (t0 := 3) (f := pLim N0 P) (v := .ref (N0 + (pb P + (9 + 2 * (cl k))))) (xc_p (r := 1) hn (by omega)) (p_lt hn (by omega)) rfl (cl k) rfl (by omega) (by decide) (lim_at (by omega)) dX0_limb_110 ?_
            refine n_getN hC cl6 (k := 2) (v := .int (lI P (cl k) 2)) (xc_l hn (by omega)) (l_lt hn (by omega)).1 (by decide) q410 rfl dX0_limb_111 ?_
            have eq_ : x_limb P X k w = (lI P (cl k) 2) := by rw [x_limb, if_pos c5, if_neg (by rw [c18]; decide), if_neg w41_0, if_neg w41_1, if_pos w41_2]
            refine n_iret hC dX0_limb_114 (Nat.le_of_ble_eq_true rfl) (Nat.le_of_ble_eq_true rfl) ?_
            rw [eq_]
            exact ⟨rfl, rfl, rfl⟩
          · rcases (Decidable.em (w = (nI 3))) with w41_3 | w41_3
            · refine n_tabIn (tgt := 115) (off := 74) hC dX0_limb_41 (by rw [w41_3]; decide) (by rw [w41_3]; decide) (by rw [w41_3]; rfl) (by decide) ?_
              refine n_aload_n hC dX0_limb_115 rfl ?_
              refine n_get hC cl0 (k := 1) (v := .ref (N0 + (sAd 0))) xc_o (x_lt hn) (by decide) q195 (xf_get N0 P X (by decide)) dX0_limb_116 ?_
              refine n_getN hC cl2 (k := 3) (v := .int (sI X 0 3)) (xc_so (by decide)) (s_lt0 hn (by decide)) (by decide) q153 (sf_get N0 X 0 (by decide)) dX0_limb_119 ?_
              refine n_iload_n hC dX0_limb_122 rfl ?_
              refine n_top (cl k) hk1 ?_
              refine n_ishr hC dX0_limb_123 ?_
              refine n_iconst (v := (nI 1)) hC dX0_limb_124 (by decide) ?_
              refine n_iand hC dX0_limb_125 ?_
              have eq_ : x_limb P X k w = (((sI X 0 3) >>> ((nI (cl k)) &&& 31)) &&& (nI 1)) := by rw [x_limb, if_pos c5, if_neg (by rw [c18]; decide), if_neg w41_0, if_neg w41_1, if_neg w41_2, if_pos w41_3]
              refine n_iret hC dX0_limb_126 (Nat.le_of_ble_eq_true rfl) (Nat.le_of_ble_eq_true rfl) ?_
              rw [eq_]
              exact ⟨rfl, rfl, rfl⟩
            · rcases (Decidable.em (w = (nI 4))) with w41_4 | w41_4
              · refine n_tabIn (tgt := 127) (off := 86) hC dX0_limb_41 (by rw [w41_4]; decide) (by rw [w41_4]; decide) (by rw [w41_4]; rfl) (by decide) ?_
                refine n_aload_n hC dX0_limb_127 rfl ?_
                refine n_get hC cl0 (k := 1) (v := .ref (N0 + (sAd 0))) xc_o (x_lt hn) (by decide) q195 (xf_get N0 P X (by decide)) dX0_limb_128 ?_
                refine n_getN hC cl2 (k := 1) (v := .ref (N0 + (sAd 0 + 2))) (xc_so (by decide)) (s_lt0 hn (by decide)) (by decide) q149 (sf_get N0 X 0 (by decide)) dX0_limb_131 ?_
                refine n_iload_n hC dX0_limb_134 rfl ?_
                refine n_top (cl k) hk1 ?_
                refine n_iald hC (f := sA X 0 1) (xc_s (r := 2) (by decide) (by decide)) (s_lt hn (by decide) (by decide)) (cl k) rfl (by omega) (by decide) dX0_limb_135 ?_
                have eq_ : x_limb P X k w = (sA X 0 1 (cl k)) := by rw [x_limb, if_pos c5, if_neg (by rw [c18]; decide), if_neg w41_0, if_neg w41_1, if_neg w41_2, if_neg w41_3, if_pos w41_4]
                refine n_iret hC dX0_limb_136 (Nat.le_of_ble_eq_true rfl) (Nat.le_of_ble_eq_true rfl) ?_
                rw [eq_]
                exact ⟨rfl, rfl, rfl⟩
              · refine n_tabOut (tgt := 137) hC dX0_limb_41 (sw_out 4 (fun k hk => by have hk : k = 0 ∨ k = 1 ∨ k = 2 ∨ k = 3 ∨ k = 4 := (by omega); rcases hk with rfl | rfl | rfl | rfl | rfl <;> assumption)) (by decide) ?_
                refine n_ldc hC dX0_limb_137 q272 ?_
                have eq_ : x_limb P X k w = (-1000000002) := by rw [x_limb, if_pos c5, if_neg (by rw [c18]; decide), if_neg w41_0, if_neg w41_1, if_neg w41_2, if_neg w41_3, if_neg w41_4]
                refine n_iret hC dX0_limb_139 (Nat.le_of_ble_eq_true rfl) (Nat.le_of_ble_eq_true rfl) ?_
                rw [eq_]
                exact ⟨rfl, rfl, rfl⟩
    · have hw := (xin_cst (x := w) 5 8 (by decide) (by decide)).mp c18
      have hw1 := nI_cl hw.1
      have hw2 := hw.2
      refine n_aload_n hC dX0_limb_21 rfl ?_
      refine n_get hC cl0 (k := 0) (v := .ref (N0 + (pb P))) xc_o (x_lt hn) (by decide) q194 (xf_get N0 P X (by decide)) dX0_limb_22 ?_
      refine n_getN hC cl1 (k := 0) (v := .ref (N0 + (pb P + 1))) (xc_po hn) (p_lt0 hn) (by decide) q83 (pf_get N0 P (by decide)) dX0_limb_25 ?_
      refine n_iload_n hC dX0_limb_28 rfl ?_
      refine n_top (cl k) hk1 ?_
      refine n_aald hC (t0 := 3) (f := pLim N0 P) (v := .ref (N0 + (pb P + (9 + 2 * (cl k))))) (xc_p (r := 1) hn (by omega)) (p_lt hn (by omega)) rfl (cl k) rfl (by omega) (by decide) (lim_at (by omega)) dX0_limb_29 ?_
      refine n_iload_n hC dX0_limb_30 rfl ?_
      refine n_top (cl w) hw1 ?_
      refine n_iconst (v := (nI 5)) hC dX0_limb_31 (by decide) ?_
      refine n_isubN hC (by omega) dX0_limb_32 ?_
      refine n_callV1 hC (As := [.int (nI ((cl w) - 5))]) (rest := []) (xc_l hn (by omega)) (l_lt hn (by omega)).1 rfl bX6_adds (t_x_adds l D N0 kA hs P X n hn (cl k) ((cl w) - 5) (by omega) (by omega)) (by decide) (by decide) q451 rfl (Nat.le_of_ble_eq_true rfl) dX0_limb_33 (Nat.le_of_ble_eq_true rfl) (Nat.le_of_ble_eq_true rfl) ?_
      refine n_stk (st' := [.int (x_adds P X (cl k) ((cl w) - 5))]) rfl ?_
      refine n_bipush (v := (nI 9)) hC dX0_limb_36 (by decide) ?_
      refine n_iadd hC dX0_limb_38 ?_
      have eq_ : x_limb P X k w = ((x_adds P X (cl k) ((cl w) - 5)) + (nI 9)) := by rw [x_limb, if_pos c5, if_pos c18]
      refine n_iret hC dX0_limb_39 (Nat.le_of_ble_eq_true rfl) (Nat.le_of_ble_eq_true rfl) ?_
      rw [eq_]
      exact ⟨rfl, rfl, rfl⟩
  · refine n_ldc hC dX0_limb_8 q450 ?_
    have eq_ : x_limb P X k w = (-1000000001) := by rw [x_limb, if_neg (by rw [c5]; decide)]
    refine n_iret hC dX0_limb_10 (Nat.le_of_ble_eq_true rfl) (Nat.le_of_ble_eq_true rfl) ?_
    rw [eq_]
    exact ⟨rfl, rfl, rfl⟩
noncomputable def x_contract (P : PS) (X : XS) (k : Int32) (w : Int32) : Int32 := (if (x_isContract P X k) = true then (if w = (nI 0) then (nI (pB P 2 (cl k))) else (if w = (nI 1) then (nI (pB P 3 (cl k))) else (if w = (nI 2) then (nI (pB P 4 (cl k))) else (if w = (nI 3) then (sA X 0 2 (cl k)) else (-1000000002))))) else (-1000000001))
theorem bX0_contract : nBV RX0 yX0_contract cX0_contract 3 (some .int) 2 := ⟨q471, q472, q51, q473, by decide, by decide +kernel⟩
set_option maxRecDepth 100000 in
set_option maxHeartbeats 4000000 in
theorem t_x_contract (l : Launch) (D : va_G) (N0 : Nat) (kA : Nat → ClassId) (hs : hT) (P : PS) (X : XS) (n : Nat) (hn : xOk P n) (k : Int32) (w : Int32) (h5 : pN P 5 ≤ 6) : nE l yX0_contract cX0_contract 3 (some .int) D N0 kA 2 0 0 [.ref (N0 + 0), .int k, .int w] (xH N0 kA hs P X) n (nX (some (.int (x_contract P X k w))) (xH N0 kA hs P X) n) := by
  refine nE_of (by decide) (Nat.le_of_ble_eq_true rfl) ?_
  intro p e s m args below meth c hC hnm
  refine n_loc (L' := [(0, .ref (N0 + 0)), (1, .int k), (2, .int w)]) rfl ?_
  refine n_aload_n hC dX0_contract_0 rfl ?_
  refine n_iload_n hC dX0_contract_1 rfl ?_
  refine n_callV1 hC (As := [.int k]) (rest := []) xc_o (x_lt hn) rfl bX0_isContract (t_x_isContract l D N0 kA hs P X n hn k ) (by decide) (by decide) q474 rfl (Nat.le_of_ble_eq_true rfl) dX0_contract_2 (Nat.le_of_ble_eq_true rfl) (Nat.le_of_ble_eq_true rfl) ?_
  refine n_stk (st' := [.int (bI (x_isContract P X k))]) rfl ?_
  refine n_if_neB (tgt := 11) hC dX0_contract_5 (by decide) (fun c5 => ?_) (fun c5 => ?_)
  · have hk0 := (xin_nat (k := k) (by omega)).mp c5
    have hk1 := nI_cl hk0.1
    have hk2 := hk0.2
    refine n_iload_n hC dX0_contract_11 rfl ?_
    rcases (Decidable.em (w = (nI 0))) with w12_0 | w12_0
    · refine n_tabIn (tgt := 44) (off := 32) hC dX0_contract_12 (by rw [w12_0]; decide) (by rw [w12_0]; decide) (by rw [w12_0]; rfl) (by decide) ?_
      refine n_aload_n hC dX0_contract_44 rfl ?_
      refine n_get hC cl0 (k := 0) (v := .ref (N0 + (pb P))) xc_o (x_lt hn) (by decide) q194 (xf_get N0 P X (by decide)) dX0_contract_45 ?_
      refine n_getN hC cl1 (k := 2) (v := .ref (N0 + (pb P + 2))) (xc_po hn) (p_lt0 hn) (by decide) q90 (pf_get N0 P (by decide)) dX0_contract_48 ?_
      refine n_iload_n hC dX0_contract_51 rfl ?_
      refine n_top (cl k) hk1 ?_
      refine n_iald hC (f := fun j => nI (pB P 2 j)) (xc_p (r := 2) hn (by omega)) (p_lt hn (by omega)) (cl k) rfl (by omega) (by decide) dX0_contract_52 ?_
      have eq_ : x_contract P X k w = (nI (pB P 2 (cl k))) := by rw [x_contract, if_pos c5, if_pos w12_0]
      refine n_iret hC dX0_contract_53 (Nat.le_of_ble_eq_true rfl) (Nat.le_of_ble_eq_true rfl) ?_
      rw [eq_]
      exact ⟨rfl, rfl, rfl⟩
    · rcases (Decidable.em (w = (nI 1))) with w12_1 | w12_1
      · refine n_tabIn (tgt := 54) (off := 42) hC dX0_contract_12 (by rw [w12_1]; decide) (by rw [w12_1]; decide) (by rw [w12_1]; rfl) (by decide) ?_
        refine n_aload_n hC dX0_contract_54 rfl ?_
        refine n_get hC cl0 (k := 0) (v := .ref (N0 + (pb P))) xc_o (x_lt hn) (by decide) q194 (xf_get N0 P X (by decide)) dX0_contract_55 ?_
        refine n_getN hC cl1 (k := 3) (v := .ref (N0 + (pb P + 3))) (xc_po hn) (p_lt0 hn) (by decide) q94 (pf_get N0 P (by decide)) dX0_contract_58 ?_
        refine n_iload_n hC dX0_contract_61 rfl ?_
        refine n_top (cl k) hk1 ?_
        refine n_iald hC (f := fun j => nI (pB P 3 j)) (xc_p (r := 3) hn (by omega)) (p_lt hn (by omega)) (cl k) rfl (by omega) (by decide) dX0_contract_62 ?_
        have eq_ : x_contract P X k w = (nI (pB P 3 (cl k))) := by rw [x_contract, if_pos c5, if_neg w12_0, if_pos w12_1]
        refine n_iret hC dX0_contract_63 (Nat.le_of_ble_eq_true rfl) (Nat.le_of_ble_eq_true rfl) ?_
        rw [eq_]
        exact ⟨rfl, rfl, rfl⟩
      · rcases (Decidable.em (w = (nI 2))) with w12_2 | w12_2
        · refine n_tabIn (tgt := 64) (off := 52) hC dX0_contract_12 (by rw [w12_2]; decide) (by rw [w12_2]; decide) (by rw [w12_2]; rfl) (by decide) ?_
          refine n_aload_n hC dX0_contract_64 rfl ?_
          refine n_get hC cl0 (k := 0) (v := .ref (N0 + (pb P))) xc_o (x_lt hn) (by decide) q194 (xf_get N0 P X (by decide)) dX0_contract_65 ?_
          refine n_getN hC cl1 (k := 4) (v := .ref (N0 + (pb P + 4))) (xc_po hn) (p_lt0 hn) (by decide) q98 (pf_get N0 P (by decide)) dX0_contract_68 ?_
          refine n_iload_n hC dX0_contract_71 rfl ?_
          refine n_top (cl k) hk1 ?_
          refine n_iald hC (f := fun j => nI (pB P 4 j)) (xc_p (r := 4) hn (by omega)) (p_lt hn (by omega)) (cl k) rfl (by omega) (by decide) dX0_contract_72 ?_
          have eq_ : x_contract P X k w = (nI (pB P 4 (cl k))) := by rw [x_contract, if_pos c5, if_neg w12_0, if_neg w12_1, if_pos w12_2]
          refine n_iret hC dX0_contract_73 (Nat.le_of_ble_eq_true rfl) (Nat.le_of_ble_eq_true rfl) ?_
          rw [eq_]
          exact ⟨rfl, rfl, rfl⟩
        · rcases (Decidable.em (w = (nI 3))) with w12_3 | w12_3
          · refine n_tabIn (tgt := 74) (off := 62) hC dX0_contract_12 (by rw [w12_3]; decide) (by rw [w12_3]; decide) (by rw [w12_3]; rfl) (by decide) ?_
            refine n_aload_n hC dX0_contract_74 rfl ?_
            refine n_get hC cl0 (k := 1) (v := .ref (N0 + (sAd 0))) xc_o (x_lt hn) (by decide) q195 (xf_get N0 P X (by decide)) dX0_contract_75 ?_
            refine n_getN hC cl2 (k := 2) (v := .ref (N0 + (sAd 0 + 3))) (xc_so (by decide)) (s_lt0 hn (by decide)) (by decide) q151 (sf_get N0 X 0 (by decide)) dX0_contract_78 ?_
            refine n_iload_n hC dX0_contract_81 rfl ?_
            refine n_top (cl k) hk1 ?_
            refine n_iald hC (f := sA X 0 2) (xc_s (r := 3) (by decide) (by decide)) (s_lt hn (by decide) (by decide)) (cl k) rfl (by omega) (by decide) dX0_contract_82 ?_
            have eq_ : x_contract P X k w = (sA X 0 2 (cl k)) := by rw [x_contract, if_pos c5, if_neg w12_0, if_neg w12_1, if_neg w12_2, if_pos w12_3]
            refine n_iret hC dX0_contract_83 (Nat.le_of_ble_eq_true rfl) (Nat.le_of_ble_eq_true rfl) ?_
            rw [eq_]
            exact ⟨rfl, rfl, rfl⟩
          · refine n_tabOut (tgt := 84) hC dX0_contract_12 (sw_out 3 (fun k hk => by have hk : k = 0 ∨ k = 1 ∨ k = 2 ∨ k = 3 := (by omega); rcases hk with rfl | rfl | rfl | rfl <;> assumption)) (by decide) ?_
            refine n_ldc hC dX0_contract_84 q272 ?_
            have eq_ : x_contract P X k w = (-1000000002) := by rw [x_contract, if_pos c5, if_neg w12_0, if_neg w12_1, if_neg w12_2, if_neg w12_3]
            refine n_iret hC dX0_contract_86 (Nat.le_of_ble_eq_true rfl) (Nat.le_of_ble_eq_true rfl) ?_
            rw [eq_]
            exact ⟨rfl, rfl, rfl⟩
  · refine n_ldc hC dX0_contract_8 q450 ?_
    have eq_ : x_contract P X k w = (-1000000001) := by rw [x_contract, if_neg (by rw [c5]; decide)]
    refine n_iret hC dX0_contract_10 (Nat.le_of_ble_eq_true rfl) (Nat.le_of_ble_eq_true rfl) ?_
    rw [eq_]
    exact ⟨rfl, rfl, rfl⟩
noncomputable def x_rate (P : PS) (X : XS) (k : Int32) (w : Int32) : Int32 := (if (x_isIn k (nI 0) ((nI (pN P 10)) - (nI 1))) = true then (if w = (nI 0) then (nI (pB P 6 (cl k))) else (if w = (nI 1) then (nI (pB P 7 (cl k))) else (if w = (nI 2) then (nI (pB P 8 (cl k))) else (if w = (nI 3) then (nI (pB P 9 (cl k))) else (-1000000002))))) else (-1000000001))
theorem bX0_rate : nBV RX0 yX0_rate cX0_rate 3 (some .int) 2 := ⟨q479, q480, q51, q481, by decide, by decide +kernel⟩
set_option maxRecDepth 100000 in
set_option maxHeartbeats 4000000 in
theorem t_x_rate (l : Launch) (D : va_G) (N0 : Nat) (kA : Nat → ClassId) (hs : hT) (P : PS) (X : XS) (n : Nat) (hn : xOk P n) (k : Int32) (w : Int32) (h10 : pN P 10 ≤ 8) : nE l yX0_rate cX0_rate 3 (some .int) D N0 kA 1 0 0 [.ref (N0 + 0), .int k, .int w] (xH N0 kA hs P X) n (nX (some (.int (x_rate P X k w))) (xH N0 kA hs P X) n) := by
  refine nE_of (by decide) (Nat.le_of_ble_eq_true rfl) ?_
  intro p e s m args below meth c hC hnm
  refine n_loc (L' := [(0, .ref (N0 + 0)), (1, .int k), (2, .int w)]) rfl ?_
  refine n_iload_n hC dX0_rate_0 rfl ?_
  refine n_iconst (v := (nI 0)) hC dX0_rate_1 (by decide) ?_
  refine n_aload_n hC dX0_rate_2 rfl ?_
  refine n_get hC cl0 (k := 0) (v := .ref (N0 + (pb P))) xc_o (x_lt hn) (by decide) q194 (xf_get N0 P X (by decide)) dX0_rate_3 ?_
  refine n_getN hC cl1 (k := 10) (v := .int (nI (pN P 10))) (xc_po hn) (p_lt0 hn) (by decide) q115 (pf_get N0 P (by decide)) dX0_rate_6 ?_
  refine n_iconst (v := (nI 1)) hC dX0_rate_9 (by decide) ?_
  refine n_isub hC dX0_rate_10 ?_
  refine n_callS1 hC (As := [.int k, .int (nI 0), .int ((nI (pN P 10)) - (nI 1))]) (rest := []) bX0_isIn (t_x_isIn l D N0 kA (xH N0 kA hs P X) n k (nI 0) ((nI (pN P 10)) - (nI 1)) ) (by decide) (by decide) q269 rfl (Nat.le_of_ble_eq_true rfl) dX0_rate_11 (Nat.le_of_ble_eq_true rfl) (Nat.le_of_ble_eq_true rfl) ?_
  refine n_stk (st' := [.int (bI (x_isIn k (nI 0) ((nI (pN P 10)) - (nI 1))))]) rfl ?_
  refine n_if_neB (tgt := 20) hC dX0_rate_14 (by decide) (fun c14 => ?_) (fun c14 => ?_)
  · have hk0 := (xin_nat (k := k) (by omega)).mp c14
    have hk1 := nI_cl hk0.1
    have hk2 := hk0.2
    refine n_iload_n hC dX0_rate_20 rfl ?_
    rcases (Decidable.em (w = (nI 0))) with w21_0 | w21_0
    · refine n_tabIn (tgt := 52) (off := 31) hC dX0_rate_21 (by rw [w21_0]; decide) (by rw [w21_0]; decide) (by rw [w21_0]; rfl) (by decide) ?_
      refine n_aload_n hC dX0_rate_52 rfl ?_
      refine n_get hC cl0 (k := 0) (v := .ref (N0 + (pb P))) xc_o (x_lt hn) (by decide) q194 (xf_get N0 P X (by decide)) dX0_rate_53 ?_
      refine n_getN hC cl1 (k := 6) (v := .ref (N0 + (pb P + 5))) (xc_po hn) (p_lt0 hn) (by decide) q104 (pf_get N0 P (by decide)) dX0_rate_56 ?_
      refine n_iload_n hC dX0_rate_59 rfl ?_
      refine n_top (cl k) hk1 ?_
      refine n_iald hC (f := fun j => nI (pB P 6 j)) (xc_p (r := 5) hn (by omega)) (p_lt hn (by omega)) (cl k) rfl (by omega) (by decide) dX0_rate_60 ?_
      have eq_ : x_rate P X k w = (nI (pB P 6 (cl k))) := by rw [x_rate, if_pos c14, if_pos w21_0]
      refine n_iret hC dX0_rate_61 (Nat.le_of_ble_eq_true rfl) (Nat.le_of_ble_eq_true rfl) ?_
      rw [eq_]
      exact ⟨rfl, rfl, rfl⟩
    · rcases (Decidable.em (w = (nI 1))) with w21_1 | w21_1
      · refine n_tabIn (tgt := 62) (off := 41) hC dX0_rate_21 (by rw [w21_1]; decide) (by rw [w21_1]; decide) (by rw [w21_1]; rfl) (by decide) ?_
        refine n_aload_n hC dX0_rate_62 rfl ?_
        refine n_get hC cl0 (k := 0) (v := .ref (N0 + (pb P))) xc_o (x_lt hn) (by decide) q194 (xf_get N0 P X (by decide)) dX0_rate_63 ?_
        refine n_getN hC cl1 (k := 7) (v := .ref (N0 + (pb P + 6))) (xc_po hn) (p_lt0 hn) (by decide) q107 (pf_get N0 P (by decide)) dX0_rate_66 ?_
        refine n_iload_n hC dX0_rate_69 rfl ?_
        refine n_top (cl k) hk1 ?_
        refine n_iald hC (f := fun j => nI (pB P 7 j)) (xc_p (r := 6) hn (by omega)) (p_lt hn (by omega)) (cl k) rfl (by omega) (by decide) dX0_rate_70 ?_
        have eq_ : x_rate P X k w = (nI (pB P 7 (cl k))) := by rw [x_rate, if_pos c14, if_neg w21_0, if_pos w21_1]
        refine n_iret hC dX0_rate_71 (Nat.le_of_ble_eq_true rfl) (Nat.le_of_ble_eq_true rfl) ?_
        rw [eq_]
        exact ⟨rfl, rfl, rfl⟩
      · rcases (Decidable.em (w = (nI 2))) with w21_2 | w21_2
        · refine n_tabIn (tgt := 72) (off := 51) hC dX0_rate_21 (by rw [w21_2]; decide) (by rw [w21_2]; decide) (by rw [w21_2]; rfl) (by decide) ?_
          refine n_aload_n hC dX0_rate_72 rfl ?_
          refine n_get hC cl0 (k := 0) (v := .ref (N0 + (pb P))) xc_o (x_lt hn) (by decide) q194 (xf_get N0 P X (by decide)) dX0_rate_73 ?_
          refine n_getN hC cl1 (k := 8) (v := .ref (N0 + (pb P + 7))) (xc_po hn) (p_lt0 hn) (by decide) q110 (pf_get N0 P (by decide)) dX0_rate_76 ?_
          refine n_iload_n hC dX0_rate_79 rfl ?_
          refine n_top (cl k) hk1 ?_
          refine n_iald hC (f := fun j => nI (pB P 8 j)) (xc_p (r := 7) hn (by omega)) (p_lt hn (by omega)) (cl k) rfl (by omega) (by decide) dX0_rate_80 ?_
          have eq_ : x_rate P X k w = (nI (pB P 8 (cl k))) := by rw [x_rate, if_pos c14, if_neg w21_0, if_neg w21_1, if_pos w21_2]
          refine n_iret hC dX0_rate_81 (Nat.le_of_ble_eq_true rfl) (Nat.le_of_ble_eq_true rfl) ?_
          rw [eq_]
          exact ⟨rfl, rfl, rfl⟩
        · rcases (Decidable.em (w = (nI 3))) with w21_3 | w21_3
          · refine n_tabIn (tgt := 82) (off := 61) hC dX0_rate_21 (by rw [w21_3]; decide) (by rw [w21_3]; decide) (by rw [w21_3]; rfl) (by decide) ?_
            refine n_aload_n hC dX0_rate_82 rfl ?_
            refine n_get hC cl0 (k := 0) (v := .ref (N0 + (pb P))) xc_o (x_lt hn) (by decide) q194 (xf_get N0 P X (by decide)) dX0_rate_83 ?_
            refine n_getN hC cl1 (k := 9) (v := .ref (N0 + (pb P + 8))) (xc_po hn) (p_lt0 hn) (by decide) q113 (pf_get N0 P (by decide)) dX0_rate_86 ?_
            refine n_iload_n hC dX0_rate_89 rfl ?_
            refine n_top (cl k) hk1 ?_
            refine n_iald hC (f := fun j => nI (pB P 9 j)) (xc_p (r := 8) hn (by omega)) (p_lt hn (by omega)) (cl k) rfl (by omega) (by decide) dX0_rate_90 ?_
            have eq_ : x_rate P X k w = (nI (pB P 9 (cl k))) := by rw [x_rate, if_pos c14, if_neg w21_0, if_neg w21_1, if_neg w21_2, if_pos w21_3]
            refine n_iret hC dX0_rate_91 (Nat.le_of_ble_eq_true rfl) (Nat.le_of_ble_eq_true rfl) ?_
            rw [eq_]
            exact ⟨rfl, rfl, rfl⟩
          · refine n_tabOut (tgt := 92) hC dX0_rate_21 (sw_out 3 (fun k hk => by have hk : k = 0 ∨ k = 1 ∨ k = 2 ∨ k = 3 := (by omega); rcases hk with rfl | rfl | rfl | rfl <;> assumption)) (by decide) ?_
            refine n_ldc hC dX0_rate_92 q272 ?_
            have eq_ : x_rate P X k w = (-1000000002) := by rw [x_rate, if_pos c14, if_neg w21_0, if_neg w21_1, if_neg w21_2, if_neg w21_3]
            refine n_iret hC dX0_rate_94 (Nat.le_of_ble_eq_true rfl) (Nat.le_of_ble_eq_true rfl) ?_
            rw [eq_]
            exact ⟨rfl, rfl, rfl⟩
  · refine n_ldc hC dX0_rate_17 q450 ?_
    have eq_ : x_rate P X k w = (-1000000001) := by rw [x_rate, if_neg (by rw [c14]; decide)]
    refine n_iret hC dX0_rate_19 (Nat.le_of_ble_eq_true rfl) (Nat.le_of_ble_eq_true rfl) ?_
    rw [eq_]
    exact ⟨rfl, rfl, rfl⟩
noncomputable def x_refused (P : PS) (X : XS) (v : Int32) : Int32 := (if (x_isIn v (nI 1) (nI 40)) = true then (if (pN P 1) = 0 then (-1000000003) else (if (sN X 0) ≤ 9000 then (nI 0) else (-1000000004))) else (-1000000002))
theorem bX0_refusedSeasons : nBV RX0 yX0_refusedSeasons cX0_refusedSeasons 2 (some .int) 1 := ⟨q488, qs11, q51, q489, by decide, by decide +kernel⟩
set_option maxRecDepth 100000 in
set_option maxHeartbeats 4000000 in
theorem t_x_refused (l : Launch) (D : va_G) (N0 : Nat) (kA : Nat → ClassId) (hs : hT) (P : PS) (X : XS) (n : Nat) (hn : xOk P n) (v : Int32) (hS : sN X 0 < 30000) : nE l yX0_refusedSeasons cX0_refusedSeasons 2 (some .int) D N0 kA 1 0 0 [.ref (N0 + 0), .int v] (xH N0 kA hs P X) n (nX (some (.int (x_refused P X v))) (xH N0 kA hs P X) n) := by
  refine nE_of (by decide) (Nat.le_of_ble_eq_true rfl) ?_
  intro p e s m args below meth c hC hnm
  refine n_loc (L' := [(0, .ref (N0 + 0)), (1, .int v)]) rfl ?_
  have hm6 := pN_le hn
  refine n_iload_n hC dX0_refusedSeasons_0 rfl ?_
  refine n_iconst (v := (nI 1)) hC dX0_refusedSeasons_1 (by decide) ?_
  refine n_bipush (v := (nI 40)) hC dX0_refusedSeasons_2 (by decide) ?_
  refine n_callS1 hC (As := [.int v, .int (nI 1), .int (nI 40)]) (rest := []) bX0_isIn (t_x_isIn l D N0 kA (xH N0 kA hs P X) n v (nI 1) (nI 40) ) (by decide) (by decide) q269 rfl (Nat.le_of_ble_eq_true rfl) dX0_refusedSeasons_4 (Nat.le_of_ble_eq_true rfl) (Nat.le_of_ble_eq_true rfl) ?_
  refine n_stk (st' := [.int (bI (x_isIn v (nI 1) (nI 40)))]) rfl ?_
  refine n_if_neB (tgt := 15) hC dX0_refusedSeasons_7 (by decide) (fun c7 => ?_) (fun c7 => ?_)
  · refine n_aload_n hC dX0_refusedSeasons_15 rfl ?_
    refine n_get hC cl0 (k := 0) (v := .ref (N0 + (pb P))) xc_o (x_lt hn) (by decide) q194 (xf_get N0 P X (by decide)) dX0_refusedSeasons_16 ?_
    refine n_getN hC cl1 (k := 1) (v := .int (nI (pN P 1))) (xc_po hn) (p_lt0 hn) (by decide) q86 (pf_get N0 P (by decide)) dX0_refusedSeasons_19 ?_
    refine n_if_neN (tgt := 30) hC (by omega) dX0_refusedSeasons_22 (by decide) (fun c22 => ?_) (fun c22 => ?_)
    · refine n_aload_n hC dX0_refusedSeasons_30 rfl ?_
      refine n_get hC cl0 (k := 1) (v := .ref (N0 + (sAd 0))) xc_o (x_lt hn) (by decide) q195 (xf_get N0 P X (by decide)) dX0_refusedSeasons_31 ?_
      refine n_getN hC cl2 (k := 5) (v := .int (nI (sN X 0))) (xc_so (by decide)) (s_lt0 hn (by decide)) (by decide) q157 (sf_get N0 X 0 (by decide)) dX0_refusedSeasons_34 ?_
      refine n_sipush (v := (nI 9000)) hC dX0_refusedSeasons_37 (by decide) ?_
      refine n_icmp_leN (tgt := 48) hC (sN X 0) 9000 rfl rfl (by omega) (by omega) dX0_refusedSeasons_40 (by decide) (fun c40 => ?_) (fun c40 => ?_)
      · refine n_iconst (v := (nI 0)) hC dX0_refusedSeasons_48 (by decide) ?_
        have eq_ : x_refused P X v = (nI 0) := by rw [x_refused, if_pos c7, if_neg c22, if_pos c40]
        refine n_iret hC dX0_refusedSeasons_49 (Nat.le_of_ble_eq_true rfl) (Nat.le_of_ble_eq_true rfl) ?_
        rw [eq_]
        exact ⟨rfl, rfl, rfl⟩
      · refine n_ldc hC dX0_refusedSeasons_43 q273 ?_
        refine n_goto (tgt := 49) hC dX0_refusedSeasons_45 (by decide) ?_
        have eq_ : x_refused P X v = (-1000000004) := by rw [x_refused, if_pos c7, if_neg c22, if_neg (Nat.not_le.mpr c40)]
        refine n_iret hC dX0_refusedSeasons_49 (Nat.le_of_ble_eq_true rfl) (Nat.le_of_ble_eq_true rfl) ?_
        rw [eq_]
        exact ⟨rfl, rfl, rfl⟩
    · refine n_ldc hC dX0_refusedSeasons_25 q490 ?_
      refine n_goto (tgt := 49) hC dX0_refusedSeasons_27 (by decide) ?_
      have eq_ : x_refused P X v = (-1000000003) := by rw [x_refused, if_pos c7, if_pos c22]
      refine n_iret hC dX0_refusedSeasons_49 (Nat.le_of_ble_eq_true rfl) (Nat.le_of_ble_eq_true rfl) ?_
      rw [eq_]
      exact ⟨rfl, rfl, rfl⟩
  · refine n_ldc hC dX0_refusedSeasons_10 q272 ?_
    refine n_goto (tgt := 49) hC dX0_refusedSeasons_12 (by decide) ?_
    have eq_ : x_refused P X v = (-1000000002) := by rw [x_refused, if_neg (by rw [c7]; decide)]
    refine n_iret hC dX0_refusedSeasons_49 (Nat.le_of_ble_eq_true rfl) (Nat.le_of_ble_eq_true rfl) ?_
    rw [eq_]
    exact ⟨rfl, rfl, rfl⟩
noncomputable def x_firstNought_L4 : Nat → PS → XS → Int32 → Nat → Int32
  | 0, _, _, _, _ => 0
  | fu + 1, P, X, b, i => (if (pN P 5) ≤ i then b else (if (pB P 2 i) < (sN X 0) then x_firstNought_L4 fu P X b (i + 1) else (if (x_measure P X (pB P 3 i) (pB P 2 i)) = 0 then (if b = (-1) then x_firstNought_L4 fu P X (nI i) (i + 1) else (if (pB P 2 (cl b)) ≤ (pB P 2 i) then x_firstNought_L4 fu P X (nI (cl b)) (i + 1) else x_firstNought_L4 fu P X (nI i) (i + 1))) else x_firstNought_L4 fu P X b (i + 1))))
noncomputable def x_firstNought (P : PS) (X : XS) : Int32 := x_firstNought_L4 (pN P 5 + 1) P X (-1) 0
theorem bX0_firstNought : nBV RX0 yX0_firstNought cX0_firstNought 4 (some .int) 0 := ⟨q558, q559, q51, q560, by decide, by decide +kernel⟩
set_option maxRecDepth 100000 in
set_option maxHeartbeats 4000000 in
theorem t_x_firstNought_L4 {p : Program} {l : Launch} {e : Env} {s : State} {m : MethodId} {args : Array Value} {below : List Frame} {meth : Method} {c : Code} {D : va_G} {N0 : Nat} {kA : Nat → ClassId} {hs : hT} {P : PS} {X : XS} {n : Nat} (hn : xOk P n)  (hC : nC p s m args meth c RX0 cX0_firstNought 4 (some .int) true D N0 kA) (hh : xHe P) (hS : sN X 0 < 30000) (hc : xCo P) : ∀ (fu : Nat) (b : Int32) (i : Nat) (ib : b ≠ -1 → 0 ≤ b ∧ cl b < pN P 5) (hi : i ≤ pN P 5) (hf : pN P 5 < i + fu), nW p l e (nRm 3 0 0) s m args below meth c (nQ below (nX (some (.int (x_firstNought_L4 fu P X b i))) (xH N0 kA hs P X) n) D N0 s 0 0) D N0 4 4 [(0, .ref (N0 + 0)), (1, .int b), (2, .int (nI i))] [] (xH N0 kA hs P X) n 0 0 := by
  intro fu
  induction fu with
  | zero =>
    intro b i ib hi hf
    exfalso; omega
  | succ fu ih =>
    intro b i ib hi hf
    have hm6 := pN_le hn
    have hc1 := hc.1
    have hc2 := hc.2
    refine n_iload_n hC dX0_firstNought_4 rfl ?_
    refine n_aload_n hC dX0_firstNought_5 rfl ?_
    refine n_get hC cl0 (k := 0) (v := .ref (N0 + (pb P))) xc_o (x_lt hn) (by decide) q194 (xf_get N0 P X (by decide)) dX0_firstNought_6 ?_
    refine n_getN hC cl1 (k := 5) (v := .int (nI (pN P 5))) (xc_po hn) (p_lt0 hn) (by decide) q101 (pf_get N0 P (by decide)) dX0_firstNought_9 ?_
    refine n_icmp_geN (tgt := 110) hC i (pN P 5) rfl rfl (by omega) (by omega) dX0_firstNought_12 (by decide) (fun c12 => ?_) (fun c12 => ?_)
    · refine n_iload_n hC dX0_firstNought_110 rfl ?_
      have eq_ : x_firstNought_L4 (fu + 1) P X b i = b := by rw [x_firstNought_L4, if_pos c12]
      refine n_iret hC dX0_firstNought_111 (Nat.le_of_ble_eq_true rfl) (Nat.le_of_ble_eq_true rfl) ?_
      rw [eq_]
      exact ⟨rfl, rfl, rfl⟩
    · have hci := hc2 i (by omega)
      refine n_aload_n hC dX0_firstNought_15 rfl ?_
      refine n_get hC cl0 (k := 0) (v := .ref (N0 + (pb P))) xc_o (x_lt hn) (by decide) q194 (xf_get N0 P X (by decide)) dX0_firstNought_16 ?_
      refine n_getN hC cl1 (k := 2) (v := .ref (N0 + (pb P + 2))) (xc_po hn) (p_lt0 hn) (by decide) q90 (pf_get N0 P (by decide)) dX0_firstNought_19 ?_
      refine n_iload_n hC dX0_firstNought_22 rfl ?_
      refine n_iald hC (f := fun j => nI (pB P 2 j)) (xc_p (r := 2) hn (by omega)) (p_lt hn (by omega)) i rfl (by omega) (by decide) dX0_firstNought_23 ?_
      refine n_aload_n hC dX0_firstNought_24 rfl ?_
      refine n_get hC cl0 (k := 1) (v := .ref (N0 + (sAd 0))) xc_o (x_lt hn) (by decide) q195 (xf_get N0 P X (by decide)) dX0_firstNought_25 ?_
      refine n_getN hC cl2 (k := 5) (v := .int (nI (sN X 0))) (xc_so (by decide)) (s_lt0 hn (by decide)) (by decide) q157 (sf_get N0 X 0 (by decide)) dX0_firstNought_28 ?_
      refine n_icmp_ltN (tgt := 66) hC (pB P 2 i) (sN X 0) rfl rfl (by omega) (by omega) dX0_firstNought_31 (by decide) (fun c31 => ?_) (fun c31 => ?_)
      · refine n_iconst (v := (nI 0)) hC dX0_firstNought_66 (by decide) ?_
        refine n_istore_n (L' := [(0, .ref (N0 + 0)), (1, .int b), (2, .int (nI i)), (3, .int (nI 0))]) hC dX0_firstNought_67 (by decide) rfl ?_
        refine n_iload_n hC dX0_firstNought_68 rfl ?_
        refine n_if_eqT (tgt := 102) hC dX0_firstNought_69 (by decide) (by decide) ?_
        refine n_iload_n hC dX0_firstNought_102 rfl ?_
        refine n_istore_n (L' := [(0, .ref (N0 + 0)), (1, .int b), (2, .int (nI i)), (3, .int (nI 0))]) hC dX0_firstNought_103 (by decide) rfl ?_
        refine n_iincN (a := i) (L' := [(0, .ref (N0 + 0)), (1, .int b), (2, .int (nI (i + 1))), (3, .int (nI 0))]) hC dX0_firstNought_104 rfl (by decide) rfl ?_
        refine n_goto (tgt := 4) hC dX0_firstNought_107 (by decide) ?_
        refine n_drop [0, 1, 2] (L' := [(0, .ref (N0 + 0)), (1, .int b), (2, .int (nI (i + 1)))]) rfl ?_
        rw [show x_firstNought_L4 (fu + 1) P X b i = x_firstNought_L4 fu P X b (i + 1) from by rw [x_firstNought_L4, if_neg (Nat.not_le.mpr c12), if_pos c31]]
        exact ih b (i + 1) (by first | exact ib | exact nI_inv2 (by omega) hc1) (by omega) (by omega)
      · refine n_aload_n hC dX0_firstNought_34 rfl ?_
        refine n_get hC cl0 (k := 1) (v := .ref (N0 + (sAd 0))) xc_o (x_lt hn) (by decide) q195 (xf_get N0 P X (by decide)) dX0_firstNought_35 ?_
        refine n_aload_n hC dX0_firstNought_38 rfl ?_
        refine n_get hC cl0 (k := 0) (v := .ref (N0 + (pb P))) xc_o (x_lt hn) (by decide) q194 (xf_get N0 P X (by decide)) dX0_firstNought_39 ?_
        refine n_getN hC cl1 (k := 3) (v := .ref (N0 + (pb P + 3))) (xc_po hn) (p_lt0 hn) (by decide) q94 (pf_get N0 P (by decide)) dX0_firstNought_42 ?_
        refine n_iload_n hC dX0_firstNought_45 rfl ?_
        refine n_iald hC (f := fun j => nI (pB P 3 j)) (xc_p (r := 3) hn (by omega)) (p_lt hn (by omega)) i rfl (by omega) (by decide) dX0_firstNought_46 ?_
        refine n_aload_n hC dX0_firstNought_47 rfl ?_
        refine n_get hC cl0 (k := 0) (v := .ref (N0 + (pb P))) xc_o (x_lt hn) (by decide) q194 (xf_get N0 P X (by decide)) dX0_firstNought_48 ?_
        refine n_getN hC cl1 (k := 2) (v := .ref (N0 + (pb P + 2))) (xc_po hn) (p_lt0 hn) (by decide) q90 (pf_get N0 P (by decide)) dX0_firstNought_51 ?_
        refine n_iload_n hC dX0_firstNought_54 rfl ?_
        refine n_iald hC (f := fun j => nI (pB P 2 j)) (xc_p (r := 2) hn (by omega)) (p_lt hn (by omega)) i rfl (by omega) (by decide) dX0_firstNought_55 ?_
        refine n_callV1 hC (As := [.int (nI (pB P 3 i)), .int (nI (pB P 2 i))]) (rest := []) (xc_so (by decide)) (s_lt0 hn (by decide)) rfl bX2_measure (t_x_measure l D N0 kA hs P X n hn (pB P 3 i) (pB P 2 i) (by omega) (by omega) hh) (by decide) (by decide) q455 rfl (Nat.le_of_ble_eq_true rfl) dX0_firstNought_56 (Nat.le_of_ble_eq_true rfl) (Nat.le_of_ble_eq_true rfl) ?_
        refine n_stk (st' := [.int (x_measure P X (pB P 3 i) (pB P 2 i))]) rfl ?_
        refine n_if_ne (tgt := 66) hC dX0_firstNought_59 (by decide) (fun c59 => ?_) (fun c59 => ?_)
        · refine n_iconst (v := (nI 0)) hC dX0_firstNought_66 (by decide) ?_
          refine n_istore_n (L' := [(0, .ref (N0 + 0)), (1, .int b), (2, .int (nI i)), (3, .int (nI 0))]) hC dX0_firstNought_67 (by decide) rfl ?_
          refine n_iload_n hC dX0_firstNought_68 rfl ?_
          refine n_if_eqT (tgt := 102) hC dX0_firstNought_69 (by decide) (by decide) ?_
          refine n_iload_n hC dX0_firstNought_102 rfl ?_
          refine n_istore_n (L' := [(0, .ref (N0 + 0)), (1, .int b), (2, .int (nI i)), (3, .int (nI 0))]) hC dX0_firstNought_103 (by decide) rfl ?_
          refine n_iincN (a := i) (L' := [(0, .ref (N0 + 0)), (1, .int b), (2, .int (nI (i + 1))), (3, .int (nI 0))]) hC dX0_firstNought_104 rfl (by decide) rfl ?_
          refine n_goto (tgt := 4) hC dX0_firstNought_107 (by decide) ?_
          refine n_drop [0, 1, 2] (L' := [(0, .ref (N0 + 0)), (1, .int b), (2, .int (nI (i + 1)))]) rfl ?_
          rw [show x_firstNought_L4 (fu + 1) P X b i = x_firstNought_L4 fu P X b (i + 1) from by rw [x_firstNought_L4, if_neg (Nat.not_le.mpr c12), if_neg (Nat.not_lt.mpr c31), if_neg c59]]
          exact ih b (i + 1) (by first | exact ib | exact nI_inv2 (by omega) hc1) (by omega) (by omega)
        · refine n_iconst (v := (nI 1)) hC dX0_firstNought_62 (by decide) ?_
          refine n_goto (tgt := 67) hC dX0_firstNought_63 (by decide) ?_
          refine n_istore_n (L' := [(0, .ref (N0 + 0)), (1, .int b), (2, .int (nI i)), (3, .int (nI 1))]) hC dX0_firstNought_67 (by decide) rfl ?_
          refine n_iload_n hC dX0_firstNought_68 rfl ?_
          refine n_if_eqF (tgt := 102) hC dX0_firstNought_69 (by decide) (by decide) ?_
          refine n_iload_n hC dX0_firstNought_72 rfl ?_
          refine n_iconst (v := (-1)) hC dX0_firstNought_73 (by decide) ?_
          refine n_icmp_eq (tgt := 98) hC dX0_firstNought_74 (by decide) (fun c74 => ?_) (fun c74 => ?_)
          · refine n_iload_n hC dX0_firstNought_98 rfl ?_
            refine n_goto (tgt := 103) hC dX0_firstNought_99 (by decide) ?_
            refine n_istore_n (L' := [(0, .ref (N0 + 0)), (1, .int (nI i)), (2, .int (nI i)), (3, .int (nI 1))]) hC dX0_firstNought_103 (by decide) rfl ?_
            refine n_iincN (a := i) (L' := [(0, .ref (N0 + 0)), (1, .int (nI i)), (2, .int (nI (i + 1))), (3, .int (nI 1))]) hC dX0_firstNought_104 rfl (by decide) rfl ?_
            refine n_goto (tgt := 4) hC dX0_firstNought_107 (by decide) ?_
            refine n_drop [0, 1, 2] (L' := [(0, .ref (N0 + 0)), (1, .int (nI i)), (2, .int (nI (i + 1)))]) rfl ?_
            rw [show x_firstNought_L4 (fu + 1) P X b i = x_firstNought_L4 fu P X (nI i) (i + 1) from by rw [x_firstNought_L4, if_neg (Nat.not_le.mpr c12), if_neg (Nat.not_lt.mpr c31), if_pos c59, if_pos c74]]
            exact ih (nI i) (i + 1) (by first | exact ib | exact nI_inv2 (by omega) hc1) (by omega) (by omega)
          · have hb1 := ib c74
            have hb := nI_cl hb1.1
            have hb2 := hb1.2
            have hcb := hc2 (cl b) hb2
            refine n_aload_n hC dX0_firstNought_77 rfl ?_
            refine n_get hC cl0 (k := 0) (v := .ref (N0 + (pb P))) xc_o (x_lt hn) (by decide) q194 (xf_get N0 P X (by decide)) dX0_firstNought_78 ?_
            refine n_getN hC cl1 (k := 2) (v := .ref (N0 + (pb P + 2))) (xc_po hn) (p_lt0 hn) (by decide) q90 (pf_get N0 P (by decide)) dX0_firstNought_81 ?_
            refine n_iload_n hC dX0_firstNought_84 rfl ?_
            refine n_iald hC (f := fun j => nI (pB P 2 j)) (xc_p (r := 2) hn (by omega)) (p_lt hn (by omega)) i rfl (by omega) (by decide) dX0_firstNought_85 ?_
            refine n_aload_n hC dX0_firstNought_86 rfl ?_
            refine n_get hC cl0 (k := 0) (v := .ref (N0 + (pb P))) xc_o (x_lt hn) (by decide) q194 (xf_get N0 P X (by decide)) dX0_firstNought_87 ?_
            refine n_getN hC cl1 (k := 2) (v := .ref (N0 + (pb P + 2))) (xc_po hn) (p_lt0 hn) (by decide) q90 (pf_get N0 P (by decide)) dX0_firstNought_90 ?_
            refine n_iload_n hC dX0_firstNought_93 rfl ?_
            refine n_top (cl b) hb ?_
            refine n_iald hC (f := fun j => nI (pB P 2 j)) (xc_p (r := 2) hn (by omega)) (p_lt hn (by omega)) (cl b) rfl (by omega) (by decide) dX0_firstNought_94 ?_
            refine n_icmp_geN (tgt := 102) hC (pB P 2 i) (pB P 2 (cl b)) rfl rfl (by omega) (by omega) dX0_firstNought_95 (by decide) (fun c95 => ?_) (fun c95 => ?_)
            · refine n_iload_n hC dX0_firstNought_102 rfl ?_
              refine n_top (cl b) hb ?_
              refine n_istore_n (L' := [(0, .ref (N0 + 0)), (1, .int (nI (cl b))), (2, .int (nI i)), (3, .int (nI 1))]) hC dX0_firstNought_103 (by decide) rfl ?_
              refine n_iincN (a := i) (L' := [(0, .ref (N0 + 0)), (1, .int (nI (cl b))), (2, .int (nI (i + 1))), (3, .int (nI 1))]) hC dX0_firstNought_104 rfl (by decide) rfl ?_
              refine n_goto (tgt := 4) hC dX0_firstNought_107 (by decide) ?_
              refine n_drop [0, 1, 2] (L' := [(0, .ref (N0 + 0)), (1, .int (nI (cl b))), (2, .int (nI (i + 1)))]) rfl ?_
              rw [show x_firstNought_L4 (fu + 1) P X b i = x_firstNought_L4 fu P X (nI (cl b)) (i + 1) from by rw [x_firstNought_L4, if_neg (Nat.not_le.mpr c12), if_neg (Nat.not_lt.mpr c31), if_pos c59, if_neg c74, if_pos c95]]
              exact ih (nI (cl b)) (i + 1) (by first | exact ib | exact nI_inv2 (by omega) hc1) (by omega) (by omega)
            · refine n_iload_n hC dX0_firstNought_98 rfl ?_
              refine n_goto (tgt := 103) hC dX0_firstNought_99 (by decide) ?_
              refine n_istore_n (L' := [(0, .ref (N0 + 0)), (1, .int (nI i)), (2, .int (nI i)), (3, .int (nI 1))]) hC dX0_firstNought_103 (by decide) rfl ?_
              refine n_iincN (a := i) (L' := [(0, .ref (N0 + 0)), (1, .int (nI i)), (2, .int (nI (i + 1))), (3, .int (nI 1))]) hC dX0_firstNought_104 rfl (by decide) rfl ?_
              refine n_goto (tgt := 4) hC dX0_firstNought_107 (by decide) ?_
              refine n_drop [0, 1, 2] (L' := [(0, .ref (N0 + 0)), (1, .int (nI i)), (2, .int (nI (i + 1)))]) rfl ?_
              rw [show x_firstNought_L4 (fu + 1) P X b i = x_firstNought_L4 fu P X (nI i) (i + 1) from by rw [x_firstNought_L4, if_neg (Nat.not_le.mpr c12), if_neg (Nat.not_lt.mpr c31), if_pos c59, if_neg c74, if_neg (Nat.not_le.mpr c95)]]
              exact ih (nI i) (i + 1) (by first | exact ib | exact nI_inv2 (by omega) hc1) (by omega) (by omega)
set_option maxRecDepth 100000 in
set_option maxHeartbeats 4000000 in
theorem t_x_firstNought (l : Launch) (D : va_G) (N0 : Nat) (kA : Nat → ClassId) (hs : hT) (P : PS) (X : XS) (n : Nat) (hn : xOk P n)  (hh : xHe P) (hS : sN X 0 < 30000) (hc : xCo P) : nE l yX0_firstNought cX0_firstNought 4 (some .int) D N0 kA 3 0 0 [.ref (N0 + 0)] (xH N0 kA hs P X) n (nX (some (.int (x_firstNought P X))) (xH N0 kA hs P X) n) := by
  refine nE_of (by decide) (Nat.le_of_ble_eq_true rfl) ?_
  intro p e s m args below meth c hC hnm
  refine n_loc (L' := [(0, .ref (N0 + 0))]) rfl ?_
  have hm6 := pN_le hn
  have hc1 := hc.1
  have hc2 := hc.2
  refine n_iconst (v := (-1)) hC dX0_firstNought_0 (by decide) ?_
  refine n_istore_n (L' := [(0, .ref (N0 + 0)), (1, .int (-1))]) hC dX0_firstNought_1 (by decide) rfl ?_
  refine n_iconst (v := (nI 0)) hC dX0_firstNought_2 (by decide) ?_
  refine n_istore_n (L' := [(0, .ref (N0 + 0)), (1, .int (-1)), (2, .int (nI 0))]) hC dX0_firstNought_3 (by decide) rfl ?_
  rw [show x_firstNought P X = x_firstNought_L4 (pN P 5 + 1) P X (-1) 0 from by rw [x_firstNought]]
  exact t_x_firstNought_L4 hn hC hh hS hc (pN P 5 + 1) (-1) 0 (fun z => absurd rfl z) (by omega) (by omega)
noncomputable def x_means (P : PS) (X : XS) (k : Int32) (v : Int32) : Int32 := (if (x_isContract P X k) = true then (if (x_isIn v (nI 0) (nI 99)) = true then ((nI (pB P 4 (cl k))) * (x_measure P X (pB P 3 (cl k)) (cl v))) else (-1000000002)) else (-1000000001))
theorem bX0_means : nBV RX0 yX0_means cX0_means 3 (some .int) 2 := ⟨q562, q563, q51, q564, by decide, by decide +kernel⟩
set_option maxRecDepth 100000 in
set_option maxHeartbeats 4000000 in
theorem t_x_means (l : Launch) (D : va_G) (N0 : Nat) (kA : Nat → ClassId) (hs : hT) (P : PS) (X : XS) (n : Nat) (hn : xOk P n) (k : Int32) (v : Int32) (hh : xHe P) (hc : xCo P) : nE l yX0_means cX0_means 3 (some .int) D N0 kA 3 0 0 [.ref (N0 + 0), .int k, .int v] (xH N0 kA hs P X) n (nX (some (.int (x_means P X k v))) (xH N0 kA hs P X) n) := by
  refine nE_of (by decide) (Nat.le_of_ble_eq_true rfl) ?_
  intro p e s m args below meth c hC hnm
  refine n_loc (L' := [(0, .ref (N0 + 0)), (1, .int k), (2, .int v)]) rfl ?_
  have hm6 := pN_le hn
  have hc1 := hc.1
  have hc2 := hc.2
  refine n_aload_n hC dX0_means_0 rfl ?_
  refine n_iload_n hC dX0_means_1 rfl ?_
  refine n_callV1 hC (As := [.int k]) (rest := []) xc_o (x_lt hn) rfl bX0_isContract (t_x_isContract l D N0 kA hs P X n hn k ) (by decide) (by decide) q474 rfl (Nat.le_of_ble_eq_true rfl) dX0_means_2 (Nat.le_of_ble_eq_true rfl) (Nat.le_of_ble_eq_true rfl) ?_
  refine n_stk (st' := [.int (bI (x_isContract P X k))]) rfl ?_
  refine n_if_neB (tgt := 11) hC dX0_means_5 (by decide) (fun c5 => ?_) (fun c5 => ?_)
  · have hk0 := (xin_nat (k := k) (by omega)).mp c5
    have hk1 := nI_cl hk0.1
    have hk2 := hk0.2
    have hci := hc2 (cl k) hk2
    refine n_iload_n hC dX0_means_11 rfl ?_
    refine n_iconst (v := (nI 0)) hC dX0_means_12 (by decide) ?_
    refine n_bipush (v := (nI 99)) hC dX0_means_13 (by decide) ?_
    refine n_callS1 hC (As := [.int v, .int (nI 0), .int (nI 99)]) (rest := []) bX0_isIn (t_x_isIn l D N0 kA (xH N0 kA hs P X) n v (nI 0) (nI 99) ) (by decide) (by decide) q269 rfl (Nat.le_of_ble_eq_true rfl) dX0_means_15 (Nat.le_of_ble_eq_true rfl) (Nat.le_of_ble_eq_true rfl) ?_
    refine n_stk (st' := [.int (bI (x_isIn v (nI 0) (nI 99)))]) rfl ?_
    refine n_if_eqB (tgt := 51) hC dX0_means_18 (by decide) (fun c18 => ?_) (fun c18 => ?_)
    · refine n_ldc hC dX0_means_51 q272 ?_
      have eq_ : x_means P X k v = (-1000000002) := by rw [x_means, if_pos c5, if_neg (by rw [c18]; decide)]
      refine n_iret hC dX0_means_53 (Nat.le_of_ble_eq_true rfl) (Nat.le_of_ble_eq_true rfl) ?_
      rw [eq_]
      exact ⟨rfl, rfl, rfl⟩
    · have hv := (xin_cst (x := v) 0 99 (by decide) (by decide)).mp c18
      have hv1 := nI_cl hv.1
      have hv2 := hv.2
      refine n_aload_n hC dX0_means_21 rfl ?_
      refine n_get hC cl0 (k := 0) (v := .ref (N0 + (pb P))) xc_o (x_lt hn) (by decide) q194 (xf_get N0 P X (by decide)) dX0_means_22 ?_
      refine n_getN hC cl1 (k := 4) (v := .ref (N0 + (pb P + 4))) (xc_po hn) (p_lt0 hn) (by decide) q98 (pf_get N0 P (by decide)) dX0_means_25 ?_
      refine n_iload_n hC dX0_means_28 rfl ?_
      refine n_top (cl k) hk1 ?_
      refine n_iald hC (f := fun j => nI (pB P 4 j)) (xc_p (r := 4) hn (by omega)) (p_lt hn (by omega)) (cl k) rfl (by omega) (by decide) dX0_means_29 ?_
      refine n_aload_n hC dX0_means_30 rfl ?_
      refine n_get hC cl0 (k := 1) (v := .ref (N0 + (sAd 0))) xc_o (x_lt hn) (by decide) q195 (xf_get N0 P X (by decide)) dX0_means_31 ?_
      refine n_aload_n hC dX0_means_34 rfl ?_
      refine n_get hC cl0 (k := 0) (v := .ref (N0 + (pb P))) xc_o (x_lt hn) (by decide) q194 (xf_get N0 P X (by decide)) dX0_means_35 ?_
      refine n_getN hC cl1 (k := 3) (v := .ref (N0 + (pb P + 3))) (xc_po hn) (p_lt0 hn) (by decide) q94 (pf_get N0 P (by decide)) dX0_means_38 ?_
      refine n_iload_n hC dX0_means_41 rfl ?_
      refine n_top (cl k) hk1 ?_
      refine n_iald hC (f := fun j => nI (pB P 3 j)) (xc_p (r := 3) hn (by omega)) (p_lt hn (by omega)) (cl k) rfl (by omega) (by decide) dX0_means_42 ?_
      refine n_iload_n hC dX0_means_43 rfl ?_
      refine n_top (cl v) hv1 ?_
      refine n_callV1 hC (As := [.int (nI (pB P 3 (cl k))), .int (nI (cl v))]) (rest := [.int (nI (pB P 4 (cl k)))]) (xc_so (by decide)) (s_lt0 hn (by decide)) rfl bX2_measure (t_x_measure l D N0 kA hs P X n hn (pB P 3 (cl k)) (cl v) (by omega) (by omega) hh) (by decide) (by decide) q455 rfl (Nat.le_of_ble_eq_true rfl) dX0_means_44 (Nat.le_of_ble_eq_true rfl) (Nat.le_of_ble_eq_true rfl) ?_
      refine n_stk (st' := [.int (x_measure P X (pB P 3 (cl k)) (cl v)), .int (nI (pB P 4 (cl k)))]) rfl ?_
      refine n_imul hC dX0_means_47 ?_
      refine n_goto (tgt := 53) hC dX0_means_48 (by decide) ?_
      have eq_ : x_means P X k v = ((nI (pB P 4 (cl k))) * (x_measure P X (pB P 3 (cl k)) (cl v))) := by rw [x_means, if_pos c5, if_pos c18]
      refine n_iret hC dX0_means_53 (Nat.le_of_ble_eq_true rfl) (Nat.le_of_ble_eq_true rfl) ?_
      rw [eq_]
      exact ⟨rfl, rfl, rfl⟩
  · refine n_ldc hC dX0_means_8 q450 ?_
    have eq_ : x_means P X k v = (-1000000001) := by rw [x_means, if_neg (by rw [c5]; decide)]
    refine n_iret hC dX0_means_10 (Nat.le_of_ble_eq_true rfl) (Nat.le_of_ble_eq_true rfl) ?_
    rw [eq_]
    exact ⟨rfl, rfl, rfl⟩
noncomputable def x_reach_L32 : Nat → PS → XS → Int32 → Int32 → Int32 → Int32 → Nat → Int32
  | 0, _, _, _, _, _, _, _ => 0
  | fu + 1, P, X, k, w, a, b, i => (if 4 ≤ i then (if w = 0 then a else b) else x_reach_L32 fu P X k w (if (x_measure P X (cl k) i) < a then (x_measure P X (cl k) i) else a) (if b < (x_measure P X (cl k) i) then (x_measure P X (cl k) i) else b) (i + 1))
noncomputable def x_reach (P : PS) (X : XS) (k : Int32) (w : Int32) : Int32 := (if (x_isLimb P X k) = true then (if (x_isIn w (nI 0) (nI 1)) = true then x_reach_L32 5 P X k w (nI 99999999) (nI 0) 0 else (-1000000002)) else (-1000000001))
theorem bX0_reach : nBV RX0 yX0_reach cX0_reach 6 (some .int) 2 := ⟨q615, q616, q51, q617, by decide, by decide +kernel⟩
set_option maxRecDepth 100000 in
set_option maxHeartbeats 4000000 in
theorem t_x_reach_L32 {p : Program} {l : Launch} {e : Env} {s : State} {m : MethodId} {args : Array Value} {below : List Frame} {meth : Method} {c : Code} {D : va_G} {N0 : Nat} {kA : Nat → ClassId} {hs : hT} {P : PS} {X : XS} {n : Nat} (hn : xOk P n) {k : Int32} {w : Int32} (hC : nC p s m args meth c RX0 cX0_reach 6 (some .int) true D N0 kA) (hh : xHe P) : ∀ (fu : Nat) (a : Int32) (b : Int32) (i : Nat) (hk1 : k = nI (cl k)) (hk2 : cl k < pN P 1) (hi : i ≤ 4) (hf : 4 < i + fu), nW p l e (nRm 3 0 0) s m args below meth c (nQ below (nX (some (.int (x_reach_L32 fu P X k w a b i))) (xH N0 kA hs P X) n) D N0 s 0 0) D N0 6 32 [(0, .ref (N0 + 0)), (1, .int k), (2, .int w), (3, .int a), (4, .int b), (5, .int (nI i))] [] (xH N0 kA hs P X) n 0 0 := by
  intro fu
  induction fu with
  | zero =>
    intro a b i hk1 hk2 hi hf
    exfalso; omega
  | succ fu ih =>
    intro a b i hk1 hk2 hi hf
    have hm6 := pN_le hn
    refine n_iload hC dX0_reach_32 rfl ?_
    refine n_iconst (v := (nI 4)) hC dX0_reach_34 (by decide) ?_
    refine n_icmp_geN (tgt := 76) hC i 4 rfl rfl (by omega) (by omega) dX0_reach_35 (by decide) (fun c35 => ?_) (fun c35 => ?_)
    · refine n_iload_n hC dX0_reach_76 rfl ?_
      refine n_if_ne (tgt := 84) hC dX0_reach_77 (by decide) (fun c77 => ?_) (fun c77 => ?_)
      · refine n_iload hC dX0_reach_84 rfl ?_
        have eq_ : x_reach_L32 (fu + 1) P X k w a b i = b := by rw [x_reach_L32, if_pos c35, if_neg c77]
        refine n_iret hC dX0_reach_86 (Nat.le_of_ble_eq_true rfl) (Nat.le_of_ble_eq_true rfl) ?_
        rw [eq_]
        exact ⟨rfl, rfl, rfl⟩
      · refine n_iload_n hC dX0_reach_80 rfl ?_
        refine n_goto (tgt := 86) hC dX0_reach_81 (by decide) ?_
        have eq_ : x_reach_L32 (fu + 1) P X k w a b i = a := by rw [x_reach_L32, if_pos c35, if_pos c77]
        refine n_iret hC dX0_reach_86 (Nat.le_of_ble_eq_true rfl) (Nat.le_of_ble_eq_true rfl) ?_
        rw [eq_]
        exact ⟨rfl, rfl, rfl⟩
    · refine n_iload_n hC dX0_reach_38 rfl ?_
      refine n_aload_n hC dX0_reach_39 rfl ?_
      refine n_get hC cl0 (k := 1) (v := .ref (N0 + (sAd 0))) xc_o (x_lt hn) (by decide) q195 (xf_get N0 P X (by decide)) dX0_reach_40 ?_
      refine n_iload_n hC dX0_reach_43 rfl ?_
      refine n_top (cl k) hk1 ?_
      refine n_iload hC dX0_reach_44 rfl ?_
      refine n_callV1 hC (As := [.int (nI (cl k)), .int (nI i)]) (rest := [.int a]) (xc_so (by decide)) (s_lt0 hn (by decide)) rfl bX2_measure (t_x_measure l D N0 kA hs P X n hn (cl k) i (by omega) (by omega) hh) (by decide) (by decide) q455 rfl (Nat.le_of_ble_eq_true rfl) dX0_reach_46 (Nat.le_of_ble_eq_true rfl) (Nat.le_of_ble_eq_true rfl) ?_
      refine n_stk (st' := [.int (x_measure P X (cl k) i), .int a]) rfl ?_
      refine n_mmin hC q618 q397 q61 q398 (Nat.le_of_ble_eq_true rfl) (Nat.le_of_ble_eq_true rfl) (Nat.le_of_ble_eq_true rfl) (Nat.le_of_ble_eq_true rfl) dX0_reach_49 ?_
      refine n_istore_n (L' := [(0, .ref (N0 + 0)), (1, .int k), (2, .int w), (3, .int (if (x_measure P X (cl k) i) < a then (x_measure P X (cl k) i) else a)), (4, .int b), (5, .int (nI i))]) hC dX0_reach_52 (by decide) rfl ?_
      refine n_iload hC dX0_reach_53 rfl ?_
      refine n_aload_n hC dX0_reach_55 rfl ?_
      refine n_get hC cl0 (k := 1) (v := .ref (N0 + (sAd 0))) xc_o (x_lt hn) (by decide) q195 (xf_get N0 P X (by decide)) dX0_reach_56 ?_
      refine n_iload_n hC dX0_reach_59 rfl ?_
      refine n_top (cl k) hk1 ?_
      refine n_iload hC dX0_reach_60 rfl ?_
      refine n_callV1 hC (As := [.int (nI (cl k)), .int (nI i)]) (rest := [.int b]) (xc_so (by decide)) (s_lt0 hn (by decide)) rfl bX2_measure (t_x_measure l D N0 kA hs P X n hn (cl k) i (by omega) (by omega) hh) (by decide) (by decide) q455 rfl (Nat.le_of_ble_eq_true rfl) dX0_reach_62 (Nat.le_of_ble_eq_true rfl) (Nat.le_of_ble_eq_true rfl) ?_
      refine n_stk (st' := [.int (x_measure P X (cl k) i), .int b]) rfl ?_
      refine n_mmax hC q592 q468 q61 q469 (Nat.le_of_ble_eq_true rfl) (Nat.le_of_ble_eq_true rfl) (Nat.le_of_ble_eq_true rfl) (Nat.le_of_ble_eq_true rfl) dX0_reach_65 ?_
      refine n_istore (L' := [(0, .ref (N0 + 0)), (1, .int k), (2, .int w), (3, .int (if (x_measure P X (cl k) i) < a then (x_measure P X (cl k) i) else a)), (4, .int (if b < (x_measure P X (cl k) i) then (x_measure P X (cl k) i) else b)), (5, .int (nI i))]) hC dX0_reach_68 (by decide) rfl ?_
      refine n_iincN (a := i) (L' := [(0, .ref (N0 + 0)), (1, .int k), (2, .int w), (3, .int (if (x_measure P X (cl k) i) < a then (x_measure P X (cl k) i) else a)), (4, .int (if b < (x_measure P X (cl k) i) then (x_measure P X (cl k) i) else b)), (5, .int (nI (i + 1)))]) hC dX0_reach_70 rfl (by decide) rfl ?_
      refine n_goto (tgt := 32) hC dX0_reach_73 (by decide) ?_
      rw [show x_reach_L32 (fu + 1) P X k w a b i = x_reach_L32 fu P X k w (if (x_measure P X (cl k) i) < a then (x_measure P X (cl k) i) else a) (if b < (x_measure P X (cl k) i) then (x_measure P X (cl k) i) else b) (i + 1) from by rw [x_reach_L32, if_neg (Nat.not_le.mpr c35)]]
      exact ih (if (x_measure P X (cl k) i) < a then (x_measure P X (cl k) i) else a) (if b < (x_measure P X (cl k) i) then (x_measure P X (cl k) i) else b) (i + 1) hk1 hk2 (by omega) (by omega)
set_option maxRecDepth 100000 in
set_option maxHeartbeats 4000000 in
theorem t_x_reach (l : Launch) (D : va_G) (N0 : Nat) (kA : Nat → ClassId) (hs : hT) (P : PS) (X : XS) (n : Nat) (hn : xOk P n) (k : Int32) (w : Int32) (hh : xHe P) : nE l yX0_reach cX0_reach 6 (some .int) D N0 kA 3 0 0 [.ref (N0 + 0), .int k, .int w] (xH N0 kA hs P X) n (nX (some (.int (x_reach P X k w))) (xH N0 kA hs P X) n) := by
  refine nE_of (by decide) (Nat.le_of_ble_eq_true rfl) ?_
  intro p e s m args below meth c hC hnm
  refine n_loc (L' := [(0, .ref (N0 + 0)), (1, .int k), (2, .int w)]) rfl ?_
  have hm6 := pN_le hn
  refine n_aload_n hC dX0_reach_0 rfl ?_
  refine n_iload_n hC dX0_reach_1 rfl ?_
  refine n_callV1 hC (As := [.int k]) (rest := []) xc_o (x_lt hn) rfl bX0_isLimb (t_x_isLimb l D N0 kA hs P X n hn k ) (by decide) (by decide) q446 rfl (Nat.le_of_ble_eq_true rfl) dX0_reach_2 (Nat.le_of_ble_eq_true rfl) (Nat.le_of_ble_eq_true rfl) ?_
  refine n_stk (st' := [.int (bI (x_isLimb P X k))]) rfl ?_
  refine n_if_neB (tgt := 11) hC dX0_reach_5 (by decide) (fun c5 => ?_) (fun c5 => ?_)
  · have hk0 := (xin_nat (k := k) (by omega)).mp c5
    have hk1 := nI_cl hk0.1
    have hk2 := hk0.2
    refine n_iload_n hC dX0_reach_11 rfl ?_
    refine n_iconst (v := (nI 0)) hC dX0_reach_12 (by decide) ?_
    refine n_iconst (v := (nI 1)) hC dX0_reach_13 (by decide) ?_
    refine n_callS1 hC (As := [.int w, .int (nI 0), .int (nI 1)]) (rest := []) bX0_isIn (t_x_isIn l D N0 kA (xH N0 kA hs P X) n w (nI 0) (nI 1) ) (by decide) (by decide) q269 rfl (Nat.le_of_ble_eq_true rfl) dX0_reach_14 (Nat.le_of_ble_eq_true rfl) (Nat.le_of_ble_eq_true rfl) ?_
    refine n_stk (st' := [.int (bI (x_isIn w (nI 0) (nI 1)))]) rfl ?_
    refine n_if_neB (tgt := 23) hC dX0_reach_17 (by decide) (fun c17 => ?_) (fun c17 => ?_)
    · refine n_ldc hC dX0_reach_23 q570 ?_
      refine n_top 99999999 (by decide) ?_
      refine n_istore_n (L' := [(0, .ref (N0 + 0)), (1, .int k), (2, .int w), (3, .int (nI 99999999))]) hC dX0_reach_25 (by decide) rfl ?_
      refine n_iconst (v := (nI 0)) hC dX0_reach_26 (by decide) ?_
      refine n_istore (L' := [(0, .ref (N0 + 0)), (1, .int k), (2, .int w), (3, .int (nI 99999999)), (4, .int (nI 0))]) hC dX0_reach_27 (by decide) rfl ?_
      refine n_iconst (v := (nI 0)) hC dX0_reach_29 (by decide) ?_
      refine n_istore (L' := [(0, .ref (N0 + 0)), (1, .int k), (2, .int w), (3, .int (nI 99999999)), (4, .int (nI 0)), (5, .int (nI 0))]) hC dX0_reach_30 (by decide) rfl ?_
      rw [show x_reach P X k w = x_reach_L32 5 P X k w (nI 99999999) (nI 0) 0 from by rw [x_reach, if_pos c5, if_pos c17]]
      exact t_x_reach_L32 hn hC hh 5 (nI 99999999) (nI 0) 0 hk1 hk2 (by omega) (by omega)
    · refine n_ldc hC dX0_reach_20 q272 ?_
      have eq_ : x_reach P X k w = (-1000000002) := by rw [x_reach, if_pos c5, if_neg (by rw [c17]; decide)]
      refine n_iret hC dX0_reach_22 (Nat.le_of_ble_eq_true rfl) (Nat.le_of_ble_eq_true rfl) ?_
      rw [eq_]
      exact ⟨rfl, rfl, rfl⟩
  · refine n_ldc hC dX0_reach_8 q450 ?_
    have eq_ : x_reach P X k w = (-1000000001) := by rw [x_reach, if_neg (by rw [c5]; decide)]
    refine n_iret hC dX0_reach_10 (Nat.le_of_ble_eq_true rfl) (Nat.le_of_ble_eq_true rfl) ?_
    rw [eq_]
    exact ⟨rfl, rfl, rfl⟩
noncomputable def x_bestCopy_L58 : Nat → PS → XS → Int32 → Int32 → Int32 → Int32 → Nat → Int32 → Nat → Int32
  | 0, _, _, _, _, _, _, _, _, _ => 0
  | fu + 1, P, X, k, w, a, b, i, r, j => (if 4 ≤ j then r else x_bestCopy_L58 fu P X k w a b i (r + (if 0 ≤ ((x_own P X (cl k) i) - (x_own P X (cl k) j)) then ((x_own P X (cl k) i) - (x_own P X (cl k) j)) else 0 - ((x_own P X (cl k) i) - (x_own P X (cl k) j)))) (j + 1))
noncomputable def x_bestCopy_L32 : Nat → PS → XS → Int32 → Int32 → Int32 → Int32 → Nat → Int32
  | 0, _, _, _, _, _, _, _ => 0
  | fu + 1, P, X, k, w, a, b, i => (if 4 ≤ i then (if a = (-1) then a else (if w = 0 then a else b)) else (if (x_has (sI X 0 3) (cl k)) = true then (if b ≤ (x_bestCopy_L58 5 P X k w a b i (nI 0) 0) then x_bestCopy_L32 fu P X k w a (if (x_bestCopy_L58 5 P X k w a b i (nI 0) 0) < b then (x_bestCopy_L58 5 P X k w a b i (nI 0) 0) else b) (i + 1) else x_bestCopy_L32 fu P X k w (nI i) (if (x_bestCopy_L58 5 P X k w a b i (nI 0) 0) < b then (x_bestCopy_L58 5 P X k w a b i (nI 0) 0) else b) (i + 1)) else (if a = (-1) then a else (if w = 0 then a else b))))
noncomputable def x_bestCopy (P : PS) (X : XS) (k : Int32) (w : Int32) : Int32 := (if (x_isLimb P X k) = true then (if (x_isIn w (nI 0) (nI 1)) = true then x_bestCopy_L32 5 P X k w (-1) (nI 99999999) 0 else (-1000000002)) else (-1000000001))
theorem bX0_bestCopy : nBV RX0 yX0_bestCopy cX0_bestCopy 8 (some .int) 2 := ⟨q620, q621, q51, q622, by decide, by decide +kernel⟩
set_option maxRecDepth 100000 in
set_option maxHeartbeats 4000000 in
theorem t_x_bestCopy_L58 {p : Program} {l : Launch} {e : Env} {s : State} {m : MethodId} {args : Array Value} {below : List Frame} {meth : Method} {c : Code} {Q : State → Prop} {D : va_G} {N0 : Nat} {kA : Nat → ClassId} {hs : hT} {P : PS} {X : XS} {n : Nat} (hn : xOk P n) {k : Int32} {w : Int32} (hC : nC p s m args meth c RX0 cX0_bestCopy 8 (some .int) true D N0 kA)  : ∀ (fu : Nat) (a : Int32) (b : Int32) (i : Nat) (r : Int32) (j : Nat) (hk1 : k = nI (cl k)) (hk2 : cl k < pN P 1) (hi : i < 4) (hj : j ≤ 4) (hf : 4 < j + fu) (hK : nW p l e (nRm 2 0 0) s m args below meth c Q D N0 8 99 [(0, .ref (N0 + 0)), (1, .int k), (2, .int w), (3, .int a), (4, .int b), (5, .int (nI i)), (6, .int (x_bestCopy_L58 fu P X k w a b i r j))] [] (xH N0 kA hs P X) n 0 0), nW p l e (nRm 2 0 0) s m args below meth c Q D N0 8 58 [(0, .ref (N0 + 0)), (1, .int k), (2, .int w), (3, .int a), (4, .int b), (5, .int (nI i)), (6, .int r), (7, .int (nI j))] [] (xH N0 kA hs P X) n 0 0 := by
  intro fu
  induction fu with
  | zero =>
    intro a b i r j hk1 hk2 hi hj hf hK
    exfalso; omega
  | succ fu ih =>
    intro a b i r j hk1 hk2 hi hj hf hK
    have hm6 := pN_le hn
    refine n_iload hC dX0_bestCopy_58 rfl ?_
    refine n_iconst (v := (nI 4)) hC dX0_bestCopy_60 (by decide) ?_
    refine n_icmp_geN (tgt := 99) hC j 4 rfl rfl (by omega) (by omega) dX0_bestCopy_61 (by decide) (fun c61 => ?_) (fun c61 => ?_)
    · refine n_drop [0, 1, 2, 3, 4, 5, 6] (L' := [(0, .ref (N0 + 0)), (1, .int k), (2, .int w), (3, .int a), (4, .int b), (5, .int (nI i)), (6, .int r)]) rfl ?_
      rw [x_bestCopy_L58, if_pos c61] at hK
      exact hK
    · refine n_iload hC dX0_bestCopy_64 rfl ?_
      refine n_aload_n hC dX0_bestCopy_66 rfl ?_
      refine n_get hC cl0 (k := 1) (v := .ref (N0 + (sAd 0))) xc_o (x_lt hn) (by decide) q195 (xf_get N0 P X (by decide)) dX0_bestCopy_67 ?_
      refine n_iload_n hC dX0_bestCopy_70 rfl ?_
      refine n_top (cl k) hk1 ?_
      refine n_iload hC dX0_bestCopy_71 rfl ?_
      refine n_callV1 hC (As := [.int (nI (cl k)), .int (nI i)]) (rest := [.int r]) (xc_so (by decide)) (s_lt0 hn (by decide)) rfl bX2_own (t_x_own l D N0 kA hs P X n hn (cl k) i (by omega) (by omega)) (by decide) (by decide) q533 rfl (Nat.le_of_ble_eq_true rfl) dX0_bestCopy_73 (Nat.le_of_ble_eq_true rfl) (Nat.le_of_ble_eq_true rfl) ?_
      refine n_stk (st' := [.int (x_own P X (cl k) i), .int r]) rfl ?_
      refine n_aload_n hC dX0_bestCopy_76 rfl ?_
      refine n_get hC cl0 (k := 1) (v := .ref (N0 + (sAd 0))) xc_o (x_lt hn) (by decide) q195 (xf_get N0 P X (by decide)) dX0_bestCopy_77 ?_
      refine n_iload_n hC dX0_bestCopy_80 rfl ?_
      refine n_top (cl k) hk1 ?_
      refine n_iload hC dX0_bestCopy_81 rfl ?_
      refine n_callV1 hC (As := [.int (nI (cl k)), .int (nI j)]) (rest := [.int (x_own P X (cl k) i), .int r]) (xc_so (by decide)) (s_lt0 hn (by decide)) rfl bX2_own (t_x_own l D N0 kA hs P X n hn (cl k) j (by omega) (by omega)) (by decide) (by decide) q533 rfl (Nat.le_of_ble_eq_true rfl) dX0_bestCopy_83 (Nat.le_of_ble_eq_true rfl) (Nat.le_of_ble_eq_true rfl) ?_
      refine n_stk (st' := [.int (x_own P X (cl k) j), .int (x_own P X (cl k) i), .int r]) rfl ?_
      refine n_isub hC dX0_bestCopy_86 ?_
      refine n_mabs hC q611 q612 q61 q613 (Nat.le_of_ble_eq_true rfl) (Nat.le_of_ble_eq_true rfl) (Nat.le_of_ble_eq_true rfl) (Nat.le_of_ble_eq_true rfl) dX0_bestCopy_87 ?_
      refine n_iadd hC dX0_bestCopy_90 ?_
      refine n_istore (L' := [(0, .ref (N0 + 0)), (1, .int k), (2, .int w), (3, .int a), (4, .int b), (5, .int (nI i)), (6, .int (r + (if 0 ≤ ((x_own P X (cl k) i) - (x_own P X (cl k) j)) then ((x_own P X (cl k) i) - (x_own P X (cl k) j)) else 0 - ((x_own P X (cl k) i) - (x_own P X (cl k) j))))), (7, .int (nI j))]) hC dX0_bestCopy_91 (by decide) rfl ?_
      refine n_iincN (a := j) (L' := [(0, .ref (N0 + 0)), (1, .int k), (2, .int w), (3, .int a), (4, .int b), (5, .int (nI i)), (6, .int (r + (if 0 ≤ ((x_own P X (cl k) i) - (x_own P X (cl k) j)) then ((x_own P X (cl k) i) - (x_own P X (cl k) j)) else 0 - ((x_own P X (cl k) i) - (x_own P X (cl k) j))))), (7, .int (nI (j + 1)))]) hC dX0_bestCopy_93 rfl (by decide) rfl ?_
      refine n_goto (tgt := 58) hC dX0_bestCopy_96 (by decide) ?_
      rw [x_bestCopy_L58, if_neg (Nat.not_le.mpr c61)] at hK
      exact ih a b i (r + (if 0 ≤ ((x_own P X (cl k) i) - (x_own P X (cl k) j)) then ((x_own P X (cl k) i) - (x_own P X (cl k) j)) else 0 - ((x_own P X (cl k) i) - (x_own P X (cl k) j)))) (j + 1) hk1 hk2 (by omega) (by omega) (by omega) hK
set_option maxRecDepth 100000 in
set_option maxHeartbeats 4000000 in
theorem t_x_bestCopy_L32 {p : Program} {l : Launch} {e : Env} {s : State} {m : MethodId} {args : Array Value} {below : List Frame} {meth : Method} {c : Code} {D : va_G} {N0 : Nat} {kA : Nat → ClassId} {hs : hT} {P : PS} {X : XS} {n : Nat} (hn : xOk P n) {k : Int32} {w : Int32} (hC : nC p s m args meth c RX0 cX0_bestCopy 8 (some .int) true D N0 kA)  : ∀ (fu : Nat) (a : Int32) (b : Int32) (i : Nat) (hk1 : k = nI (cl k)) (hk2 : cl k < pN P 1) (hi : i ≤ 4) (hf : 4 < i + fu), nW p l e (nRm 2 0 0) s m args below meth c (nQ below (nX (some (.int (x_bestCopy_L32 fu P X k w a b i))) (xH N0 kA hs P X) n) D N0 s 0 0) D N0 8 32 [(0, .ref (N0 + 0)), (1, .int k), (2, .int w), (3, .int a), (4, .int b), (5, .int (nI i))] [] (xH N0 kA hs P X) n 0 0 := by
  intro fu
  induction fu with
  | zero =>
    intro a b i hk1 hk2 hi hf
    exfalso; omega
  | succ fu ih =>
    intro a b i hk1 hk2 hi hf
    have hm6 := pN_le hn
    refine n_iload hC dX0_bestCopy_32 rfl ?_
    refine n_iconst (v := (nI 4)) hC dX0_bestCopy_34 (by decide) ?_
    refine n_icmp_geN (tgt := 128) hC i 4 rfl rfl (by omega) (by omega) dX0_bestCopy_35 (by decide) (fun c35 => ?_) (fun c35 => ?_)
    · refine n_iload_n hC dX0_bestCopy_128 rfl ?_
      refine n_iconst (v := (-1)) hC dX0_bestCopy_129 (by decide) ?_
      refine n_icmp_eq (tgt := 137) hC dX0_bestCopy_130 (by decide) (fun c130 => ?_) (fun c130 => ?_)
      · refine n_iload_n hC dX0_bestCopy_137 rfl ?_
        refine n_goto (tgt := 143) hC dX0_bestCopy_138 (by decide) ?_
        have eq_ : x_bestCopy_L32 (fu + 1) P X k w a b i = a := by rw [x_bestCopy_L32, if_pos c35, if_pos c130]
        refine n_iret hC dX0_bestCopy_143 (Nat.le_of_ble_eq_true rfl) (Nat.le_of_ble_eq_true rfl) ?_
        rw [eq_]
        exact ⟨rfl, rfl, rfl⟩
      · refine n_iload_n hC dX0_bestCopy_133 rfl ?_
        refine n_if_ne (tgt := 141) hC dX0_bestCopy_134 (by decide) (fun c134 => ?_) (fun c134 => ?_)
        · refine n_iload hC dX0_bestCopy_141 rfl ?_
          have eq_ : x_bestCopy_L32 (fu + 1) P X k w a b i = b := by rw [x_bestCopy_L32, if_pos c35, if_neg c130, if_neg c134]
          refine n_iret hC dX0_bestCopy_143 (Nat.le_of_ble_eq_true rfl) (Nat.le_of_ble_eq_true rfl) ?_
          rw [eq_]
          exact ⟨rfl, rfl, rfl⟩
        · refine n_iload_n hC dX0_bestCopy_137 rfl ?_
          refine n_goto (tgt := 143) hC dX0_bestCopy_138 (by decide) ?_
          have eq_ : x_bestCopy_L32 (fu + 1) P X k w a b i = a := by rw [x_bestCopy_L32, if_pos c35, if_neg c130, if_pos c134]
          refine n_iret hC dX0_bestCopy_143 (Nat.le_of_ble_eq_true rfl) (Nat.le_of_ble_eq_true rfl) ?_
          rw [eq_]
          exact ⟨rfl, rfl, rfl⟩
    · refine n_aload_n hC dX0_bestCopy_38 rfl ?_
      refine n_get hC cl0 (k := 1) (v := .ref (N0 + (sAd 0))) xc_o (x_lt hn) (by decide) q195 (xf_get N0 P X (by decide)) dX0_bestCopy_39 ?_
      refine n_getN hC cl2 (k := 3) (v := .int (sI X 0 3)) (xc_so (by decide)) (s_lt0 hn (by decide)) (by decide) q153 (sf_get N0 X 0 (by decide)) dX0_bestCopy_42 ?_
      refine n_iload_n hC dX0_bestCopy_45 rfl ?_
      refine n_top (cl k) hk1 ?_
      refine n_callS1 hC (As := [.int (sI X 0 3), .int (nI (cl k))]) (rest := []) bX0_has (t_x_has l D N0 kA (xH N0 kA hs P X) n (sI X 0 3) (cl k) ) (by decide) (by decide) q511 rfl (Nat.le_of_ble_eq_true rfl) dX0_bestCopy_46 (Nat.le_of_ble_eq_true rfl) (Nat.le_of_ble_eq_true rfl) ?_
      refine n_stk (st' := [.int (bI (x_has (sI X 0 3) (cl k)))]) rfl ?_
      refine n_if_eqB (tgt := 128) hC dX0_bestCopy_49 (by decide) (fun c49 => ?_) (fun c49 => ?_)
      · refine n_iload_n hC dX0_bestCopy_128 rfl ?_
        refine n_iconst (v := (-1)) hC dX0_bestCopy_129 (by decide) ?_
        refine n_icmp_eq (tgt := 137) hC dX0_bestCopy_130 (by decide) (fun c130 => ?_) (fun c130 => ?_)
        · refine n_iload_n hC dX0_bestCopy_137 rfl ?_
          refine n_goto (tgt := 143) hC dX0_bestCopy_138 (by decide) ?_
          have eq_ : x_bestCopy_L32 (fu + 1) P X k w a b i = a := by rw [x_bestCopy_L32, if_neg (Nat.not_le.mpr c35), if_neg (by rw [c49]; decide), if_pos c130]
          refine n_iret hC dX0_bestCopy_143 (Nat.le_of_ble_eq_true rfl) (Nat.le_of_ble_eq_true rfl) ?_
          rw [eq_]
          exact ⟨rfl, rfl, rfl⟩
        · refine n_iload_n hC dX0_bestCopy_133 rfl ?_
          refine n_if_ne (tgt := 141) hC dX0_bestCopy_134 (by decide) (fun c134 => ?_) (fun c134 => ?_)
          · refine n_iload hC dX0_bestCopy_141 rfl ?_
            have eq_ : x_bestCopy_L32 (fu + 1) P X k w a b i = b := by rw [x_bestCopy_L32, if_neg (Nat.not_le.mpr c35), if_neg (by rw [c49]; decide), if_neg c130, if_neg c134]
            refine n_iret hC dX0_bestCopy_143 (Nat.le_of_ble_eq_true rfl) (Nat.le_of_ble_eq_true rfl) ?_
            rw [eq_]
            exact ⟨rfl, rfl, rfl⟩
          · refine n_iload_n hC dX0_bestCopy_137 rfl ?_
            refine n_goto (tgt := 143) hC dX0_bestCopy_138 (by decide) ?_
            have eq_ : x_bestCopy_L32 (fu + 1) P X k w a b i = a := by rw [x_bestCopy_L32, if_neg (Nat.not_le.mpr c35), if_neg (by rw [c49]; decide), if_neg c130, if_pos c134]
            refine n_iret hC dX0_bestCopy_143 (Nat.le_of_ble_eq_true rfl) (Nat.le_of_ble_eq_true rfl) ?_
            rw [eq_]
            exact ⟨rfl, rfl, rfl⟩
      · refine n_iconst (v := (nI 0)) hC dX0_bestCopy_52 (by decide) ?_
        refine n_istore (L' := [(0, .ref (N0 + 0)), (1, .int k), (2, .int w), (3, .int a), (4, .int b), (5, .int (nI i)), (6, .int (nI 0))]) hC dX0_bestCopy_53 (by decide) rfl ?_
        refine n_iconst (v := (nI 0)) hC dX0_bestCopy_55 (by decide) ?_
        refine n_istore (L' := [(0, .ref (N0 + 0)), (1, .int k), (2, .int w), (3, .int a), (4, .int b), (5, .int (nI i)), (6, .int (nI 0)), (7, .int (nI 0))]) hC dX0_bestCopy_56 (by decide) rfl ?_
        refine t_x_bestCopy_L58 hn hC  5 a b i (nI 0) 0 hk1 hk2 (by omega) (by omega) (by omega) ?_
        refine n_iload hC dX0_bestCopy_99 rfl ?_
        refine n_iload hC dX0_bestCopy_101 rfl ?_
        refine n_icmp_ge (tgt := 111) hC dX0_bestCopy_103 (by decide) (fun c103 => ?_) (fun c103 => ?_)
        · refine n_iload_n hC dX0_bestCopy_111 rfl ?_
          refine n_istore_n (L' := [(0, .ref (N0 + 0)), (1, .int k), (2, .int w), (3, .int a), (4, .int b), (5, .int (nI i)), (6, .int (x_bestCopy_L58 5 P X k w a b i (nI 0) 0))]) hC dX0_bestCopy_112 (by decide) rfl ?_
          refine n_iload hC dX0_bestCopy_113 rfl ?_
          refine n_iload hC dX0_bestCopy_115 rfl ?_
          refine n_mmin hC q618 q397 q61 q398 (Nat.le_of_ble_eq_true rfl) (Nat.le_of_ble_eq_true rfl) (Nat.le_of_ble_eq_true rfl) (Nat.le_of_ble_eq_true rfl) dX0_bestCopy_117 ?_
          refine n_istore (L' := [(0, .ref (N0 + 0)), (1, .int k), (2, .int w), (3, .int a), (4, .int (if (x_bestCopy_L58 5 P X k w a b i (nI 0) 0) < b then (x_bestCopy_L58 5 P X k w a b i (nI 0) 0) else b)), (5, .int (nI i)), (6, .int (x_bestCopy_L58 5 P X k w a b i (nI 0) 0))]) hC dX0_bestCopy_120 (by decide) rfl ?_
          refine n_iincN (a := i) (L' := [(0, .ref (N0 + 0)), (1, .int k), (2, .int w), (3, .int a), (4, .int (if (x_bestCopy_L58 5 P X k w a b i (nI 0) 0) < b then (x_bestCopy_L58 5 P X k w a b i (nI 0) 0) else b)), (5, .int (nI (i + 1))), (6, .int (x_bestCopy_L58 5 P X k w a b i (nI 0) 0))]) hC dX0_bestCopy_122 rfl (by decide) rfl ?_
          refine n_goto (tgt := 32) hC dX0_bestCopy_125 (by decide) ?_
          refine n_drop [0, 1, 2, 3, 4, 5] (L' := [(0, .ref (N0 + 0)), (1, .int k), (2, .int w), (3, .int a), (4, .int (if (x_bestCopy_L58 5 P X k w a b i (nI 0) 0) < b then (x_bestCopy_L58 5 P X k w a b i (nI 0) 0) else b)), (5, .int (nI (i + 1)))]) rfl ?_
          rw [show x_bestCopy_L32 (fu + 1) P X k w a b i = x_bestCopy_L32 fu P X k w a (if (x_bestCopy_L58 5 P X k w a b i (nI 0) 0) < b then (x_bestCopy_L58 5 P X k w a b i (nI 0) 0) else b) (i + 1) from by rw [x_bestCopy_L32, if_neg (Nat.not_le.mpr c35), if_pos c49, if_pos c103]]
          exact ih a (if (x_bestCopy_L58 5 P X k w a b i (nI 0) 0) < b then (x_bestCopy_L58 5 P X k w a b i (nI 0) 0) else b) (i + 1) hk1 hk2 (by omega) (by omega)
        · refine n_iload hC dX0_bestCopy_106 rfl ?_
          refine n_goto (tgt := 112) hC dX0_bestCopy_108 (by decide) ?_
          refine n_istore_n (L' := [(0, .ref (N0 + 0)), (1, .int k), (2, .int w), (3, .int (nI i)), (4, .int b), (5, .int (nI i)), (6, .int (x_bestCopy_L58 5 P X k w a b i (nI 0) 0))]) hC dX0_bestCopy_112 (by decide) rfl ?_
          refine n_iload hC dX0_bestCopy_113 rfl ?_
          refine n_iload hC dX0_bestCopy_115 rfl ?_
          refine n_mmin hC q618 q397 q61 q398 (Nat.le_of_ble_eq_true rfl) (Nat.le_of_ble_eq_true rfl) (Nat.le_of_ble_eq_true rfl) (Nat.le_of_ble_eq_true rfl) dX0_bestCopy_117 ?_
          refine n_istore (L' := [(0, .ref (N0 + 0)), (1, .int k), (2, .int w), (3, .int (nI i)), (4, .int (if (x_bestCopy_L58 5 P X k w a b i (nI 0) 0) < b then (x_bestCopy_L58 5 P X k w a b i (nI 0) 0) else b)), (5, .int (nI i)), (6, .int (x_bestCopy_L58 5 P X k w a b i (nI 0) 0))]) hC dX0_bestCopy_120 (by decide) rfl ?_
          refine n_iincN (a := i) (L' := [(0, .ref (N0 + 0)), (1, .int k), (2, .int w), (3, .int (nI i)), (4, .int (if (x_bestCopy_L58 5 P X k w a b i (nI 0) 0) < b then (x_bestCopy_L58 5 P X k w a b i (nI 0) 0) else b)), (5, .int (nI (i + 1))), (6, .int (x_bestCopy_L58 5 P X k w a b i (nI 0) 0))]) hC dX0_bestCopy_122 rfl (by decide) rfl ?_
          refine n_goto (tgt := 32) hC dX0_bestCopy_125 (by decide) ?_
          refine n_drop [0, 1, 2, 3, 4, 5] (L' := [(0, .ref (N0 + 0)), (1, .int k), (2, .int w), (3, .int (nI i)), (4, .int (if (x_bestCopy_L58 5 P X k w a b i (nI 0) 0) < b then (x_bestCopy_L58 5 P X k w a b i (nI 0) 0) else b)), (5, .int (nI (i + 1)))]) rfl ?_
          rw [show x_bestCopy_L32 (fu + 1) P X k w a b i = x_bestCopy_L32 fu P X k w (nI i) (if (x_bestCopy_L58 5 P X k w a b i (nI 0) 0) < b then (x_bestCopy_L58 5 P X k w a b i (nI 0) 0) else b) (i + 1) from by rw [x_bestCopy_L32, if_neg (Nat.not_le.mpr c35), if_pos c49, if_neg c103]]
          exact ih (nI i) (if (x_bestCopy_L58 5 P X k w a b i (nI 0) 0) < b then (x_bestCopy_L58 5 P X k w a b i (nI 0) 0) else b) (i + 1) hk1 hk2 (by omega) (by omega)
set_option maxRecDepth 100000 in
set_option maxHeartbeats 4000000 in
theorem t_x_bestCopy (l : Launch) (D : va_G) (N0 : Nat) (kA : Nat → ClassId) (hs : hT) (P : PS) (X : XS) (n : Nat) (hn : xOk P n) (k : Int32) (w : Int32)  : nE l yX0_bestCopy cX0_bestCopy 8 (some .int) D N0 kA 2 0 0 [.ref (N0 + 0), .int k, .int w] (xH N0 kA hs P X) n (nX (some (.int (x_bestCopy P X k w))) (xH N0 kA hs P X) n) := by
  refine nE_of (by decide) (Nat.le_of_ble_eq_true rfl) ?_
  intro p e s m args below meth c hC hnm
  refine n_loc (L' := [(0, .ref (N0 + 0)), (1, .int k), (2, .int w)]) rfl ?_
  have hm6 := pN_le hn
  refine n_aload_n hC dX0_bestCopy_0 rfl ?_
  refine n_iload_n hC dX0_bestCopy_1 rfl ?_
  refine n_callV1 hC (As := [.int k]) (rest := []) xc_o (x_lt hn) rfl bX0_isLimb (t_x_isLimb l D N0 kA hs P X n hn k ) (by decide) (by decide) q446 rfl (Nat.le_of_ble_eq_true rfl) dX0_bestCopy_2 (Nat.le_of_ble_eq_true rfl) (Nat.le_of_ble_eq_true rfl) ?_
  refine n_stk (st' := [.int (bI (x_isLimb P X k))]) rfl ?_
  refine n_if_neB (tgt := 11) hC dX0_bestCopy_5 (by decide) (fun c5 => ?_) (fun c5 => ?_)
  · have hk0 := (xin_nat (k := k) (by omega)).mp c5
    have hk1 := nI_cl hk0.1
    have hk2 := hk0.2
    refine n_iload_n hC dX0_bestCopy_11 rfl ?_
    refine n_iconst (v := (nI 0)) hC dX0_bestCopy_12 (by decide) ?_
    refine n_iconst (v := (nI 1)) hC dX0_bestCopy_13 (by decide) ?_
    refine n_callS1 hC (As := [.int w, .int (nI 0), .int (nI 1)]) (rest := []) bX0_isIn (t_x_isIn l D N0 kA (xH N0 kA hs P X) n w (nI 0) (nI 1) ) (by decide) (by decide) q269 rfl (Nat.le_of_ble_eq_true rfl) dX0_bestCopy_14 (Nat.le_of_ble_eq_true rfl) (Nat.le_of_ble_eq_true rfl) ?_
    refine n_stk (st' := [.int (bI (x_isIn w (nI 0) (nI 1)))]) rfl ?_
    refine n_if_neB (tgt := 23) hC dX0_bestCopy_17 (by decide) (fun c17 => ?_) (fun c17 => ?_)
    · refine n_iconst (v := (-1)) hC dX0_bestCopy_23 (by decide) ?_
      refine n_istore_n (L' := [(0, .ref (N0 + 0)), (1, .int k), (2, .int w), (3, .int (-1))]) hC dX0_bestCopy_24 (by decide) rfl ?_
      refine n_ldc hC dX0_bestCopy_25 q570 ?_
      refine n_top 99999999 (by decide) ?_
      refine n_istore (L' := [(0, .ref (N0 + 0)), (1, .int k), (2, .int w), (3, .int (-1)), (4, .int (nI 99999999))]) hC dX0_bestCopy_27 (by decide) rfl ?_
      refine n_iconst (v := (nI 0)) hC dX0_bestCopy_29 (by decide) ?_
      refine n_istore (L' := [(0, .ref (N0 + 0)), (1, .int k), (2, .int w), (3, .int (-1)), (4, .int (nI 99999999)), (5, .int (nI 0))]) hC dX0_bestCopy_30 (by decide) rfl ?_
      rw [show x_bestCopy P X k w = x_bestCopy_L32 5 P X k w (-1) (nI 99999999) 0 from by rw [x_bestCopy, if_pos c5, if_pos c17]]
      exact t_x_bestCopy_L32 hn hC  5 (-1) (nI 99999999) 0 hk1 hk2 (by omega) (by omega)
    · refine n_ldc hC dX0_bestCopy_20 q272 ?_
      have eq_ : x_bestCopy P X k w = (-1000000002) := by rw [x_bestCopy, if_pos c5, if_neg (by rw [c17]; decide)]
      refine n_iret hC dX0_bestCopy_22 (Nat.le_of_ble_eq_true rfl) (Nat.le_of_ble_eq_true rfl) ?_
      rw [eq_]
      exact ⟨rfl, rfl, rfl⟩
  · refine n_ldc hC dX0_bestCopy_8 q450 ?_
    have eq_ : x_bestCopy P X k w = (-1000000001) := by rw [x_bestCopy, if_neg (by rw [c5]; decide)]
    refine n_iret hC dX0_bestCopy_10 (Nat.le_of_ble_eq_true rfl) (Nat.le_of_ble_eq_true rfl) ?_
    rw [eq_]
    exact ⟨rfl, rfl, rfl⟩
noncomputable def x_nearest_L22 : Nat → PS → XS → Int32 → Int32 → Int32 → Nat → Int32
  | 0, _, _, _, _, _, _ => 0
  | fu + 1, P, X, v, b, w, k => (if (pN P 1) ≤ k then b else (if w ≤ (if 0 ≤ ((x_measure P X k (sN X 0)) - v) then ((x_measure P X k (sN X 0)) - v) else 0 - ((x_measure P X k (sN X 0)) - v)) then x_nearest_L22 fu P X v b (if (if 0 ≤ ((x_measure P X k (sN X 0)) - v) then ((x_measure P X k (sN X 0)) - v) else 0 - ((x_measure P X k (sN X 0)) - v)) < w then (if 0 ≤ ((x_measure P X k (sN X 0)) - v) then ((x_measure P X k (sN X 0)) - v) else 0 - ((x_measure P X k (sN X 0)) - v)) else w) (k + 1) else x_nearest_L22 fu P X v (nI k) (if (if 0 ≤ ((x_measure P X k (sN X 0)) - v) then ((x_measure P X k (sN X 0)) - v) else 0 - ((x_measure P X k (sN X 0)) - v)) < w then (if 0 ≤ ((x_measure P X k (sN X 0)) - v) then ((x_measure P X k (sN X 0)) - v) else 0 - ((x_measure P X k (sN X 0)) - v)) else w) (k + 1)))
noncomputable def x_nearest (P : PS) (X : XS) (v : Int32) : Int32 := (if (x_isIn v (nI 0) (nI 999)) = true then x_nearest_L22 (pN P 1 + 1) P X v (-1) (nI 99999999) 0 else (-1000000002))
theorem bX0_nearest : nBV RX0 yX0_nearest cX0_nearest 6 (some .int) 1 := ⟨q624, q625, q51, q626, by decide, by decide +kernel⟩
set_option maxRecDepth 100000 in
set_option maxHeartbeats 4000000 in
theorem t_x_nearest_L22 {p : Program} {l : Launch} {e : Env} {s : State} {m : MethodId} {args : Array Value} {below : List Frame} {meth : Method} {c : Code} {D : va_G} {N0 : Nat} {kA : Nat → ClassId} {hs : hT} {P : PS} {X : XS} {n : Nat} (hn : xOk P n) {v : Int32} (hC : nC p s m args meth c RX0 cX0_nearest 6 (some .int) true D N0 kA) (hh : xHe P) (hS : sN X 0 < 30000) : ∀ (fu : Nat) (b : Int32) (w : Int32) (k : Nat) (hk : k ≤ pN P 1) (hf : pN P 1 < k + fu), nW p l e (nRm 3 0 0) s m args below meth c (nQ below (nX (some (.int (x_nearest_L22 fu P X v b w k))) (xH N0 kA hs P X) n) D N0 s 0 0) D N0 6 22 [(0, .ref (N0 + 0)), (1, .int v), (2, .int b), (3, .int w), (4, .int (nI k))] [] (xH N0 kA hs P X) n 0 0 := by
  intro fu
  induction fu with
  | zero =>
    intro b w k hk hf
    exfalso; omega
  | succ fu ih =>
    intro b w k hk hf
    have hm6 := pN_le hn
    refine n_iload hC dX0_nearest_22 rfl ?_
    refine n_aload_n hC dX0_nearest_24 rfl ?_
    refine n_get hC cl0 (k := 0) (v := .ref (N0 + (pb P))) xc_o (x_lt hn) (by decide) q194 (xf_get N0 P X (by decide)) dX0_nearest_25 ?_
    refine n_getN hC cl1 (k := 1) (v := .int (nI (pN P 1))) (xc_po hn) (p_lt0 hn) (by decide) q86 (pf_get N0 P (by decide)) dX0_nearest_28 ?_
    refine n_icmp_geN (tgt := 83) hC k (pN P 1) rfl rfl (by omega) (by omega) dX0_nearest_31 (by decide) (fun c31 => ?_) (fun c31 => ?_)
    · refine n_iload_n hC dX0_nearest_83 rfl ?_
      have eq_ : x_nearest_L22 (fu + 1) P X v b w k = b := by rw [x_nearest_L22, if_pos c31]
      refine n_iret hC dX0_nearest_84 (Nat.le_of_ble_eq_true rfl) (Nat.le_of_ble_eq_true rfl) ?_
      rw [eq_]
      exact ⟨rfl, rfl, rfl⟩
    · refine n_aload_n hC dX0_nearest_34 rfl ?_
      refine n_get hC cl0 (k := 1) (v := .ref (N0 + (sAd 0))) xc_o (x_lt hn) (by decide) q195 (xf_get N0 P X (by decide)) dX0_nearest_35 ?_
      refine n_iload hC dX0_nearest_38 rfl ?_
      refine n_aload_n hC dX0_nearest_40 rfl ?_
      refine n_get hC cl0 (k := 1) (v := .ref (N0 + (sAd 0))) xc_o (x_lt hn) (by decide) q195 (xf_get N0 P X (by decide)) dX0_nearest_41 ?_
      refine n_getN hC cl2 (k := 5) (v := .int (nI (sN X 0))) (xc_so (by decide)) (s_lt0 hn (by decide)) (by decide) q157 (sf_get N0 X 0 (by decide)) dX0_nearest_44 ?_
      refine n_callV1 hC (As := [.int (nI k), .int (nI (sN X 0))]) (rest := []) (xc_so (by decide)) (s_lt0 hn (by decide)) rfl bX2_measure (t_x_measure l D N0 kA hs P X n hn k (sN X 0) (by omega) (by omega) hh) (by decide) (by decide) q455 rfl (Nat.le_of_ble_eq_true rfl) dX0_nearest_47 (Nat.le_of_ble_eq_true rfl) (Nat.le_of_ble_eq_true rfl) ?_
      refine n_stk (st' := [.int (x_measure P X k (sN X 0))]) rfl ?_
      refine n_iload_n hC dX0_nearest_50 rfl ?_
      refine n_isub hC dX0_nearest_51 ?_
      refine n_mabs hC q611 q612 q61 q613 (Nat.le_of_ble_eq_true rfl) (Nat.le_of_ble_eq_true rfl) (Nat.le_of_ble_eq_true rfl) (Nat.le_of_ble_eq_true rfl) dX0_nearest_52 ?_
      refine n_istore (L' := [(0, .ref (N0 + 0)), (1, .int v), (2, .int b), (3, .int w), (4, .int (nI k)), (5, .int (if 0 ≤ ((x_measure P X k (sN X 0)) - v) then ((x_measure P X k (sN X 0)) - v) else 0 - ((x_measure P X k (sN X 0)) - v)))]) hC dX0_nearest_55 (by decide) rfl ?_
      refine n_iload hC dX0_nearest_57 rfl ?_
      refine n_iload_n hC dX0_nearest_59 rfl ?_
      refine n_icmp_ge (tgt := 68) hC dX0_nearest_60 (by decide) (fun c60 => ?_) (fun c60 => ?_)
      · refine n_iload_n hC dX0_nearest_68 rfl ?_
        refine n_istore_n (L' := [(0, .ref (N0 + 0)), (1, .int v), (2, .int b), (3, .int w), (4, .int (nI k)), (5, .int (if 0 ≤ ((x_measure P X k (sN X 0)) - v) then ((x_measure P X k (sN X 0)) - v) else 0 - ((x_measure P X k (sN X 0)) - v)))]) hC dX0_nearest_69 (by decide) rfl ?_
        refine n_iload_n hC dX0_nearest_70 rfl ?_
        refine n_iload hC dX0_nearest_71 rfl ?_
        refine n_mmin hC q618 q397 q61 q398 (Nat.le_of_ble_eq_true rfl) (Nat.le_of_ble_eq_true rfl) (Nat.le_of_ble_eq_true rfl) (Nat.le_of_ble_eq_true rfl) dX0_nearest_73 ?_
        refine n_istore_n (L' := [(0, .ref (N0 + 0)), (1, .int v), (2, .int b), (3, .int (if (if 0 ≤ ((x_measure P X k (sN X 0)) - v) then ((x_measure P X k (sN X 0)) - v) else 0 - ((x_measure P X k (sN X 0)) - v)) < w then (if 0 ≤ ((x_measure P X k (sN X 0)) - v) then ((x_measure P X k (sN X 0)) - v) else 0 - ((x_measure P X k (sN X 0)) - v)) else w)), (4, .int (nI k)), (5, .int (if 0 ≤ ((x_measure P X k (sN X 0)) - v) then ((x_measure P X k (sN X 0)) - v) else 0 - ((x_measure P X k (sN X 0)) - v)))]) hC dX0_nearest_76 (by decide) rfl ?_
        refine n_iincN (a := k) (L' := [(0, .ref (N0 + 0)), (1, .int v), (2, .int b), (3, .int (if (if 0 ≤ ((x_measure P X k (sN X 0)) - v) then ((x_measure P X k (sN X 0)) - v) else 0 - ((x_measure P X k (sN X 0)) - v)) < w then (if 0 ≤ ((x_measure P X k (sN X 0)) - v) then ((x_measure P X k (sN X 0)) - v) else 0 - ((x_measure P X k (sN X 0)) - v)) else w)), (4, .int (nI (k + 1))), (5, .int (if 0 ≤ ((x_measure P X k (sN X 0)) - v) then ((x_measure P X k (sN X 0)) - v) else 0 - ((x_measure P X k (sN X 0)) - v)))]) hC dX0_nearest_77 rfl (by decide) rfl ?_
        refine n_goto (tgt := 22) hC dX0_nearest_80 (by decide) ?_
        refine n_drop [0, 1, 2, 3, 4] (L' := [(0, .ref (N0 + 0)), (1, .int v), (2, .int b), (3, .int (if (if 0 ≤ ((x_measure P X k (sN X 0)) - v) then ((x_measure P X k (sN X 0)) - v) else 0 - ((x_measure P X k (sN X 0)) - v)) < w then (if 0 ≤ ((x_measure P X k (sN X 0)) - v) then ((x_measure P X k (sN X 0)) - v) else 0 - ((x_measure P X k (sN X 0)) - v)) else w)), (4, .int (nI (k + 1)))]) rfl ?_
        rw [show x_nearest_L22 (fu + 1) P X v b w k = x_nearest_L22 fu P X v b (if (if 0 ≤ ((x_measure P X k (sN X 0)) - v) then ((x_measure P X k (sN X 0)) - v) else 0 - ((x_measure P X k (sN X 0)) - v)) < w then (if 0 ≤ ((x_measure P X k (sN X 0)) - v) then ((x_measure P X k (sN X 0)) - v) else 0 - ((x_measure P X k (sN X 0)) - v)) else w) (k + 1) from by rw [x_nearest_L22, if_neg (Nat.not_le.mpr c31), if_pos c60]]
        exact ih b (if (if 0 ≤ ((x_measure P X k (sN X 0)) - v) then ((x_measure P X k (sN X 0)) - v) else 0 - ((x_measure P X k (sN X 0)) - v)) < w then (if 0 ≤ ((x_measure P X k (sN X 0)) - v) then ((x_measure P X k (sN X 0)) - v) else 0 - ((x_measure P X k (sN X 0)) - v)) else w) (k + 1) (by omega) (by omega)
      · refine n_iload hC dX0_nearest_63 rfl ?_
        refine n_goto (tgt := 69) hC dX0_nearest_65 (by decide) ?_
        refine n_istore_n (L' := [(0, .ref (N0 + 0)), (1, .int v), (2, .int (nI k)), (3, .int w), (4, .int (nI k)), (5, .int (if 0 ≤ ((x_measure P X k (sN X 0)) - v) then ((x_measure P X k (sN X 0)) - v) else 0 - ((x_measure P X k (sN X 0)) - v)))]) hC dX0_nearest_69 (by decide) rfl ?_
        refine n_iload_n hC dX0_nearest_70 rfl ?_
        refine n_iload hC dX0_nearest_71 rfl ?_
        refine n_mmin hC q618 q397 q61 q398 (Nat.le_of_ble_eq_true rfl) (Nat.le_of_ble_eq_true rfl) (Nat.le_of_ble_eq_true rfl) (Nat.le_of_ble_eq_true rfl) dX0_nearest_73 ?_
        refine n_istore_n (L' := [(0, .ref (N0 + 0)), (1, .int v), (2, .int (nI k)), (3, .int (if (if 0 ≤ ((x_measure P X k (sN X 0)) - v) then ((x_measure P X k (sN X 0)) - v) else 0 - ((x_measure P X k (sN X 0)) - v)) < w then (if 0 ≤ ((x_measure P X k (sN X 0)) - v) then ((x_measure P X k (sN X 0)) - v) else 0 - ((x_measure P X k (sN X 0)) - v)) else w)), (4, .int (nI k)), (5, .int (if 0 ≤ ((x_measure P X k (sN X 0)) - v) then ((x_measure P X k (sN X 0)) - v) else 0 - ((x_measure P X k (sN X 0)) - v)))]) hC dX0_nearest_76 (by decide) rfl ?_
        refine n_iincN (a := k) (L' := [(0, .ref (N0 + 0)), (1, .int v), (2, .int (nI k)), (3, .int (if (if 0 ≤ ((x_measure P X k (sN X 0)) - v) then ((x_measure P X k (sN X 0)) - v) else 0 - ((x_measure P X k (sN X 0)) - v)) < w then (if 0 ≤ ((x_measure P X k (sN X 0)) - v) then ((x_measure P X k (sN X 0)) - v) else 0 - ((x_measure P X k (sN X 0)) - v)) else w)), (4, .int (nI (k + 1))), (5, .int (if 0 ≤ ((x_measure P X k (sN X 0)) - v) then ((x_measure P X k (sN X 0)) - v) else 0 - ((x_measure P X k (sN X 0)) - v)))]) hC dX0_nearest_77 rfl (by decide) rfl ?_
        refine n_goto (tgt := 22) hC dX0_nearest_80 (by decide) ?_
        refine n_drop [0, 1, 2, 3, 4] (L' := [(0, .ref (N0 + 0)), (1, .int v), (2, .int (nI k)), (3, .int (if (if 0 ≤ ((x_measure P X k (sN X 0)) - v) then ((x_measure P X k (sN X 0)) - v) else 0 - ((x_measure P X k (sN X 0)) - v)) < w then (if 0 ≤ ((x_measure P X k (sN X 0)) - v) then ((x_measure P X k (sN X 0)) - v) else 0 - ((x_measure P X k (sN X 0)) - v)) else w)), (4, .int (nI (k + 1)))]) rfl ?_
        rw [show x_nearest_L22 (fu + 1) P X v b w k = x_nearest_L22 fu P X v (nI k) (if (if 0 ≤ ((x_measure P X k (sN X 0)) - v) then ((x_measure P X k (sN X 0)) - v) else 0 - ((x_measure P X k (sN X 0)) - v)) < w then (if 0 ≤ ((x_measure P X k (sN X 0)) - v) then ((x_measure P X k (sN X 0)) - v) else 0 - ((x_measure P X k (sN X 0)) - v)) else w) (k + 1) from by rw [x_nearest_L22, if_neg (Nat.not_le.mpr c31), if_neg c60]]
        exact ih (nI k) (if (if 0 ≤ ((x_measure P X k (sN X 0)) - v) then ((x_measure P X k (sN X 0)) - v) else 0 - ((x_measure P X k (sN X 0)) - v)) < w then (if 0 ≤ ((x_measure P X k (sN X 0)) - v) then ((x_measure P X k (sN X 0)) - v) else 0 - ((x_measure P X k (sN X 0)) - v)) else w) (k + 1) (by omega) (by omega)
set_option maxRecDepth 100000 in
set_option maxHeartbeats 4000000 in
theorem t_x_nearest (l : Launch) (D : va_G) (N0 : Nat) (kA : Nat → ClassId) (hs : hT) (P : PS) (X : XS) (n : Nat) (hn : xOk P n) (v : Int32) (hh : xHe P) (hS : sN X 0 < 30000) : nE l yX0_nearest cX0_nearest 6 (some .int) D N0 kA 3 0 0 [.ref (N0 + 0), .int v] (xH N0 kA hs P X) n (nX (some (.int (x_nearest P X v))) (xH N0 kA hs P X) n) := by
  refine nE_of (by decide) (Nat.le_of_ble_eq_true rfl) ?_
  intro p e s m args below meth c hC hnm
  refine n_loc (L' := [(0, .ref (N0 + 0)), (1, .int v)]) rfl ?_
  have hm6 := pN_le hn
  refine n_iload_n hC dX0_nearest_0 rfl ?_
  refine n_iconst (v := (nI 0)) hC dX0_nearest_1 (by decide) ?_
  refine n_sipush (v := (nI 999)) hC dX0_nearest_2 (by decide) ?_
  refine n_callS1 hC (As := [.int v, .int (nI 0), .int (nI 999)]) (rest := []) bX0_isIn (t_x_isIn l D N0 kA (xH N0 kA hs P X) n v (nI 0) (nI 999) ) (by decide) (by decide) q269 rfl (Nat.le_of_ble_eq_true rfl) dX0_nearest_5 (Nat.le_of_ble_eq_true rfl) (Nat.le_of_ble_eq_true rfl) ?_
  refine n_stk (st' := [.int (bI (x_isIn v (nI 0) (nI 999)))]) rfl ?_
  refine n_if_neB (tgt := 14) hC dX0_nearest_8 (by decide) (fun c8 => ?_) (fun c8 => ?_)
  · refine n_iconst (v := (-1)) hC dX0_nearest_14 (by decide) ?_
    refine n_istore_n (L' := [(0, .ref (N0 + 0)), (1, .int v), (2, .int (-1))]) hC dX0_nearest_15 (by decide) rfl ?_
    refine n_ldc hC dX0_nearest_16 q570 ?_
    refine n_top 99999999 (by decide) ?_
    refine n_istore_n (L' := [(0, .ref (N0 + 0)), (1, .int v), (2, .int (-1)), (3, .int (nI 99999999))]) hC dX0_nearest_18 (by decide) rfl ?_
    refine n_iconst (v := (nI 0)) hC dX0_nearest_19 (by decide) ?_
    refine n_istore (L' := [(0, .ref (N0 + 0)), (1, .int v), (2, .int (-1)), (3, .int (nI 99999999)), (4, .int (nI 0))]) hC dX0_nearest_20 (by decide) rfl ?_
    rw [show x_nearest P X v = x_nearest_L22 (pN P 1 + 1) P X v (-1) (nI 99999999) 0 from by rw [x_nearest, if_pos c8]]
    exact t_x_nearest_L22 hn hC hh hS (pN P 1 + 1) (-1) (nI 99999999) 0 (by omega) (by omega)
  · refine n_ldc hC dX0_nearest_11 q272 ?_
    have eq_ : x_nearest P X v = (-1000000002) := by rw [x_nearest, if_neg (by rw [c8]; decide)]
    refine n_iret hC dX0_nearest_13 (Nat.le_of_ble_eq_true rfl) (Nat.le_of_ble_eq_true rfl) ?_
    rw [eq_]
    exact ⟨rfl, rfl, rfl⟩
noncomputable def x_odds_L54 : Nat → PS → XS → Int32 → Int32 → Int32 → Int32 → Int64 → Nat → Int32
  | 0, _, _, _, _, _, _, _, _ => 0
  | fu + 1, P, X, k, v, q, y, u, i => (if (cl v) ≤ i then u.toInt32 else x_odds_L54 fu P X k v q y ((u * (((nI 100) - y).toInt64)) / (100)) (i + 1))
noncomputable def x_odds (P : PS) (X : XS) (k : Int32) (v : Int32) (q : Int32) : Int32 := (if (x_isLimb P X k) = true then (if (x_isIn v (nI 0) (nI 60)) = true then (if (x_isIn q (nI 0) (nI 100)) = true then x_odds_L54 (cl v + 1) P X k v q (if (nI ((cl q) + (2 * (cl k)))) < (nI 100) then (nI ((cl q) + (2 * (cl k)))) else (nI 100)) (1000000000) 0 else (-1000000002)) else (-1000000002)) else (-1000000001))
theorem bX0_odds : nBV RX0 yX0_odds cX0_odds 8 (some .int) 3 := ⟨q628, q629, q51, q630, by decide, by decide +kernel⟩
set_option maxRecDepth 100000 in
set_option maxHeartbeats 4000000 in
theorem t_x_odds_L54 {p : Program} {l : Launch} {e : Env} {s : State} {m : MethodId} {args : Array Value} {below : List Frame} {meth : Method} {c : Code} {D : va_G} {N0 : Nat} {kA : Nat → ClassId} {hs : hT} {P : PS} {X : XS} {n : Nat} (hn : xOk P n) {k : Int32} {v : Int32} {q : Int32} (hC : nC p s m args meth c RX0 cX0_odds 8 (some .int) true D N0 kA)  : ∀ (fu : Nat) (y : Int32) (u : Int64) (i : Nat) (hv1 : v = nI (cl v)) (hv2 : cl v ≤ 60) (hi : i ≤ cl v) (hf : cl v < i + fu), nW p l e (nRm 2 0 0) s m args below meth c (nQ below (nX (some (.int (x_odds_L54 fu P X k v q y u i))) (xH N0 kA hs P X) n) D N0 s 0 0) D N0 8 54 [(0, .ref (N0 + 0)), (1, .int k), (2, .int v), (3, .int q), (4, .int y), (5, .long u), (7, .int (nI i))] [] (xH N0 kA hs P X) n 0 0 := by
  intro fu
  induction fu with
  | zero =>
    intro y u i hv1 hv2 hi hf
    exfalso; omega
  | succ fu ih =>
    intro y u i hv1 hv2 hi hf
    have hm6 := pN_le hn
    refine n_iload hC dX0_odds_54 rfl ?_
    refine n_iload_n hC dX0_odds_56 rfl ?_
    refine n_top (cl v) hv1 ?_
    refine n_icmp_geN (tgt := 81) hC i (cl v) rfl rfl (by omega) (by omega) dX0_odds_57 (by decide) (fun c57 => ?_) (fun c57 => ?_)
    · refine n_lload hC dX0_odds_81 rfl ?_
      refine n_l2i hC dX0_odds_83 ?_
      have eq_ : x_odds_L54 (fu + 1) P X k v q y u i = u.toInt32 := by rw [x_odds_L54, if_pos c57]
      refine n_iret hC dX0_odds_84 (Nat.le_of_ble_eq_true rfl) (Nat.le_of_ble_eq_true rfl) ?_
      rw [eq_]
      exact ⟨rfl, rfl, rfl⟩
    · refine n_lload hC dX0_odds_60 rfl ?_
      refine n_bipush (v := (nI 100)) hC dX0_odds_62 (by decide) ?_
      refine n_iload hC dX0_odds_64 rfl ?_
      refine n_isub hC dX0_odds_66 ?_
      refine n_i2l hC dX0_odds_67 ?_
      refine n_lmul hC dX0_odds_68 ?_
      refine n_ldc2 hC dX0_odds_69 q632 ?_
      refine n_ldiv hC dX0_odds_72 (by decide) ?_
      refine n_lstore (L' := [(0, .ref (N0 + 0)), (1, .int k), (2, .int v), (3, .int q), (4, .int y), (5, .long ((u * (((nI 100) - y).toInt64)) / (100))), (7, .int (nI i))]) hC dX0_odds_73 (by decide) rfl ?_
      refine n_iincN (a := i) (L' := [(0, .ref (N0 + 0)), (1, .int k), (2, .int v), (3, .int q), (4, .int y), (5, .long ((u * (((nI 100) - y).toInt64)) / (100))), (7, .int (nI (i + 1)))]) hC dX0_odds_75 rfl (by decide) rfl ?_
      refine n_goto (tgt := 54) hC dX0_odds_78 (by decide) ?_
      rw [show x_odds_L54 (fu + 1) P X k v q y u i = x_odds_L54 fu P X k v q y ((u * (((nI 100) - y).toInt64)) / (100)) (i + 1) from by rw [x_odds_L54, if_neg (Nat.not_le.mpr c57)]]
      exact ih y ((u * (((nI 100) - y).toInt64)) / (100)) (i + 1) hv1 hv2 (by omega) (by omega)
set_option maxRecDepth 100000 in
set_option maxHeartbeats 4000000 in
theorem t_x_odds (l : Launch) (D : va_G) (N0 : Nat) (kA : Nat → ClassId) (hs : hT) (P : PS) (X : XS) (n : Nat) (hn : xOk P n) (k : Int32) (v : Int32) (q : Int32)  : nE l yX0_odds cX0_odds 8 (some .int) D N0 kA 2 0 0 [.ref (N0 + 0), .int k, .int v, .int q] (xH N0 kA hs P X) n (nX (some (.int (x_odds P X k v q))) (xH N0 kA hs P X) n) := by
  refine nE_of (by decide) (Nat.le_of_ble_eq_true rfl) ?_
  intro p e s m args below meth c hC hnm
  refine n_loc (L' := [(0, .ref (N0 + 0)), (1, .int k), (2, .int v), (3, .int q)]) rfl ?_
  have hm6 := pN_le hn
  refine n_aload_n hC dX0_odds_0 rfl ?_
  refine n_iload_n hC dX0_odds_1 rfl ?_
  refine n_callV1 hC (As := [.int k]) (rest := []) xc_o (x_lt hn) rfl bX0_isLimb (t_x_isLimb l D N0 kA hs P X n hn k ) (by decide) (by decide) q446 rfl (Nat.le_of_ble_eq_true rfl) dX0_odds_2 (Nat.le_of_ble_eq_true rfl) (Nat.le_of_ble_eq_true rfl) ?_
  refine n_stk (st' := [.int (bI (x_isLimb P X k))]) rfl ?_
  refine n_if_neB (tgt := 11) hC dX0_odds_5 (by decide) (fun c5 => ?_) (fun c5 => ?_)
  · have hk0 := (xin_nat (k := k) (by omega)).mp c5
    have hk1 := nI_cl hk0.1
    have hk2 := hk0.2
    refine n_iload_n hC dX0_odds_11 rfl ?_
    refine n_iconst (v := (nI 0)) hC dX0_odds_12 (by decide) ?_
    refine n_bipush (v := (nI 60)) hC dX0_odds_13 (by decide) ?_
    refine n_callS1 hC (As := [.int v, .int (nI 0), .int (nI 60)]) (rest := []) bX0_isIn (t_x_isIn l D N0 kA (xH N0 kA hs P X) n v (nI 0) (nI 60) ) (by decide) (by decide) q269 rfl (Nat.le_of_ble_eq_true rfl) dX0_odds_15 (Nat.le_of_ble_eq_true rfl) (Nat.le_of_ble_eq_true rfl) ?_
    refine n_stk (st' := [.int (bI (x_isIn v (nI 0) (nI 60)))]) rfl ?_
    refine n_if_eqB (tgt := 31) hC dX0_odds_18 (by decide) (fun c18 => ?_) (fun c18 => ?_)
    · refine n_ldc hC dX0_odds_31 q272 ?_
      have eq_ : x_odds P X k v q = (-1000000002) := by rw [x_odds, if_pos c5, if_neg (by rw [c18]; decide)]
      refine n_iret hC dX0_odds_33 (Nat.le_of_ble_eq_true rfl) (Nat.le_of_ble_eq_true rfl) ?_
      rw [eq_]
      exact ⟨rfl, rfl, rfl⟩
    · have hv := (xin_cst (x := v) 0 60 (by decide) (by decide)).mp c18
      have hv1 := nI_cl hv.1
      have hv2 := hv.2
      refine n_iload_n hC dX0_odds_21 rfl ?_
      refine n_iconst (v := (nI 0)) hC dX0_odds_22 (by decide) ?_
      refine n_bipush (v := (nI 100)) hC dX0_odds_23 (by decide) ?_
      refine n_callS1 hC (As := [.int q, .int (nI 0), .int (nI 100)]) (rest := []) bX0_isIn (t_x_isIn l D N0 kA (xH N0 kA hs P X) n q (nI 0) (nI 100) ) (by decide) (by decide) q269 rfl (Nat.le_of_ble_eq_true rfl) dX0_odds_25 (Nat.le_of_ble_eq_true rfl) (Nat.le_of_ble_eq_true rfl) ?_
      refine n_stk (st' := [.int (bI (x_isIn q (nI 0) (nI 100)))]) rfl ?_
      refine n_if_neB (tgt := 34) hC dX0_odds_28 (by decide) (fun c28 => ?_) (fun c28 => ?_)
      · have hq := (xin_cst (x := q) 0 100 (by decide) (by decide)).mp c28
        have hq1 := nI_cl hq.1
        have hq2 := hq.2
        refine n_bipush (v := (nI 100)) hC dX0_odds_34 (by decide) ?_
        refine n_iload_n hC dX0_odds_36 rfl ?_
        refine n_top (cl q) hq1 ?_
        refine n_iconst (v := (nI 2)) hC dX0_odds_37 (by decide) ?_
        refine n_iload_n hC dX0_odds_38 rfl ?_
        refine n_top (cl k) hk1 ?_
        refine n_imulN hC dX0_odds_39 ?_
        refine n_iaddN hC dX0_odds_40 ?_
        refine n_mmin hC q618 q397 q61 q398 (Nat.le_of_ble_eq_true rfl) (Nat.le_of_ble_eq_true rfl) (Nat.le_of_ble_eq_true rfl) (Nat.le_of_ble_eq_true rfl) dX0_odds_41 ?_
        refine n_istore (L' := [(0, .ref (N0 + 0)), (1, .int k), (2, .int v), (3, .int q), (4, .int (if (nI ((cl q) + (2 * (cl k)))) < (nI 100) then (nI ((cl q) + (2 * (cl k)))) else (nI 100)))]) hC dX0_odds_44 (by decide) rfl ?_
        refine n_ldc2 hC dX0_odds_46 q631 ?_
        refine n_lstore (L' := [(0, .ref (N0 + 0)), (1, .int k), (2, .int v), (3, .int q), (4, .int (if (nI ((cl q) + (2 * (cl k)))) < (nI 100) then (nI ((cl q) + (2 * (cl k)))) else (nI 100))), (5, .long (1000000000))]) hC dX0_odds_49 (by decide) rfl ?_
        refine n_iconst (v := (nI 0)) hC dX0_odds_51 (by decide) ?_
        refine n_istore (L' := [(0, .ref (N0 + 0)), (1, .int k), (2, .int v), (3, .int q), (4, .int (if (nI ((cl q) + (2 * (cl k)))) < (nI 100) then (nI ((cl q) + (2 * (cl k)))) else (nI 100))), (5, .long (1000000000)), (7, .int (nI 0))]) hC dX0_odds_52 (by decide) rfl ?_
        rw [show x_odds P X k v q = x_odds_L54 (cl v + 1) P X k v q (if (nI ((cl q) + (2 * (cl k)))) < (nI 100) then (nI ((cl q) + (2 * (cl k)))) else (nI 100)) (1000000000) 0 from by rw [x_odds, if_pos c5, if_pos c18, if_pos c28]]
        exact t_x_odds_L54 hn hC  (cl v + 1) (if (nI ((cl q) + (2 * (cl k)))) < (nI 100) then (nI ((cl q) + (2 * (cl k)))) else (nI 100)) (1000000000) 0 hv1 hv.2.2 (by omega) (by omega)
      · refine n_ldc hC dX0_odds_31 q272 ?_
        have eq_ : x_odds P X k v q = (-1000000002) := by rw [x_odds, if_pos c5, if_pos c18, if_neg (by rw [c28]; decide)]
        refine n_iret hC dX0_odds_33 (Nat.le_of_ble_eq_true rfl) (Nat.le_of_ble_eq_true rfl) ?_
        rw [eq_]
        exact ⟨rfl, rfl, rfl⟩
  · refine n_ldc hC dX0_odds_8 q450 ?_
    have eq_ : x_odds P X k v q = (-1000000001) := by rw [x_odds, if_neg (by rw [c5]; decide)]
    refine n_iret hC dX0_odds_10 (Nat.le_of_ble_eq_true rfl) (Nat.le_of_ble_eq_true rfl) ?_
    rw [eq_]
    exact ⟨rfl, rfl, rfl⟩
noncomputable def x_used_L20 : Nat → PS → XS → Int32 → Nat → Bool → Nat → Bool
  | 0, _, _, _, _, _, _ => false
  | fu + 1, P, X, r, k, b, i => (if (xN X 6) ≤ i then b else (if b = true then (if ((xA X 4 i) * (x_measure P X k (sN X 0))) = (xA X 5 i) then x_used_L20 fu P X r k true (i + 1) else x_used_L20 fu P X r k false (i + 1)) else b))
noncomputable def x_used_L4 : Nat → PS → XS → Int32 → Nat → Int32
  | 0, _, _, _, _ => 0
  | fu + 1, P, X, r, k => (if (pN P 1) ≤ k then r else (if (x_used_L20 (xN X 6 + 1) P X r k true 0) = true then x_used_L4 fu P X (r ||| ((nI 1) <<< ((nI k) &&& 31))) (k + 1) else x_used_L4 fu P X (r ||| (nI 0)) (k + 1)))
noncomputable def x_used (P : PS) (X : XS) : Int32 := x_used_L4 (pN P 1 + 1) P X (nI 0) 0
theorem bX0_used : nBV RX0 yX0_used cX0_used 5 (some .int) 0 := ⟨q638, q639, q51, q640, by decide, by decide +kernel⟩
set_option maxRecDepth 100000 in
set_option maxHeartbeats 4000000 in
theorem t_x_used_L20 {p : Program} {l : Launch} {e : Env} {s : State} {m : MethodId} {args : Array Value} {below : List Frame} {meth : Method} {c : Code} {Q : State → Prop} {D : va_G} {N0 : Nat} {kA : Nat → ClassId} {hs : hT} {P : PS} {X : XS} {n : Nat} (hn : xOk P n)  (hC : nC p s m args meth c RX0 cX0_used 5 (some .int) true D N0 kA) (hh : xHe P) (hS : sN X 0 < 30000) (h6 : xN X 6 ≤ 8) : ∀ (fu : Nat) (r : Int32) (k : Nat) (b : Bool) (i : Nat) (hk : k < pN P 1) (hi : i ≤ xN X 6) (hf : xN X 6 < i + fu) (hK : nW p l e (nRm 3 0 0) s m args below meth c Q D N0 5 78 [(0, .ref (N0 + 0)), (1, .int r), (2, .int (nI k)), (3, .int (bI (x_used_L20 fu P X r k b i)))] [] (xH N0 kA hs P X) n 0 0), nW p l e (nRm 3 0 0) s m args below meth c Q D N0 5 20 [(0, .ref (N0 + 0)), (1, .int r), (2, .int (nI k)), (3, .int (bI b)), (4, .int (nI i))] [] (xH N0 kA hs P X) n 0 0 := by
  intro fu
  induction fu with
  | zero =>
    intro r k b i hk hi hf hK
    exfalso; omega
  | succ fu ih =>
    intro r k b i hk hi hf hK
    have hm6 := pN_le hn
    refine n_iload hC dX0_used_20 rfl ?_
    refine n_aload_n hC dX0_used_22 rfl ?_
    refine n_get hC cl0 (k := 6) (v := .int (nI (xN X 6))) xc_o (x_lt hn) (by decide) q200 (xf_get N0 P X (by decide)) dX0_used_23 ?_
    refine n_icmp_geN (tgt := 78) hC i (xN X 6) rfl rfl (by omega) (by omega) dX0_used_26 (by decide) (fun c26 => ?_) (fun c26 => ?_)
    · refine n_drop [0, 1, 2, 3] (L' := [(0, .ref (N0 + 0)), (1, .int r), (2, .int (nI k)), (3, .int (bI b))]) rfl ?_
      rw [x_used_L20, if_pos c26] at hK
      exact hK
    · refine n_iload_n hC dX0_used_29 rfl ?_
      refine n_if_eqB (tgt := 78) hC dX0_used_30 (by decide) (fun c30 => ?_) (fun c30 => ?_)
      · refine n_drop [0, 1, 2, 3] (L' := [(0, .ref (N0 + 0)), (1, .int r), (2, .int (nI k)), (3, .int (bI b))]) rfl ?_
        rw [x_used_L20, if_neg (Nat.not_le.mpr c26), if_neg (by rw [c30]; decide)] at hK
        exact hK
      · refine n_aload_n hC dX0_used_33 rfl ?_
        refine n_get hC cl0 (k := 4) (v := .ref (N0 + 15)) xc_o (x_lt hn) (by decide) q198 (xf_get N0 P X (by decide)) dX0_used_34 ?_
        refine n_iload hC dX0_used_37 rfl ?_
        refine n_iald hC (f := xA X 4) (xc_a (p := 15) (by decide) (by decide)) (xa_lt hn (by decide)) i rfl (by omega) (by decide) dX0_used_39 ?_
        refine n_aload_n hC dX0_used_40 rfl ?_
        refine n_get hC cl0 (k := 1) (v := .ref (N0 + (sAd 0))) xc_o (x_lt hn) (by decide) q195 (xf_get N0 P X (by decide)) dX0_used_41 ?_
        refine n_iload_n hC dX0_used_44 rfl ?_
        refine n_aload_n hC dX0_used_45 rfl ?_
        refine n_get hC cl0 (k := 1) (v := .ref (N0 + (sAd 0))) xc_o (x_lt hn) (by decide) q195 (xf_get N0 P X (by decide)) dX0_used_46 ?_
        refine n_getN hC cl2 (k := 5) (v := .int (nI (sN X 0))) (xc_so (by decide)) (s_lt0 hn (by decide)) (by decide) q157 (sf_get N0 X 0 (by decide)) dX0_used_49 ?_
        refine n_callV1 hC (As := [.int (nI k), .int (nI (sN X 0))]) (rest := [.int (xA X 4 i)]) (xc_so (by decide)) (s_lt0 hn (by decide)) rfl bX2_measure (t_x_measure l D N0 kA hs P X n hn k (sN X 0) (by omega) (by omega) hh) (by decide) (by decide) q455 rfl (Nat.le_of_ble_eq_true rfl) dX0_used_52 (Nat.le_of_ble_eq_true rfl) (Nat.le_of_ble_eq_true rfl) ?_
        refine n_stk (st' := [.int (x_measure P X k (sN X 0)), .int (xA X 4 i)]) rfl ?_
        refine n_imul hC dX0_used_55 ?_
        refine n_aload_n hC dX0_used_56 rfl ?_
        refine n_get hC cl0 (k := 5) (v := .ref (N0 + 16)) xc_o (x_lt hn) (by decide) q199 (xf_get N0 P X (by decide)) dX0_used_57 ?_
        refine n_iload hC dX0_used_60 rfl ?_
        refine n_iald hC (f := xA X 5) (xc_a (p := 16) (by decide) (by decide)) (xa_lt hn (by decide)) i rfl (by omega) (by decide) dX0_used_62 ?_
        refine n_icmp_ne (tgt := 70) hC dX0_used_63 (by decide) (fun c63 => ?_) (fun c63 => ?_)
        · refine n_iconst (v := (nI 0)) hC dX0_used_70 (by decide) ?_
          refine n_istore_n (L' := [(0, .ref (N0 + 0)), (1, .int r), (2, .int (nI k)), (3, .int (nI 0)), (4, .int (nI i))]) hC dX0_used_71 (by decide) rfl ?_
          refine n_iincN (a := i) (L' := [(0, .ref (N0 + 0)), (1, .int r), (2, .int (nI k)), (3, .int (nI 0)), (4, .int (nI (i + 1)))]) hC dX0_used_72 rfl (by decide) rfl ?_
          refine n_goto (tgt := 20) hC dX0_used_75 (by decide) ?_
          rw [x_used_L20, if_neg (Nat.not_le.mpr c26), if_pos c30, if_neg c63] at hK
          exact ih r k false (i + 1) (by omega) (by omega) (by omega) hK
        · refine n_iconst (v := (nI 1)) hC dX0_used_66 (by decide) ?_
          refine n_goto (tgt := 71) hC dX0_used_67 (by decide) ?_
          refine n_istore_n (L' := [(0, .ref (N0 + 0)), (1, .int r), (2, .int (nI k)), (3, .int (nI 1)), (4, .int (nI i))]) hC dX0_used_71 (by decide) rfl ?_
          refine n_iincN (a := i) (L' := [(0, .ref (N0 + 0)), (1, .int r), (2, .int (nI k)), (3, .int (nI 1)), (4, .int (nI (i + 1)))]) hC dX0_used_72 rfl (by decide) rfl ?_
          refine n_goto (tgt := 20) hC dX0_used_75 (by decide) ?_
          rw [x_used_L20, if_neg (Nat.not_le.mpr c26), if_pos c30, if_pos c63] at hK
          exact ih r k true (i + 1) (by omega) (by omega) (by omega) hK
set_option maxRecDepth 100000 in
set_option maxHeartbeats 4000000 in
theorem t_x_used_L4 {p : Program} {l : Launch} {e : Env} {s : State} {m : MethodId} {args : Array Value} {below : List Frame} {meth : Method} {c : Code} {D : va_G} {N0 : Nat} {kA : Nat → ClassId} {hs : hT} {P : PS} {X : XS} {n : Nat} (hn : xOk P n)  (hC : nC p s m args meth c RX0 cX0_used 5 (some .int) true D N0 kA) (hh : xHe P) (hS : sN X 0 < 30000) (h6 : xN X 6 ≤ 8) : ∀ (fu : Nat) (r : Int32) (k : Nat) (hk : k ≤ pN P 1) (hf : pN P 1 < k + fu), nW p l e (nRm 3 0 0) s m args below meth c (nQ below (nX (some (.int (x_used_L4 fu P X r k))) (xH N0 kA hs P X) n) D N0 s 0 0) D N0 5 4 [(0, .ref (N0 + 0)), (1, .int r), (2, .int (nI k))] [] (xH N0 kA hs P X) n 0 0 := by
  intro fu
  induction fu with
  | zero =>
    intro r k hk hf
    exfalso; omega
  | succ fu ih =>
    intro r k hk hf
    have hm6 := pN_le hn
    refine n_iload_n hC dX0_used_4 rfl ?_
    refine n_aload_n hC dX0_used_5 rfl ?_
    refine n_get hC cl0 (k := 0) (v := .ref (N0 + (pb P))) xc_o (x_lt hn) (by decide) q194 (xf_get N0 P X (by decide)) dX0_used_6 ?_
    refine n_getN hC cl1 (k := 1) (v := .int (nI (pN P 1))) (xc_po hn) (p_lt0 hn) (by decide) q86 (pf_get N0 P (by decide)) dX0_used_9 ?_
    refine n_icmp_geN (tgt := 98) hC k (pN P 1) rfl rfl (by omega) (by omega) dX0_used_12 (by decide) (fun c12 => ?_) (fun c12 => ?_)
    · refine n_iload_n hC dX0_used_98 rfl ?_
      have eq_ : x_used_L4 (fu + 1) P X r k = r := by rw [x_used_L4, if_pos c12]
      refine n_iret hC dX0_used_99 (Nat.le_of_ble_eq_true rfl) (Nat.le_of_ble_eq_true rfl) ?_
      rw [eq_]
      exact ⟨rfl, rfl, rfl⟩
    · refine n_iconst (v := (nI 1)) hC dX0_used_15 (by decide) ?_
      refine n_istore_n (L' := [(0, .ref (N0 + 0)), (1, .int r), (2, .int (nI k)), (3, .int (nI 1))]) hC dX0_used_16 (by decide) rfl ?_
      refine n_iconst (v := (nI 0)) hC dX0_used_17 (by decide) ?_
      refine n_istore (L' := [(0, .ref (N0 + 0)), (1, .int r), (2, .int (nI k)), (3, .int (nI 1)), (4, .int (nI 0))]) hC dX0_used_18 (by decide) rfl ?_
      refine t_x_used_L20 hn hC hh hS h6 (xN X 6 + 1) r k true 0 (by omega) (by omega) (by omega) ?_
      refine n_iload_n hC dX0_used_78 rfl ?_
      refine n_iload_n hC dX0_used_79 rfl ?_
      refine n_if_eqB (tgt := 89) hC dX0_used_80 (by decide) (fun c80 => ?_) (fun c80 => ?_)
      · refine n_iconst (v := (nI 0)) hC dX0_used_89 (by decide) ?_
        refine n_ior hC dX0_used_90 ?_
        refine n_istore_n (L' := [(0, .ref (N0 + 0)), (1, .int (r ||| (nI 0))), (2, .int (nI k)), (3, .int (bI (x_used_L20 (xN X 6 + 1) P X r k true 0)))]) hC dX0_used_91 (by decide) rfl ?_
        refine n_iincN (a := k) (L' := [(0, .ref (N0 + 0)), (1, .int (r ||| (nI 0))), (2, .int (nI (k + 1))), (3, .int (bI (x_used_L20 (xN X 6 + 1) P X r k true 0)))]) hC dX0_used_92 rfl (by decide) rfl ?_
        refine n_goto (tgt := 4) hC dX0_used_95 (by decide) ?_
        refine n_drop [0, 1, 2] (L' := [(0, .ref (N0 + 0)), (1, .int (r ||| (nI 0))), (2, .int (nI (k + 1)))]) rfl ?_
        rw [show x_used_L4 (fu + 1) P X r k = x_used_L4 fu P X (r ||| (nI 0)) (k + 1) from by rw [x_used_L4, if_neg (Nat.not_le.mpr c12), if_neg (by rw [c80]; decide)]]
        exact ih (r ||| (nI 0)) (k + 1) (by omega) (by omega)
      · refine n_iconst (v := (nI 1)) hC dX0_used_83 (by decide) ?_
        refine n_iload_n hC dX0_used_84 rfl ?_
        refine n_ishl hC dX0_used_85 ?_
        refine n_goto (tgt := 90) hC dX0_used_86 (by decide) ?_
        refine n_ior hC dX0_used_90 ?_
        refine n_istore_n (L' := [(0, .ref (N0 + 0)), (1, .int (r ||| ((nI 1) <<< ((nI k) &&& 31)))), (2, .int (nI k)), (3, .int (bI (x_used_L20 (xN X 6 + 1) P X r k true 0)))]) hC dX0_used_91 (by decide) rfl ?_
        refine n_iincN (a := k) (L' := [(0, .ref (N0 + 0)), (1, .int (r ||| ((nI 1) <<< ((nI k) &&& 31)))), (2, .int (nI (k + 1))), (3, .int (bI (x_used_L20 (xN X 6 + 1) P X r k true 0)))]) hC dX0_used_92 rfl (by decide) rfl ?_
        refine n_goto (tgt := 4) hC dX0_used_95 (by decide) ?_
        refine n_drop [0, 1, 2] (L' := [(0, .ref (N0 + 0)), (1, .int (r ||| ((nI 1) <<< ((nI k) &&& 31)))), (2, .int (nI (k + 1)))]) rfl ?_
        rw [show x_used_L4 (fu + 1) P X r k = x_used_L4 fu P X (r ||| ((nI 1) <<< ((nI k) &&& 31))) (k + 1) from by rw [x_used_L4, if_neg (Nat.not_le.mpr c12), if_pos c80]]
        exact ih (r ||| ((nI 1) <<< ((nI k) &&& 31))) (k + 1) (by omega) (by omega)
set_option maxRecDepth 100000 in
set_option maxHeartbeats 4000000 in
theorem t_x_used (l : Launch) (D : va_G) (N0 : Nat) (kA : Nat → ClassId) (hs : hT) (P : PS) (X : XS) (n : Nat) (hn : xOk P n)  (hh : xHe P) (hS : sN X 0 < 30000) (h6 : xN X 6 ≤ 8) : nE l yX0_used cX0_used 5 (some .int) D N0 kA 3 0 0 [.ref (N0 + 0)] (xH N0 kA hs P X) n (nX (some (.int (x_used P X))) (xH N0 kA hs P X) n) := by
  refine nE_of (by decide) (Nat.le_of_ble_eq_true rfl) ?_
  intro p e s m args below meth c hC hnm
  refine n_loc (L' := [(0, .ref (N0 + 0))]) rfl ?_
  have hm6 := pN_le hn
  refine n_iconst (v := (nI 0)) hC dX0_used_0 (by decide) ?_
  refine n_istore_n (L' := [(0, .ref (N0 + 0)), (1, .int (nI 0))]) hC dX0_used_1 (by decide) rfl ?_
  refine n_iconst (v := (nI 0)) hC dX0_used_2 (by decide) ?_
  refine n_istore_n (L' := [(0, .ref (N0 + 0)), (1, .int (nI 0)), (2, .int (nI 0))]) hC dX0_used_3 (by decide) rfl ?_
  rw [show x_used P X = x_used_L4 (pN P 1 + 1) P X (nI 0) 0 from by rw [x_used]]
  exact t_x_used_L4 hn hC hh hS h6 (pN P 1 + 1) (nI 0) 0 (by omega) (by omega)
noncomputable def x_areUnlike_L23 : Nat → PS → XS → Int32 → Nat → Bool → Nat → Nat → Bool
  | 0, _, _, _, _, _, _, _ => false
  | fu + 1, P, X, r, t, b, j, q => (if (pN P 1) ≤ q then b else (if b = true then (if (x_has r j) = true then (if (x_has r q) = true then (if (x_measure P X j t) = (x_measure P X q t) then x_areUnlike_L23 fu P X r t false j (q + 1) else x_areUnlike_L23 fu P X r t true j (q + 1)) else x_areUnlike_L23 fu P X r t true j (q + 1)) else x_areUnlike_L23 fu P X r t true j (q + 1)) else b))
noncomputable def x_areUnlike_L5 : Nat → PS → XS → Int32 → Nat → Bool → Nat → Bool
  | 0, _, _, _, _, _, _ => false
  | fu + 1, P, X, r, t, b, j => (if (pN P 1) ≤ j then b else x_areUnlike_L5 fu P X r t (x_areUnlike_L23 (pN P 1 + 1) P X r t b j (j + 1)) (j + 1))
noncomputable def x_areUnlike (P : PS) (X : XS) (r : Int32) (t : Nat) : Bool := x_areUnlike_L5 (pN P 1 + 1) P X r t true 0
theorem bX0_areUnlike : nBV RX0 yX0_areUnlike cX0_areUnlike 6 (some .boolean) 2 := ⟨q648, qs18, q51, q649, by decide, by decide +kernel⟩
set_option maxRecDepth 100000 in
set_option maxHeartbeats 4000000 in
theorem t_x_areUnlike_L23 {p : Program} {l : Launch} {e : Env} {s : State} {m : MethodId} {args : Array Value} {below : List Frame} {meth : Method} {c : Code} {Q : State → Prop} {D : va_G} {N0 : Nat} {kA : Nat → ClassId} {hs : hT} {P : PS} {X : XS} {n : Nat} (hn : xOk P n) {r : Int32} {t : Nat} (hC : nC p s m args meth c RX0 cX0_areUnlike 6 (some .boolean) true D N0 kA) (hh : xHe P) (ht : t < 2 ^ 31) : ∀ (fu : Nat) (b : Bool) (j : Nat) (q : Nat) (hj : j < pN P 1) (hq : q ≤ pN P 1) (hf : pN P 1 < q + fu) (hK : nW p l e (nRm 3 0 0) s m args below meth c Q D N0 6 92 [(0, .ref (N0 + 0)), (1, .int r), (2, .int (nI t)), (3, .int (bI (x_areUnlike_L23 fu P X r t b j q))), (4, .int (nI j))] [] (xH N0 kA hs P X) n 0 0), nW p l e (nRm 3 0 0) s m args below meth c Q D N0 6 23 [(0, .ref (N0 + 0)), (1, .int r), (2, .int (nI t)), (3, .int (bI b)), (4, .int (nI j)), (5, .int (nI q))] [] (xH N0 kA hs P X) n 0 0 := by
  intro fu
  induction fu with
  | zero =>
    intro b j q hj hq hf hK
    exfalso; omega
  | succ fu ih =>
    intro b j q hj hq hf hK
    have hm6 := pN_le hn
    refine n_iload hC dX0_areUnlike_23 rfl ?_
    refine n_aload_n hC dX0_areUnlike_25 rfl ?_
    refine n_get hC cl0 (k := 0) (v := .ref (N0 + (pb P))) xc_o (x_lt hn) (by decide) q194 (xf_get N0 P X (by decide)) dX0_areUnlike_26 ?_
    refine n_getN hC cl1 (k := 1) (v := .int (nI (pN P 1))) (xc_po hn) (p_lt0 hn) (by decide) q86 (pf_get N0 P (by decide)) dX0_areUnlike_29 ?_
    refine n_icmp_geN (tgt := 92) hC q (pN P 1) rfl rfl (by omega) (by omega) dX0_areUnlike_32 (by decide) (fun c32 => ?_) (fun c32 => ?_)
    · refine n_drop [0, 1, 2, 3, 4] (L' := [(0, .ref (N0 + 0)), (1, .int r), (2, .int (nI t)), (3, .int (bI b)), (4, .int (nI j))]) rfl ?_
      rw [x_areUnlike_L23, if_pos c32] at hK
      exact hK
    · refine n_iload_n hC dX0_areUnlike_35 rfl ?_
      refine n_if_eqB (tgt := 92) hC dX0_areUnlike_36 (by decide) (fun c36 => ?_) (fun c36 => ?_)
      · refine n_drop [0, 1, 2, 3, 4] (L' := [(0, .ref (N0 + 0)), (1, .int r), (2, .int (nI t)), (3, .int (bI b)), (4, .int (nI j))]) rfl ?_
        rw [x_areUnlike_L23, if_neg (Nat.not_le.mpr c32), if_neg (by rw [c36]; decide)] at hK
        exact hK
      · refine n_iload_n hC dX0_areUnlike_39 rfl ?_
        refine n_iload hC dX0_areUnlike_40 rfl ?_
        refine n_callS1 hC (As := [.int r, .int (nI j)]) (rest := []) bX0_has (t_x_has l D N0 kA (xH N0 kA hs P X) n r j ) (by decide) (by decide) q511 rfl (Nat.le_of_ble_eq_true rfl) dX0_areUnlike_42 (Nat.le_of_ble_eq_true rfl) (Nat.le_of_ble_eq_true rfl) ?_
        refine n_stk (st' := [.int (bI (x_has r j))]) rfl ?_
        refine n_if_eqB (tgt := 80) hC dX0_areUnlike_45 (by decide) (fun c45 => ?_) (fun c45 => ?_)
        · refine n_iconst (v := (nI 1)) hC dX0_areUnlike_80 (by decide) ?_
          refine n_goto (tgt := 85) hC dX0_areUnlike_81 (by decide) ?_
          refine n_istore_n (L' := [(0, .ref (N0 + 0)), (1, .int r), (2, .int (nI t)), (3, .int (nI 1)), (4, .int (nI j)), (5, .int (nI q))]) hC dX0_areUnlike_85 (by decide) rfl ?_
          refine n_iincN (a := q) (L' := [(0, .ref (N0 + 0)), (1, .int r), (2, .int (nI t)), (3, .int (nI 1)), (4, .int (nI j)), (5, .int (nI (q + 1)))]) hC dX0_areUnlike_86 rfl (by decide) rfl ?_
          refine n_goto (tgt := 23) hC dX0_areUnlike_89 (by decide) ?_
          rw [x_areUnlike_L23, if_neg (Nat.not_le.mpr c32), if_pos c36, if_neg (by rw [c45]; decide)] at hK
          exact ih true j (q + 1) (by omega) (by omega) (by omega) hK
        · refine n_iload_n hC dX0_areUnlike_48 rfl ?_
          refine n_iload hC dX0_areUnlike_49 rfl ?_
          refine n_callS1 hC (As := [.int r, .int (nI q)]) (rest := []) bX0_has (t_x_has l D N0 kA (xH N0 kA hs P X) n r q ) (by decide) (by decide) q511 rfl (Nat.le_of_ble_eq_true rfl) dX0_areUnlike_51 (Nat.le_of_ble_eq_true rfl) (Nat.le_of_ble_eq_true rfl) ?_
          refine n_stk (st' := [.int (bI (x_has r q))]) rfl ?_
          refine n_if_eqB (tgt := 80) hC dX0_areUnlike_54 (by decide) (fun c54 => ?_) (fun c54 => ?_)
          · refine n_iconst (v := (nI 1)) hC dX0_areUnlike_80 (by decide) ?_
            refine n_goto (tgt := 85) hC dX0_areUnlike_81 (by decide) ?_
            refine n_istore_n (L' := [(0, .ref (N0 + 0)), (1, .int r), (2, .int (nI t)), (3, .int (nI 1)), (4, .int (nI j)), (5, .int (nI q))]) hC dX0_areUnlike_85 (by decide) rfl ?_
            refine n_iincN (a := q) (L' := [(0, .ref (N0 + 0)), (1, .int r), (2, .int (nI t)), (3, .int (nI 1)), (4, .int (nI j)), (5, .int (nI (q + 1)))]) hC dX0_areUnlike_86 rfl (by decide) rfl ?_
            refine n_goto (tgt := 23) hC dX0_areUnlike_89 (by decide) ?_
            rw [x_areUnlike_L23, if_neg (Nat.not_le.mpr c32), if_pos c36, if_pos c45, if_neg (by rw [c54]; decide)] at hK
            exact ih true j (q + 1) (by omega) (by omega) (by omega) hK
          · refine n_aload_n hC dX0_areUnlike_57 rfl ?_
            refine n_get hC cl0 (k := 1) (v := .ref (N0 + (sAd 0))) xc_o (x_lt hn) (by decide) q195 (xf_get N0 P X (by decide)) dX0_areUnlike_58 ?_
            refine n_iload hC dX0_areUnlike_61 rfl ?_
            refine n_iload_n hC dX0_areUnlike_63 rfl ?_
            refine n_callV1 hC (As := [.int (nI j), .int (nI t)]) (rest := []) (xc_so (by decide)) (s_lt0 hn (by decide)) rfl bX2_measure (t_x_measure l D N0 kA hs P X n hn j t (by omega) (by omega) hh) (by decide) (by decide) q455 rfl (Nat.le_of_ble_eq_true rfl) dX0_areUnlike_64 (Nat.le_of_ble_eq_true rfl) (Nat.le_of_ble_eq_true rfl) ?_
            refine n_stk (st' := [.int (x_measure P X j t)]) rfl ?_
            refine n_aload_n hC dX0_areUnlike_67 rfl ?_
            refine n_get hC cl0 (k := 1) (v := .ref (N0 + (sAd 0))) xc_o (x_lt hn) (by decide) q195 (xf_get N0 P X (by decide)) dX0_areUnlike_68 ?_
            refine n_iload hC dX0_areUnlike_71 rfl ?_
            refine n_iload_n hC dX0_areUnlike_73 rfl ?_
            refine n_callV1 hC (As := [.int (nI q), .int (nI t)]) (rest := [.int (x_measure P X j t)]) (xc_so (by decide)) (s_lt0 hn (by decide)) rfl bX2_measure (t_x_measure l D N0 kA hs P X n hn q t (by omega) (by omega) hh) (by decide) (by decide) q455 rfl (Nat.le_of_ble_eq_true rfl) dX0_areUnlike_74 (Nat.le_of_ble_eq_true rfl) (Nat.le_of_ble_eq_true rfl) ?_
            refine n_stk (st' := [.int (x_measure P X q t), .int (x_measure P X j t)]) rfl ?_
            refine n_icmp_eq (tgt := 84) hC dX0_areUnlike_77 (by decide) (fun c77 => ?_) (fun c77 => ?_)
            · refine n_iconst (v := (nI 0)) hC dX0_areUnlike_84 (by decide) ?_
              refine n_istore_n (L' := [(0, .ref (N0 + 0)), (1, .int r), (2, .int (nI t)), (3, .int (nI 0)), (4, .int (nI j)), (5, .int (nI q))]) hC dX0_areUnlike_85 (by decide) rfl ?_
              refine n_iincN (a := q) (L' := [(0, .ref (N0 + 0)), (1, .int r), (2, .int (nI t)), (3, .int (nI 0)), (4, .int (nI j)), (5, .int (nI (q + 1)))]) hC dX0_areUnlike_86 rfl (by decide) rfl ?_
              refine n_goto (tgt := 23) hC dX0_areUnlike_89 (by decide) ?_
              rw [x_areUnlike_L23, if_neg (Nat.not_le.mpr c32), if_pos c36, if_pos c45, if_pos c54, if_pos c77] at hK
              exact ih false j (q + 1) (by omega) (by omega) (by omega) hK
            · refine n_iconst (v := (nI 1)) hC dX0_areUnlike_80 (by decide) ?_
              refine n_goto (tgt := 85) hC dX0_areUnlike_81 (by decide) ?_
              refine n_istore_n (L' := [(0, .ref (N0 + 0)), (1, .int r), (2, .int (nI t)), (3, .int (nI 1)), (4, .int (nI j)), (5, .int (nI q))]) hC dX0_areUnlike_85 (by decide) rfl ?_
              refine n_iincN (a := q) (L' := [(0, .ref (N0 + 0)), (1, .int r), (2, .int (nI t)), (3, .int (nI 1)), (4, .int (nI j)), (5, .int (nI (q + 1)))]) hC dX0_areUnlike_86 rfl (by decide) rfl ?_
              refine n_goto (tgt := 23) hC dX0_areUnlike_89 (by decide) ?_
              rw [x_areUnlike_L23, if_neg (Nat.not_le.mpr c32), if_pos c36, if_pos c45, if_pos c54, if_neg c77] at hK
              exact ih true j (q + 1) (by omega) (by omega) (by omega) hK
set_option maxRecDepth 100000 in
set_option maxHeartbeats 4000000 in
theorem t_x_areUnlike_L5 {p : Program} {l : Launch} {e : Env} {s : State} {m : MethodId} {args : Array Value} {below : List Frame} {meth : Method} {c : Code} {D : va_G} {N0 : Nat} {kA : Nat → ClassId} {hs : hT} {P : PS} {X : XS} {n : Nat} (hn : xOk P n) {r : Int32} {t : Nat} (hC : nC p s m args meth c RX0 cX0_areUnlike 6 (some .boolean) true D N0 kA) (hh : xHe P) (ht : t < 2 ^ 31) : ∀ (fu : Nat) (b : Bool) (j : Nat) (hj : j ≤ pN P 1) (hf : pN P 1 < j + fu), nW p l e (nRm 3 0 0) s m args below meth c (nQ below (nX (some (.int (bI (x_areUnlike_L5 fu P X r t b j)))) (xH N0 kA hs P X) n) D N0 s 0 0) D N0 6 5 [(0, .ref (N0 + 0)), (1, .int r), (2, .int (nI t)), (3, .int (bI b)), (4, .int (nI j))] [] (xH N0 kA hs P X) n 0 0 := by
  intro fu
  induction fu with
  | zero =>
    intro b j hj hf
    exfalso; omega
  | succ fu ih =>
    intro b j hj hf
    have hm6 := pN_le hn
    refine n_iload hC dX0_areUnlike_5 rfl ?_
    refine n_aload_n hC dX0_areUnlike_7 rfl ?_
    refine n_get hC cl0 (k := 0) (v := .ref (N0 + (pb P))) xc_o (x_lt hn) (by decide) q194 (xf_get N0 P X (by decide)) dX0_areUnlike_8 ?_
    refine n_getN hC cl1 (k := 1) (v := .int (nI (pN P 1))) (xc_po hn) (p_lt0 hn) (by decide) q86 (pf_get N0 P (by decide)) dX0_areUnlike_11 ?_
    refine n_icmp_geN (tgt := 98) hC j (pN P 1) rfl rfl (by omega) (by omega) dX0_areUnlike_14 (by decide) (fun c14 => ?_) (fun c14 => ?_)
    · refine n_iload_n hC dX0_areUnlike_98 rfl ?_
      have eq_ : x_areUnlike_L5 (fu + 1) P X r t b j = b := by rw [x_areUnlike_L5, if_pos c14]
      refine n_zret hC dX0_areUnlike_99 (show narrow .boolean (.int (bI b)) = _ from by cases b <;> decide) (Nat.le_of_ble_eq_true rfl) (Nat.le_of_ble_eq_true rfl) ?_
      rw [eq_]
      exact ⟨rfl, rfl, rfl⟩
    · refine n_iload hC dX0_areUnlike_17 rfl ?_
      refine n_iconst (v := (nI 1)) hC dX0_areUnlike_19 (by decide) ?_
      refine n_iaddN hC dX0_areUnlike_20 ?_
      refine n_istore (L' := [(0, .ref (N0 + 0)), (1, .int r), (2, .int (nI t)), (3, .int (bI b)), (4, .int (nI j)), (5, .int (nI (j + 1)))]) hC dX0_areUnlike_21 (by decide) rfl ?_
      refine t_x_areUnlike_L23 hn hC hh ht (pN P 1 + 1) b j (j + 1) (by omega) (by omega) (by omega) ?_
      refine n_iincN (a := j) (L' := [(0, .ref (N0 + 0)), (1, .int r), (2, .int (nI t)), (3, .int (bI (x_areUnlike_L23 (pN P 1 + 1) P X r t b j (j + 1)))), (4, .int (nI (j + 1)))]) hC dX0_areUnlike_92 rfl (by decide) rfl ?_
      refine n_goto (tgt := 5) hC dX0_areUnlike_95 (by decide) ?_
      rw [show x_areUnlike_L5 (fu + 1) P X r t b j = x_areUnlike_L5 fu P X r t (x_areUnlike_L23 (pN P 1 + 1) P X r t b j (j + 1)) (j + 1) from by rw [x_areUnlike_L5, if_neg (Nat.not_le.mpr c14)]]
      exact ih (x_areUnlike_L23 (pN P 1 + 1) P X r t b j (j + 1)) (j + 1) (by omega) (by omega)
set_option maxRecDepth 100000 in
set_option maxHeartbeats 4000000 in
theorem t_x_areUnlike (l : Launch) (D : va_G) (N0 : Nat) (kA : Nat → ClassId) (hs : hT) (P : PS) (X : XS) (n : Nat) (hn : xOk P n) (r : Int32) (t : Nat) (hh : xHe P) (ht : t < 2 ^ 31) : nE l yX0_areUnlike cX0_areUnlike 6 (some .boolean) D N0 kA 3 0 0 [.ref (N0 + 0), .int r, .int (nI t)] (xH N0 kA hs P X) n (nX (some (.int (bI (x_areUnlike P X r t)))) (xH N0 kA hs P X) n) := by
  refine nE_of (by decide) (Nat.le_of_ble_eq_true rfl) ?_
  intro p e s m args below meth c hC hnm
  refine n_loc (L' := [(0, .ref (N0 + 0)), (1, .int r), (2, .int (nI t))]) rfl ?_
  have hm6 := pN_le hn
  refine n_iconst (v := (nI 1)) hC dX0_areUnlike_0 (by decide) ?_
  refine n_istore_n (L' := [(0, .ref (N0 + 0)), (1, .int r), (2, .int (nI t)), (3, .int (nI 1))]) hC dX0_areUnlike_1 (by decide) rfl ?_
  refine n_iconst (v := (nI 0)) hC dX0_areUnlike_2 (by decide) ?_
  refine n_istore (L' := [(0, .ref (N0 + 0)), (1, .int r), (2, .int (nI t)), (3, .int (nI 1)), (4, .int (nI 0))]) hC dX0_areUnlike_3 (by decide) rfl ?_
  rw [show x_areUnlike P X r t = x_areUnlike_L5 (pN P 1 + 1) P X r t true 0 from by rw [x_areUnlike]]
  exact t_x_areUnlike_L5 hn hC hh ht (pN P 1 + 1) true 0 (by omega) (by omega)
noncomputable def x_bitCount (t : Int32) : Int32 := ((((((((t - (((t.toUInt32 >>> ((nI 1).toUInt32 &&& Int32.toUInt32 31)).toInt32) &&& (nI 1431655765))) &&& (nI 858993459)) + ((((t - (((t.toUInt32 >>> ((nI 1).toUInt32 &&& Int32.toUInt32 31)).toInt32) &&& (nI 1431655765))).toUInt32 >>> ((nI 2).toUInt32 &&& Int32.toUInt32 31)).toInt32) &&& (nI 858993459))) + (((((t - (((t.toUInt32 >>> ((nI 1).toUInt32 &&& Int32.toUInt32 31)).toInt32) &&& (nI 1431655765))) &&& (nI 858993459)) + ((((t - (((t.toUInt32 >>> ((nI 1).toUInt32 &&& Int32.toUInt32 31)).toInt32) &&& (nI 1431655765))).toUInt32 >>> ((nI 2).toUInt32 &&& Int32.toUInt32 31)).toInt32) &&& (nI 858993459))).toUInt32 >>> ((nI 4).toUInt32 &&& Int32.toUInt32 31)).toInt32)) &&& (nI 252645135)) + (((((((t - (((t.toUInt32 >>> ((nI 1).toUInt32 &&& Int32.toUInt32 31)).toInt32) &&& (nI 1431655765))) &&& (nI 858993459)) + ((((t - (((t.toUInt32 >>> ((nI 1).toUInt32 &&& Int32.toUInt32 31)).toInt32) &&& (nI 1431655765))).toUInt32 >>> ((nI 2).toUInt32 &&& Int32.toUInt32 31)).toInt32) &&& (nI 858993459))) + (((((t - (((t.toUInt32 >>> ((nI 1).toUInt32 &&& Int32.toUInt32 31)).toInt32) &&& (nI 1431655765))) &&& (nI 858993459)) + ((((t - (((t.toUInt32 >>> ((nI 1).toUInt32 &&& Int32.toUInt32 31)).toInt32) &&& (nI 1431655765))).toUInt32 >>> ((nI 2).toUInt32 &&& Int32.toUInt32 31)).toInt32) &&& (nI 858993459))).toUInt32 >>> ((nI 4).toUInt32 &&& Int32.toUInt32 31)).toInt32)) &&& (nI 252645135)).toUInt32 >>> ((nI 8).toUInt32 &&& Int32.toUInt32 31)).toInt32)) + ((((((((t - (((t.toUInt32 >>> ((nI 1).toUInt32 &&& Int32.toUInt32 31)).toInt32) &&& (nI 1431655765))) &&& (nI 858993459)) + ((((t - (((t.toUInt32 >>> ((nI 1).toUInt32 &&& Int32.toUInt32 31)).toInt32) &&& (nI 1431655765))).toUInt32 >>> ((nI 2).toUInt32 &&& Int32.toUInt32 31)).toInt32) &&& (nI 858993459))) + (((((t - (((t.toUInt32 >>> ((nI 1).toUInt32 &&& Int32.toUInt32 31)).toInt32) &&& (nI 1431655765))) &&& (nI 858993459)) + ((((t - (((t.toUInt32 >>> ((nI 1).toUInt32 &&& Int32.toUInt32 31)).toInt32) &&& (nI 1431655765))).toUInt32 >>> ((nI 2).toUInt32 &&& Int32.toUInt32 31)).toInt32) &&& (nI 858993459))).toUInt32 >>> ((nI 4).toUInt32 &&& Int32.toUInt32 31)).toInt32)) &&& (nI 252645135)) + (((((((t - (((t.toUInt32 >>> ((nI 1).toUInt32 &&& Int32.toUInt32 31)).toInt32) &&& (nI 1431655765))) &&& (nI 858993459)) + ((((t - (((t.toUInt32 >>> ((nI 1).toUInt32 &&& Int32.toUInt32 31)).toInt32) &&& (nI 1431655765))).toUInt32 >>> ((nI 2).toUInt32 &&& Int32.toUInt32 31)).toInt32) &&& (nI 858993459))) + (((((t - (((t.toUInt32 >>> ((nI 1).toUInt32 &&& Int32.toUInt32 31)).toInt32) &&& (nI 1431655765))) &&& (nI 858993459)) + ((((t - (((t.toUInt32 >>> ((nI 1).toUInt32 &&& Int32.toUInt32 31)).toInt32) &&& (nI 1431655765))).toUInt32 >>> ((nI 2).toUInt32 &&& Int32.toUInt32 31)).toInt32) &&& (nI 858993459))).toUInt32 >>> ((nI 4).toUInt32 &&& Int32.toUInt32 31)).toInt32)) &&& (nI 252645135)).toUInt32 >>> ((nI 8).toUInt32 &&& Int32.toUInt32 31)).toInt32)).toUInt32 >>> ((nI 16).toUInt32 &&& Int32.toUInt32 31)).toInt32)) &&& (nI 63))
theorem bJ4_bitCount : nBS yJ4_bitCount cJ4_bitCount 1 (some .int) 1 := ⟨q602, q63, q603, by decide, by decide +kernel⟩
set_option maxRecDepth 100000 in
set_option maxHeartbeats 4000000 in
theorem t_x_bitCount (l : Launch) (D : va_G) (N0 : Nat) (kA : Nat → ClassId) (h : hT) (n : Nat) (t : Int32)  : nE l yJ4_bitCount cJ4_bitCount 1 (some .int) D N0 kA 0 0 0 [.int t] (h) n (nX (some (.int (x_bitCount t))) (h) n) := by
  refine nE_of (by decide) (Nat.le_of_ble_eq_true rfl) ?_
  intro p e s m args below meth c hC hnm
  refine n_loc (L' := [(0, .int t)]) rfl ?_
  refine n_iload_n hC dJ4_bitCount_0 rfl ?_
  refine n_iload_n hC dJ4_bitCount_1 rfl ?_
  refine n_iconst (v := (nI 1)) hC dJ4_bitCount_2 (by decide) ?_
  refine n_iushr hC dJ4_bitCount_3 rfl ?_
  refine n_ldcw hC dJ4_bitCount_4 q604 ?_
  refine n_top 1431655765 (by decide) ?_
  refine n_iand hC dJ4_bitCount_7 ?_
  refine n_isub hC dJ4_bitCount_8 ?_
  refine n_istore_n (L' := [(0, .int (t - (((t.toUInt32 >>> ((nI 1).toUInt32 &&& Int32.toUInt32 31)).toInt32) &&& (nI 1431655765))))]) hC dJ4_bitCount_9 (by decide) rfl ?_
  refine n_iload_n hC dJ4_bitCount_10 rfl ?_
  refine n_ldcw hC dJ4_bitCount_11 q605 ?_
  refine n_top 858993459 (by decide) ?_
  refine n_iand hC dJ4_bitCount_14 ?_
  refine n_iload_n hC dJ4_bitCount_15 rfl ?_
  refine n_iconst (v := (nI 2)) hC dJ4_bitCount_16 (by decide) ?_
  refine n_iushr hC dJ4_bitCount_17 rfl ?_
  refine n_ldcw hC dJ4_bitCount_18 q605 ?_
  refine n_top 858993459 (by decide) ?_
  refine n_iand hC dJ4_bitCount_21 ?_
  refine n_iadd hC dJ4_bitCount_22 ?_
  refine n_istore_n (L' := [(0, .int (((t - (((t.toUInt32 >>> ((nI 1).toUInt32 &&& Int32.toUInt32 31)).toInt32) &&& (nI 1431655765))) &&& (nI 858993459)) + ((((t - (((t.toUInt32 >>> ((nI 1).toUInt32 &&& Int32.toUInt32 31)).toInt32) &&& (nI 1431655765))).toUInt32 >>> ((nI 2).toUInt32 &&& Int32.toUInt32 31)).toInt32) &&& (nI 858993459))))]) hC dJ4_bitCount_23 (by decide) rfl ?_
  refine n_iload_n hC dJ4_bitCount_24 rfl ?_
  refine n_iload_n hC dJ4_bitCount_25 rfl ?_
  refine n_iconst (v := (nI 4)) hC dJ4_bitCount_26 (by decide) ?_
  refine n_iushr hC dJ4_bitCount_27 rfl ?_
  refine n_iadd hC dJ4_bitCount_28 ?_
  refine n_ldcw hC dJ4_bitCount_29 q606 ?_
  refine n_top 252645135 (by decide) ?_
  refine n_iand hC dJ4_bitCount_32 ?_
  refine n_istore_n (L' := [(0, .int (((((t - (((t.toUInt32 >>> ((nI 1).toUInt32 &&& Int32.toUInt32 31)).toInt32) &&& (nI 1431655765))) &&& (nI 858993459)) + ((((t - (((t.toUInt32 >>> ((nI 1).toUInt32 &&& Int32.toUInt32 31)).toInt32) &&& (nI 1431655765))).toUInt32 >>> ((nI 2).toUInt32 &&& Int32.toUInt32 31)).toInt32) &&& (nI 858993459))) + (((((t - (((t.toUInt32 >>> ((nI 1).toUInt32 &&& Int32.toUInt32 31)).toInt32) &&& (nI 1431655765))) &&& (nI 858993459)) + ((((t - (((t.toUInt32 >>> ((nI 1).toUInt32 &&& Int32.toUInt32 31)).toInt32) &&& (nI 1431655765))).toUInt32 >>> ((nI 2).toUInt32 &&& Int32.toUInt32 31)).toInt32) &&& (nI 858993459))).toUInt32 >>> ((nI 4).toUInt32 &&& Int32.toUInt32 31)).toInt32)) &&& (nI 252645135)))]) hC dJ4_bitCount_33 (by decide) rfl ?_
  refine n_iload_n hC dJ4_bitCount_34 rfl ?_
  refine n_iload_n hC dJ4_bitCount_35 rfl ?_
  refine n_bipush (v := (nI 8)) hC dJ4_bitCount_36 (by decide) ?_
  refine n_iushr hC dJ4_bitCount_38 rfl ?_
  refine n_iadd hC dJ4_bitCount_39 ?_
  refine n_istore_n (L' := [(0, .int ((((((t - (((t.toUInt32 >>> ((nI 1).toUInt32 &&& Int32.toUInt32 31)).toInt32) &&& (nI 1431655765))) &&& (nI 858993459)) + ((((t - (((t.toUInt32 >>> ((nI 1).toUInt32 &&& Int32.toUInt32 31)).toInt32) &&& (nI 1431655765))).toUInt32 >>> ((nI 2).toUInt32 &&& Int32.toUInt32 31)).toInt32) &&& (nI 858993459))) + (((((t - (((t.toUInt32 >>> ((nI 1).toUInt32 &&& Int32.toUInt32 31)).toInt32) &&& (nI 1431655765))) &&& (nI 858993459)) + ((((t - (((t.toUInt32 >>> ((nI 1).toUInt32 &&& Int32.toUInt32 31)).toInt32) &&& (nI 1431655765))).toUInt32 >>> ((nI 2).toUInt32 &&& Int32.toUInt32 31)).toInt32) &&& (nI 858993459))).toUInt32 >>> ((nI 4).toUInt32 &&& Int32.toUInt32 31)).toInt32)) &&& (nI 252645135)) + (((((((t - (((t.toUInt32 >>> ((nI 1).toUInt32 &&& Int32.toUInt32 31)).toInt32) &&& (nI 1431655765))) &&& (nI 858993459)) + ((((t - (((t.toUInt32 >>> ((nI 1).toUInt32 &&& Int32.toUInt32 31)).toInt32) &&& (nI 1431655765))).toUInt32 >>> ((nI 2).toUInt32 &&& Int32.toUInt32 31)).toInt32) &&& (nI 858993459))) + (((((t - (((t.toUInt32 >>> ((nI 1).toUInt32 &&& Int32.toUInt32 31)).toInt32) &&& (nI 1431655765))) &&& (nI 858993459)) + ((((t - (((t.toUInt32 >>> ((nI 1).toUInt32 &&& Int32.toUInt32 31)).toInt32) &&& (nI 1431655765))).toUInt32 >>> ((nI 2).toUInt32 &&& Int32.toUInt32 31)).toInt32) &&& (nI 858993459))).toUInt32 >>> ((nI 4).toUInt32 &&& Int32.toUInt32 31)).toInt32)) &&& (nI 252645135)).toUInt32 >>> ((nI 8).toUInt32 &&& Int32.toUInt32 31)).toInt32)))]) hC dJ4_bitCount_40 (by decide) rfl ?_
  refine n_iload_n hC dJ4_bitCount_41 rfl ?_
  refine n_iload_n hC dJ4_bitCount_42 rfl ?_
  refine n_bipush (v := (nI 16)) hC dJ4_bitCount_43 (by decide) ?_
  refine n_iushr hC dJ4_bitCount_45 rfl ?_
  refine n_iadd hC dJ4_bitCount_46 ?_
  refine n_istore_n (L' := [(0, .int (((((((t - (((t.toUInt32 >>> ((nI 1).toUInt32 &&& Int32.toUInt32 31)).toInt32) &&& (nI 1431655765))) &&& (nI 858993459)) + ((((t - (((t.toUInt32 >>> ((nI 1).toUInt32 &&& Int32.toUInt32 31)).toInt32) &&& (nI 1431655765))).toUInt32 >>> ((nI 2).toUInt32 &&& Int32.toUInt32 31)).toInt32) &&& (nI 858993459))) + (((((t - (((t.toUInt32 >>> ((nI 1).toUInt32 &&& Int32.toUInt32 31)).toInt32) &&& (nI 1431655765))) &&& (nI 858993459)) + ((((t - (((t.toUInt32 >>> ((nI 1).toUInt32 &&& Int32.toUInt32 31)).toInt32) &&& (nI 1431655765))).toUInt32 >>> ((nI 2).toUInt32 &&& Int32.toUInt32 31)).toInt32) &&& (nI 858993459))).toUInt32 >>> ((nI 4).toUInt32 &&& Int32.toUInt32 31)).toInt32)) &&& (nI 252645135)) + (((((((t - (((t.toUInt32 >>> ((nI 1).toUInt32 &&& Int32.toUInt32 31)).toInt32) &&& (nI 1431655765))) &&& (nI 858993459)) + ((((t - (((t.toUInt32 >>> ((nI 1).toUInt32 &&& Int32.toUInt32 31)).toInt32) &&& (nI 1431655765))).toUInt32 >>> ((nI 2).toUInt32 &&& Int32.toUInt32 31)).toInt32) &&& (nI 858993459))) + (((((t - (((t.toUInt32 >>> ((nI 1).toUInt32 &&& Int32.toUInt32 31)).toInt32) &&& (nI 1431655765))) &&& (nI 858993459)) + ((((t - (((t.toUInt32 >>> ((nI 1).toUInt32 &&& Int32.toUInt32 31)).toInt32) &&& (nI 1431655765))).toUInt32 >>> ((nI 2).toUInt32 &&& Int32.toUInt32 31)).toInt32) &&& (nI 858993459))).toUInt32 >>> ((nI 4).toUInt32 &&& Int32.toUInt32 31)).toInt32)) &&& (nI 252645135)).toUInt32 >>> ((nI 8).toUInt32 &&& Int32.toUInt32 31)).toInt32)) + ((((((((t - (((t.toUInt32 >>> ((nI 1).toUInt32 &&& Int32.toUInt32 31)).toInt32) &&& (nI 1431655765))) &&& (nI 858993459)) + ((((t - (((t.toUInt32 >>> ((nI 1).toUInt32 &&& Int32.toUInt32 31)).toInt32) &&& (nI 1431655765))).toUInt32 >>> ((nI 2).toUInt32 &&& Int32.toUInt32 31)).toInt32) &&& (nI 858993459))) + (((((t - (((t.toUInt32 >>> ((nI 1).toUInt32 &&& Int32.toUInt32 31)).toInt32) &&& (nI 1431655765))) &&& (nI 858993459)) + ((((t - (((t.toUInt32 >>> ((nI 1).toUInt32 &&& Int32.toUInt32 31)).toInt32) &&& (nI 1431655765))).toUInt32 >>> ((nI 2).toUInt32 &&& Int32.toUInt32 31)).toInt32) &&& (nI 858993459))).toUInt32 >>> ((nI 4).toUInt32 &&& Int32.toUInt32 31)).toInt32)) &&& (nI 252645135)) + (((((((t - (((t.toUInt32 >>> ((nI 1).toUInt32 &&& Int32.toUInt32 31)).toInt32) &&& (nI 1431655765))) &&& (nI 858993459)) + ((((t - (((t.toUInt32 >>> ((nI 1).toUInt32 &&& Int32.toUInt32 31)).toInt32) &&& (nI 1431655765))).toUInt32 >>> ((nI 2).toUInt32 &&& Int32.toUInt32 31)).toInt32) &&& (nI 858993459))) + (((((t - (((t.toUInt32 >>> ((nI 1).toUInt32 &&& Int32.toUInt32 31)).toInt32) &&& (nI 1431655765))) &&& (nI 858993459)) + ((((t - (((t.toUInt32 >>> ((nI 1).toUInt32 &&& Int32.toUInt32 31)).toInt32) &&& (nI 1431655765))).toUInt32 >>> ((nI 2).toUInt32 &&& Int32.toUInt32 31)).toInt32) &&& (nI 858993459))).toUInt32 >>> ((nI 4).toUInt32 &&& Int32.toUInt32 31)).toInt32)) &&& (nI 252645135)).toUInt32 >>> ((nI 8).toUInt32 &&& Int32.toUInt32 31)).toInt32)).toUInt32 >>> ((nI 16).toUInt32 &&& Int32.toUInt32 31)).toInt32)))]) hC dJ4_bitCount_47 (by decide) rfl ?_
  refine n_iload_n hC dJ4_bitCount_48 rfl ?_
  refine n_bipush (v := (nI 63)) hC dJ4_bitCount_49 (by decide) ?_
  refine n_iand hC dJ4_bitCount_51 ?_
  have eq_ : x_bitCount t = ((((((((t - (((t.toUInt32 >>> ((nI 1).toUInt32 &&& Int32.toUInt32 31)).toInt32) &&& (nI 1431655765))) &&& (nI 858993459)) + ((((t - (((t.toUInt32 >>> ((nI 1).toUInt32 &&& Int32.toUInt32 31)).toInt32) &&& (nI 1431655765))).toUInt32 >>> ((nI 2).toUInt32 &&& Int32.toUInt32 31)).toInt32) &&& (nI 858993459))) + (((((t - (((t.toUInt32 >>> ((nI 1).toUInt32 &&& Int32.toUInt32 31)).toInt32) &&& (nI 1431655765))) &&& (nI 858993459)) + ((((t - (((t.toUInt32 >>> ((nI 1).toUInt32 &&& Int32.toUInt32 31)).toInt32) &&& (nI 1431655765))).toUInt32 >>> ((nI 2).toUInt32 &&& Int32.toUInt32 31)).toInt32) &&& (nI 858993459))).toUInt32 >>> ((nI 4).toUInt32 &&& Int32.toUInt32 31)).toInt32)) &&& (nI 252645135)) + (((((((t - (((t.toUInt32 >>> ((nI 1).toUInt32 &&& Int32.toUInt32 31)).toInt32) &&& (nI 1431655765))) &&& (nI 858993459)) + ((((t - (((t.toUInt32 >>> ((nI 1).toUInt32 &&& Int32.toUInt32 31)).toInt32) &&& (nI 1431655765))).toUInt32 >>> ((nI 2).toUInt32 &&& Int32.toUInt32 31)).toInt32) &&& (nI 858993459))) + (((((t - (((t.toUInt32 >>> ((nI 1).toUInt32 &&& Int32.toUInt32 31)).toInt32) &&& (nI 1431655765))) &&& (nI 858993459)) + ((((t - (((t.toUInt32 >>> ((nI 1).toUInt32 &&& Int32.toUInt32 31)).toInt32) &&& (nI 1431655765))).toUInt32 >>> ((nI 2).toUInt32 &&& Int32.toUInt32 31)).toInt32) &&& (nI 858993459))).toUInt32 >>> ((nI 4).toUInt32 &&& Int32.toUInt32 31)).toInt32)) &&& (nI 252645135)).toUInt32 >>> ((nI 8).toUInt32 &&& Int32.toUInt32 31)).toInt32)) + ((((((((t - (((t.toUInt32 >>> ((nI 1).toUInt32 &&& Int32.toUInt32 31)).toInt32) &&& (nI 1431655765))) &&& (nI 858993459)) + ((((t - (((t.toUInt32 >>> ((nI 1).toUInt32 &&& Int32.toUInt32 31)).toInt32) &&& (nI 1431655765))).toUInt32 >>> ((nI 2).toUInt32 &&& Int32.toUInt32 31)).toInt32) &&& (nI 858993459))) + (((((t - (((t.toUInt32 >>> ((nI 1).toUInt32 &&& Int32.toUInt32 31)).toInt32) &&& (nI 1431655765))) &&& (nI 858993459)) + ((((t - (((t.toUInt32 >>> ((nI 1).toUInt32 &&& Int32.toUInt32 31)).toInt32) &&& (nI 1431655765))).toUInt32 >>> ((nI 2).toUInt32 &&& Int32.toUInt32 31)).toInt32) &&& (nI 858993459))).toUInt32 >>> ((nI 4).toUInt32 &&& Int32.toUInt32 31)).toInt32)) &&& (nI 252645135)) + (((((((t - (((t.toUInt32 >>> ((nI 1).toUInt32 &&& Int32.toUInt32 31)).toInt32) &&& (nI 1431655765))) &&& (nI 858993459)) + ((((t - (((t.toUInt32 >>> ((nI 1).toUInt32 &&& Int32.toUInt32 31)).toInt32) &&& (nI 1431655765))).toUInt32 >>> ((nI 2).toUInt32 &&& Int32.toUInt32 31)).toInt32) &&& (nI 858993459))) + (((((t - (((t.toUInt32 >>> ((nI 1).toUInt32 &&& Int32.toUInt32 31)).toInt32) &&& (nI 1431655765))) &&& (nI 858993459)) + ((((t - (((t.toUInt32 >>> ((nI 1).toUInt32 &&& Int32.toUInt32 31)).toInt32) &&& (nI 1431655765))).toUInt32 >>> ((nI 2).toUInt32 &&& Int32.toUInt32 31)).toInt32) &&& (nI 858993459))).toUInt32 >>> ((nI 4).toUInt32 &&& Int32.toUInt32 31)).toInt32)) &&& (nI 252645135)).toUInt32 >>> ((nI 8).toUInt32 &&& Int32.toUInt32 31)).toInt32)).toUInt32 >>> ((nI 16).toUInt32 &&& Int32.toUInt32 31)).toInt32)) &&& (nI 63)) := by rw [x_bitCount]
  refine n_iret hC dJ4_bitCount_52 (Nat.le_of_ble_eq_true rfl) (Nat.le_of_ble_eq_true rfl) ?_
  rw [eq_]
  exact ⟨rfl, rfl, rfl⟩
noncomputable def x_bale_L7 : Nat → PS → XS → Int32 → Nat → Int32
  | 0, _, _, _, _ => 0
  | fu + 1, P, X, r, i => (if 4 ≤ i then (-1) else (if (x_bitCount r) ≤ (nI 1) then (-1) else (if (x_areUnlike P X r ((sN X 0) + i)) = true then (nI i) else x_bale_L7 fu P X r (i + 1))))
noncomputable def x_bale (P : PS) (X : XS) : Int32 := x_bale_L7 5 P X (x_used P X) 0
theorem bX0_bale : nBV RX0 yX0_bale cX0_bale 3 (some .int) 0 := ⟨q642, q643, q51, q644, by decide, by decide +kernel⟩
set_option maxRecDepth 100000 in
set_option maxHeartbeats 4000000 in
theorem t_x_bale_L7 {p : Program} {l : Launch} {e : Env} {s : State} {m : MethodId} {args : Array Value} {below : List Frame} {meth : Method} {c : Code} {D : va_G} {N0 : Nat} {kA : Nat → ClassId} {hs : hT} {P : PS} {X : XS} {n : Nat} (hn : xOk P n)  (hC : nC p s m args meth c RX0 cX0_bale 3 (some .int) true D N0 kA) (hh : xHe P) (hS : sN X 0 < 30000) (h6 : xN X 6 ≤ 8) : ∀ (fu : Nat) (r : Int32) (i : Nat) (hi : i ≤ 4) (hf : 4 < i + fu), nW p l e (nRm 4 0 0) s m args below meth c (nQ below (nX (some (.int (x_bale_L7 fu P X r i))) (xH N0 kA hs P X) n) D N0 s 0 0) D N0 3 7 [(0, .ref (N0 + 0)), (1, .int r), (2, .int (nI i))] [] (xH N0 kA hs P X) n 0 0 := by
  intro fu
  induction fu with
  | zero =>
    intro r i hi hf
    exfalso; omega
  | succ fu ih =>
    intro r i hi hf
    have hm6 := pN_le hn
    refine n_iload_n hC dX0_bale_7 rfl ?_
    refine n_iconst (v := (nI 4)) hC dX0_bale_8 (by decide) ?_
    refine n_icmp_geN (tgt := 45) hC i 4 rfl rfl (by omega) (by omega) dX0_bale_9 (by decide) (fun c9 => ?_) (fun c9 => ?_)
    · refine n_iconst (v := (-1)) hC dX0_bale_45 (by decide) ?_
      have eq_ : x_bale_L7 (fu + 1) P X r i = (-1) := by rw [x_bale_L7, if_pos c9]
      refine n_iret hC dX0_bale_46 (Nat.le_of_ble_eq_true rfl) (Nat.le_of_ble_eq_true rfl) ?_
      rw [eq_]
      exact ⟨rfl, rfl, rfl⟩
    · refine n_iload_n hC dX0_bale_12 rfl ?_
      refine n_callS1 hC (As := [.int r]) (rest := []) bJ4_bitCount (t_x_bitCount l D N0 kA (xH N0 kA hs P X) n r ) (by decide) (by decide) q601 rfl (Nat.le_of_ble_eq_true rfl) dX0_bale_13 (Nat.le_of_ble_eq_true rfl) (Nat.le_of_ble_eq_true rfl) ?_
      refine n_stk (st' := [.int (x_bitCount r)]) rfl ?_
      refine n_iconst (v := (nI 1)) hC dX0_bale_16 (by decide) ?_
      refine n_icmp_le (tgt := 45) hC dX0_bale_17 (by decide) (fun c17 => ?_) (fun c17 => ?_)
      · refine n_iconst (v := (-1)) hC dX0_bale_45 (by decide) ?_
        have eq_ : x_bale_L7 (fu + 1) P X r i = (-1) := by rw [x_bale_L7, if_neg (Nat.not_le.mpr c9), if_pos c17]
        refine n_iret hC dX0_bale_46 (Nat.le_of_ble_eq_true rfl) (Nat.le_of_ble_eq_true rfl) ?_
        rw [eq_]
        exact ⟨rfl, rfl, rfl⟩
      · refine n_aload_n hC dX0_bale_20 rfl ?_
        refine n_iload_n hC dX0_bale_21 rfl ?_
        refine n_aload_n hC dX0_bale_22 rfl ?_
        refine n_get hC cl0 (k := 1) (v := .ref (N0 + (sAd 0))) xc_o (x_lt hn) (by decide) q195 (xf_get N0 P X (by decide)) dX0_bale_23 ?_
        refine n_getN hC cl2 (k := 5) (v := .int (nI (sN X 0))) (xc_so (by decide)) (s_lt0 hn (by decide)) (by decide) q157 (sf_get N0 X 0 (by decide)) dX0_bale_26 ?_
        refine n_iload_n hC dX0_bale_29 rfl ?_
        refine n_iaddN hC dX0_bale_30 ?_
        refine n_callV1 hC (As := [.int r, .int (nI ((sN X 0) + i))]) (rest := []) xc_o (x_lt hn) rfl bX0_areUnlike (t_x_areUnlike l D N0 kA hs P X n hn r ((sN X 0) + i) hh (by omega)) (by decide) (by decide) q646 rfl (Nat.le_of_ble_eq_true rfl) dX0_bale_31 (Nat.le_of_ble_eq_true rfl) (Nat.le_of_ble_eq_true rfl) ?_
        refine n_stk (st' := [.int (bI (x_areUnlike P X r ((sN X 0) + i)))]) rfl ?_
        refine n_if_eqB (tgt := 39) hC dX0_bale_34 (by decide) (fun c34 => ?_) (fun c34 => ?_)
        · refine n_iincN (a := i) (L' := [(0, .ref (N0 + 0)), (1, .int r), (2, .int (nI (i + 1)))]) hC dX0_bale_39 rfl (by decide) rfl ?_
          refine n_goto (tgt := 7) hC dX0_bale_42 (by decide) ?_
          rw [show x_bale_L7 (fu + 1) P X r i = x_bale_L7 fu P X r (i + 1) from by rw [x_bale_L7, if_neg (Nat.not_le.mpr c9), if_neg c17, if_neg (by rw [c34]; decide)]]
          exact ih r (i + 1) (by omega) (by omega)
        · refine n_iload_n hC dX0_bale_37 rfl ?_
          have eq_ : x_bale_L7 (fu + 1) P X r i = (nI i) := by rw [x_bale_L7, if_neg (Nat.not_le.mpr c9), if_neg c17, if_pos c34]
          refine n_iret hC dX0_bale_38 (Nat.le_of_ble_eq_true rfl) (Nat.le_of_ble_eq_true rfl) ?_
          rw [eq_]
          exact ⟨rfl, rfl, rfl⟩
set_option maxRecDepth 100000 in
set_option maxHeartbeats 4000000 in
theorem t_x_bale (l : Launch) (D : va_G) (N0 : Nat) (kA : Nat → ClassId) (hs : hT) (P : PS) (X : XS) (n : Nat) (hn : xOk P n)  (hh : xHe P) (hS : sN X 0 < 30000) (h6 : xN X 6 ≤ 8) : nE l yX0_bale cX0_bale 3 (some .int) D N0 kA 4 0 0 [.ref (N0 + 0)] (xH N0 kA hs P X) n (nX (some (.int (x_bale P X))) (xH N0 kA hs P X) n) := by
  refine nE_of (by decide) (Nat.le_of_ble_eq_true rfl) ?_
  intro p e s m args below meth c hC hnm
  refine n_loc (L' := [(0, .ref (N0 + 0))]) rfl ?_
  have hm6 := pN_le hn
  refine n_aload_n hC dX0_bale_0 rfl ?_
  refine n_callV1 hC (As := []) (rest := []) xc_o (x_lt hn) rfl bX0_used (t_x_used l D N0 kA hs P X n hn  hh hS (by omega)) (by decide) (by decide) q645 rfl (Nat.le_of_ble_eq_true rfl) dX0_bale_1 (Nat.le_of_ble_eq_true rfl) (Nat.le_of_ble_eq_true rfl) ?_
  refine n_stk (st' := [.int (x_used P X)]) rfl ?_
  refine n_istore_n (L' := [(0, .ref (N0 + 0)), (1, .int (x_used P X))]) hC dX0_bale_4 (by decide) rfl ?_
  refine n_iconst (v := (nI 0)) hC dX0_bale_5 (by decide) ?_
  refine n_istore_n (L' := [(0, .ref (N0 + 0)), (1, .int (x_used P X)), (2, .int (nI 0))]) hC dX0_bale_6 (by decide) rfl ?_
  rw [show x_bale P X = x_bale_L7 5 P X (x_used P X) 0 from by rw [x_bale]]
  exact t_x_bale_L7 hn hC hh hS h6 5 (x_used P X) 0 (by omega) (by omega)
noncomputable def x_judge_L2 : Nat → PS → XS → Nat → Int32
  | 0, _, _, _ => 0
  | fu + 1, P, X, i => (if (xN X 9) ≤ i then (-1) else (if (x_measure P X (xB X 7 i) (sN X 0)) = (xA X 8 i) then x_judge_L2 fu P X (i + 1) else (nI i)))
noncomputable def x_judge (P : PS) (X : XS) : Int32 := x_judge_L2 (xN X 9 + 1) P X 0
theorem bX0_judge : nBV RX0 yX0_judge cX0_judge 2 (some .int) 0 := ⟨q659, q660, q51, q661, by decide, by decide +kernel⟩
set_option maxRecDepth 100000 in
set_option maxHeartbeats 4000000 in
theorem t_x_judge_L2 {p : Program} {l : Launch} {e : Env} {s : State} {m : MethodId} {args : Array Value} {below : List Frame} {meth : Method} {c : Code} {D : va_G} {N0 : Nat} {kA : Nat → ClassId} {hs : hT} {P : PS} {X : XS} {n : Nat} (hn : xOk P n)  (hC : nC p s m args meth c RX0 cX0_judge 2 (some .int) true D N0 kA) (hh : xHe P) (hS : sN X 0 < 30000) (h9 : xN X 9 ≤ 15) (hb : ∀ i, i < xN X 9 → xB X 7 i < pN P 1) : ∀ (fu : Nat) (i : Nat) (hi : i ≤ xN X 9) (hf : xN X 9 < i + fu), nW p l e (nRm 3 0 0) s m args below meth c (nQ below (nX (some (.int (x_judge_L2 fu P X i))) (xH N0 kA hs P X) n) D N0 s 0 0) D N0 2 2 [(0, .ref (N0 + 0)), (1, .int (nI i))] [] (xH N0 kA hs P X) n 0 0 := by
  intro fu
  induction fu with
  | zero =>
    intro i hi hf
    exfalso; omega
  | succ fu ih =>
    intro i hi hf
    refine n_iload_n hC dX0_judge_2 rfl ?_
    refine n_aload_n hC dX0_judge_3 rfl ?_
    refine n_get hC cl0 (k := 9) (v := .int (nI (xN X 9))) xc_o (x_lt hn) (by decide) q203 (xf_get N0 P X (by decide)) dX0_judge_4 ?_
    refine n_icmp_geN (tgt := 47) hC i (xN X 9) rfl rfl (by omega) (by omega) dX0_judge_7 (by decide) (fun c7 => ?_) (fun c7 => ?_)
    · refine n_iconst (v := (-1)) hC dX0_judge_47 (by decide) ?_
      have eq_ : x_judge_L2 (fu + 1) P X i = (-1) := by rw [x_judge_L2, if_pos c7]
      refine n_iret hC dX0_judge_48 (Nat.le_of_ble_eq_true rfl) (Nat.le_of_ble_eq_true rfl) ?_
      rw [eq_]
      exact ⟨rfl, rfl, rfl⟩
    · have hbi := hb i (by omega)
      refine n_aload_n hC dX0_judge_10 rfl ?_
      refine n_get hC cl0 (k := 1) (v := .ref (N0 + (sAd 0))) xc_o (x_lt hn) (by decide) q195 (xf_get N0 P X (by decide)) dX0_judge_11 ?_
      refine n_aload_n hC dX0_judge_14 rfl ?_
      refine n_get hC cl0 (k := 7) (v := .ref (N0 + 17)) xc_o (x_lt hn) (by decide) q201 (xf_get N0 P X (by decide)) dX0_judge_15 ?_
      refine n_iload_n hC dX0_judge_18 rfl ?_
      refine n_iald hC (f := fun j => nI (xB X 7 j)) (xc_a (p := 17) (by decide) (by decide)) (xa_lt hn (by decide)) i rfl (by omega) (by decide) dX0_judge_19 ?_
      refine n_aload_n hC dX0_judge_20 rfl ?_
      refine n_get hC cl0 (k := 1) (v := .ref (N0 + (sAd 0))) xc_o (x_lt hn) (by decide) q195 (xf_get N0 P X (by decide)) dX0_judge_21 ?_
      refine n_getN hC cl2 (k := 5) (v := .int (nI (sN X 0))) (xc_so (by decide)) (s_lt0 hn (by decide)) (by decide) q157 (sf_get N0 X 0 (by decide)) dX0_judge_24 ?_
      refine n_callV1 hC (As := [.int (nI (xB X 7 i)), .int (nI (sN X 0))]) (rest := []) (xc_so (by decide)) (s_lt0 hn (by decide)) rfl bX2_measure (t_x_measure l D N0 kA hs P X n hn (xB X 7 i) (sN X 0) (by omega) (by omega) hh) (by decide) (by decide) q455 rfl (Nat.le_of_ble_eq_true rfl) dX0_judge_27 (Nat.le_of_ble_eq_true rfl) (Nat.le_of_ble_eq_true rfl) ?_
      refine n_stk (st' := [.int (x_measure P X (xB X 7 i) (sN X 0))]) rfl ?_
      refine n_aload_n hC dX0_judge_30 rfl ?_
      refine n_get hC cl0 (k := 8) (v := .ref (N0 + 18)) xc_o (x_lt hn) (by decide) q202 (xf_get N0 P X (by decide)) dX0_judge_31 ?_
      refine n_iload_n hC dX0_judge_34 rfl ?_
      refine n_iald hC (f := xA X 8) (xc_a (p := 18) (by decide) (by decide)) (xa_lt hn (by decide)) i rfl (by omega) (by decide) dX0_judge_35 ?_
      refine n_icmp_eq (tgt := 41) hC dX0_judge_36 (by decide) (fun c36 => ?_) (fun c36 => ?_)
      · refine n_iincN (a := i) (L' := [(0, .ref (N0 + 0)), (1, .int (nI (i + 1)))]) hC dX0_judge_41 rfl (by decide) rfl ?_
        refine n_goto (tgt := 2) hC dX0_judge_44 (by decide) ?_
        rw [show x_judge_L2 (fu + 1) P X i = x_judge_L2 fu P X (i + 1) from by rw [x_judge_L2, if_neg (Nat.not_le.mpr c7), if_pos c36]]
        exact ih (i + 1) (by omega) (by omega)
      · refine n_iload_n hC dX0_judge_39 rfl ?_
        have eq_ : x_judge_L2 (fu + 1) P X i = (nI i) := by rw [x_judge_L2, if_neg (Nat.not_le.mpr c7), if_neg c36]
        refine n_iret hC dX0_judge_40 (Nat.le_of_ble_eq_true rfl) (Nat.le_of_ble_eq_true rfl) ?_
        rw [eq_]
        exact ⟨rfl, rfl, rfl⟩
set_option maxRecDepth 100000 in
set_option maxHeartbeats 4000000 in
theorem t_x_judge (l : Launch) (D : va_G) (N0 : Nat) (kA : Nat → ClassId) (hs : hT) (P : PS) (X : XS) (n : Nat) (hn : xOk P n)  (hh : xHe P) (hS : sN X 0 < 30000) (h9 : xN X 9 ≤ 15) (hb : ∀ i, i < xN X 9 → xB X 7 i < pN P 1) : nE l yX0_judge cX0_judge 2 (some .int) D N0 kA 3 0 0 [.ref (N0 + 0)] (xH N0 kA hs P X) n (nX (some (.int (x_judge P X))) (xH N0 kA hs P X) n) := by
  refine nE_of (by decide) (Nat.le_of_ble_eq_true rfl) ?_
  intro p e s m args below meth c hC hnm
  refine n_loc (L' := [(0, .ref (N0 + 0))]) rfl ?_
  refine n_iconst (v := (nI 0)) hC dX0_judge_0 (by decide) ?_
  refine n_istore_n (L' := [(0, .ref (N0 + 0)), (1, .int (nI 0))]) hC dX0_judge_1 (by decide) rfl ?_
  rw [show x_judge P X = x_judge_L2 (xN X 9 + 1) P X 0 from by rw [x_judge]]
  exact t_x_judge_L2 hn hC hh hS h9 hb (xN X 9 + 1) 0 (by omega) (by omega)
