/-! the class: its small methods -/
noncomputable def x_isIn (v : Int32) (a : Int32) (b : Int32) : Bool := (if v < a then false else (if b < v then false else true))
theorem bX0_isIn : nBS yX0_isIn cX0_isIn 3 (some .boolean) 3 := ⟨q270, q51, q271, by decide, by decide +kernel⟩
set_option maxRecDepth 100000 in
set_option maxHeartbeats 4000000 in
theorem t_x_isIn (l : Launch) (D : va_G) (N0 : Nat) (kA : Nat → ClassId) (h : hT) (n : Nat) (v : Int32) (a : Int32) (b : Int32)  : nE l yX0_isIn cX0_isIn 3 (some .boolean) D N0 kA 0 0 0 [.int v, .int a, .int b] (h) n (nX (some (.int (bI (x_isIn v a b)))) (h) n) := by
  refine nE_of (by decide) (Nat.le_of_ble_eq_true rfl) ?_
  intro p e s m args below meth c hC hnm
  refine n_loc (L' := [(0, .int v), (1, .int a), (2, .int b)]) rfl ?_
  refine n_iload_n hC dX0_isIn_0 rfl ?_
  refine n_iload_n hC dX0_isIn_1 rfl ?_
  refine n_icmp_lt (tgt := 14) hC dX0_isIn_2 (by decide) (fun c2 => ?_) (fun c2 => ?_)
  · refine n_iconst (v := (nI 0)) hC dX0_isIn_14 (by decide) ?_
    have eq_ : x_isIn v a b = false := by rw [x_isIn, if_pos c2]
    refine n_zret hC dX0_isIn_15 (by decide) (Nat.le_of_ble_eq_true rfl) (Nat.le_of_ble_eq_true rfl) ?_
    rw [eq_]
    exact ⟨rfl, rfl, rfl⟩
  · refine n_iload_n hC dX0_isIn_5 rfl ?_
    refine n_iload_n hC dX0_isIn_6 rfl ?_
    refine n_icmp_gt (tgt := 14) hC dX0_isIn_7 (by decide) (fun c7 => ?_) (fun c7 => ?_)
    · refine n_iconst (v := (nI 0)) hC dX0_isIn_14 (by decide) ?_
      have eq_ : x_isIn v a b = false := by rw [x_isIn, if_neg c2, if_pos c7]
      refine n_zret hC dX0_isIn_15 (by decide) (Nat.le_of_ble_eq_true rfl) (Nat.le_of_ble_eq_true rfl) ?_
      rw [eq_]
      exact ⟨rfl, rfl, rfl⟩
    · refine n_iconst (v := (nI 1)) hC dX0_isIn_10 (by decide) ?_
      refine n_goto (tgt := 15) hC dX0_isIn_11 (by decide) ?_
      have eq_ : x_isIn v a b = true := by rw [x_isIn, if_neg c2, if_neg c7]
      refine n_zret hC dX0_isIn_15 (by decide) (Nat.le_of_ble_eq_true rfl) (Nat.le_of_ble_eq_true rfl) ?_
      rw [eq_]
      exact ⟨rfl, rfl, rfl⟩
noncomputable def x_has (t : Int32) (k : Nat) : Bool := (if ((t >>> ((nI k) &&& 31)) &&& (nI 1)) = (nI 1) then true else false)
theorem bX0_has : nBS yX0_has cX0_has 2 (some .boolean) 2 := ⟨q460, q51, q461, by decide, by decide +kernel⟩
set_option maxRecDepth 100000 in
set_option maxHeartbeats 4000000 in
theorem t_x_has (l : Launch) (D : va_G) (N0 : Nat) (kA : Nat → ClassId) (h : hT) (n : Nat) (t : Int32) (k : Nat)  : nE l yX0_has cX0_has 2 (some .boolean) D N0 kA 0 0 0 [.int t, .int (nI k)] (h) n (nX (some (.int (bI (x_has t k)))) (h) n) := by
  refine nE_of (by decide) (Nat.le_of_ble_eq_true rfl) ?_
  intro p e s m args below meth c hC hnm
  refine n_loc (L' := [(0, .int t), (1, .int (nI k))]) rfl ?_
  refine n_iload_n hC dX0_has_0 rfl ?_
  refine n_iload_n hC dX0_has_1 rfl ?_
  refine n_ishr hC dX0_has_2 ?_
  refine n_iconst (v := (nI 1)) hC dX0_has_3 (by decide) ?_
  refine n_iand hC dX0_has_4 ?_
  refine n_iconst (v := (nI 1)) hC dX0_has_5 (by decide) ?_
  refine n_icmp_ne (tgt := 13) hC dX0_has_6 (by decide) (fun c6 => ?_) (fun c6 => ?_)
  · refine n_iconst (v := (nI 0)) hC dX0_has_13 (by decide) ?_
    have eq_ : x_has t k = false := by rw [x_has, if_neg c6]
    refine n_zret hC dX0_has_14 (by decide) (Nat.le_of_ble_eq_true rfl) (Nat.le_of_ble_eq_true rfl) ?_
    rw [eq_]
    exact ⟨rfl, rfl, rfl⟩
  · refine n_iconst (v := (nI 1)) hC dX0_has_9 (by decide) ?_
    refine n_goto (tgt := 14) hC dX0_has_10 (by decide) ?_
    have eq_ : x_has t k = true := by rw [x_has, if_pos c6]
    refine n_zret hC dX0_has_14 (by decide) (Nat.le_of_ble_eq_true rfl) (Nat.le_of_ble_eq_true rfl) ?_
    rw [eq_]
    exact ⟨rfl, rfl, rfl⟩
noncomputable def x_fault (P : PS) (X : XS) : Int32 := (xI X 12)
theorem bX0_fault : nBV RX0 yX0_fault cX0_fault 1 (some .int) 0 := ⟨q431, q432, q51, q433, by decide, by decide +kernel⟩
set_option maxRecDepth 100000 in
set_option maxHeartbeats 4000000 in
theorem t_x_fault (l : Launch) (D : va_G) (N0 : Nat) (kA : Nat → ClassId) (hs : hT) (P : PS) (X : XS) (n : Nat) (hn : xOk P n)   : nE l yX0_fault cX0_fault 1 (some .int) D N0 kA 0 0 0 [.ref (N0 + 0)] (xH N0 kA hs P X) n (nX (some (.int (x_fault P X))) (xH N0 kA hs P X) n) := by
  refine nE_of (by decide) (Nat.le_of_ble_eq_true rfl) ?_
  intro p e s m args below meth c hC hnm
  refine n_loc (L' := [(0, .ref (N0 + 0))]) rfl ?_
  refine n_aload_n hC dX0_fault_0 rfl ?_
  refine n_get hC cl0 (k := 12) (v := .int (xI X 12)) xc_o (x_lt hn) (by decide) q206 (xf_get N0 P X (by decide)) dX0_fault_1 ?_
  have eq_ : x_fault P X = (xI X 12) := by rw [x_fault]
  refine n_iret hC dX0_fault_4 (Nat.le_of_ble_eq_true rfl) (Nat.le_of_ble_eq_true rfl) ?_
  rw [eq_]
  exact ⟨rfl, rfl, rfl⟩
noncomputable def x_adds (P : PS) (X : XS) (k : Nat) (t : Nat) : Int32 := (lA P k (t % 4))
theorem bX6_adds : nBV RX6 yX6_adds cX6_adds 2 (some .int) 1 := ⟨q452, q453, q60, q454, by decide, by decide +kernel⟩
set_option maxRecDepth 100000 in
set_option maxHeartbeats 4000000 in
theorem t_x_adds (l : Launch) (D : va_G) (N0 : Nat) (kA : Nat → ClassId) (hs : hT) (P : PS) (X : XS) (n : Nat) (hn : xOk P n) (k : Nat) (t : Nat) (hk : k < pN P 1) (ht : t < 2 ^ 31) : nE l yX6_adds cX6_adds 2 (some .int) D N0 kA 0 0 0 [.ref (N0 + (pb P + (9 + 2 * k))), .int (nI t)] (xH N0 kA hs P X) n (nX (some (.int (x_adds P X k t))) (xH N0 kA hs P X) n) := by
  refine nE_of (by decide) (Nat.le_of_ble_eq_true rfl) ?_
  intro p e s m args below meth c hC hnm
  refine n_loc (L' := [(0, .ref (N0 + (pb P + (9 + 2 * k)))), (1, .int (nI t))]) rfl ?_
  refine n_aload_n hC dX6_adds_0 rfl ?_
  refine n_get hC cl6 (k := 1) (v := .ref (N0 + (pb P + (10 + 2 * k)))) (xc_l hn (by omega)) (l_lt hn (by omega)).1 (by decide) q405 rfl dX6_adds_1 ?_
  refine n_iload_n hC dX6_adds_4 rfl ?_
  refine n_iconst (v := (nI 4)) hC dX6_adds_5 (by decide) ?_
  refine n_iremN hC (by omega) (by omega) (by omega) dX6_adds_6 ?_
  refine n_iald hC (f := lA P k) (xc_by hn (by omega)) (l_lt hn (by omega)).2 (t % 4) rfl (by omega) (by decide) dX6_adds_7 ?_
  have eq_ : x_adds P X k t = (lA P k (t % 4)) := by rw [x_adds]
  refine n_iret hC dX6_adds_8 (Nat.le_of_ble_eq_true rfl) (Nat.le_of_ble_eq_true rfl) ?_
  rw [eq_]
  exact ⟨rfl, rfl, rfl⟩
noncomputable def x_own (P : PS) (X : XS) (k : Nat) (t : Nat) : Int32 := (if (nI 0) < ((sA X 0 0 k) + (x_adds P X k t)) then ((sA X 0 0 k) + (x_adds P X k t)) else (nI 0))
theorem bX2_own : nBV RX2 yX2_own cX2_own 3 (some .int) 2 := ⟨q463, q464, q53, q465, by decide, by decide +kernel⟩
set_option maxRecDepth 100000 in
set_option maxHeartbeats 4000000 in
theorem t_x_own (l : Launch) (D : va_G) (N0 : Nat) (kA : Nat → ClassId) (hs : hT) (P : PS) (X : XS) (n : Nat) (hn : xOk P n) (k : Nat) (t : Nat) (hk : k < pN P 1) (ht : t < 2 ^ 31) : nE l yX2_own cX2_own 3 (some .int) D N0 kA 1 0 0 [.ref (N0 + (sAd 0)), .int (nI k), .int (nI t)] (xH N0 kA hs P X) n (nX (some (.int (x_own P X k t))) (xH N0 kA hs P X) n) := by
  refine nE_of (by decide) (Nat.le_of_ble_eq_true rfl) ?_
  intro p e s m args below meth c hC hnm
  refine n_loc (L' := [(0, .ref (N0 + (sAd 0))), (1, .int (nI k)), (2, .int (nI t))]) rfl ?_
  have hm6 := pN_le hn
  refine n_iconst (v := (nI 0)) hC dX2_own_0 (by decide) ?_
  refine n_aload_n hC dX2_own_1 rfl ?_
  refine n_get hC cl2 (k := 0) (v := .ref (N0 + (sAd 0 + 1))) (xc_so (by decide)) (s_lt0 hn (by decide)) (by decide) q146 (sf_get N0 X 0 (by decide)) dX2_own_2 ?_
  refine n_iload_n hC dX2_own_5 rfl ?_
  refine n_iald hC (f := sA X 0 0) (xc_s (r := 1) (by decide) (by decide)) (s_lt hn (by decide) (by decide)) k rfl (by omega) (by decide) dX2_own_6 ?_
  refine n_aload_n hC dX2_own_7 rfl ?_
  refine n_get hC cl2 (k := 9) (v := .ref (N0 + 0)) (xc_so (by decide)) (s_lt0 hn (by decide)) (by decide) q163 (sf_get N0 X 0 (by decide)) dX2_own_8 ?_
  refine n_getN hC cl0 (k := 0) (v := .ref (N0 + (pb P))) xc_o (x_lt hn) (by decide) q193 (xf_get N0 P X (by decide)) dX2_own_11 ?_
  refine n_getN hC cl1 (k := 0) (v := .ref (N0 + (pb P + 1))) (xc_po hn) (p_lt0 hn) (by decide) q81 (pf_get N0 P (by decide)) dX2_own_14 ?_
  refine n_iload_n hC dX2_own_17 rfl ?_
  refine n_aald hC (t0 := 3) (f := pLim N0 P) (v := .ref (N0 + (pb P + (9 + 2 * k)))) (xc_p (r := 1) hn (by omega)) (p_lt hn (by omega)) rfl k rfl (by omega) (by decide) (lim_at (by omega)) dX2_own_18 ?_
  refine n_iload_n hC dX2_own_19 rfl ?_
  refine n_callV1 hC (As := [.int (nI t)]) (rest := [.int (sA X 0 0 k), .int (nI 0)]) (xc_l hn (by omega)) (l_lt hn (by omega)).1 rfl bX6_adds (t_x_adds l D N0 kA hs P X n hn k t (by omega) (by omega)) (by decide) (by decide) q466 rfl (Nat.le_of_ble_eq_true rfl) dX2_own_20 (Nat.le_of_ble_eq_true rfl) (Nat.le_of_ble_eq_true rfl) ?_
  refine n_stk (st' := [.int (x_adds P X k t), .int (sA X 0 0 k), .int (nI 0)]) rfl ?_
  refine n_iadd hC dX2_own_23 ?_
  refine n_mmax hC q467 q468 q61 q469 (Nat.le_of_ble_eq_true rfl) (Nat.le_of_ble_eq_true rfl) (Nat.le_of_ble_eq_true rfl) (Nat.le_of_ble_eq_true rfl) dX2_own_24 ?_
  have eq_ : x_own P X k t = (if (nI 0) < ((sA X 0 0 k) + (x_adds P X k t)) then ((sA X 0 0 k) + (x_adds P X k t)) else (nI 0)) := by rw [x_own]
  refine n_iret hC dX2_own_27 (Nat.le_of_ble_eq_true rfl) (Nat.le_of_ble_eq_true rfl) ?_
  rw [eq_]
  exact ⟨rfl, rfl, rfl⟩
