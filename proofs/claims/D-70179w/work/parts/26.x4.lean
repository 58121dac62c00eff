/-! the class: what is done, by its callers -/
noncomputable def x_feed (P : PS) (X : XS) (v : Int32) : Int32 × XS := (if (x_isIn v (nI 0) (nI 255)) = true then (if (xN X 11) ≠ 250 then ((nI ((xN X 11) + 1)), xSetN (xSetA X 10 (xN X 11) (vp_nar .byte v.toInt8.toInt32)) 11 ((xN X 11) + 1)) else ((-1000000004), X)) else ((-1000000002), X))
theorem bX0_feed : nBV RX0 yX0_feed cX0_feed 2 (some .int) 1 := ⟨q266, q267, q51, q268, by decide, by decide +kernel⟩
set_option maxRecDepth 100000 in
set_option maxHeartbeats 4000000 in
theorem t_x_feed (l : Launch) (D : va_G) (N0 : Nat) (kA : Nat → ClassId) (hs : hT) (P : PS) (X : XS) (n : Nat) (hn : xOk P n) (v : Int32) (h11 : xN X 11 ≤ 250) : nE l yX0_feed cX0_feed 2 (some .int) D N0 kA 1 0 0 [.ref (N0 + 0), .int v] (xH N0 kA hs P X) n (nX (some (.int ((x_feed P X v).1))) (xH N0 kA hs P ((x_feed P X v).2)) n) := by
  refine nE_of (by decide) (Nat.le_of_ble_eq_true rfl) ?_
  intro p e s m args below meth c hC hnm
  refine n_loc (L' := [(0, .ref (N0 + 0)), (1, .int v)]) rfl ?_
  refine n_iload_n hC dX0_feed_0 rfl ?_
  refine n_iconst (v := (nI 0)) hC dX0_feed_1 (by decide) ?_
  refine n_sipush (v := (nI 255)) hC dX0_feed_2 (by decide) ?_
  refine n_callS1 hC (As := [.int v, .int (nI 0), .int (nI 255)]) (rest := []) bX0_isIn (t_x_isIn l D N0 kA (xH N0 kA hs P X) n v (nI 0) (nI 255) ) (by decide) (by decide) q269 rfl (Nat.le_of_ble_eq_true rfl) dX0_feed_5 (Nat.le_of_ble_eq_true rfl) (Nat.le_of_ble_eq_true rfl) ?_
  refine n_stk (st' := [.int (bI (x_isIn v (nI 0) (nI 255)))]) rfl ?_
  refine n_if_neB (tgt := 14) hC dX0_feed_8 (by decide) (fun c8 => ?_) (fun c8 => ?_)
  · refine n_aload_n hC dX0_feed_14 rfl ?_
    refine n_get hC cl0 (k := 11) (v := .int (nI (xN X 11))) xc_o (x_lt hn) (by decide) q205 (xf_get N0 P X (by decide)) dX0_feed_15 ?_
    refine n_sipush (v := (nI 250)) hC dX0_feed_18 (by decide) ?_
    refine n_icmp_neN (tgt := 27) hC (xN X 11) 250 rfl rfl (by omega) (by omega) dX0_feed_21 (by decide) (fun c21 => ?_) (fun c21 => ?_)
    · refine n_aload_n hC dX0_feed_27 rfl ?_
      refine n_get hC cl0 (k := 10) (v := .ref (N0 + 19)) xc_o (x_lt hn) (by decide) q204 (xf_get N0 P X (by decide)) dX0_feed_28 ?_
      refine n_aload_n hC dX0_feed_31 rfl ?_
      refine n_get hC cl0 (k := 11) (v := .int (nI (xN X 11))) xc_o (x_lt hn) (by decide) q205 (xf_get N0 P X (by decide)) dX0_feed_32 ?_
      refine n_iload_n hC dX0_feed_35 rfl ?_
      refine n_i2b hC dX0_feed_36 ?_
      refine n_bast hC (f := xA X 10) (xc_a (p := 19) (by decide) (by decide)) (xa_lt hn (by decide)) (xN X 11) rfl (by omega) (by decide) dX0_feed_37 (xu_A (X := X) (k := 10) (len := 250) (kd := 2) rfl rfl rfl (by decide) (by decide)) ?_
      refine n_aload_n hC dX0_feed_38 rfl ?_
      refine n_dup hC dX0_feed_39 rfl ?_
      refine n_get hC cl0 (k := 11) (v := .int (nI (xN (xSetA X 10 (xN X 11) (vp_nar .byte v.toInt8.toInt32)) 11))) xc_o (x_lt hn) (by decide) q205 (xf_get N0 P (xSetA X 10 (xN X 11) (vp_nar .byte v.toInt8.toInt32)) (by decide)) dX0_feed_40 ?_
      refine n_stk (st' := [.int (nI (xN X 11)), .ref (N0 + 0)]) (by first | simp [rxN_xSetI, rxN_xSetB, rxN_xSetA, rxN_sSetN, rxN_sSetI, rxN_sSetA, rxN_sPutA, rxN_xPutB, rxN_xPutA, rxI_xSetN, rxI_xSetB, rxI_xSetA, rxI_sSetN, rxI_sSetI, rxI_sSetA, rxI_sPutA, rxI_xPutB, rxI_xPutA, rxB_xSetN, rxB_xSetI, rxB_xSetA, rxB_sSetN, rxB_sSetI, rxB_sSetA, rxB_sPutA, rxB_xPutA, rxA_xSetN, rxA_xSetI, rxA_xSetB, rxA_sSetN, rxA_sSetI, rxA_sSetA, rxA_sPutA, rxA_xPutB, rsN_xSetN, rsN_xSetI, rsN_xSetB, rsN_xSetA, rsN_sSetI, rsN_sSetA, rsN_sPutA, rsN_xPutB, rsN_xPutA, rsI_xSetN, rsI_xSetI, rsI_xSetB, rsI_xSetA, rsI_sSetN, rsI_sSetA, rsI_sPutA, rsI_xPutB, rsI_xPutA, rsA_xSetN, rsA_xSetI, rsA_xSetB, rsA_xSetA, rsA_sSetN, rsA_sSetI, rsA_xPutB, rsA_xPutA, xN_N, xI_I, xB_B, xA_A, sN_N, sI_I, sA_A, sA_P, xB_P, xA_P] | rfl) ?_
      refine n_iconst (v := (nI 1)) hC dX0_feed_43 (by decide) ?_
      refine n_iaddN hC dX0_feed_44 ?_
      refine n_put hC cl0 (k := 11) xc_o (x_lt hn) (by decide) q205 rfl rfl rfl (by rw [xf_len]; decide) dX0_feed_45 (xu_N (X := (xSetA X 10 (xN X 11) (vp_nar .byte v.toInt8.toInt32))) (k := 11) (by decide) (by decide) (by decide) (by decide) (by decide) rfl rfl) ?_
      refine n_aload_n hC dX0_feed_48 rfl ?_
      refine n_get hC cl0 (k := 11) (v := .int (nI (xN (xSetN (xSetA X 10 (xN X 11) (vp_nar .byte v.toInt8.toInt32)) 11 ((xN X 11) + 1)) 11))) xc_o (x_lt hn) (by decide) q205 (xf_get N0 P (xSetN (xSetA X 10 (xN X 11) (vp_nar .byte v.toInt8.toInt32)) 11 ((xN X 11) + 1)) (by decide)) dX0_feed_49 ?_
      refine n_stk (st' := [.int (nI ((xN X 11) + 1))]) (by first | simp [rxN_xSetI, rxN_xSetB, rxN_xSetA, rxN_sSetN, rxN_sSetI, rxN_sSetA, rxN_sPutA, rxN_xPutB, rxN_xPutA, rxI_xSetN, rxI_xSetB, rxI_xSetA, rxI_sSetN, rxI_sSetI, rxI_sSetA, rxI_sPutA, rxI_xPutB, rxI_xPutA, rxB_xSetN, rxB_xSetI, rxB_xSetA, rxB_sSetN, rxB_sSetI, rxB_sSetA, rxB_sPutA, rxB_xPutA, rxA_xSetN, rxA_xSetI, rxA_xSetB, rxA_sSetN, rxA_sSetI, rxA_sSetA, rxA_sPutA, rxA_xPutB, rsN_xSetN, rsN_xSetI, rsN_xSetB, rsN_xSetA, rsN_sSetI, rsN_sSetA, rsN_sPutA, rsN_xPutB, rsN_xPutA, rsI_xSetN, rsI_xSetI, rsI_xSetB, rsI_xSetA, rsI_sSetN, rsI_sSetA, rsI_sPutA, rsI_xPutB, rsI_xPutA, rsA_xSetN, rsA_xSetI, rsA_xSetB, rsA_xSetA, rsA_sSetN, rsA_sSetI, rsA_xPutB, rsA_xPutA, xN_N, xI_I, xB_B, xA_A, sN_N, sI_I, sA_A, sA_P, xB_P, xA_P] | rfl) ?_
      have eq_ : x_feed P X v = ((nI ((xN X 11) + 1)), xSetN (xSetA X 10 (xN X 11) (vp_nar .byte v.toInt8.toInt32)) 11 ((xN X 11) + 1)) := by rw [x_feed, if_pos c8, if_pos c21]
      refine n_iret hC dX0_feed_52 (Nat.le_of_ble_eq_true rfl) (Nat.le_of_ble_eq_true rfl) ?_
      rw [eq_]
      dsimp only
      exact ⟨rfl, rfl, rfl⟩
    · refine n_ldc hC dX0_feed_24 q273 ?_
      have eq_ : x_feed P X v = ((-1000000004), X) := by rw [x_feed, if_pos c8, if_neg (not_not_intro c21)]
      refine n_iret hC dX0_feed_26 (Nat.le_of_ble_eq_true rfl) (Nat.le_of_ble_eq_true rfl) ?_
      rw [eq_]
      dsimp only
      exact ⟨rfl, rfl, rfl⟩
  · refine n_ldc hC dX0_feed_11 q272 ?_
    have eq_ : x_feed P X v = ((-1000000002), X) := by rw [x_feed, if_neg (by rw [c8]; decide)]
    refine n_iret hC dX0_feed_13 (Nat.le_of_ble_eq_true rfl) (Nat.le_of_ble_eq_true rfl) ?_
    rw [eq_]
    dsimp only
    exact ⟨rfl, rfl, rfl⟩
noncomputable def x_got (P : PS) (X : XS) (v : Int32) (q : Int32) : Int32 × XS := (if (x_isIn v (nI 1) (nI 50)) = true then (if (x_isIn q (nI 0) (nI 9999)) = true then (if (xN X 6) ≠ 8 then ((nI ((xN X 6) + 1)), xSetN (xSetA (xSetA X 4 (xN X 6) v) 5 (xN X 6) q) 6 ((xN X 6) + 1)) else ((-1000000004), X)) else ((-1000000002), X)) else ((-1000000002), X))
theorem bX0_got : nBV RX0 yX0_got cX0_got 3 (some .int) 2 := ⟨q634, q635, q51, q636, by decide, by decide +kernel⟩
set_option maxRecDepth 100000 in
set_option maxHeartbeats 4000000 in
theorem t_x_got (l : Launch) (D : va_G) (N0 : Nat) (kA : Nat → ClassId) (hs : hT) (P : PS) (X : XS) (n : Nat) (hn : xOk P n) (v : Int32) (q : Int32) (h6 : xN X 6 ≤ 8) : nE l yX0_got cX0_got 3 (some .int) D N0 kA 1 0 0 [.ref (N0 + 0), .int v, .int q] (xH N0 kA hs P X) n (nX (some (.int ((x_got P X v q).1))) (xH N0 kA hs P ((x_got P X v q).2)) n) := by
  refine nE_of (by decide) (Nat.le_of_ble_eq_true rfl) ?_
  intro p e s m args below meth c hC hnm
  refine n_loc (L' := [(0, .ref (N0 + 0)), (1, .int v), (2, .int q)]) rfl ?_
  refine n_iload_n hC dX0_got_0 rfl ?_
  refine n_iconst (v := (nI 1)) hC dX0_got_1 (by decide) ?_
  refine n_bipush (v := (nI 50)) hC dX0_got_2 (by decide) ?_
  refine n_callS1 hC (As := [.int v, .int (nI 1), .int (nI 50)]) (rest := []) bX0_isIn (t_x_isIn l D N0 kA (xH N0 kA hs P X) n v (nI 1) (nI 50) ) (by decide) (by decide) q269 rfl (Nat.le_of_ble_eq_true rfl) dX0_got_4 (Nat.le_of_ble_eq_true rfl) (Nat.le_of_ble_eq_true rfl) ?_
  refine n_stk (st' := [.int (bI (x_isIn v (nI 1) (nI 50)))]) rfl ?_
  refine n_if_eqB (tgt := 21) hC dX0_got_7 (by decide) (fun c7 => ?_) (fun c7 => ?_)
  · refine n_ldc hC dX0_got_21 q272 ?_
    have eq_ : x_got P X v q = ((-1000000002), X) := by rw [x_got, if_neg (by rw [c7]; decide)]
    refine n_iret hC dX0_got_23 (Nat.le_of_ble_eq_true rfl) (Nat.le_of_ble_eq_true rfl) ?_
    rw [eq_]
    dsimp only
    exact ⟨rfl, rfl, rfl⟩
  · refine n_iload_n hC dX0_got_10 rfl ?_
    refine n_iconst (v := (nI 0)) hC dX0_got_11 (by decide) ?_
    refine n_sipush (v := (nI 9999)) hC dX0_got_12 (by decide) ?_
    refine n_callS1 hC (As := [.int q, .int (nI 0), .int (nI 9999)]) (rest := []) bX0_isIn (t_x_isIn l D N0 kA (xH N0 kA hs P X) n q (nI 0) (nI 9999) ) (by decide) (by decide) q269 rfl (Nat.le_of_ble_eq_true rfl) dX0_got_15 (Nat.le_of_ble_eq_true rfl) (Nat.le_of_ble_eq_true rfl) ?_
    refine n_stk (st' := [.int (bI (x_isIn q (nI 0) (nI 9999)))]) rfl ?_
    refine n_if_neB (tgt := 24) hC dX0_got_18 (by decide) (fun c18 => ?_) (fun c18 => ?_)
    · refine n_aload_n hC dX0_got_24 rfl ?_
      refine n_get hC cl0 (k := 6) (v := .int (nI (xN X 6))) xc_o (x_lt hn) (by decide) q200 (xf_get N0 P X (by decide)) dX0_got_25 ?_
      refine n_bipush (v := (nI 8)) hC dX0_got_28 (by decide) ?_
      refine n_icmp_neN (tgt := 36) hC (xN X 6) 8 rfl rfl (by omega) (by omega) dX0_got_30 (by decide) (fun c30 => ?_) (fun c30 => ?_)
      · refine n_aload_n hC dX0_got_36 rfl ?_
        refine n_get hC cl0 (k := 4) (v := .ref (N0 + 15)) xc_o (x_lt hn) (by decide) q198 (xf_get N0 P X (by decide)) dX0_got_37 ?_
        refine n_aload_n hC dX0_got_40 rfl ?_
        refine n_get hC cl0 (k := 6) (v := .int (nI (xN X 6))) xc_o (x_lt hn) (by decide) q200 (xf_get N0 P X (by decide)) dX0_got_41 ?_
        refine n_iload_n hC dX0_got_44 rfl ?_
        refine n_iast hC (f := xA X 4) (xc_a (p := 15) (by decide) (by decide)) (xa_lt hn (by decide)) (xN X 6) rfl (by omega) (by decide) dX0_got_45 (xu_A (X := X) (k := 4) (len := 8) (kd := 0) rfl rfl rfl (by decide) (by decide)) ?_
        refine n_aload_n hC dX0_got_46 rfl ?_
        refine n_get hC cl0 (k := 5) (v := .ref (N0 + 16)) xc_o (x_lt hn) (by decide) q199 (xf_get N0 P (xSetA X 4 (xN X 6) v) (by decide)) dX0_got_47 ?_
        refine n_aload_n hC dX0_got_50 rfl ?_
        refine n_get hC cl0 (k := 6) (v := .int (nI (xN (xSetA X 4 (xN X 6) v) 6))) xc_o (x_lt hn) (by decide) q200 (xf_get N0 P (xSetA X 4 (xN X 6) v) (by decide)) dX0_got_51 ?_
        refine n_stk (st' := [.int (nI (xN X 6)), .ref (N0 + 16)]) (by first | simp [rxN_xSetI, rxN_xSetB, rxN_xSetA, rxN_sSetN, rxN_sSetI, rxN_sSetA, rxN_sPutA, rxN_xPutB, rxN_xPutA, rxI_xSetN, rxI_xSetB, rxI_xSetA, rxI_sSetN, rxI_sSetI, rxI_sSetA, rxI_sPutA, rxI_xPutB, rxI_xPutA, rxB_xSetN, rxB_xSetI, rxB_xSetA, rxB_sSetN, rxB_sSetI, rxB_sSetA, rxB_sPutA, rxB_xPutA, rxA_xSetN, rxA_xSetI, rxA_xSetB, rxA_sSetN, rxA_sSetI, rxA_sSetA, rxA_sPutA, rxA_xPutB, rsN_xSetN, rsN_xSetI, rsN_xSetB, rsN_xSetA, rsN_sSetI, rsN_sSetA, rsN_sPutA, rsN_xPutB, rsN_xPutA, rsI_xSetN, rsI_xSetI, rsI_xSetB, rsI_xSetA, rsI_sSetN, rsI_sSetA, rsI_sPutA, rsI_xPutB, rsI_xPutA, rsA_xSetN, rsA_xSetI, rsA_xSetB, rsA_xSetA, rsA_sSetN, rsA_sSetI, rsA_xPutB, rsA_xPutA, xN_N, xI_I, xB_B, xA_A, sN_N, sI_I, sA_A, sA_P, xB_P, xA_P] | rfl) ?_
        refine n_iload_n hC dX0_got_54 rfl ?_
        refine n_iast hC (f := xA (xSetA X 4 (xN X 6) v) 5) (xc_a (p := 16) (by decide) (by decide)) (xa_lt hn (by decide)) (xN X 6) rfl (by omega) (by decide) dX0_got_55 (xu_A (X := (xSetA X 4 (xN X 6) v)) (k := 5) (len := 8) (kd := 0) rfl rfl rfl (by decide) (by decide)) ?_
        refine n_aload_n hC dX0_got_56 rfl ?_
        refine n_dup hC dX0_got_57 rfl ?_
        refine n_get hC cl0 (k := 6) (v := .int (nI (xN (xSetA (xSetA X 4 (xN X 6) v) 5 (xN X 6) q) 6))) xc_o (x_lt hn) (by decide) q200 (xf_get N0 P (xSetA (xSetA X 4 (xN X 6) v) 5 (xN X 6) q) (by decide)) dX0_got_58 ?_
        refine n_stk (st' := [.int (nI (xN X 6)), .ref (N0 + 0)]) (by first | simp [rxN_xSetI, rxN_xSetB, rxN_xSetA, rxN_sSetN, rxN_sSetI, rxN_sSetA, rxN_sPutA, rxN_xPutB, rxN_xPutA, rxI_xSetN, rxI_xSetB, rxI_xSetA, rxI_sSetN, rxI_sSetI, rxI_sSetA, rxI_sPutA, rxI_xPutB, rxI_xPutA, rxB_xSetN, rxB_xSetI, rxB_xSetA, rxB_sSetN, rxB_sSetI, rxB_sSetA, rxB_sPutA, rxB_xPutA, rxA_xSetN, rxA_xSetI, rxA_xSetB, rxA_sSetN, rxA_sSetI, rxA_sSetA, rxA_sPutA, rxA_xPutB, rsN_xSetN, rsN_xSetI, rsN_xSetB, rsN_xSetA, rsN_sSetI, rsN_sSetA, rsN_sPutA, rsN_xPutB, rsN_xPutA, rsI_xSetN, rsI_xSetI, rsI_xSetB, rsI_xSetA, rsI_sSetN, rsI_sSetA, rsI_sPutA, rsI_xPutB, rsI_xPutA, rsA_xSetN, rsA_xSetI, rsA_xSetB, rsA_xSetA, rsA_sSetN, rsA_sSetI, rsA_xPutB, rsA_xPutA, xN_N, xI_I, xB_B, xA_A, sN_N, sI_I, sA_A, sA_P, xB_P, xA_P] | rfl) ?_
        refine n_iconst (v := (nI 1)) hC dX0_got_61 (by decide) ?_
        refine n_iaddN hC dX0_got_62 ?_
        refine n_put hC cl0 (k := 6) xc_o (x_lt hn) (by decide) q200 rfl rfl rfl (by rw [xf_len]; decide) dX0_got_63 (xu_N (X := (xSetA (xSetA X 4 (xN X 6) v) 5 (xN X 6) q)) (k := 6) (by decide) (by decide) (by decide) (by decide) (by decide) rfl rfl) ?_
        refine n_aload_n hC dX0_got_66 rfl ?_
        refine n_get hC cl0 (k := 6) (v := .int (nI (xN (xSetN (xSetA (xSetA X 4 (xN X 6) v) 5 (xN X 6) q) 6 ((xN X 6) + 1)) 6))) xc_o (x_lt hn) (by decide) q200 (xf_get N0 P (xSetN (xSetA (xSetA X 4 (xN X 6) v) 5 (xN X 6) q) 6 ((xN X 6) + 1)) (by decide)) dX0_got_67 ?_
        refine n_stk (st' := [.int (nI ((xN X 6) + 1))]) (by first | simp [rxN_xSetI, rxN_xSetB, rxN_xSetA, rxN_sSetN, rxN_sSetI, rxN_sSetA, rxN_sPutA, rxN_xPutB, rxN_xPutA, rxI_xSetN, rxI_xSetB, rxI_xSetA, rxI_sSetN, rxI_sSetI, rxI_sSetA, rxI_sPutA, rxI_xPutB, rxI_xPutA, rxB_xSetN, rxB_xSetI, rxB_xSetA, rxB_sSetN, rxB_sSetI, rxB_sSetA, rxB_sPutA, rxB_xPutA, rxA_xSetN, rxA_xSetI, rxA_xSetB, rxA_sSetN, rxA_sSetI, rxA_sSetA, rxA_sPutA, rxA_xPutB, rsN_xSetN, rsN_xSetI, rsN_xSetB, rsN_xSetA, rsN_sSetI, rsN_sSetA, rsN_sPutA, rsN_xPutB, rsN_xPutA, rsI_xSetN, rsI_xSetI, rsI_xSetB, rsI_xSetA, rsI_sSetN, rsI_sSetA, rsI_sPutA, rsI_xPutB, rsI_xPutA, rsA_xSetN, rsA_xSetI, rsA_xSetB, rsA_xSetA, rsA_sSetN, rsA_sSetI, rsA_xPutB, rsA_xPutA, xN_N, xI_I, xB_B, xA_A, sN_N, sI_I, sA_A, sA_P, xB_P, xA_P] | rfl) ?_
        have eq_ : x_got P X v q = ((nI ((xN X 6) + 1)), xSetN (xSetA (xSetA X 4 (xN X 6) v) 5 (xN X 6) q) 6 ((xN X 6) + 1)) := by rw [x_got, if_pos c7, if_pos c18, if_pos c30]
        refine n_iret hC dX0_got_70 (Nat.le_of_ble_eq_true rfl) (Nat.le_of_ble_eq_true rfl) ?_
        rw [eq_]
        dsimp only
        exact ⟨rfl, rfl, rfl⟩
      · refine n_ldc hC dX0_got_33 q273 ?_
        have eq_ : x_got P X v q = ((-1000000004), X) := by rw [x_got, if_pos c7, if_pos c18, if_neg (not_not_intro c30)]
        refine n_iret hC dX0_got_35 (Nat.le_of_ble_eq_true rfl) (Nat.le_of_ble_eq_true rfl) ?_
        rw [eq_]
        dsimp only
        exact ⟨rfl, rfl, rfl⟩
    · refine n_ldc hC dX0_got_21 q272 ?_
      have eq_ : x_got P X v q = ((-1000000002), X) := by rw [x_got, if_pos c7, if_neg (by rw [c18]; decide)]
      refine n_iret hC dX0_got_23 (Nat.le_of_ble_eq_true rfl) (Nat.le_of_ble_eq_true rfl) ?_
      rw [eq_]
      dsimp only
      exact ⟨rfl, rfl, rfl⟩
noncomputable def x_write (P : PS) (X : XS) (k : Int32) (v : Int32) : Int32 × XS := (if (x_isLimb P X k) = true then (if (x_isIn v (nI 0) (nI 999)) = true then (if (xN X 9) ≠ 15 then ((nI ((xN X 9) + 1)), xSetN (xSetA (xSetB X 7 (xN X 9) (cl k)) 8 (xN X 9) v) 9 ((xN X 9) + 1)) else ((-1000000004), X)) else ((-1000000002), X)) else ((-1000000001), X))
theorem bX0_write : nBV RX0 yX0_write cX0_write 3 (some .int) 2 := ⟨q651, q652, q51, q653, by decide, by decide +kernel⟩
set_option maxRecDepth 100000 in
set_option maxHeartbeats 4000000 in
theorem t_x_write (l : Launch) (D : va_G) (N0 : Nat) (kA : Nat → ClassId) (hs : hT) (P : PS) (X : XS) (n : Nat) (hn : xOk P n) (k : Int32) (v : Int32) (h9 : xN X 9 ≤ 15) : nE l yX0_write cX0_write 3 (some .int) D N0 kA 2 0 0 [.ref (N0 + 0), .int k, .int v] (xH N0 kA hs P X) n (nX (some (.int ((x_write P X k v).1))) (xH N0 kA hs P ((x_write P X k v).2)) n) := by
  refine nE_of (by decide) (Nat.le_of_ble_eq_true rfl) ?_
  intro p e s m args below meth c hC hnm
  refine n_loc (L' := [(0, .ref (N0 + 0)), (1, .int k), (2, .int v)]) rfl ?_
  have hm6 := pN_le hn
  refine n_aload_n hC dX0_write_0 rfl ?_
  refine n_iload_n hC dX0_write_1 rfl ?_
  refine n_callV1 hC (As := [.int k]) (rest := []) xc_o (x_lt hn) rfl bX0_isLimb (t_x_isLimb l D N0 kA hs P X n hn k ) (by decide) (by decide) q446 rfl (Nat.le_of_ble_eq_true rfl) dX0_write_2 (Nat.le_of_ble_eq_true rfl) (Nat.le_of_ble_eq_true rfl) ?_
  refine n_stk (st' := [.int (bI (x_isLimb P X k))]) rfl ?_
  refine n_if_neB (tgt := 11) hC dX0_write_5 (by decide) (fun c5 => ?_) (fun c5 => ?_)
  · have hk0 := (xin_nat (k := k) (by omega)).mp c5
    have hk1 := nI_cl hk0.1
    have hk2 := hk0.2
    refine n_iload_n hC dX0_write_11 rfl ?_
    refine n_iconst (v := (nI 0)) hC dX0_write_12 (by decide) ?_
    refine n_sipush (v := (nI 999)) hC dX0_write_13 (by decide) ?_
    refine n_callS1 hC (As := [.int v, .int (nI 0), .int (nI 999)]) (rest := []) bX0_isIn (t_x_isIn l D N0 kA (xH N0 kA hs P X) n v (nI 0) (nI 999) ) (by decide) (by decide) q269 rfl (Nat.le_of_ble_eq_true rfl) dX0_write_16 (Nat.le_of_ble_eq_true rfl) (Nat.le_of_ble_eq_true rfl) ?_
    refine n_stk (st' := [.int (bI (x_isIn v (nI 0) (nI 999)))]) rfl ?_
    refine n_if_neB (tgt := 25) hC dX0_write_19 (by decide) (fun c19 => ?_) (fun c19 => ?_)
    · refine n_aload_n hC dX0_write_25 rfl ?_
      refine n_get hC cl0 (k := 9) (v := .int (nI (xN X 9))) xc_o (x_lt hn) (by decide) q203 (xf_get N0 P X (by decide)) dX0_write_26 ?_
      refine n_bipush (v := (nI 15)) hC dX0_write_29 (by decide) ?_
      refine n_icmp_neN (tgt := 37) hC (xN X 9) 15 rfl rfl (by omega) (by omega) dX0_write_31 (by decide) (fun c31 => ?_) (fun c31 => ?_)
      · refine n_aload_n hC dX0_write_37 rfl ?_
        refine n_get hC cl0 (k := 7) (v := .ref (N0 + 17)) xc_o (x_lt hn) (by decide) q201 (xf_get N0 P X (by decide)) dX0_write_38 ?_
        refine n_aload_n hC dX0_write_41 rfl ?_
        refine n_get hC cl0 (k := 9) (v := .int (nI (xN X 9))) xc_o (x_lt hn) (by decide) q203 (xf_get N0 P X (by decide)) dX0_write_42 ?_
        refine n_iload_n hC dX0_write_45 rfl ?_
        refine n_top (cl k) hk1 ?_
        refine n_iast hC (f := fun j => nI (xB X 7 j)) (xc_a (p := 17) (by decide) (by decide)) (xa_lt hn (by decide)) (xN X 9) rfl (by omega) (by decide) dX0_write_46 (xu_B (X := X) (k := 7) (len := 15) rfl rfl (by decide) (by decide)) ?_
        refine n_aload_n hC dX0_write_47 rfl ?_
        refine n_get hC cl0 (k := 8) (v := .ref (N0 + 18)) xc_o (x_lt hn) (by decide) q202 (xf_get N0 P (xSetB X 7 (xN X 9) (cl k)) (by decide)) dX0_write_48 ?_
        refine n_aload_n hC dX0_write_51 rfl ?_
        refine n_get hC cl0 (k := 9) (v := .int (nI (xN (xSetB X 7 (xN X 9) (cl k)) 9))) xc_o (x_lt hn) (by decide) q203 (xf_get N0 P (xSetB X 7 (xN X 9) (cl k)) (by decide)) dX0_write_52 ?_
        refine n_stk (st' := [.int (nI (xN X 9)), .ref (N0 + 18)]) (by first | simp [rxN_xSetI, rxN_xSetB, rxN_xSetA, rxN_sSetN, rxN_sSetI, rxN_sSetA, rxN_sPutA, rxN_xPutB, rxN_xPutA, rxI_xSetN, rxI_xSetB, rxI_xSetA, rxI_sSetN, rxI_sSetI, rxI_sSetA, rxI_sPutA, rxI_xPutB, rxI_xPutA, rxB_xSetN, rxB_xSetI, rxB_xSetA, rxB_sSetN, rxB_sSetI, rxB_sSetA, rxB_sPutA, rxB_xPutA, rxA_xSetN, rxA_xSetI, rxA_xSetB, rxA_sSetN, rxA_sSetI, rxA_sSetA, rxA_sPutA, rxA_xPutB, rsN_xSetN, rsN_xSetI, rsN_xSetB, rsN_xSetA, rsN_sSetI, rsN_sSetA, rsN_sPutA, rsN_xPutB, rsN_xPutA, rsI_xSetN, rsI_xSetI, rsI_xSetB, rsI_xSetA, rsI_sSetN, rsI_sSetA, rsI_sPutA, rsI_xPutB, rsI_xPutA, rsA_xSetN, rsA_xSetI, rsA_xSetB, rsA_xSetA, rsA_sSetN, rsA_sSetI, rsA_xPutB, rsA_xPutA, xN_N, xI_I, xB_B, xA_A, sN_N, sI_I, sA_A, sA_P, xB_P, xA_P] | rfl) ?_
        refine n_iload_n hC dX0_write_55 rfl ?_
        refine n_iast hC (f := xA (xSetB X 7 (xN X 9) (cl k)) 8) (xc_a (p := 18) (by decide) (by decide)) (xa_lt hn (by decide)) (xN X 9) rfl (by omega) (by decide) dX0_write_56 (xu_A (X := (xSetB X 7 (xN X 9) (cl k))) (k := 8) (len := 15) (kd := 0) rfl rfl rfl (by decide) (by decide)) ?_
        refine n_aload_n hC dX0_write_57 rfl ?_
        refine n_dup hC dX0_write_58 rfl ?_
        refine n_get hC cl0 (k := 9) (v := .int (nI (xN (xSetA (xSetB X 7 (xN X 9) (cl k)) 8 (xN X 9) v) 9))) xc_o (x_lt hn) (by decide) q203 (xf_get N0 P (xSetA (xSetB X 7 (xN X 9) (cl k)) 8 (xN X 9) v) (by decide)) dX0_write_59 ?_
        refine n_stk (st' := [.int (nI (xN X 9)), .ref (N0 + 0)]) (by first | simp [rxN_xSetI, rxN_xSetB, rxN_xSetA, rxN_sSetN, rxN_sSetI, rxN_sSetA, rxN_sPutA, rxN_xPutB, rxN_xPutA, rxI_xSetN, rxI_xSetB, rxI_xSetA, rxI_sSetN, rxI_sSetI, rxI_sSetA, rxI_sPutA, rxI_xPutB, rxI_xPutA, rxB_xSetN, rxB_xSetI, rxB_xSetA, rxB_sSetN, rxB_sSetI, rxB_sSetA, rxB_sPutA, rxB_xPutA, rxA_xSetN, rxA_xSetI, rxA_xSetB, rxA_sSetN, rxA_sSetI, rxA_sSetA, rxA_sPutA, rxA_xPutB, rsN_xSetN, rsN_xSetI, rsN_xSetB, rsN_xSetA, rsN_sSetI, rsN_sSetA, rsN_sPutA, rsN_xPutB, rsN_xPutA, rsI_xSetN, rsI_xSetI, rsI_xSetB, rsI_xSetA, rsI_sSetN, rsI_sSetA, rsI_sPutA, rsI_xPutB, rsI_xPutA, rsA_xSetN, rsA_xSetI, rsA_xSetB, rsA_xSetA, rsA_sSetN, rsA_sSetI, rsA_xPutB, rsA_xPutA, xN_N, xI_I, xB_B, xA_A, sN_N, sI_I, sA_A, sA_P, xB_P, xA_P] | rfl) ?_
        refine n_iconst (v := (nI 1)) hC dX0_write_62 (by decide) ?_
        refine n_iaddN hC dX0_write_63 ?_
        refine n_put hC cl0 (k := 9) xc_o (x_lt hn) (by decide) q203 rfl rfl rfl (by rw [xf_len]; decide) dX0_write_64 (xu_N (X := (xSetA (xSetB X 7 (xN X 9) (cl k)) 8 (xN X 9) v)) (k := 9) (by decide) (by decide) (by decide) (by decide) (by decide) rfl rfl) ?_
        refine n_aload_n hC dX0_write_67 rfl ?_
        refine n_get hC cl0 (k := 9) (v := .int (nI (xN (xSetN (xSetA (xSetB X 7 (xN X 9) (cl k)) 8 (xN X 9) v) 9 ((xN X 9) + 1)) 9))) xc_o (x_lt hn) (by decide) q203 (xf_get N0 P (xSetN (xSetA (xSetB X 7 (xN X 9) (cl k)) 8 (xN X 9) v) 9 ((xN X 9) + 1)) (by decide)) dX0_write_68 ?_
        refine n_stk (st' := [.int (nI ((xN X 9) + 1))]) (by first | simp [rxN_xSetI, rxN_xSetB, rxN_xSetA, rxN_sSetN, rxN_sSetI, rxN_sSetA, rxN_sPutA, rxN_xPutB, rxN_xPutA, rxI_xSetN, rxI_xSetB, rxI_xSetA, rxI_sSetN, rxI_sSetI, rxI_sSetA, rxI_sPutA, rxI_xPutB, rxI_xPutA, rxB_xSetN, rxB_xSetI, rxB_xSetA, rxB_sSetN, rxB_sSetI, rxB_sSetA, rxB_sPutA, rxB_xPutA, rxA_xSetN, rxA_xSetI, rxA_xSetB, rxA_sSetN, rxA_sSetI, rxA_sSetA, rxA_sPutA, rxA_xPutB, rsN_xSetN, rsN_xSetI, rsN_xSetB, rsN_xSetA, rsN_sSetI, rsN_sSetA, rsN_sPutA, rsN_xPutB, rsN_xPutA, rsI_xSetN, rsI_xSetI, rsI_xSetB, rsI_xSetA, rsI_sSetN, rsI_sSetA, rsI_sPutA, rsI_xPutB, rsI_xPutA, rsA_xSetN, rsA_xSetI, rsA_xSetB, rsA_xSetA, rsA_sSetN, rsA_sSetI, rsA_xPutB, rsA_xPutA, xN_N, xI_I, xB_B, xA_A, sN_N, sI_I, sA_A, sA_P, xB_P, xA_P] | rfl) ?_
        have eq_ : x_write P X k v = ((nI ((xN X 9) + 1)), xSetN (xSetA (xSetB X 7 (xN X 9) (cl k)) 8 (xN X 9) v) 9 ((xN X 9) + 1)) := by rw [x_write, if_pos c5, if_pos c19, if_pos c31]
        refine n_iret hC dX0_write_71 (Nat.le_of_ble_eq_true rfl) (Nat.le_of_ble_eq_true rfl) ?_
        rw [eq_]
        dsimp only
        exact ⟨rfl, rfl, rfl⟩
      · refine n_ldc hC dX0_write_34 q273 ?_
        have eq_ : x_write P X k v = ((-1000000004), X) := by rw [x_write, if_pos c5, if_pos c19, if_neg (not_not_intro c31)]
        refine n_iret hC dX0_write_36 (Nat.le_of_ble_eq_true rfl) (Nat.le_of_ble_eq_true rfl) ?_
        rw [eq_]
        dsimp only
        exact ⟨rfl, rfl, rfl⟩
    · refine n_ldc hC dX0_write_22 q272 ?_
      have eq_ : x_write P X k v = ((-1000000002), X) := by rw [x_write, if_pos c5, if_neg (by rw [c19]; decide)]
      refine n_iret hC dX0_write_24 (Nat.le_of_ble_eq_true rfl) (Nat.le_of_ble_eq_true rfl) ?_
      rw [eq_]
      dsimp only
      exact ⟨rfl, rfl, rfl⟩
  · refine n_ldc hC dX0_write_8 q450 ?_
    have eq_ : x_write P X k v = ((-1000000001), X) := by rw [x_write, if_neg (by rw [c5]; decide)]
    refine n_iret hC dX0_write_10 (Nat.le_of_ble_eq_true rfl) (Nat.le_of_ble_eq_true rfl) ?_
    rw [eq_]
    dsimp only
    exact ⟨rfl, rfl, rfl⟩
noncomputable def x_tear (P : PS) (X : XS) : Int32 × XS := ((nI ((xN X 6) + (xN X 9))), xSetN (xSetN X 6 0) 9 0)
theorem bX0_tear : nBV RX0 yX0_tear cX0_tear 2 (some .int) 0 := ⟨q655, q656, q51, q657, by decide, by decide +kernel⟩
set_option maxRecDepth 100000 in
set_option maxHeartbeats 4000000 in
theorem t_x_tear (l : Launch) (D : va_G) (N0 : Nat) (kA : Nat → ClassId) (hs : hT) (P : PS) (X : XS) (n : Nat) (hn : xOk P n)   : nE l yX0_tear cX0_tear 2 (some .int) D N0 kA 0 0 0 [.ref (N0 + 0)] (xH N0 kA hs P X) n (nX (some (.int ((x_tear P X).1))) (xH N0 kA hs P ((x_tear P X).2)) n) := by
  refine nE_of (by decide) (Nat.le_of_ble_eq_true rfl) ?_
  intro p e s m args below meth c hC hnm
  refine n_loc (L' := [(0, .ref (N0 + 0))]) rfl ?_
  refine n_aload_n hC dX0_tear_0 rfl ?_
  refine n_get hC cl0 (k := 6) (v := .int (nI (xN X 6))) xc_o (x_lt hn) (by decide) q200 (xf_get N0 P X (by decide)) dX0_tear_1 ?_
  refine n_aload_n hC dX0_tear_4 rfl ?_
  refine n_get hC cl0 (k := 9) (v := .int (nI (xN X 9))) xc_o (x_lt hn) (by decide) q203 (xf_get N0 P X (by decide)) dX0_tear_5 ?_
  refine n_iaddN hC dX0_tear_8 ?_
  refine n_istore_n (L' := [(0, .ref (N0 + 0)), (1, .int (nI ((xN X 6) + (xN X 9))))]) hC dX0_tear_9 (by decide) rfl ?_
  refine n_aload_n hC dX0_tear_10 rfl ?_
  refine n_iconst (v := (nI 0)) hC dX0_tear_11 (by decide) ?_
  refine n_put hC cl0 (k := 6) xc_o (x_lt hn) (by decide) q200 rfl rfl rfl (by rw [xf_len]; decide) dX0_tear_12 (xu_N (X := X) (k := 6) (by decide) (by decide) (by decide) (by decide) (by decide) rfl rfl) ?_
  refine n_aload_n hC dX0_tear_15 rfl ?_
  refine n_iconst (v := (nI 0)) hC dX0_tear_16 (by decide) ?_
  refine n_put hC cl0 (k := 9) xc_o (x_lt hn) (by decide) q203 rfl rfl rfl (by rw [xf_len]; decide) dX0_tear_17 (xu_N (X := (xSetN X 6 0)) (k := 9) (by decide) (by decide) (by decide) (by decide) (by decide) rfl rfl) ?_
  refine n_iload_n hC dX0_tear_20 rfl ?_
  have eq_ : x_tear P X = ((nI ((xN X 6) + (xN X 9))), xSetN (xSetN X 6 0) 9 0) := by rw [x_tear]
  refine n_iret hC dX0_tear_21 (Nat.le_of_ble_eq_true rfl) (Nat.le_of_ble_eq_true rfl) ?_
  rw [eq_]
  dsimp only
  exact ⟨rfl, rfl, rfl⟩
noncomputable def x_seed (P : PS) (X : XS) (v : Int32) : Int32 × XS := (if 0 ≤ v then ((sI X 0 7), sSetI X 0 7 v) else ((-1000000002), X))
theorem bX0_seed : nBV RX0 yX0_seed cX0_seed 3 (some .int) 1 := ⟨q663, q664, q51, q665, by decide, by decide +kernel⟩
set_option maxRecDepth 100000 in
set_option maxHeartbeats 4000000 in
theorem t_x_seed (l : Launch) (D : va_G) (N0 : Nat) (kA : Nat → ClassId) (hs : hT) (P : PS) (X : XS) (n : Nat) (hn : xOk P n) (v : Int32)  : nE l yX0_seed cX0_seed 3 (some .int) D N0 kA 0 0 0 [.ref (N0 + 0), .int v] (xH N0 kA hs P X) n (nX (some (.int ((x_seed P X v).1))) (xH N0 kA hs P ((x_seed P X v).2)) n) := by
  refine nE_of (by decide) (Nat.le_of_ble_eq_true rfl) ?_
  intro p e s m args below meth c hC hnm
  refine n_loc (L' := [(0, .ref (N0 + 0)), (1, .int v)]) rfl ?_
  refine n_iload_n hC dX0_seed_0 rfl ?_
  refine n_if_ge (tgt := 7) hC dX0_seed_1 (by decide) (fun c1 => ?_) (fun c1 => ?_)
  · refine n_aload_n hC dX0_seed_7 rfl ?_
    refine n_get hC cl0 (k := 1) (v := .ref (N0 + (sAd 0))) xc_o (x_lt hn) (by decide) q195 (xf_get N0 P X (by decide)) dX0_seed_8 ?_
    refine n_getN hC cl2 (k := 7) (v := .int (sI X 0 7)) (xc_so (by decide)) (s_lt0 hn (by decide)) (by decide) q161 (sf_get N0 X 0 (by decide)) dX0_seed_11 ?_
    refine n_istore_n (L' := [(0, .ref (N0 + 0)), (1, .int v), (2, .int (sI X 0 7))]) hC dX0_seed_14 (by decide) rfl ?_
    refine n_aload_n hC dX0_seed_15 rfl ?_
    refine n_get hC cl0 (k := 1) (v := .ref (N0 + (sAd 0))) xc_o (x_lt hn) (by decide) q195 (xf_get N0 P X (by decide)) dX0_seed_16 ?_
    refine n_iload_n hC dX0_seed_19 rfl ?_
    refine n_putN hC cl2 (k := 7) (xc_so (by decide)) (s_lt0 hn (by decide)) (by decide) q161 rfl rfl rfl (by rw [sf_len]; decide) dX0_seed_20 (su_I (X := X) (f := 7) (by decide) (by decide)) ?_
    refine n_iload_n hC dX0_seed_23 rfl ?_
    have eq_ : x_seed P X v = ((sI X 0 7), sSetI X 0 7 v) := by rw [x_seed, if_pos c1]
    refine n_iret hC dX0_seed_24 (Nat.le_of_ble_eq_true rfl) (Nat.le_of_ble_eq_true rfl) ?_
    rw [eq_]
    dsimp only
    exact ⟨rfl, rfl, rfl⟩
  · refine n_ldc hC dX0_seed_4 q272 ?_
    have eq_ : x_seed P X v = ((-1000000002), X) := by rw [x_seed, if_neg c1]
    refine n_iret hC dX0_seed_6 (Nat.le_of_ble_eq_true rfl) (Nat.le_of_ble_eq_true rfl) ?_
    rw [eq_]
    dsimp only
    exact ⟨rfl, rfl, rfl⟩
noncomputable def x_keep (P : PS) (X : XS) (k : Int32) : Int32 × XS := (if (x_isIn k (nI 0) (nI 1)) = true then ((nI 1), xSetN (sSetI (x_set P X ((cl k) + 1) 0) ((cl k) + 1) 8 (nI 1)) 3 0) else ((-1000000001), X))
theorem bX0_keep : nBV RX0 yX0_keep cX0_keep 2 (some .int) 1 := ⟨q667, q668, q51, q669, by decide, by decide +kernel⟩
set_option maxRecDepth 100000 in
set_option maxHeartbeats 4000000 in
theorem t_x_keep (l : Launch) (D : va_G) (N0 : Nat) (kA : Nat → ClassId) (hs : hT) (P : PS) (X : XS) (n : Nat) (hn : xOk P n) (k : Int32)  : nE l yX0_keep cX0_keep 2 (some .int) D N0 kA 2 0 0 [.ref (N0 + 0), .int k] (xH N0 kA hs P X) n (nX (some (.int ((x_keep P X k).1))) (xH N0 kA hs P ((x_keep P X k).2)) n) := by
  refine nE_of (by decide) (Nat.le_of_ble_eq_true rfl) ?_
  intro p e s m args below meth c hC hnm
  refine n_loc (L' := [(0, .ref (N0 + 0)), (1, .int k)]) rfl ?_
  refine n_iload_n hC dX0_keep_0 rfl ?_
  refine n_iconst (v := (nI 0)) hC dX0_keep_1 (by decide) ?_
  refine n_iconst (v := (nI 1)) hC dX0_keep_2 (by decide) ?_
  refine n_callS1 hC (As := [.int k, .int (nI 0), .int (nI 1)]) (rest := []) bX0_isIn (t_x_isIn l D N0 kA (xH N0 kA hs P X) n k (nI 0) (nI 1) ) (by decide) (by decide) q269 rfl (Nat.le_of_ble_eq_true rfl) dX0_keep_3 (Nat.le_of_ble_eq_true rfl) (Nat.le_of_ble_eq_true rfl) ?_
  refine n_stk (st' := [.int (bI (x_isIn k (nI 0) (nI 1)))]) rfl ?_
  refine n_if_neB (tgt := 12) hC dX0_keep_6 (by decide) (fun c6 => ?_) (fun c6 => ?_)
  · have hk := (xin_cst (x := k) 0 1 (by decide) (by decide)).mp c6
    have hk1 := nI_cl hk.1
    have hk2 := hk.2
    refine n_aload_n hC dX0_keep_12 rfl ?_
    refine n_get hC cl0 (k := 22) (v := .ref (N0 + 25)) xc_o (x_lt hn) (by decide) q216 (xf_get N0 P X (by decide)) dX0_keep_13 ?_
    refine n_iload_n hC dX0_keep_16 rfl ?_
    refine n_top (cl k) hk1 ?_
    refine n_aald hC (t0 := 4) (f := fun i => some (N0 + sAd (i + 1))) (v := .ref (N0 + (sAd ((cl k) + 1)))) (xc_a (p := 25) (by decide) (by decide)) (xa_lt hn (by decide)) rfl (cl k) rfl (by omega) (by decide) rfl dX0_keep_17 ?_
    refine n_aload_n hC dX0_keep_18 rfl ?_
    refine n_get hC cl0 (k := 1) (v := .ref (N0 + (sAd 0))) xc_o (x_lt hn) (by decide) q195 (xf_get N0 P X (by decide)) dX0_keep_19 ?_
    refine n_callV1 hC (As := [.ref (N0 + (sAd 0))]) (rest := []) (xc_so (by omega)) (s_lt0 hn (by omega)) rfl bX2_set (t_x_set l D N0 kA hs P X n hn ((cl k) + 1) 0 (by omega) (by omega)) (by decide) (by decide) q495 rfl (Nat.le_of_ble_eq_true rfl) dX0_keep_22 (Nat.le_of_ble_eq_true rfl) (Nat.le_of_ble_eq_true rfl) ?_
    refine n_stk (st' := []) rfl ?_
    refine n_aload_n hC dX0_keep_25 rfl ?_
    refine n_get hC cl0 (k := 22) (v := .ref (N0 + 25)) xc_o (x_lt hn) (by decide) q216 (xf_get N0 P (x_set P X ((cl k) + 1) 0) (by decide)) dX0_keep_26 ?_
    refine n_iload_n hC dX0_keep_29 rfl ?_
    refine n_top (cl k) hk1 ?_
    refine n_aald hC (t0 := 4) (f := fun i => some (N0 + sAd (i + 1))) (v := .ref (N0 + (sAd ((cl k) + 1)))) (xc_a (p := 25) (by decide) (by decide)) (xa_lt hn (by decide)) rfl (cl k) rfl (by omega) (by decide) rfl dX0_keep_30 ?_
    refine n_iconst (v := (nI 1)) hC dX0_keep_31 (by decide) ?_
    refine n_putN hC cl2 (k := 8) (xc_so (by omega)) (s_lt0 hn (by omega)) (by decide) q162 rfl (by decide) rfl (by rw [sf_len]; decide) dX0_keep_32 (su_I (X := (x_set P X ((cl k) + 1) 0)) (f := 8) (by omega) (by decide)) ?_
    refine n_aload_n hC dX0_keep_35 rfl ?_
    refine n_iconst (v := (nI 0)) hC dX0_keep_36 (by decide) ?_
    refine n_put hC cl0 (k := 3) xc_o (x_lt hn) (by decide) q197 rfl rfl rfl (by rw [xf_len]; decide) dX0_keep_37 (xu_N (X := (sSetI (x_set P X ((cl k) + 1) 0) ((cl k) + 1) 8 (nI 1))) (k := 3) (by decide) (by decide) (by decide) (by decide) (by decide) rfl rfl) ?_
    refine n_iconst (v := (nI 1)) hC dX0_keep_40 (by decide) ?_
    have eq_ : x_keep P X k = ((nI 1), xSetN (sSetI (x_set P X ((cl k) + 1) 0) ((cl k) + 1) 8 (nI 1)) 3 0) := by rw [x_keep, if_pos c6]
    refine n_iret hC dX0_keep_41 (Nat.le_of_ble_eq_true rfl) (Nat.le_of_ble_eq_true rfl) ?_
    rw [eq_]
    dsimp only
    exact ⟨rfl, rfl, rfl⟩
  · refine n_ldc hC dX0_keep_9 q450 ?_
    have eq_ : x_keep P X k = ((-1000000001), X) := by rw [x_keep, if_neg (by rw [c6]; decide)]
    refine n_iret hC dX0_keep_11 (Nat.le_of_ble_eq_true rfl) (Nat.le_of_ble_eq_true rfl) ?_
    rw [eq_]
    dsimp only
    exact ⟨rfl, rfl, rfl⟩
noncomputable def x_goBack (P : PS) (X : XS) (k : Int32) : Int32 × XS := (if (x_isIn k (nI 0) (nI 1)) = true then (if (sI X ((cl k) + 1) 8) = 0 then ((-1000000003), X) else ((nI 1), xSetN (x_set P X 0 ((cl k) + 1)) 3 0)) else ((-1000000001), X))
theorem bX0_goBack : nBV RX0 yX0_goBack cX0_goBack 2 (some .int) 1 := ⟨q671, q672, q51, q673, by decide, by decide +kernel⟩
set_option maxRecDepth 100000 in
set_option maxHeartbeats 4000000 in
theorem t_x_goBack (l : Launch) (D : va_G) (N0 : Nat) (kA : Nat → ClassId) (hs : hT) (P : PS) (X : XS) (n : Nat) (hn : xOk P n) (k : Int32)  : nE l yX0_goBack cX0_goBack 2 (some .int) D N0 kA 2 0 0 [.ref (N0 + 0), .int k] (xH N0 kA hs P X) n (nX (some (.int ((x_goBack P X k).1))) (xH N0 kA hs P ((x_goBack P X k).2)) n) := by
  refine nE_of (by decide) (Nat.le_of_ble_eq_true rfl) ?_
  intro p e s m args below meth c hC hnm
  refine n_loc (L' := [(0, .ref (N0 + 0)), (1, .int k)]) rfl ?_
  refine n_iload_n hC dX0_goBack_0 rfl ?_
  refine n_iconst (v := (nI 0)) hC dX0_goBack_1 (by decide) ?_
  refine n_iconst (v := (nI 1)) hC dX0_goBack_2 (by decide) ?_
  refine n_callS1 hC (As := [.int k, .int (nI 0), .int (nI 1)]) (rest := []) bX0_isIn (t_x_isIn l D N0 kA (xH N0 kA hs P X) n k (nI 0) (nI 1) ) (by decide) (by decide) q269 rfl (Nat.le_of_ble_eq_true rfl) dX0_goBack_3 (Nat.le_of_ble_eq_true rfl) (Nat.le_of_ble_eq_true rfl) ?_
  refine n_stk (st' := [.int (bI (x_isIn k (nI 0) (nI 1)))]) rfl ?_
  refine n_if_neB (tgt := 12) hC dX0_goBack_6 (by decide) (fun c6 => ?_) (fun c6 => ?_)
  · have hk := (xin_cst (x := k) 0 1 (by decide) (by decide)).mp c6
    have hk1 := nI_cl hk.1
    have hk2 := hk.2
    refine n_aload_n hC dX0_goBack_12 rfl ?_
    refine n_get hC cl0 (k := 22) (v := .ref (N0 + 25)) xc_o (x_lt hn) (by decide) q216 (xf_get N0 P X (by decide)) dX0_goBack_13 ?_
    refine n_iload_n hC dX0_goBack_16 rfl ?_
    refine n_top (cl k) hk1 ?_
    refine n_aald hC (t0 := 4) (f := fun i => some (N0 + sAd (i + 1))) (v := .ref (N0 + (sAd ((cl k) + 1)))) (xc_a (p := 25) (by decide) (by decide)) (xa_lt hn (by decide)) rfl (cl k) rfl (by omega) (by decide) rfl dX0_goBack_17 ?_
    refine n_getN hC cl2 (k := 8) (v := .int (sI X ((cl k) + 1) 8)) (xc_so (by omega)) (s_lt0 hn (by omega)) (by decide) q162 (sf_get N0 X ((cl k) + 1) (by decide)) dX0_goBack_18 ?_
    refine n_if_ne (tgt := 27) hC dX0_goBack_21 (by decide) (fun c21 => ?_) (fun c21 => ?_)
    · refine n_aload_n hC dX0_goBack_27 rfl ?_
      refine n_get hC cl0 (k := 1) (v := .ref (N0 + (sAd 0))) xc_o (x_lt hn) (by decide) q195 (xf_get N0 P X (by decide)) dX0_goBack_28 ?_
      refine n_aload_n hC dX0_goBack_31 rfl ?_
      refine n_get hC cl0 (k := 22) (v := .ref (N0 + 25)) xc_o (x_lt hn) (by decide) q216 (xf_get N0 P X (by decide)) dX0_goBack_32 ?_
      refine n_iload_n hC dX0_goBack_35 rfl ?_
      refine n_top (cl k) hk1 ?_
      refine n_aald hC (t0 := 4) (f := fun i => some (N0 + sAd (i + 1))) (v := .ref (N0 + (sAd ((cl k) + 1)))) (xc_a (p := 25) (by decide) (by decide)) (xa_lt hn (by decide)) rfl (cl k) rfl (by omega) (by decide) rfl dX0_goBack_36 ?_
      refine n_callV1 hC (As := [.ref (N0 + (sAd ((cl k) + 1)))]) (rest := []) (xc_so (by decide)) (s_lt0 hn (by decide)) rfl bX2_set (t_x_set l D N0 kA hs P X n hn 0 ((cl k) + 1) (by omega) (by omega)) (by decide) (by decide) q495 rfl (Nat.le_of_ble_eq_true rfl) dX0_goBack_37 (Nat.le_of_ble_eq_true rfl) (Nat.le_of_ble_eq_true rfl) ?_
      refine n_stk (st' := []) rfl ?_
      refine n_aload_n hC dX0_goBack_40 rfl ?_
      refine n_iconst (v := (nI 0)) hC dX0_goBack_41 (by decide) ?_
      refine n_put hC cl0 (k := 3) xc_o (x_lt hn) (by decide) q197 rfl rfl rfl (by rw [xf_len]; decide) dX0_goBack_42 (xu_N (X := (x_set P X 0 ((cl k) + 1))) (k := 3) (by decide) (by decide) (by decide) (by decide) (by decide) rfl rfl) ?_
      refine n_iconst (v := (nI 1)) hC dX0_goBack_45 (by decide) ?_
      have eq_ : x_goBack P X k = ((nI 1), xSetN (x_set P X 0 ((cl k) + 1)) 3 0) := by rw [x_goBack, if_pos c6, if_neg c21]
      refine n_iret hC dX0_goBack_46 (Nat.le_of_ble_eq_true rfl) (Nat.le_of_ble_eq_true rfl) ?_
      rw [eq_]
      dsimp only
      exact ⟨rfl, rfl, rfl⟩
    · refine n_ldc hC dX0_goBack_24 q490 ?_
      have eq_ : x_goBack P X k = ((-1000000003), X) := by rw [x_goBack, if_pos c6, if_pos c21]
      refine n_iret hC dX0_goBack_26 (Nat.le_of_ble_eq_true rfl) (Nat.le_of_ble_eq_true rfl) ?_
      rw [eq_]
      dsimp only
      exact ⟨rfl, rfl, rfl⟩
  · refine n_ldc hC dX0_goBack_9 q450 ?_
    have eq_ : x_goBack P X k = ((-1000000001), X) := by rw [x_goBack, if_neg (by rw [c6]; decide)]
    refine n_iret hC dX0_goBack_11 (Nat.le_of_ble_eq_true rfl) (Nat.le_of_ble_eq_true rfl) ?_
    rw [eq_]
    dsimp only
    exact ⟨rfl, rfl, rfl⟩
noncomputable def x_undo (P : PS) (X : XS) : Int32 × XS := (if (xN X 3) = 0 then ((-1000000003), X) else ((nI (xN (x_set P (xSetN X 3 ((xN X 3) - 1)) 0 (((xN X 3) - 1) + 3)) 3)), sSetI (x_set P (xSetN X 3 ((xN X 3) - 1)) 0 (((xN X 3) - 1) + 3)) 0 7 (sI X 0 7)))
theorem bX0_undo : nBV RX0 yX0_undo cX0_undo 2 (some .int) 0 := ⟨q554, q555, q51, q556, by decide, by decide +kernel⟩
set_option maxRecDepth 100000 in
set_option maxHeartbeats 4000000 in
theorem t_x_undo (l : Launch) (D : va_G) (N0 : Nat) (kA : Nat → ClassId) (hs : hT) (P : PS) (X : XS) (n : Nat) (hn : xOk P n)  (h3 : xN X 3 ≤ 20) : nE l yX0_undo cX0_undo 2 (some .int) D N0 kA 2 0 0 [.ref (N0 + 0)] (xH N0 kA hs P X) n (nX (some (.int ((x_undo P X).1))) (xH N0 kA hs P ((x_undo P X).2)) n) := by
  refine nE_of (by decide) (Nat.le_of_ble_eq_true rfl) ?_
  intro p e s m args below meth c hC hnm
  refine n_loc (L' := [(0, .ref (N0 + 0))]) rfl ?_
  refine n_aload_n hC dX0_undo_0 rfl ?_
  refine n_get hC cl0 (k := 3) (v := .int (nI (xN X 3))) xc_o (x_lt hn) (by decide) q197 (xf_get N0 P X (by decide)) dX0_undo_1 ?_
  refine n_if_neN (tgt := 10) hC (by omega) dX0_undo_4 (by decide) (fun c4 => ?_) (fun c4 => ?_)
  · refine n_aload_n hC dX0_undo_10 rfl ?_
    refine n_dup hC dX0_undo_11 rfl ?_
    refine n_get hC cl0 (k := 3) (v := .int (nI (xN X 3))) xc_o (x_lt hn) (by decide) q197 (xf_get N0 P X (by decide)) dX0_undo_12 ?_
    refine n_iconst (v := (nI 1)) hC dX0_undo_15 (by decide) ?_
    refine n_isubN hC (by omega) dX0_undo_16 ?_
    refine n_put hC cl0 (k := 3) xc_o (x_lt hn) (by decide) q197 rfl rfl rfl (by rw [xf_len]; decide) dX0_undo_17 (xu_N (X := X) (k := 3) (by decide) (by decide) (by decide) (by decide) (by decide) rfl rfl) ?_
    refine n_aload_n hC dX0_undo_20 rfl ?_
    refine n_get hC cl0 (k := 1) (v := .ref (N0 + (sAd 0))) xc_o (x_lt hn) (by decide) q195 (xf_get N0 P (xSetN X 3 ((xN X 3) - 1)) (by decide)) dX0_undo_21 ?_
    refine n_getN hC cl2 (k := 7) (v := .int (sI (xSetN X 3 ((xN X 3) - 1)) 0 7)) (xc_so (by decide)) (s_lt0 hn (by decide)) (by decide) q161 (sf_get N0 (xSetN X 3 ((xN X 3) - 1)) 0 (by decide)) dX0_undo_24 ?_
    refine n_stk (st' := [.int (sI X 0 7)]) (by first | simp [rxN_xSetI, rxN_xSetB, rxN_xSetA, rxN_sSetN, rxN_sSetI, rxN_sSetA, rxN_sPutA, rxN_xPutB, rxN_xPutA, rxI_xSetN, rxI_xSetB, rxI_xSetA, rxI_sSetN, rxI_sSetI, rxI_sSetA, rxI_sPutA, rxI_xPutB, rxI_xPutA, rxB_xSetN, rxB_xSetI, rxB_xSetA, rxB_sSetN, rxB_sSetI, rxB_sSetA, rxB_sPutA, rxB_xPutA, rxA_xSetN, rxA_xSetI, rxA_xSetB, rxA_sSetN, rxA_sSetI, rxA_sSetA, rxA_sPutA, rxA_xPutB, rsN_xSetN, rsN_xSetI, rsN_xSetB, rsN_xSetA, rsN_sSetI, rsN_sSetA, rsN_sPutA, rsN_xPutB, rsN_xPutA, rsI_xSetN, rsI_xSetI, rsI_xSetB, rsI_xSetA, rsI_sSetN, rsI_sSetA, rsI_sPutA, rsI_xPutB, rsI_xPutA, rsA_xSetN, rsA_xSetI, rsA_xSetB, rsA_xSetA, rsA_sSetN, rsA_sSetI, rsA_xPutB, rsA_xPutA, xN_N, xI_I, xB_B, xA_A, sN_N, sI_I, sA_A, sA_P, xB_P, xA_P] | rfl) ?_
    refine n_istore_n (L' := [(0, .ref (N0 + 0)), (1, .int (sI X 0 7))]) hC dX0_undo_27 (by decide) rfl ?_
    refine n_aload_n hC dX0_undo_28 rfl ?_
    refine n_get hC cl0 (k := 1) (v := .ref (N0 + (sAd 0))) xc_o (x_lt hn) (by decide) q195 (xf_get N0 P (xSetN X 3 ((xN X 3) - 1)) (by decide)) dX0_undo_29 ?_
    refine n_aload_n hC dX0_undo_32 rfl ?_
    refine n_get hC cl0 (k := 2) (v := .ref (N0 + 14)) xc_o (x_lt hn) (by decide) q196 (xf_get N0 P (xSetN X 3 ((xN X 3) - 1)) (by decide)) dX0_undo_33 ?_
    refine n_aload_n hC dX0_undo_36 rfl ?_
    refine n_get hC cl0 (k := 3) (v := .int (nI (xN (xSetN X 3 ((xN X 3) - 1)) 3))) xc_o (x_lt hn) (by decide) q197 (xf_get N0 P (xSetN X 3 ((xN X 3) - 1)) (by decide)) dX0_undo_37 ?_
    refine n_stk (st' := [.int (nI ((xN X 3) - 1)), .ref (N0 + 14), .ref (N0 + (sAd 0))]) (by first | simp [rxN_xSetI, rxN_xSetB, rxN_xSetA, rxN_sSetN, rxN_sSetI, rxN_sSetA, rxN_sPutA, rxN_xPutB, rxN_xPutA, rxI_xSetN, rxI_xSetB, rxI_xSetA, rxI_sSetN, rxI_sSetI, rxI_sSetA, rxI_sPutA, rxI_xPutB, rxI_xPutA, rxB_xSetN, rxB_xSetI, rxB_xSetA, rxB_sSetN, rxB_sSetI, rxB_sSetA, rxB_sPutA, rxB_xPutA, rxA_xSetN, rxA_xSetI, rxA_xSetB, rxA_sSetN, rxA_sSetI, rxA_sSetA, rxA_sPutA, rxA_xPutB, rsN_xSetN, rsN_xSetI, rsN_xSetB, rsN_xSetA, rsN_sSetI, rsN_sSetA, rsN_sPutA, rsN_xPutB, rsN_xPutA, rsI_xSetN, rsI_xSetI, rsI_xSetB, rsI_xSetA, rsI_sSetN, rsI_sSetA, rsI_sPutA, rsI_xPutB, rsI_xPutA, rsA_xSetN, rsA_xSetI, rsA_xSetB, rsA_xSetA, rsA_sSetN, rsA_sSetI, rsA_xPutB, rsA_xPutA, xN_N, xI_I, xB_B, xA_A, sN_N, sI_I, sA_A, sA_P, xB_P, xA_P] | rfl) ?_
    refine n_aald hC (t0 := 4) (f := fun i => some (N0 + sAd (i + 3))) (v := .ref (N0 + (sAd (((xN X 3) - 1) + 3)))) (xc_a (p := 14) (by decide) (by decide)) (xa_lt hn (by decide)) rfl ((xN X 3) - 1) rfl (by omega) (by decide) rfl dX0_undo_40 ?_
    refine n_callV1 hC (As := [.ref (N0 + (sAd (((xN X 3) - 1) + 3)))]) (rest := []) (xc_so (by decide)) (s_lt0 hn (by decide)) rfl bX2_set (t_x_set l D N0 kA hs P (xSetN X 3 ((xN X 3) - 1)) n hn 0 (((xN X 3) - 1) + 3) (by omega) (by omega)) (by decide) (by decide) q495 rfl (Nat.le_of_ble_eq_true rfl) dX0_undo_41 (Nat.le_of_ble_eq_true rfl) (Nat.le_of_ble_eq_true rfl) ?_
    refine n_stk (st' := []) rfl ?_
    refine n_aload_n hC dX0_undo_44 rfl ?_
    refine n_get hC cl0 (k := 1) (v := .ref (N0 + (sAd 0))) xc_o (x_lt hn) (by decide) q195 (xf_get N0 P (x_set P (xSetN X 3 ((xN X 3) - 1)) 0 (((xN X 3) - 1) + 3)) (by decide)) dX0_undo_45 ?_
    refine n_iload_n hC dX0_undo_48 rfl ?_
    refine n_putN hC cl2 (k := 7) (xc_so (by decide)) (s_lt0 hn (by decide)) (by decide) q161 rfl rfl rfl (by rw [sf_len]; decide) dX0_undo_49 (su_I (X := (x_set P (xSetN X 3 ((xN X 3) - 1)) 0 (((xN X 3) - 1) + 3))) (f := 7) (by decide) (by decide)) ?_
    refine n_aload_n hC dX0_undo_52 rfl ?_
    refine n_get hC cl0 (k := 3) (v := .int (nI (xN (sSetI (x_set P (xSetN X 3 ((xN X 3) - 1)) 0 (((xN X 3) - 1) + 3)) 0 7 (sI X 0 7)) 3))) xc_o (x_lt hn) (by decide) q197 (xf_get N0 P (sSetI (x_set P (xSetN X 3 ((xN X 3) - 1)) 0 (((xN X 3) - 1) + 3)) 0 7 (sI X 0 7)) (by decide)) dX0_undo_53 ?_
    refine n_stk (st' := [.int (nI (xN (x_set P (xSetN X 3 ((xN X 3) - 1)) 0 (((xN X 3) - 1) + 3)) 3))]) (by first | simp [rxN_xSetI, rxN_xSetB, rxN_xSetA, rxN_sSetN, rxN_sSetI, rxN_sSetA, rxN_sPutA, rxN_xPutB, rxN_xPutA, rxI_xSetN, rxI_xSetB, rxI_xSetA, rxI_sSetN, rxI_sSetI, rxI_sSetA, rxI_sPutA, rxI_xPutB, rxI_xPutA, rxB_xSetN, rxB_xSetI, rxB_xSetA, rxB_sSetN, rxB_sSetI, rxB_sSetA, rxB_sPutA, rxB_xPutA, rxA_xSetN, rxA_xSetI, rxA_xSetB, rxA_sSetN, rxA_sSetI, rxA_sSetA, rxA_sPutA, rxA_xPutB, rsN_xSetN, rsN_xSetI, rsN_xSetB, rsN_xSetA, rsN_sSetI, rsN_sSetA, rsN_sPutA, rsN_xPutB, rsN_xPutA, rsI_xSetN, rsI_xSetI, rsI_xSetB, rsI_xSetA, rsI_sSetN, rsI_sSetA, rsI_sPutA, rsI_xPutB, rsI_xPutA, rsA_xSetN, rsA_xSetI, rsA_xSetB, rsA_xSetA, rsA_sSetN, rsA_sSetI, rsA_xPutB, rsA_xPutA, xN_N, xI_I, xB_B, xA_A, sN_N, sI_I, sA_A, sA_P, xB_P, xA_P] | rfl) ?_
    have eq_ : x_undo P X = ((nI (xN (x_set P (xSetN X 3 ((xN X 3) - 1)) 0 (((xN X 3) - 1) + 3)) 3)), sSetI (x_set P (xSetN X 3 ((xN X 3) - 1)) 0 (((xN X 3) - 1) + 3)) 0 7 (sI X 0 7)) := by rw [x_undo, if_neg c4]
    refine n_iret hC dX0_undo_56 (Nat.le_of_ble_eq_true rfl) (Nat.le_of_ble_eq_true rfl) ?_
    rw [eq_]
    dsimp only
    exact ⟨rfl, rfl, rfl⟩
  · refine n_ldc hC dX0_undo_7 q490 ?_
    have eq_ : x_undo P X = ((-1000000003), X) := by rw [x_undo, if_pos c4]
    refine n_iret hC dX0_undo_9 (Nat.le_of_ble_eq_true rfl) (Nat.le_of_ble_eq_true rfl) ?_
    rw [eq_]
    dsimp only
    exact ⟨rfl, rfl, rfl⟩
