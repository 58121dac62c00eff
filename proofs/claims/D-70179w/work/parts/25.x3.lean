/-! the class: what is done -/
noncomputable def x_set_b (P : PS) (X : XS) (j : Nat) (q : Nat) : XS := sSetI (sSetI (sSetN (sSetI (sSetI (sPutA (sPutA (sPutA X j 0 (va_cpy (sA X q 0) (sA X j 0) 0 0 6)) j 1 (va_cpy (sA (sPutA X j 0 (va_cpy (sA X q 0) (sA X j 0) 0 0 6)) q 1) (sA (sPutA X j 0 (va_cpy (sA X q 0) (sA X j 0) 0 0 6)) j 1) 0 0 6)) j 2 (va_cpy (sA (sPutA (sPutA X j 0 (va_cpy (sA X q 0) (sA X j 0) 0 0 6)) j 1 (va_cpy (sA (sPutA X j 0 (va_cpy (sA X q 0) (sA X j 0) 0 0 6)) q 1) (sA (sPutA X j 0 (va_cpy (sA X q 0) (sA X j 0) 0 0 6)) j 1) 0 0 6)) q 2) (sA (sPutA (sPutA X j 0 (va_cpy (sA X q 0) (sA X j 0) 0 0 6)) j 1 (va_cpy (sA (sPutA X j 0 (va_cpy (sA X q 0) (sA X j 0) 0 0 6)) q 1) (sA (sPutA X j 0 (va_cpy (sA X q 0) (sA X j 0) 0 0 6)) j 1) 0 0 6)) j 2) 0 0 6)) j 3 (sI X q 3)) j 4 (sI X q 4)) j (sN X q)) j 6 (sI X q 6)) j 7 (sI X q 7)
theorem x_set_x : ∃ f : PS → XS → Nat → Nat → XS, ∀ (P : PS) (X : XS) (j : Nat) (q : Nat), f P X j q = x_set_b P X j q := ⟨x_set_b, fun P X j q => rfl⟩
noncomputable def x_set : PS → XS → Nat → Nat → XS := Classical.choose x_set_x
theorem x_set_d (P : PS) (X : XS) (j : Nat) (q : Nat) : x_set P X j q = sSetI (sSetI (sSetN (sSetI (sSetI (sPutA (sPutA (sPutA X j 0 (va_cpy (sA X q 0) (sA X j 0) 0 0 6)) j 1 (va_cpy (sA (sPutA X j 0 (va_cpy (sA X q 0) (sA X j 0) 0 0 6)) q 1) (sA (sPutA X j 0 (va_cpy (sA X q 0) (sA X j 0) 0 0 6)) j 1) 0 0 6)) j 2 (va_cpy (sA (sPutA (sPutA X j 0 (va_cpy (sA X q 0) (sA X j 0) 0 0 6)) j 1 (va_cpy (sA (sPutA X j 0 (va_cpy (sA X q 0) (sA X j 0) 0 0 6)) q 1) (sA (sPutA X j 0 (va_cpy (sA X q 0) (sA X j 0) 0 0 6)) j 1) 0 0 6)) q 2) (sA (sPutA (sPutA X j 0 (va_cpy (sA X q 0) (sA X j 0) 0 0 6)) j 1 (va_cpy (sA (sPutA X j 0 (va_cpy (sA X q 0) (sA X j 0) 0 0 6)) q 1) (sA (sPutA X j 0 (va_cpy (sA X q 0) (sA X j 0) 0 0 6)) j 1) 0 0 6)) j 2) 0 0 6)) j 3 (sI X q 3)) j 4 (sI X q 4)) j (sN X q)) j 6 (sI X q 6)) j 7 (sI X q 7) := Classical.choose_spec x_set_x P X j q
theorem bX2_set : nBV RX2 yX2_set cX2_set 2 none 1 := ⟨q496, q497, q53, q498, by decide, by decide +kernel⟩
set_option maxRecDepth 100000 in
set_option maxHeartbeats 4000000 in
theorem t_x_set (l : Launch) (D : va_G) (N0 : Nat) (kA : Nat → ClassId) (hs : hT) (P : PS) (X : XS) (n : Nat) (hn : xOk P n) (j : Nat) (q : Nat) (hj : j < 23) (hq : q < 23) : nE l yX2_set cX2_set 2 none D N0 kA 1 0 0 [.ref (N0 + (sAd j)), .ref (N0 + (sAd q))] (xH N0 kA hs P X) n (nX none (xH N0 kA hs P (x_set P X j q)) n) := by
  refine nE_of (by decide) (Nat.le_of_ble_eq_true rfl) ?_
  intro p e s m args below meth c hC hnm
  refine n_loc (L' := [(0, .ref (N0 + (sAd j))), (1, .ref (N0 + (sAd q)))]) rfl ?_
  refine n_aload_n hC dX2_set_0 rfl ?_
  refine n_get hC cl2 (k := 0) (v := .ref (N0 + (sAd q + 1))) (xc_so (by omega)) (s_lt0 hn (by omega)) (by decide) q146 (sf_get N0 X q (by decide)) dX2_set_1 ?_
  refine n_iconst (v := (nI 0)) hC dX2_set_4 (by decide) ?_
  refine n_aload_n hC dX2_set_5 rfl ?_
  refine n_get hC cl2 (k := 0) (v := .ref (N0 + (sAd j + 1))) (xc_so (by omega)) (s_lt0 hn (by omega)) (by decide) q146 (sf_get N0 X j (by decide)) dX2_set_6 ?_
  refine n_iconst (v := (nI 0)) hC dX2_set_9 (by decide) ?_
  refine n_bipush (v := (nI 6)) hC dX2_set_10 (by decide) ?_
  refine n_copyi hC (k := 6) (f := sA X q 0) (g := sA X j 0) q499 q501 q500 q62 (xc_s (r := 1) (by omega) (by decide)) (s_lt hn (by omega) (by decide)) (xc_s (r := 1) (by omega) (by decide)) (s_lt hn (by omega) (by decide)) (by decide) (by decide) (by decide) (by decide) (by decide) dX2_set_12 (su_P (X := X) (a := 0) (by omega) (by decide)) ?_
  refine n_aload_n hC dX2_set_15 rfl ?_
  refine n_get hC cl2 (k := 1) (v := .ref (N0 + (sAd q + 2))) (xc_so (by omega)) (s_lt0 hn (by omega)) (by decide) q148 (sf_get N0 (sPutA X j 0 (va_cpy (sA X q 0) (sA X j 0) 0 0 6)) q (by decide)) dX2_set_16 ?_
  refine n_iconst (v := (nI 0)) hC dX2_set_19 (by decide) ?_
  refine n_aload_n hC dX2_set_20 rfl ?_
  refine n_get hC cl2 (k := 1) (v := .ref (N0 + (sAd j + 2))) (xc_so (by omega)) (s_lt0 hn (by omega)) (by decide) q148 (sf_get N0 (sPutA X j 0 (va_cpy (sA X q 0) (sA X j 0) 0 0 6)) j (by decide)) dX2_set_21 ?_
  refine n_iconst (v := (nI 0)) hC dX2_set_24 (by decide) ?_
  refine n_bipush (v := (nI 6)) hC dX2_set_25 (by decide) ?_
  refine n_copyi hC (k := 6) (f := sA (sPutA X j 0 (va_cpy (sA X q 0) (sA X j 0) 0 0 6)) q 1) (g := sA (sPutA X j 0 (va_cpy (sA X q 0) (sA X j 0) 0 0 6)) j 1) q499 q501 q500 q62 (xc_s (r := 2) (by omega) (by decide)) (s_lt hn (by omega) (by decide)) (xc_s (r := 2) (by omega) (by decide)) (s_lt hn (by omega) (by decide)) (by decide) (by decide) (by decide) (by decide) (by decide) dX2_set_27 (su_P (X := (sPutA X j 0 (va_cpy (sA X q 0) (sA X j 0) 0 0 6))) (a := 1) (by omega) (by decide)) ?_
  refine n_aload_n hC dX2_set_30 rfl ?_
  refine n_get hC cl2 (k := 2) (v := .ref (N0 + (sAd q + 3))) (xc_so (by omega)) (s_lt0 hn (by omega)) (by decide) q150 (sf_get N0 (sPutA (sPutA X j 0 (va_cpy (sA X q 0) (sA X j 0) 0 0 6)) j 1 (va_cpy (sA (sPutA X j 0 (va_cpy (sA X q 0) (sA X j 0) 0 0 6)) q 1) (sA (sPutA X j 0 (va_cpy (sA X q 0) (sA X j 0) 0 0 6)) j 1) 0 0 6)) q (by decide)) dX2_set_31 ?_
  refine n_iconst (v := (nI 0)) hC dX2_set_34 (by decide) ?_
  refine n_aload_n hC dX2_set_35 rfl ?_
  refine n_get hC cl2 (k := 2) (v := .ref (N0 + (sAd j + 3))) (xc_so (by omega)) (s_lt0 hn (by omega)) (by decide) q150 (sf_get N0 (sPutA (sPutA X j 0 (va_cpy (sA X q 0) (sA X j 0) 0 0 6)) j 1 (va_cpy (sA (sPutA X j 0 (va_cpy (sA X q 0) (sA X j 0) 0 0 6)) q 1) (sA (sPutA X j 0 (va_cpy (sA X q 0) (sA X j 0) 0 0 6)) j 1) 0 0 6)) j (by decide)) dX2_set_36 ?_
  refine n_iconst (v := (nI 0)) hC dX2_set_39 (by decide) ?_
  refine n_bipush (v := (nI 6)) hC dX2_set_40 (by decide) ?_
  refine n_copyi hC (k := 6) (f := sA (sPutA (sPutA X j 0 (va_cpy (sA X q 0) (sA X j 0) 0 0 6)) j 1 (va_cpy (sA (sPutA X j 0 (va_cpy (sA X q 0) (sA X j 0) 0 0 6)) q 1) (sA (sPutA X j 0 (va_cpy (sA X q 0) (sA X j 0) 0 0 6)) j 1) 0 0 6)) q 2) (g := sA (sPutA (sPutA X j 0 (va_cpy (sA X q 0) (sA X j 0) 0 0 6)) j 1 (va_cpy (sA (sPutA X j 0 (va_cpy (sA X q 0) (sA X j 0) 0 0 6)) q 1) (sA (sPutA X j 0 (va_cpy (sA X q 0) (sA X j 0) 0 0 6)) j 1) 0 0 6)) j 2) q499 q501 q500 q62 (xc_s (r := 3) (by omega) (by decide)) (s_lt hn (by omega) (by decide)) (xc_s (r := 3) (by omega) (by decide)) (s_lt hn (by omega) (by decide)) (by decide) (by decide) (by decide) (by decide) (by decide) dX2_set_42 (su_P (X := (sPutA (sPutA X j 0 (va_cpy (sA X q 0) (sA X j 0) 0 0 6)) j 1 (va_cpy (sA (sPutA X j 0 (va_cpy (sA X q 0) (sA X j 0) 0 0 6)) q 1) (sA (sPutA X j 0 (va_cpy (sA X q 0) (sA X j 0) 0 0 6)) j 1) 0 0 6))) (a := 2) (by omega) (by decide)) ?_
  refine n_aload_n hC dX2_set_45 rfl ?_
  refine n_aload_n hC dX2_set_46 rfl ?_
  refine n_get hC cl2 (k := 3) (v := .int (sI (sPutA (sPutA (sPutA X j 0 (va_cpy (sA X q 0) (sA X j 0) 0 0 6)) j 1 (va_cpy (sA (sPutA X j 0 (va_cpy (sA X q 0) (sA X j 0) 0 0 6)) q 1) (sA (sPutA X j 0 (va_cpy (sA X q 0) (sA X j 0) 0 0 6)) j 1) 0 0 6)) j 2 (va_cpy (sA (sPutA (sPutA X j 0 (va_cpy (sA X q 0) (sA X j 0) 0 0 6)) j 1 (va_cpy (sA (sPutA X j 0 (va_cpy (sA X q 0) (sA X j 0) 0 0 6)) q 1) (sA (sPutA X j 0 (va_cpy (sA X q 0) (sA X j 0) 0 0 6)) j 1) 0 0 6)) q 2) (sA (sPutA (sPutA X j 0 (va_cpy (sA X q 0) (sA X j 0) 0 0 6)) j 1 (va_cpy (sA (sPutA X j 0 (va_cpy (sA X q 0) (sA X j 0) 0 0 6)) q 1) (sA (sPutA X j 0 (va_cpy (sA X q 0) (sA X j 0) 0 0 6)) j 1) 0 0 6)) j 2) 0 0 6)) q 3)) (xc_so (by omega)) (s_lt0 hn (by omega)) (by decide) q152 (sf_get N0 (sPutA (sPutA (sPutA X j 0 (va_cpy (sA X q 0) (sA X j 0) 0 0 6)) j 1 (va_cpy (sA (sPutA X j 0 (va_cpy (sA X q 0) (sA X j 0) 0 0 6)) q 1) (sA (sPutA X j 0 (va_cpy (sA X q 0) (sA X j 0) 0 0 6)) j 1) 0 0 6)) j 2 (va_cpy (sA (sPutA (sPutA X j 0 (va_cpy (sA X q 0) (sA X j 0) 0 0 6)) j 1 (va_cpy (sA (sPutA X j 0 (va_cpy (sA X q 0) (sA X j 0) 0 0 6)) q 1) (sA (sPutA X j 0 (va_cpy (sA X q 0) (sA X j 0) 0 0 6)) j 1) 0 0 6)) q 2) (sA (sPutA (sPutA X j 0 (va_cpy (sA X q 0) (sA X j 0) 0 0 6)) j 1 (va_cpy (sA (sPutA X j 0 (va_cpy (sA X q 0) (sA X j 0) 0 0 6)) q 1) (sA (sPutA X j 0 (va_cpy (sA X q 0) (sA X j 0) 0 0 6)) j 1) 0 0 6)) j 2) 0 0 6)) q (by decide)) dX2_set_47 ?_
  refine n_stk (st' := [.int (sI X q 3), .ref (N0 + (sAd j))]) (by first | simp [rxN_xSetI, rxN_xSetB, rxN_xSetA, rxN_sSetN, rxN_sSetI, rxN_sSetA, rxN_sPutA, rxN_xPutB, rxN_xPutA, rxI_xSetN, rxI_xSetB, rxI_xSetA, rxI_sSetN, rxI_sSetI, rxI_sSetA, rxI_sPutA, rxI_xPutB, rxI_xPutA, rxB_xSetN, rxB_xSetI, rxB_xSetA, rxB_sSetN, rxB_sSetI, rxB_sSetA, rxB_sPutA, rxB_xPutA, rxA_xSetN, rxA_xSetI, rxA_xSetB, rxA_sSetN, rxA_sSetI, rxA_sSetA, rxA_sPutA, rxA_xPutB, rsN_xSetN, rsN_xSetI, rsN_xSetB, rsN_xSetA, rsN_sSetI, rsN_sSetA, rsN_sPutA, rsN_xPutB, rsN_xPutA, rsI_xSetN, rsI_xSetI, rsI_xSetB, rsI_xSetA, rsI_sSetN, rsI_sSetA, rsI_sPutA, rsI_xPutB, rsI_xPutA, rsA_xSetN, rsA_xSetI, rsA_xSetB, rsA_xSetA, rsA_sSetN, rsA_sSetI, rsA_xPutB, rsA_xPutA, xN_N, xI_I, xB_B, xA_A, sN_N, sI_I, sA_A, sA_P, xB_P, xA_P] | rfl) ?_
  refine n_put hC cl2 (k := 3) (xc_so (by omega)) (s_lt0 hn (by omega)) (by decide) q152 rfl rfl rfl (by rw [sf_len]; decide) dX2_set_50 (su_I (X := (sPutA (sPutA (sPutA X j 0 (va_cpy (sA X q 0) (sA X j 0) 0 0 6)) j 1 (va_cpy (sA (sPutA X j 0 (va_cpy (sA X q 0) (sA X j 0) 0 0 6)) q 1) (sA (sPutA X j 0 (va_cpy (sA X q 0) (sA X j 0) 0 0 6)) j 1) 0 0 6)) j 2 (va_cpy (sA (sPutA (sPutA X j 0 (va_cpy (sA X q 0) (sA X j 0) 0 0 6)) j 1 (va_cpy (sA (sPutA X j 0 (va_cpy (sA X q 0) (sA X j 0) 0 0 6)) q 1) (sA (sPutA X j 0 (va_cpy (sA X q 0) (sA X j 0) 0 0 6)) j 1) 0 0 6)) q 2) (sA (sPutA (sPutA X j 0 (va_cpy (sA X q 0) (sA X j 0) 0 0 6)) j 1 (va_cpy (sA (sPutA X j 0 (va_cpy (sA X q 0) (sA X j 0) 0 0 6)) q 1) (sA (sPutA X j 0 (va_cpy (sA X q 0) (sA X j 0) 0 0 6)) j 1) 0 0 6)) j 2) 0 0 6))) (f := 3) (by omega) (by decide)) ?_
  refine n_aload_n hC dX2_set_53 rfl ?_
  refine n_aload_n hC dX2_set_54 rfl ?_
  refine n_get hC cl2 (k := 4) (v := .int (sI (sSetI (sPutA (sPutA (sPutA X j 0 (va_cpy (sA X q 0) (sA X j 0) 0 0 6)) j 1 (va_cpy (sA (sPutA X j 0 (va_cpy (sA X q 0) (sA X j 0) 0 0 6)) q 1) (sA (sPutA X j 0 (va_cpy (sA X q 0) (sA X j 0) 0 0 6)) j 1) 0 0 6)) j 2 (va_cpy (sA (sPutA (sPutA X j 0 (va_cpy (sA X q 0) (sA X j 0) 0 0 6)) j 1 (va_cpy (sA (sPutA X j 0 (va_cpy (sA X q 0) (sA X j 0) 0 0 6)) q 1) (sA (sPutA X j 0 (va_cpy (sA X q 0) (sA X j 0) 0 0 6)) j 1) 0 0 6)) q 2) (sA (sPutA (sPutA X j 0 (va_cpy (sA X q 0) (sA X j 0) 0 0 6)) j 1 (va_cpy (sA (sPutA X j 0 (va_cpy (sA X q 0) (sA X j 0) 0 0 6)) q 1) (sA (sPutA X j 0 (va_cpy (sA X q 0) (sA X j 0) 0 0 6)) j 1) 0 0 6)) j 2) 0 0 6)) j 3 (sI X q 3)) q 4)) (xc_so (by omega)) (s_lt0 hn (by omega)) (by decide) q154 (sf_get N0 (sSetI (sPutA (sPutA (sPutA X j 0 (va_cpy (sA X q 0) (sA X j 0) 0 0 6)) j 1 (va_cpy (sA (sPutA X j 0 (va_cpy (sA X q 0) (sA X j 0) 0 0 6)) q 1) (sA (sPutA X j 0 (va_cpy (sA X q 0) (sA X j 0) 0 0 6)) j 1) 0 0 6)) j 2 (va_cpy (sA (sPutA (sPutA X j 0 (va_cpy (sA X q 0) (sA X j 0) 0 0 6)) j 1 (va_cpy (sA (sPutA X j 0 (va_cpy (sA X q 0) (sA X j 0) 0 0 6)) q 1) (sA (sPutA X j 0 (va_cpy (sA X q 0) (sA X j 0) 0 0 6)) j 1) 0 0 6)) q 2) (sA (sPutA (sPutA X j 0 (va_cpy (sA X q 0) (sA X j 0) 0 0 6)) j 1 (va_cpy (sA (sPutA X j 0 (va_cpy (sA X q 0) (sA X j 0) 0 0 6)) q 1) (sA (sPutA X j 0 (va_cpy (sA X q 0) (sA X j 0) 0 0 6)) j 1) 0 0 6)) j 2) 0 0 6)) j 3 (sI X q 3)) q (by decide)) dX2_set_55 ?_
  refine n_stk (st' := [.int (sI X q 4), .ref (N0 + (sAd j))]) (by first | simp [rxN_xSetI, rxN_xSetB, rxN_xSetA, rxN_sSetN, rxN_sSetI, rxN_sSetA, rxN_sPutA, rxN_xPutB, rxN_xPutA, rxI_xSetN, rxI_xSetB, rxI_xSetA, rxI_sSetN, rxI_sSetI, rxI_sSetA, rxI_sPutA, rxI_xPutB, rxI_xPutA, rxB_xSetN, rxB_xSetI, rxB_xSetA, rxB_sSetN, rxB_sSetI, rxB_sSetA, rxB_sPutA, rxB_xPutA, rxA_xSetN, rxA_xSetI, rxA_xSetB, rxA_sSetN, rxA_sSetI, rxA_sSetA, rxA_sPutA, rxA_xPutB, rsN_xSetN, rsN_xSetI, rsN_xSetB, rsN_xSetA, rsN_sSetI, rsN_sSetA, rsN_sPutA, rsN_xPutB, rsN_xPutA, rsI_xSetN, rsI_xSetI, rsI_xSetB, rsI_xSetA, rsI_sSetN, rsI_sSetA, rsI_sPutA, rsI_xPutB, rsI_xPutA, rsA_xSetN, rsA_xSetI, rsA_xSetB, rsA_xSetA, rsA_sSetN, rsA_sSetI, rsA_xPutB, rsA_xPutA, xN_N, xI_I, xB_B, xA_A, sN_N, sI_I, sA_A, sA_P, xB_P, xA_P] | rfl) ?_
  refine n_put hC cl2 (k := 4) (xc_so (by omega)) (s_lt0 hn (by omega)) (by decide) q154 rfl rfl rfl (by rw [sf_len]; decide) dX2_set_58 (su_I (X := (sSetI (sPutA (sPutA (sPutA X j 0 (va_cpy (sA X q 0) (sA X j 0) 0 0 6)) j 1 (va_cpy (sA (sPutA X j 0 (va_cpy (sA X q 0) (sA X j 0) 0 0 6)) q 1) (sA (sPutA X j 0 (va_cpy (sA X q 0) (sA X j 0) 0 0 6)) j 1) 0 0 6)) j 2 (va_cpy (sA (sPutA (sPutA X j 0 (va_cpy (sA X q 0) (sA X j 0) 0 0 6)) j 1 (va_cpy (sA (sPutA X j 0 (va_cpy (sA X q 0) (sA X j 0) 0 0 6)) q 1) (sA (sPutA X j 0 (va_cpy (sA X q 0) (sA X j 0) 0 0 6)) j 1) 0 0 6)) q 2) (sA (sPutA (sPutA X j 0 (va_cpy (sA X q 0) (sA X j 0) 0 0 6)) j 1 (va_cpy (sA (sPutA X j 0 (va_cpy (sA X q 0) (sA X j 0) 0 0 6)) q 1) (sA (sPutA X j 0 (va_cpy (sA X q 0) (sA X j 0) 0 0 6)) j 1) 0 0 6)) j 2) 0 0 6)) j 3 (sI X q 3))) (f := 4) (by omega) (by decide)) ?_
  refine n_aload_n hC dX2_set_61 rfl ?_
  refine n_aload_n hC dX2_set_62 rfl ?_
  refine n_get hC cl2 (k := 5) (v := .int (nI (sN (sSetI (sSetI (sPutA (sPutA (sPutA X j 0 (va_cpy (sA X q 0) (sA X j 0) 0 0 6)) j 1 (va_cpy (sA (sPutA X j 0 (va_cpy (sA X q 0) (sA X j 0) 0 0 6)) q 1) (sA (sPutA X j 0 (va_cpy (sA X q 0) (sA X j 0) 0 0 6)) j 1) 0 0 6)) j 2 (va_cpy (sA (sPutA (sPutA X j 0 (va_cpy (sA X q 0) (sA X j 0) 0 0 6)) j 1 (va_cpy (sA (sPutA X j 0 (va_cpy (sA X q 0) (sA X j 0) 0 0 6)) q 1) (sA (sPutA X j 0 (va_cpy (sA X q 0) (sA X j 0) 0 0 6)) j 1) 0 0 6)) q 2) (sA (sPutA (sPutA X j 0 (va_cpy (sA X q 0) (sA X j 0) 0 0 6)) j 1 (va_cpy (sA (sPutA X j 0 (va_cpy (sA X q 0) (sA X j 0) 0 0 6)) q 1) (sA (sPutA X j 0 (va_cpy (sA X q 0) (sA X j 0) 0 0 6)) j 1) 0 0 6)) j 2) 0 0 6)) j 3 (sI X q 3)) j 4 (sI X q 4)) q))) (xc_so (by omega)) (s_lt0 hn (by omega)) (by decide) q156 (sf_get N0 (sSetI (sSetI (sPutA (sPutA (sPutA X j 0 (va_cpy (sA X q 0) (sA X j 0) 0 0 6)) j 1 (va_cpy (sA (sPutA X j 0 (va_cpy (sA X q 0) (sA X j 0) 0 0 6)) q 1) (sA (sPutA X j 0 (va_cpy (sA X q 0) (sA X j 0) 0 0 6)) j 1) 0 0 6)) j 2 (va_cpy (sA (sPutA (sPutA X j 0 (va_cpy (sA X q 0) (sA X j 0) 0 0 6)) j 1 (va_cpy (sA (sPutA X j 0 (va_cpy (sA X q 0) (sA X j 0) 0 0 6)) q 1) (sA (sPutA X j 0 (va_cpy (sA X q 0) (sA X j 0) 0 0 6)) j 1) 0 0 6)) q 2) (sA (sPutA (sPutA X j 0 (va_cpy (sA X q 0) (sA X j 0) 0 0 6)) j 1 (va_cpy (sA (sPutA X j 0 (va_cpy (sA X q 0) (sA X j 0) 0 0 6)) q 1) (sA (sPutA X j 0 (va_cpy (sA X q 0) (sA X j 0) 0 0 6)) j 1) 0 0 6)) j 2) 0 0 6)) j 3 (sI X q 3)) j 4 (sI X q 4)) q (by decide)) dX2_set_63 ?_
  refine n_stk (st' := [.int (nI (sN X q)), .ref (N0 + (sAd j))]) (by first | simp [rxN_xSetI, rxN_xSetB, rxN_xSetA, rxN_sSetN, rxN_sSetI, rxN_sSetA, rxN_sPutA, rxN_xPutB, rxN_xPutA, rxI_xSetN, rxI_xSetB, rxI_xSetA, rxI_sSetN, rxI_sSetI, rxI_sSetA, rxI_sPutA, rxI_xPutB, rxI_xPutA, rxB_xSetN, rxB_xSetI, rxB_xSetA, rxB_sSetN, rxB_sSetI, rxB_sSetA, rxB_sPutA, rxB_xPutA, rxA_xSetN, rxA_xSetI, rxA_xSetB, rxA_sSetN, rxA_sSetI, rxA_sSetA, rxA_sPutA, rxA_xPutB, rsN_xSetN, rsN_xSetI, rsN_xSetB, rsN_xSetA, rsN_sSetI, rsN_sSetA, rsN_sPutA, rsN_xPutB, rsN_xPutA, rsI_xSetN, rsI_xSetI, rsI_xSetB, rsI_xSetA, rsI_sSetN, rsI_sSetA, rsI_sPutA, rsI_xPutB, rsI_xPutA, rsA_xSetN, rsA_xSetI, rsA_xSetB, rsA_xSetA, rsA_sSetN, rsA_sSetI, rsA_xPutB, rsA_xPutA, xN_N, xI_I, xB_B, xA_A, sN_N, sI_I, sA_A, sA_P, xB_P, xA_P] | rfl) ?_
  refine n_put hC cl2 (k := 5) (xc_so (by omega)) (s_lt0 hn (by omega)) (by decide) q156 rfl rfl rfl (by rw [sf_len]; decide) dX2_set_66 (su_N (X := (sSetI (sSetI (sPutA (sPutA (sPutA X j 0 (va_cpy (sA X q 0) (sA X j 0) 0 0 6)) j 1 (va_cpy (sA (sPutA X j 0 (va_cpy (sA X q 0) (sA X j 0) 0 0 6)) q 1) (sA (sPutA X j 0 (va_cpy (sA X q 0) (sA X j 0) 0 0 6)) j 1) 0 0 6)) j 2 (va_cpy (sA (sPutA (sPutA X j 0 (va_cpy (sA X q 0) (sA X j 0) 0 0 6)) j 1 (va_cpy (sA (sPutA X j 0 (va_cpy (sA X q 0) (sA X j 0) 0 0 6)) q 1) (sA (sPutA X j 0 (va_cpy (sA X q 0) (sA X j 0) 0 0 6)) j 1) 0 0 6)) q 2) (sA (sPutA (sPutA X j 0 (va_cpy (sA X q 0) (sA X j 0) 0 0 6)) j 1 (va_cpy (sA (sPutA X j 0 (va_cpy (sA X q 0) (sA X j 0) 0 0 6)) q 1) (sA (sPutA X j 0 (va_cpy (sA X q 0) (sA X j 0) 0 0 6)) j 1) 0 0 6)) j 2) 0 0 6)) j 3 (sI X q 3)) j 4 (sI X q 4))) (by omega)) ?_
  refine n_aload_n hC dX2_set_69 rfl ?_
  refine n_aload_n hC dX2_set_70 rfl ?_
  refine n_get hC cl2 (k := 6) (v := .int (sI (sSetN (sSetI (sSetI (sPutA (sPutA (sPutA X j 0 (va_cpy (sA X q 0) (sA X j 0) 0 0 6)) j 1 (va_cpy (sA (sPutA X j 0 (va_cpy (sA X q 0) (sA X j 0) 0 0 6)) q 1) (sA (sPutA X j 0 (va_cpy (sA X q 0) (sA X j 0) 0 0 6)) j 1) 0 0 6)) j 2 (va_cpy (sA (sPutA (sPutA X j 0 (va_cpy (sA X q 0) (sA X j 0) 0 0 6)) j 1 (va_cpy (sA (sPutA X j 0 (va_cpy (sA X q 0) (sA X j 0) 0 0 6)) q 1) (sA (sPutA X j 0 (va_cpy (sA X q 0) (sA X j 0) 0 0 6)) j 1) 0 0 6)) q 2) (sA (sPutA (sPutA X j 0 (va_cpy (sA X q 0) (sA X j 0) 0 0 6)) j 1 (va_cpy (sA (sPutA X j 0 (va_cpy (sA X q 0) (sA X j 0) 0 0 6)) q 1) (sA (sPutA X j 0 (va_cpy (sA X q 0) (sA X j 0) 0 0 6)) j 1) 0 0 6)) j 2) 0 0 6)) j 3 (sI X q 3)) j 4 (sI X q 4)) j (sN X q)) q 6)) (xc_so (by omega)) (s_lt0 hn (by omega)) (by decide) q158 (sf_get N0 (sSetN (sSetI (sSetI (sPutA (sPutA (sPutA X j 0 (va_cpy (sA X q 0) (sA X j 0) 0 0 6)) j 1 (va_cpy (sA (sPutA X j 0 (va_cpy (sA X q 0) (sA X j 0) 0 0 6)) q 1) (sA (sPutA X j 0 (va_cpy (sA X q 0) (sA X j 0) 0 0 6)) j 1) 0 0 6)) j 2 (va_cpy (sA (sPutA (sPutA X j 0 (va_cpy (sA X q 0) (sA X j 0) 0 0 6)) j 1 (va_cpy (sA (sPutA X j 0 (va_cpy (sA X q 0) (sA X j 0) 0 0 6)) q 1) (sA (sPutA X j 0 (va_cpy (sA X q 0) (sA X j 0) 0 0 6)) j 1) 0 0 6)) q 2) (sA (sPutA (sPutA X j 0 (va_cpy (sA X q 0) (sA X j 0) 0 0 6)) j 1 (va_cpy (sA (sPutA X j 0 (va_cpy (sA X q 0) (sA X j 0) 0 0 6)) q 1) (sA (sPutA X j 0 (va_cpy (sA X q 0) (sA X j 0) 0 0 6)) j 1) 0 0 6)) j 2) 0 0 6)) j 3 (sI X q 3)) j 4 (sI X q 4)) j (sN X q)) q (by decide)) dX2_set_71 ?_
  refine n_stk (st' := [.int (sI X q 6), .ref (N0 + (sAd j))]) (by first | simp [rxN_xSetI, rxN_xSetB, rxN_xSetA, rxN_sSetN, rxN_sSetI, rxN_sSetA, rxN_sPutA, rxN_xPutB, rxN_xPutA, rxI_xSetN, rxI_xSetB, rxI_xSetA, rxI_sSetN, rxI_sSetI, rxI_sSetA, rxI_sPutA, rxI_xPutB, rxI_xPutA, rxB_xSetN, rxB_xSetI, rxB_xSetA, rxB_sSetN, rxB_sSetI, rxB_sSetA, rxB_sPutA, rxB_xPutA, rxA_xSetN, rxA_xSetI, rxA_xSetB, rxA_sSetN, rxA_sSetI, rxA_sSetA, rxA_sPutA, rxA_xPutB, rsN_xSetN, rsN_xSetI, rsN_xSetB, rsN_xSetA, rsN_sSetI, rsN_sSetA, rsN_sPutA, rsN_xPutB, rsN_xPutA, rsI_xSetN, rsI_xSetI, rsI_xSetB, rsI_xSetA, rsI_sSetN, rsI_sSetA, rsI_sPutA, rsI_xPutB, rsI_xPutA, rsA_xSetN, rsA_xSetI, rsA_xSetB, rsA_xSetA, rsA_sSetN, rsA_sSetI, rsA_xPutB, rsA_xPutA, xN_N, xI_I, xB_B, xA_A, sN_N, sI_I, sA_A, sA_P, xB_P, xA_P] | rfl) ?_
  refine n_put hC cl2 (k := 6) (xc_so (by omega)) (s_lt0 hn (by omega)) (by decide) q158 rfl rfl rfl (by rw [sf_len]; decide) dX2_set_74 (su_I (X := (sSetN (sSetI (sSetI (sPutA (sPutA (sPutA X j 0 (va_cpy (sA X q 0) (sA X j 0) 0 0 6)) j 1 (va_cpy (sA (sPutA X j 0 (va_cpy (sA X q 0) (sA X j 0) 0 0 6)) q 1) (sA (sPutA X j 0 (va_cpy (sA X q 0) (sA X j 0) 0 0 6)) j 1) 0 0 6)) j 2 (va_cpy (sA (sPutA (sPutA X j 0 (va_cpy (sA X q 0) (sA X j 0) 0 0 6)) j 1 (va_cpy (sA (sPutA X j 0 (va_cpy (sA X q 0) (sA X j 0) 0 0 6)) q 1) (sA (sPutA X j 0 (va_cpy (sA X q 0) (sA X j 0) 0 0 6)) j 1) 0 0 6)) q 2) (sA (sPutA (sPutA X j 0 (va_cpy (sA X q 0) (sA X j 0) 0 0 6)) j 1 (va_cpy (sA (sPutA X j 0 (va_cpy (sA X q 0) (sA X j 0) 0 0 6)) q 1) (sA (sPutA X j 0 (va_cpy (sA X q 0) (sA X j 0) 0 0 6)) j 1) 0 0 6)) j 2) 0 0 6)) j 3 (sI X q 3)) j 4 (sI X q 4)) j (sN X q))) (f := 6) (by omega) (by decide)) ?_
  refine n_aload_n hC dX2_set_77 rfl ?_
  refine n_aload_n hC dX2_set_78 rfl ?_
  refine n_get hC cl2 (k := 7) (v := .int (sI (sSetI (sSetN (sSetI (sSetI (sPutA (sPutA (sPutA X j 0 (va_cpy (sA X q 0) (sA X j 0) 0 0 6)) j 1 (va_cpy (sA (sPutA X j 0 (va_cpy (sA X q 0) (sA X j 0) 0 0 6)) q 1) (sA (sPutA X j 0 (va_cpy (sA X q 0) (sA X j 0) 0 0 6)) j 1) 0 0 6)) j 2 (va_cpy (sA (sPutA (sPutA X j 0 (va_cpy (sA X q 0) (sA X j 0) 0 0 6)) j 1 (va_cpy (sA (sPutA X j 0 (va_cpy (sA X q 0) (sA X j 0) 0 0 6)) q 1) (sA (sPutA X j 0 (va_cpy (sA X q 0) (sA X j 0) 0 0 6)) j 1) 0 0 6)) q 2) (sA (sPutA (sPutA X j 0 (va_cpy (sA X q 0) (sA X j 0) 0 0 6)) j 1 (va_cpy (sA (sPutA X j 0 (va_cpy (sA X q 0) (sA X j 0) 0 0 6)) q 1) (sA (sPutA X j 0 (va_cpy (sA X q 0) (sA X j 0) 0 0 6)) j 1) 0 0 6)) j 2) 0 0 6)) j 3 (sI X q 3)) j 4 (sI X q 4)) j (sN X q)) j 6 (sI X q 6)) q 7)) (xc_so (by omega)) (s_lt0 hn (by omega)) (by decide) q160 (sf_get N0 (sSetI (sSetN (sSetI (sSetI (sPutA (sPutA (sPutA X j 0 (va_cpy (sA X q 0) (sA X j 0) 0 0 6)) j 1 (va_cpy (sA (sPutA X j 0 (va_cpy (sA X q 0) (sA X j 0) 0 0 6)) q 1) (sA (sPutA X j 0 (va_cpy (sA X q 0) (sA X j 0) 0 0 6)) j 1) 0 0 6)) j 2 (va_cpy (sA (sPutA (sPutA X j 0 (va_cpy (sA X q 0) (sA X j 0) 0 0 6)) j 1 (va_cpy (sA (sPutA X j 0 (va_cpy (sA X q 0) (sA X j 0) 0 0 6)) q 1) (sA (sPutA X j 0 (va_cpy (sA X q 0) (sA X j 0) 0 0 6)) j 1) 0 0 6)) q 2) (sA (sPutA (sPutA X j 0 (va_cpy (sA X q 0) (sA X j 0) 0 0 6)) j 1 (va_cpy (sA (sPutA X j 0 (va_cpy (sA X q 0) (sA X j 0) 0 0 6)) q 1) (sA (sPutA X j 0 (va_cpy (sA X q 0) (sA X j 0) 0 0 6)) j 1) 0 0 6)) j 2) 0 0 6)) j 3 (sI X q 3)) j 4 (sI X q 4)) j (sN X q)) j 6 (sI X q 6)) q (by decide)) dX2_set_79 ?_
  refine n_stk (st' := [.int (sI X q 7), .ref (N0 + (sAd j))]) (by first | simp [rxN_xSetI, rxN_xSetB, rxN_xSetA, rxN_sSetN, rxN_sSetI, rxN_sSetA, rxN_sPutA, rxN_xPutB, rxN_xPutA, rxI_xSetN, rxI_xSetB, rxI_xSetA, rxI_sSetN, rxI_sSetI, rxI_sSetA, rxI_sPutA, rxI_xPutB, rxI_xPutA, rxB_xSetN, rxB_xSetI, rxB_xSetA, rxB_sSetN, rxB_sSetI, rxB_sSetA, rxB_sPutA, rxB_xPutA, rxA_xSetN, rxA_xSetI, rxA_xSetB, rxA_sSetN, rxA_sSetI, rxA_sSetA, rxA_sPutA, rxA_xPutB, rsN_xSetN, rsN_xSetI, rsN_xSetB, rsN_xSetA, rsN_sSetI, rsN_sSetA, rsN_sPutA, rsN_xPutB, rsN_xPutA, rsI_xSetN, rsI_xSetI, rsI_xSetB, rsI_xSetA, rsI_sSetN, rsI_sSetA, rsI_sPutA, rsI_xPutB, rsI_xPutA, rsA_xSetN, rsA_xSetI, rsA_xSetB, rsA_xSetA, rsA_sSetN, rsA_sSetI, rsA_xPutB, rsA_xPutA, xN_N, xI_I, xB_B, xA_A, sN_N, sI_I, sA_A, sA_P, xB_P, xA_P] | rfl) ?_
  refine n_put hC cl2 (k := 7) (xc_so (by omega)) (s_lt0 hn (by omega)) (by decide) q160 rfl rfl rfl (by rw [sf_len]; decide) dX2_set_82 (su_I (X := (sSetI (sSetN (sSetI (sSetI (sPutA (sPutA (sPutA X j 0 (va_cpy (sA X q 0) (sA X j 0) 0 0 6)) j 1 (va_cpy (sA (sPutA X j 0 (va_cpy (sA X q 0) (sA X j 0) 0 0 6)) q 1) (sA (sPutA X j 0 (va_cpy (sA X q 0) (sA X j 0) 0 0 6)) j 1) 0 0 6)) j 2 (va_cpy (sA (sPutA (sPutA X j 0 (va_cpy (sA X q 0) (sA X j 0) 0 0 6)) j 1 (va_cpy (sA (sPutA X j 0 (va_cpy (sA X q 0) (sA X j 0) 0 0 6)) q 1) (sA (sPutA X j 0 (va_cpy (sA X q 0) (sA X j 0) 0 0 6)) j 1) 0 0 6)) q 2) (sA (sPutA (sPutA X j 0 (va_cpy (sA X q 0) (sA X j 0) 0 0 6)) j 1 (va_cpy (sA (sPutA X j 0 (va_cpy (sA X q 0) (sA X j 0) 0 0 6)) q 1) (sA (sPutA X j 0 (va_cpy (sA X q 0) (sA X j 0) 0 0 6)) j 1) 0 0 6)) j 2) 0 0 6)) j 3 (sI X q 3)) j 4 (sI X q 4)) j (sN X q)) j 6 (sI X q 6))) (f := 7) (by omega) (by decide)) ?_
  have eq_ : x_set P X j q = sSetI (sSetI (sSetN (sSetI (sSetI (sPutA (sPutA (sPutA X j 0 (va_cpy (sA X q 0) (sA X j 0) 0 0 6)) j 1 (va_cpy (sA (sPutA X j 0 (va_cpy (sA X q 0) (sA X j 0) 0 0 6)) q 1) (sA (sPutA X j 0 (va_cpy (sA X q 0) (sA X j 0) 0 0 6)) j 1) 0 0 6)) j 2 (va_cpy (sA (sPutA (sPutA X j 0 (va_cpy (sA X q 0) (sA X j 0) 0 0 6)) j 1 (va_cpy (sA (sPutA X j 0 (va_cpy (sA X q 0) (sA X j 0) 0 0 6)) q 1) (sA (sPutA X j 0 (va_cpy (sA X q 0) (sA X j 0) 0 0 6)) j 1) 0 0 6)) q 2) (sA (sPutA (sPutA X j 0 (va_cpy (sA X q 0) (sA X j 0) 0 0 6)) j 1 (va_cpy (sA (sPutA X j 0 (va_cpy (sA X q 0) (sA X j 0) 0 0 6)) q 1) (sA (sPutA X j 0 (va_cpy (sA X q 0) (sA X j 0) 0 0 6)) j 1) 0 0 6)) j 2) 0 0 6)) j 3 (sI X q 3)) j 4 (sI X q 4)) j (sN X q)) j 6 (sI X q 6)) j 7 (sI X q 7) := by rw [x_set_d]
  refine n_vret hC dX2_set_85 (Nat.le_of_ble_eq_true rfl) (Nat.le_of_ble_eq_true rfl) ?_
  rw [eq_]
  exact ⟨rfl, rfl, rfl⟩
noncomputable def x_draw_b (P : PS) (X : XS) (z : Nat) : Nat × XS := (((nxS (cl (sI X 0 7))) / 65536) % z, sSetI X 0 7 (nI (nxS (cl (sI X 0 7)))))
theorem x_draw_x : ∃ f : PS → XS → Nat → Nat × XS, ∀ (P : PS) (X : XS) (z : Nat), f P X z = x_draw_b P X z := ⟨x_draw_b, fun P X z => rfl⟩
noncomputable def x_draw : PS → XS → Nat → Nat × XS := Classical.choose x_draw_x
theorem x_draw_d (P : PS) (X : XS) (z : Nat) : x_draw P X z = (((nxS (cl (sI X 0 7))) / 65536) % z, sSetI X 0 7 (nI (nxS (cl (sI X 0 7))))) := Classical.choose_spec x_draw_x P X z
theorem bX2_draw : nBV RX2 yX2_draw cX2_draw 2 (some .int) 1 := ⟨q543, q544, q53, q545, by decide, by decide +kernel⟩
set_option maxRecDepth 100000 in
set_option maxHeartbeats 4000000 in
theorem t_x_draw (l : Launch) (D : va_G) (N0 : Nat) (kA : Nat → ClassId) (hs : hT) (P : PS) (X : XS) (n : Nat) (hn : xOk P n) (z : Nat) (hd : 0 ≤ sI X 0 7) (hz : 0 < z) (hz2 : z < 2 ^ 31) : nE l yX2_draw cX2_draw 2 (some .int) D N0 kA 0 0 0 [.ref (N0 + (sAd 0)), .int (nI z)] (xH N0 kA hs P X) n (nX (some (.int (nI ((x_draw P X z).1)))) (xH N0 kA hs P ((x_draw P X z).2)) n) := by
  refine nE_of (by decide) (Nat.le_of_ble_eq_true rfl) ?_
  intro p e s m args below meth c hC hnm
  refine n_loc (L' := [(0, .ref (N0 + (sAd 0))), (1, .int (nI z))]) rfl ?_
  refine n_aload_n hC dX2_draw_0 rfl ?_
  refine n_aload_n hC dX2_draw_1 rfl ?_
  refine n_get hC cl2 (k := 7) (v := .int (sI X 0 7)) (xc_so (by decide)) (s_lt0 hn (by decide)) (by decide) q160 (sf_get N0 X 0 (by decide)) dX2_draw_2 ?_
  refine n_i2l hC dX2_draw_5 ?_
  refine n_ldc2 hC dX2_draw_6 q546 ?_
  refine n_lmul hC dX2_draw_9 ?_
  refine n_ldc2 hC dX2_draw_10 q547 ?_
  refine n_ladd hC dX2_draw_13 ?_
  refine n_ldc2 hC dX2_draw_14 q548 ?_
  refine n_lrem hC dX2_draw_17 (by decide) ?_
  refine n_l2i hC dX2_draw_18 ?_
  refine n_top (nxS (cl (sI X 0 7))) (nxS_eq hd) ?_
  refine n_put hC cl2 (k := 7) (xc_so (by decide)) (s_lt0 hn (by decide)) (by decide) q160 rfl rfl rfl (by rw [sf_len]; decide) dX2_draw_19 (su_I (X := X) (f := 7) (by decide) (by decide)) ?_
  refine n_aload_n hC dX2_draw_22 rfl ?_
  refine n_get hC cl2 (k := 7) (v := .int (sI (sSetI X 0 7 (nI (nxS (cl (sI X 0 7))))) 0 7)) (xc_so (by decide)) (s_lt0 hn (by decide)) (by decide) q160 (sf_get N0 (sSetI X 0 7 (nI (nxS (cl (sI X 0 7))))) 0 (by decide)) dX2_draw_23 ?_
  refine n_stk (st' := [.int (nI (nxS (cl (sI X 0 7))))]) (by first | simp [rxN_xSetI, rxN_xSetB, rxN_xSetA, rxN_sSetN, rxN_sSetI, rxN_sSetA, rxN_sPutA, rxN_xPutB, rxN_xPutA, rxI_xSetN, rxI_xSetB, rxI_xSetA, rxI_sSetN, rxI_sSetI, rxI_sSetA, rxI_sPutA, rxI_xPutB, rxI_xPutA, rxB_xSetN, rxB_xSetI, rxB_xSetA, rxB_sSetN, rxB_sSetI, rxB_sSetA, rxB_sPutA, rxB_xPutA, rxA_xSetN, rxA_xSetI, rxA_xSetB, rxA_sSetN, rxA_sSetI, rxA_sSetA, rxA_sPutA, rxA_xPutB, rsN_xSetN, rsN_xSetI, rsN_xSetB, rsN_xSetA, rsN_sSetI, rsN_sSetA, rsN_sPutA, rsN_xPutB, rsN_xPutA, rsI_xSetN, rsI_xSetI, rsI_xSetB, rsI_xSetA, rsI_sSetN, rsI_sSetA, rsI_sPutA, rsI_xPutB, rsI_xPutA, rsA_xSetN, rsA_xSetI, rsA_xSetB, rsA_xSetA, rsA_sSetN, rsA_sSetI, rsA_xPutB, rsA_xPutA, xN_N, xI_I, xB_B, xA_A, sN_N, sI_I, sA_A, sA_P, xB_P, xA_P] | rfl) ?_
  have hx := nxS_lt (cl (sI X 0 7))
  refine n_top (nxS (cl (sI X 0 7))) rfl ?_
  refine n_ldc hC dX2_draw_26 q549 ?_
  refine n_top 65536 (by decide) ?_
  refine n_idivN hC (by omega) (by omega) (by omega) dX2_draw_28 ?_
  refine n_iload_n hC dX2_draw_29 rfl ?_
  refine n_iremN hC (by omega) (by omega) (by omega) dX2_draw_30 ?_
  have eq_ : x_draw P X z = (((nxS (cl (sI X 0 7))) / 65536) % z, sSetI X 0 7 (nI (nxS (cl (sI X 0 7))))) := by rw [x_draw_d]
  refine n_iret hC dX2_draw_31 (Nat.le_of_ble_eq_true rfl) (Nat.le_of_ble_eq_true rfl) ?_
  rw [eq_]
  dsimp only
  exact ⟨rfl, rfl, rfl⟩
noncomputable def x_sgout (P : PS) (X : XS) (k : Nat) (v : Int32) : XS := sSetA X 0 0 k (if ((sA X 0 0 k) + v) < (nI 140) then ((sA X 0 0 k) + v) else (nI 140))
theorem bX2_gout : nBV RX2 yX2_gout cX2_gout 3 none 2 := ⟨q513, q514, q53, q515, by decide, by decide +kernel⟩
set_option maxRecDepth 100000 in
set_option maxHeartbeats 4000000 in
theorem t_x_sgout (l : Launch) (D : va_G) (N0 : Nat) (kA : Nat → ClassId) (hs : hT) (P : PS) (X : XS) (n : Nat) (hn : xOk P n) (k : Nat) (v : Int32) (hk : k < 6) : nE l yX2_gout cX2_gout 3 none D N0 kA 1 0 0 [.ref (N0 + (sAd 0)), .int (nI k), .int v] (xH N0 kA hs P X) n (nX none (xH N0 kA hs P (x_sgout P X k v)) n) := by
  refine nE_of (by decide) (Nat.le_of_ble_eq_true rfl) ?_
  intro p e s m args below meth c hC hnm
  refine n_loc (L' := [(0, .ref (N0 + (sAd 0))), (1, .int (nI k)), (2, .int v)]) rfl ?_
  refine n_aload_n hC dX2_gout_0 rfl ?_
  refine n_get hC cl2 (k := 0) (v := .ref (N0 + (sAd 0 + 1))) (xc_so (by decide)) (s_lt0 hn (by decide)) (by decide) q146 (sf_get N0 X 0 (by decide)) dX2_gout_1 ?_
  refine n_iload_n hC dX2_gout_4 rfl ?_
  refine n_sipush (v := (nI 140)) hC dX2_gout_5 (by decide) ?_
  refine n_aload_n hC dX2_gout_8 rfl ?_
  refine n_get hC cl2 (k := 0) (v := .ref (N0 + (sAd 0 + 1))) (xc_so (by decide)) (s_lt0 hn (by decide)) (by decide) q146 (sf_get N0 X 0 (by decide)) dX2_gout_9 ?_
  refine n_iload_n hC dX2_gout_12 rfl ?_
  refine n_iald hC (f := sA X 0 0) (xc_s (r := 1) (by decide) (by decide)) (s_lt hn (by decide) (by decide)) k rfl (by omega) (by decide) dX2_gout_13 ?_
  refine n_iload_n hC dX2_gout_14 rfl ?_
  refine n_iadd hC dX2_gout_15 ?_
  refine n_mmin hC q516 q397 q61 q398 (Nat.le_of_ble_eq_true rfl) (Nat.le_of_ble_eq_true rfl) (Nat.le_of_ble_eq_true rfl) (Nat.le_of_ble_eq_true rfl) dX2_gout_16 ?_
  refine n_iast hC (f := sA X 0 0) (xc_s (r := 1) (by decide) (by decide)) (s_lt hn (by decide) (by decide)) k rfl (by omega) (by decide) dX2_gout_19 (su_A (X := X) (a := 0) (by decide) (by decide)) ?_
  have eq_ : x_sgout P X k v = sSetA X 0 0 k (if ((sA X 0 0 k) + v) < (nI 140) then ((sA X 0 0 k) + v) else (nI 140)) := by rw [x_sgout]
  refine n_vret hC dX2_gout_20 (Nat.le_of_ble_eq_true rfl) (Nat.le_of_ble_eq_true rfl) ?_
  rw [eq_]
  exact ⟨rfl, rfl, rfl⟩
noncomputable def x_sstub (P : PS) (X : XS) (k : Nat) : XS := sSetA X 0 0 k (if (nI 1) < ((sA X 0 0 k) - (nI 3)) then ((sA X 0 0 k) - (nI 3)) else (nI 1))
theorem bX2_stub : nBV RX2 yX2_stub cX2_stub 2 none 1 := ⟨q522, q523, q53, q524, by decide, by decide +kernel⟩
set_option maxRecDepth 100000 in
set_option maxHeartbeats 4000000 in
theorem t_x_sstub (l : Launch) (D : va_G) (N0 : Nat) (kA : Nat → ClassId) (hs : hT) (P : PS) (X : XS) (n : Nat) (hn : xOk P n) (k : Nat) (hk : k < 6) : nE l yX2_stub cX2_stub 2 none D N0 kA 1 0 0 [.ref (N0 + (sAd 0)), .int (nI k)] (xH N0 kA hs P X) n (nX none (xH N0 kA hs P (x_sstub P X k)) n) := by
  refine nE_of (by decide) (Nat.le_of_ble_eq_true rfl) ?_
  intro p e s m args below meth c hC hnm
  refine n_loc (L' := [(0, .ref (N0 + (sAd 0))), (1, .int (nI k))]) rfl ?_
  refine n_aload_n hC dX2_stub_0 rfl ?_
  refine n_get hC cl2 (k := 0) (v := .ref (N0 + (sAd 0 + 1))) (xc_so (by decide)) (s_lt0 hn (by decide)) (by decide) q146 (sf_get N0 X 0 (by decide)) dX2_stub_1 ?_
  refine n_iload_n hC dX2_stub_4 rfl ?_
  refine n_iconst (v := (nI 1)) hC dX2_stub_5 (by decide) ?_
  refine n_aload_n hC dX2_stub_6 rfl ?_
  refine n_get hC cl2 (k := 0) (v := .ref (N0 + (sAd 0 + 1))) (xc_so (by decide)) (s_lt0 hn (by decide)) (by decide) q146 (sf_get N0 X 0 (by decide)) dX2_stub_7 ?_
  refine n_iload_n hC dX2_stub_10 rfl ?_
  refine n_iald hC (f := sA X 0 0) (xc_s (r := 1) (by decide) (by decide)) (s_lt hn (by decide) (by decide)) k rfl (by omega) (by decide) dX2_stub_11 ?_
  refine n_iconst (v := (nI 3)) hC dX2_stub_12 (by decide) ?_
  refine n_isub hC dX2_stub_13 ?_
  refine n_mmax hC q467 q468 q61 q469 (Nat.le_of_ble_eq_true rfl) (Nat.le_of_ble_eq_true rfl) (Nat.le_of_ble_eq_true rfl) (Nat.le_of_ble_eq_true rfl) dX2_stub_14 ?_
  refine n_iast hC (f := sA X 0 0) (xc_s (r := 1) (by decide) (by decide)) (s_lt hn (by decide) (by decide)) k rfl (by omega) (by decide) dX2_stub_17 (su_A (X := X) (a := 0) (by decide) (by decide)) ?_
  have eq_ : x_sstub P X k = sSetA X 0 0 k (if (nI 1) < ((sA X 0 0 k) - (nI 3)) then ((sA X 0 0 k) - (nI 3)) else (nI 1)) := by rw [x_sstub]
  refine n_vret hC dX2_stub_18 (Nat.le_of_ble_eq_true rfl) (Nat.le_of_ble_eq_true rfl) ?_
  rw [eq_]
  exact ⟨rfl, rfl, rfl⟩
noncomputable def x_sseason_L2 : Nat → PS → XS → Nat → XS
  | 0, P, X, i => X
  | fu + 1, P, X, i => (if (pN P 5) ≤ i then sSetN X 0 ((sN X 0) + 1) else (if (pB P 2 i) ≠ (sN X 0) then x_sseason_L2 fu P X (i + 1) else (if ((nI (pB P 4 i)) * (x_measure P X (pB P 3 i) (sN X 0))) = 0 then x_sseason_L2 fu P (sSetI (sSetI (sSetA X 0 2 i ((nI (pB P 4 i)) * (x_measure P X (pB P 3 i) (sN X 0)))) 0 6 ((sI X 0 6) + ((nI (pB P 4 i)) * (x_measure P X (pB P 3 i) (sN X 0))))) 0 4 ((sI X 0 4) ||| ((nI 1) <<< ((nI i) &&& 31)))) (i + 1) else x_sseason_L2 fu P (sSetI (sSetI (sSetA X 0 2 i ((nI (pB P 4 i)) * (x_measure P X (pB P 3 i) (sN X 0)))) 0 6 ((sI X 0 6) + ((nI (pB P 4 i)) * (x_measure P X (pB P 3 i) (sN X 0))))) 0 4 ((sI X 0 4) ||| (nI 0))) (i + 1))))
noncomputable def x_sseason_b (P : PS) (X : XS) : XS := x_sseason_L2 (pN P 5 + 1) P X 0
theorem x_sseason_x : ∃ f : PS → XS → XS, ∀ (P : PS) (X : XS) , f P X = x_sseason_b P X := ⟨x_sseason_b, fun P X => rfl⟩
noncomputable def x_sseason : PS → XS → XS := Classical.choose x_sseason_x
theorem x_sseason_d (P : PS) (X : XS)  : x_sseason P X = x_sseason_L2 (pN P 5 + 1) P X 0 := Classical.choose_spec x_sseason_x P X
theorem bX2_season : nBV RX2 yX2_season cX2_season 2 none 0 := ⟨q503, q504, q53, q505, by decide, by decide +kernel⟩
set_option maxRecDepth 100000 in
set_option maxHeartbeats 4000000 in
theorem t_x_sseason_L2 {p : Program} {l : Launch} {e : Env} {s : State} {m : MethodId} {args : Array Value} {below : List Frame} {meth : Method} {c : Code} {D : va_G} {N0 : Nat} {kA : Nat → ClassId} {hs : hT} {P : PS} {n : Nat} (hn : xOk P n)  (hC : nC p s m args meth c RX2 cX2_season 2 none true D N0 kA) (hh : xHe P) (hc : xCo P) : ∀ (fu : Nat) (X : XS) (i : Nat) (hS : sN X 0 < 30000) (hi : i ≤ pN P 5) (hf : pN P 5 < i + fu), nW p l e (nRm 3 0 0) s m args below meth c (nQ below (nX none (xH N0 kA hs P (x_sseason_L2 fu P X i)) n) D N0 s 0 0) D N0 2 2 [(0, .ref (N0 + (sAd 0))), (1, .int (nI i))] [] (xH N0 kA hs P X) n 0 0 := by
  intro fu
  induction fu with
  | zero =>
    intro X i hS hi hf
    exfalso; omega
  | succ fu ih =>
    intro X i hS hi hf
    have hm6 := pN_le hn
    have hc1 := hc.1
    have hc2 := hc.2
    refine n_iload_n hC dX2_season_2 rfl ?_
    refine n_aload_n hC dX2_season_3 rfl ?_
    refine n_get hC cl2 (k := 9) (v := .ref (N0 + 0)) (xc_so (by decide)) (s_lt0 hn (by decide)) (by decide) q163 (sf_get N0 X 0 (by decide)) dX2_season_4 ?_
    refine n_getN hC cl0 (k := 0) (v := .ref (N0 + (pb P))) xc_o (x_lt hn) (by decide) q193 (xf_get N0 P X (by decide)) dX2_season_7 ?_
    refine n_getN hC cl1 (k := 5) (v := .int (nI (pN P 5))) (xc_po hn) (p_lt0 hn) (by decide) q100 (pf_get N0 P (by decide)) dX2_season_10 ?_
    refine n_icmp_geN (tgt := 120) hC i (pN P 5) rfl rfl (by omega) (by omega) dX2_season_13 (by decide) (fun c13 => ?_) (fun c13 => ?_)
    · refine n_aload_n hC dX2_season_120 rfl ?_
      refine n_dup hC dX2_season_121 rfl ?_
      refine n_get hC cl2 (k := 5) (v := .int (nI (sN X 0))) (xc_so (by decide)) (s_lt0 hn (by decide)) (by decide) q156 (sf_get N0 X 0 (by decide)) dX2_season_122 ?_
      refine n_iconst (v := (nI 1)) hC dX2_season_125 (by decide) ?_
      refine n_iaddN hC dX2_season_126 ?_
      refine n_put hC cl2 (k := 5) (xc_so (by decide)) (s_lt0 hn (by decide)) (by decide) q156 rfl rfl rfl (by rw [sf_len]; decide) dX2_season_127 (su_N (X := X) (by decide)) ?_
      have eq_ : x_sseason_L2 (fu + 1) P X i = sSetN X 0 ((sN X 0) + 1) := by rw [x_sseason_L2, if_pos c13]
      refine n_vret hC dX2_season_130 (Nat.le_of_ble_eq_true rfl) (Nat.le_of_ble_eq_true rfl) ?_
      rw [eq_]
      exact ⟨rfl, rfl, rfl⟩
    · have hci := hc2 i (by omega)
      refine n_aload_n hC dX2_season_16 rfl ?_
      refine n_get hC cl2 (k := 9) (v := .ref (N0 + 0)) (xc_so (by decide)) (s_lt0 hn (by decide)) (by decide) q163 (sf_get N0 X 0 (by decide)) dX2_season_17 ?_
      refine n_getN hC cl0 (k := 0) (v := .ref (N0 + (pb P))) xc_o (x_lt hn) (by decide) q193 (xf_get N0 P X (by decide)) dX2_season_20 ?_
      refine n_getN hC cl1 (k := 2) (v := .ref (N0 + (pb P + 2))) (xc_po hn) (p_lt0 hn) (by decide) q89 (pf_get N0 P (by decide)) dX2_season_23 ?_
      refine n_iload_n hC dX2_season_26 rfl ?_
      refine n_iald hC (f := fun j => nI (pB P 2 j)) (xc_p (r := 2) hn (by omega)) (p_lt hn (by omega)) i rfl (by omega) (by decide) dX2_season_27 ?_
      refine n_aload_n hC dX2_season_28 rfl ?_
      refine n_get hC cl2 (k := 5) (v := .int (nI (sN X 0))) (xc_so (by decide)) (s_lt0 hn (by decide)) (by decide) q156 (sf_get N0 X 0 (by decide)) dX2_season_29 ?_
      refine n_icmp_neN (tgt := 114) hC (pB P 2 i) (sN X 0) rfl rfl (by omega) (by omega) dX2_season_32 (by decide) (fun c32 => ?_) (fun c32 => ?_)
      · refine n_iincN (a := i) (L' := [(0, .ref (N0 + (sAd 0))), (1, .int (nI (i + 1)))]) hC dX2_season_114 rfl (by decide) rfl ?_
        refine n_goto (tgt := 2) hC dX2_season_117 (by decide) ?_
        rw [show x_sseason_L2 (fu + 1) P X i = x_sseason_L2 fu P X (i + 1) from by rw [x_sseason_L2, if_neg (Nat.not_le.mpr c13), if_pos c32]]
        exact ih X (i + 1) hS (by first | omega | (simp [xN_N] <;> omega)) (by first | omega | (simp [xN_N] <;> omega))
      · refine n_aload_n hC dX2_season_35 rfl ?_
        refine n_get hC cl2 (k := 2) (v := .ref (N0 + (sAd 0 + 3))) (xc_so (by decide)) (s_lt0 hn (by decide)) (by decide) q150 (sf_get N0 X 0 (by decide)) dX2_season_36 ?_
        refine n_iload_n hC dX2_season_39 rfl ?_
        refine n_aload_n hC dX2_season_40 rfl ?_
        refine n_get hC cl2 (k := 9) (v := .ref (N0 + 0)) (xc_so (by decide)) (s_lt0 hn (by decide)) (by decide) q163 (sf_get N0 X 0 (by decide)) dX2_season_41 ?_
        refine n_getN hC cl0 (k := 0) (v := .ref (N0 + (pb P))) xc_o (x_lt hn) (by decide) q193 (xf_get N0 P X (by decide)) dX2_season_44 ?_
        refine n_getN hC cl1 (k := 4) (v := .ref (N0 + (pb P + 4))) (xc_po hn) (p_lt0 hn) (by decide) q97 (pf_get N0 P (by decide)) dX2_season_47 ?_
        refine n_iload_n hC dX2_season_50 rfl ?_
        refine n_iald hC (f := fun j => nI (pB P 4 j)) (xc_p (r := 4) hn (by omega)) (p_lt hn (by omega)) i rfl (by omega) (by decide) dX2_season_51 ?_
        refine n_aload_n hC dX2_season_52 rfl ?_
        refine n_aload_n hC dX2_season_53 rfl ?_
        refine n_get hC cl2 (k := 9) (v := .ref (N0 + 0)) (xc_so (by decide)) (s_lt0 hn (by decide)) (by decide) q163 (sf_get N0 X 0 (by decide)) dX2_season_54 ?_
        refine n_getN hC cl0 (k := 0) (v := .ref (N0 + (pb P))) xc_o (x_lt hn) (by decide) q193 (xf_get N0 P X (by decide)) dX2_season_57 ?_
        refine n_getN hC cl1 (k := 3) (v := .ref (N0 + (pb P + 3))) (xc_po hn) (p_lt0 hn) (by decide) q93 (pf_get N0 P (by decide)) dX2_season_60 ?_
        refine n_iload_n hC dX2_season_63 rfl ?_
        refine n_iald hC (f := fun j => nI (pB P 3 j)) (xc_p (r := 3) hn (by omega)) (p_lt hn (by omega)) i rfl (by omega) (by decide) dX2_season_64 ?_
        refine n_aload_n hC dX2_season_65 rfl ?_
        refine n_get hC cl2 (k := 5) (v := .int (nI (sN X 0))) (xc_so (by decide)) (s_lt0 hn (by decide)) (by decide) q156 (sf_get N0 X 0 (by decide)) dX2_season_66 ?_
        refine n_callV1 hC (As := [.int (nI (pB P 3 i)), .int (nI (sN X 0))]) (rest := [.int (nI (pB P 4 i)), .int (nI i), .ref (N0 + (sAd 0 + 3))]) (xc_so (by decide)) (s_lt0 hn (by decide)) rfl bX2_measure (t_x_measure l D N0 kA hs P X n hn (pB P 3 i) (sN X 0) (by omega) (by omega) hh) (by decide) (by decide) q506 rfl (Nat.le_of_ble_eq_true rfl) dX2_season_69 (Nat.le_of_ble_eq_true rfl) (Nat.le_of_ble_eq_true rfl) ?_
        refine n_stk (st' := [.int (x_measure P X (pB P 3 i) (sN X 0)), .int (nI (pB P 4 i)), .int (nI i), .ref (N0 + (sAd 0 + 3))]) rfl ?_
        refine n_imul hC dX2_season_72 ?_
        refine n_iast hC (f := sA X 0 2) (xc_s (r := 3) (by decide) (by decide)) (s_lt hn (by decide) (by decide)) i rfl (by omega) (by decide) dX2_season_73 (su_A (X := X) (a := 2) (by decide) (by decide)) ?_
        refine n_aload_n hC dX2_season_74 rfl ?_
        refine n_dup hC dX2_season_75 rfl ?_
        refine n_get hC cl2 (k := 6) (v := .int (sI (sSetA X 0 2 i ((nI (pB P 4 i)) * (x_measure P X (pB P 3 i) (sN X 0)))) 0 6)) (xc_so (by decide)) (s_lt0 hn (by decide)) (by decide) q158 (sf_get N0 (sSetA X 0 2 i ((nI (pB P 4 i)) * (x_measure P X (pB P 3 i) (sN X 0)))) 0 (by decide)) dX2_season_76 ?_
        refine n_stk (st' := [.int (sI X 0 6), .ref (N0 + (sAd 0))]) (by first | simp [rxN_xSetI, rxN_xSetB, rxN_xSetA, rxN_sSetN, rxN_sSetI, rxN_sSetA, rxN_sPutA, rxN_xPutB, rxN_xPutA, rxI_xSetN, rxI_xSetB, rxI_xSetA, rxI_sSetN, rxI_sSetI, rxI_sSetA, rxI_sPutA, rxI_xPutB, rxI_xPutA, rxB_xSetN, rxB_xSetI, rxB_xSetA, rxB_sSetN, rxB_sSetI, rxB_sSetA, rxB_sPutA, rxB_xPutA, rxA_xSetN, rxA_xSetI, rxA_xSetB, rxA_sSetN, rxA_sSetI, rxA_sSetA, rxA_sPutA, rxA_xPutB, rsN_xSetN, rsN_xSetI, rsN_xSetB, rsN_xSetA, rsN_sSetI, rsN_sSetA, rsN_sPutA, rsN_xPutB, rsN_xPutA, rsI_xSetN, rsI_xSetI, rsI_xSetB, rsI_xSetA, rsI_sSetN, rsI_sSetA, rsI_sPutA, rsI_xPutB, rsI_xPutA, rsA_xSetN, rsA_xSetI, rsA_xSetB, rsA_xSetA, rsA_sSetN, rsA_sSetI, rsA_xPutB, rsA_xPutA, xN_N, xI_I, xB_B, xA_A, sN_N, sI_I, sA_A, sA_P, xB_P, xA_P] | rfl) ?_
        refine n_aload_n hC dX2_season_79 rfl ?_
        refine n_get hC cl2 (k := 2) (v := .ref (N0 + (sAd 0 + 3))) (xc_so (by decide)) (s_lt0 hn (by decide)) (by decide) q150 (sf_get N0 (sSetA X 0 2 i ((nI (pB P 4 i)) * (x_measure P X (pB P 3 i) (sN X 0)))) 0 (by decide)) dX2_season_80 ?_
        refine n_iload_n hC dX2_season_83 rfl ?_
        refine n_iald hC (f := sA (sSetA X 0 2 i ((nI (pB P 4 i)) * (x_measure P X (pB P 3 i) (sN X 0)))) 0 2) (xc_s (r := 3) (by decide) (by decide)) (s_lt hn (by decide) (by decide)) i rfl (by omega) (by decide) dX2_season_84 ?_
        refine n_stk (st' := [.int ((nI (pB P 4 i)) * (x_measure P X (pB P 3 i) (sN X 0))), .int (sI X 0 6), .ref (N0 + (sAd 0))]) (by first | simp [rxN_xSetI, rxN_xSetB, rxN_xSetA, rxN_sSetN, rxN_sSetI, rxN_sSetA, rxN_sPutA, rxN_xPutB, rxN_xPutA, rxI_xSetN, rxI_xSetB, rxI_xSetA, rxI_sSetN, rxI_sSetI, rxI_sSetA, rxI_sPutA, rxI_xPutB, rxI_xPutA, rxB_xSetN, rxB_xSetI, rxB_xSetA, rxB_sSetN, rxB_sSetI, rxB_sSetA, rxB_sPutA, rxB_xPutA, rxA_xSetN, rxA_xSetI, rxA_xSetB, rxA_sSetN, rxA_sSetI, rxA_sSetA, rxA_sPutA, rxA_xPutB, rsN_xSetN, rsN_xSetI, rsN_xSetB, rsN_xSetA, rsN_sSetI, rsN_sSetA, rsN_sPutA, rsN_xPutB, rsN_xPutA, rsI_xSetN, rsI_xSetI, rsI_xSetB, rsI_xSetA, rsI_sSetN, rsI_sSetA, rsI_sPutA, rsI_xPutB, rsI_xPutA, rsA_xSetN, rsA_xSetI, rsA_xSetB, rsA_xSetA, rsA_sSetN, rsA_sSetI, rsA_xPutB, rsA_xPutA, xN_N, xI_I, xB_B, xA_A, sN_N, sI_I, sA_A, sA_P, xB_P, xA_P] | rfl) ?_
        refine n_iadd hC dX2_season_85 ?_
        refine n_put hC cl2 (k := 6) (xc_so (by decide)) (s_lt0 hn (by decide)) (by decide) q158 rfl rfl rfl (by rw [sf_len]; decide) dX2_season_86 (su_I (X := (sSetA X 0 2 i ((nI (pB P 4 i)) * (x_measure P X (pB P 3 i) (sN X 0))))) (f := 6) (by decide) (by decide)) ?_
        refine n_aload_n hC dX2_season_89 rfl ?_
        refine n_dup hC dX2_season_90 rfl ?_
        refine n_get hC cl2 (k := 4) (v := .int (sI (sSetI (sSetA X 0 2 i ((nI (pB P 4 i)) * (x_measure P X (pB P 3 i) (sN X 0)))) 0 6 ((sI X 0 6) + ((nI (pB P 4 i)) * (x_measure P X (pB P 3 i) (sN X 0))))) 0 4)) (xc_so (by decide)) (s_lt0 hn (by decide)) (by decide) q154 (sf_get N0 (sSetI (sSetA X 0 2 i ((nI (pB P 4 i)) * (x_measure P X (pB P 3 i) (sN X 0)))) 0 6 ((sI X 0 6) + ((nI (pB P 4 i)) * (x_measure P X (pB P 3 i) (sN X 0))))) 0 (by decide)) dX2_season_91 ?_
        refine n_stk (st' := [.int (sI X 0 4), .ref (N0 + (sAd 0))]) (by first | simp [rxN_xSetI, rxN_xSetB, rxN_xSetA, rxN_sSetN, rxN_sSetI, rxN_sSetA, rxN_sPutA, rxN_xPutB, rxN_xPutA, rxI_xSetN, rxI_xSetB, rxI_xSetA, rxI_sSetN, rxI_sSetI, rxI_sSetA, rxI_sPutA, rxI_xPutB, rxI_xPutA, rxB_xSetN, rxB_xSetI, rxB_xSetA, rxB_sSetN, rxB_sSetI, rxB_sSetA, rxB_sPutA, rxB_xPutA, rxA_xSetN, rxA_xSetI, rxA_xSetB, rxA_sSetN, rxA_sSetI, rxA_sSetA, rxA_sPutA, rxA_xPutB, rsN_xSetN, rsN_xSetI, rsN_xSetB, rsN_xSetA, rsN_sSetI, rsN_sSetA, rsN_sPutA, rsN_xPutB, rsN_xPutA, rsI_xSetN, rsI_xSetI, rsI_xSetB, rsI_xSetA, rsI_sSetN, rsI_sSetA, rsI_sPutA, rsI_xPutB, rsI_xPutA, rsA_xSetN, rsA_xSetI, rsA_xSetB, rsA_xSetA, rsA_sSetN, rsA_sSetI, rsA_xPutB, rsA_xPutA, xN_N, xI_I, xB_B, xA_A, sN_N, sI_I, sA_A, sA_P, xB_P, xA_P] | rfl) ?_
        refine n_aload_n hC dX2_season_94 rfl ?_
        refine n_get hC cl2 (k := 2) (v := .ref (N0 + (sAd 0 + 3))) (xc_so (by decide)) (s_lt0 hn (by decide)) (by decide) q150 (sf_get N0 (sSetI (sSetA X 0 2 i ((nI (pB P 4 i)) * (x_measure P X (pB P 3 i) (sN X 0)))) 0 6 ((sI X 0 6) + ((nI (pB P 4 i)) * (x_measure P X (pB P 3 i) (sN X 0))))) 0 (by decide)) dX2_season_95 ?_
        refine n_iload_n hC dX2_season_98 rfl ?_
        refine n_iald hC (f := sA (sSetI (sSetA X 0 2 i ((nI (pB P 4 i)) * (x_measure P X (pB P 3 i) (sN X 0)))) 0 6 ((sI X 0 6) + ((nI (pB P 4 i)) * (x_measure P X (pB P 3 i) (sN X 0))))) 0 2) (xc_s (r := 3) (by decide) (by decide)) (s_lt hn (by decide) (by decide)) i rfl (by omega) (by decide) dX2_season_99 ?_
        refine n_stk (st' := [.int ((nI (pB P 4 i)) * (x_measure P X (pB P 3 i) (sN X 0))), .int (sI X 0 4), .ref (N0 + (sAd 0))]) (by first | simp [rxN_xSetI, rxN_xSetB, rxN_xSetA, rxN_sSetN, rxN_sSetI, rxN_sSetA, rxN_sPutA, rxN_xPutB, rxN_xPutA, rxI_xSetN, rxI_xSetB, rxI_xSetA, rxI_sSetN, rxI_sSetI, rxI_sSetA, rxI_sPutA, rxI_xPutB, rxI_xPutA, rxB_xSetN, rxB_xSetI, rxB_xSetA, rxB_sSetN, rxB_sSetI, rxB_sSetA, rxB_sPutA, rxB_xPutA, rxA_xSetN, rxA_xSetI, rxA_xSetB, rxA_sSetN, rxA_sSetI, rxA_sSetA, rxA_sPutA, rxA_xPutB, rsN_xSetN, rsN_xSetI, rsN_xSetB, rsN_xSetA, rsN_sSetI, rsN_sSetA, rsN_sPutA, rsN_xPutB, rsN_xPutA, rsI_xSetN, rsI_xSetI, rsI_xSetB, rsI_xSetA, rsI_sSetN, rsI_sSetA, rsI_sPutA, rsI_xPutB, rsI_xPutA, rsA_xSetN, rsA_xSetI, rsA_xSetB, rsA_xSetA, rsA_sSetN, rsA_sSetI, rsA_xPutB, rsA_xPutA, xN_N, xI_I, xB_B, xA_A, sN_N, sI_I, sA_A, sA_P, xB_P, xA_P] | rfl) ?_
        refine n_if_ne (tgt := 109) hC dX2_season_100 (by decide) (fun c100 => ?_) (fun c100 => ?_)
        · refine n_iconst (v := (nI 0)) hC dX2_season_109 (by decide) ?_
          refine n_ior hC dX2_season_110 ?_
          refine n_put hC cl2 (k := 4) (xc_so (by decide)) (s_lt0 hn (by decide)) (by decide) q154 rfl rfl rfl (by rw [sf_len]; decide) dX2_season_111 (su_I (X := (sSetI (sSetA X 0 2 i ((nI (pB P 4 i)) * (x_measure P X (pB P 3 i) (sN X 0)))) 0 6 ((sI X 0 6) + ((nI (pB P 4 i)) * (x_measure P X (pB P 3 i) (sN X 0)))))) (f := 4) (by decide) (by decide)) ?_
          refine n_iincN (a := i) (L' := [(0, .ref (N0 + (sAd 0))), (1, .int (nI (i + 1)))]) hC dX2_season_114 rfl (by decide) rfl ?_
          refine n_goto (tgt := 2) hC dX2_season_117 (by decide) ?_
          rw [show x_sseason_L2 (fu + 1) P X i = x_sseason_L2 fu P (sSetI (sSetI (sSetA X 0 2 i ((nI (pB P 4 i)) * (x_measure P X (pB P 3 i) (sN X 0)))) 0 6 ((sI X 0 6) + ((nI (pB P 4 i)) * (x_measure P X (pB P 3 i) (sN X 0))))) 0 4 ((sI X 0 4) ||| (nI 0))) (i + 1) from by rw [x_sseason_L2, if_neg (Nat.not_le.mpr c13), if_neg (not_not_intro c32), if_neg c100]]
          exact ih (sSetI (sSetI (sSetA X 0 2 i ((nI (pB P 4 i)) * (x_measure P X (pB P 3 i) (sN X 0)))) 0 6 ((sI X 0 6) + ((nI (pB P 4 i)) * (x_measure P X (pB P 3 i) (sN X 0))))) 0 4 ((sI X 0 4) ||| (nI 0))) (i + 1) hS (by first | omega | (simp [xN_N] <;> omega)) (by first | omega | (simp [xN_N] <;> omega))
        · refine n_iconst (v := (nI 1)) hC dX2_season_103 (by decide) ?_
          refine n_iload_n hC dX2_season_104 rfl ?_
          refine n_ishl hC dX2_season_105 ?_
          refine n_goto (tgt := 110) hC dX2_season_106 (by decide) ?_
          refine n_ior hC dX2_season_110 ?_
          refine n_put hC cl2 (k := 4) (xc_so (by decide)) (s_lt0 hn (by decide)) (by decide) q154 rfl rfl rfl (by rw [sf_len]; decide) dX2_season_111 (su_I (X := (sSetI (sSetA X 0 2 i ((nI (pB P 4 i)) * (x_measure P X (pB P 3 i) (sN X 0)))) 0 6 ((sI X 0 6) + ((nI (pB P 4 i)) * (x_measure P X (pB P 3 i) (sN X 0)))))) (f := 4) (by decide) (by decide)) ?_
          refine n_iincN (a := i) (L' := [(0, .ref (N0 + (sAd 0))), (1, .int (nI (i + 1)))]) hC dX2_season_114 rfl (by decide) rfl ?_
          refine n_goto (tgt := 2) hC dX2_season_117 (by decide) ?_
          rw [show x_sseason_L2 (fu + 1) P X i = x_sseason_L2 fu P (sSetI (sSetI (sSetA X 0 2 i ((nI (pB P 4 i)) * (x_measure P X (pB P 3 i) (sN X 0)))) 0 6 ((sI X 0 6) + ((nI (pB P 4 i)) * (x_measure P X (pB P 3 i) (sN X 0))))) 0 4 ((sI X 0 4) ||| ((nI 1) <<< ((nI i) &&& 31)))) (i + 1) from by rw [x_sseason_L2, if_neg (Nat.not_le.mpr c13), if_neg (not_not_intro c32), if_pos c100]]
          exact ih (sSetI (sSetI (sSetA X 0 2 i ((nI (pB P 4 i)) * (x_measure P X (pB P 3 i) (sN X 0)))) 0 6 ((sI X 0 6) + ((nI (pB P 4 i)) * (x_measure P X (pB P 3 i) (sN X 0))))) 0 4 ((sI X 0 4) ||| ((nI 1) <<< ((nI i) &&& 31)))) (i + 1) hS (by first | omega | (simp [xN_N] <;> omega)) (by first | omega | (simp [xN_N] <;> omega))
set_option maxRecDepth 100000 in
set_option maxHeartbeats 4000000 in
theorem t_x_sseason (l : Launch) (D : va_G) (N0 : Nat) (kA : Nat → ClassId) (hs : hT) (P : PS) (X : XS) (n : Nat) (hn : xOk P n)  (hh : xHe P) (hS : sN X 0 < 30000) (hc : xCo P) : nE l yX2_season cX2_season 2 none D N0 kA 3 0 0 [.ref (N0 + (sAd 0))] (xH N0 kA hs P X) n (nX none (xH N0 kA hs P (x_sseason P X)) n) := by
  refine nE_of (by decide) (Nat.le_of_ble_eq_true rfl) ?_
  intro p e s m args below meth c hC hnm
  refine n_loc (L' := [(0, .ref (N0 + (sAd 0)))]) rfl ?_
  have hm6 := pN_le hn
  have hc1 := hc.1
  have hc2 := hc.2
  refine n_iconst (v := (nI 0)) hC dX2_season_0 (by decide) ?_
  refine n_istore_n (L' := [(0, .ref (N0 + (sAd 0))), (1, .int (nI 0))]) hC dX2_season_1 (by decide) rfl ?_
  rw [show x_sseason P X = x_sseason_L2 (pN P 5 + 1) P X 0 from by rw [x_sseason_d]]
  exact t_x_sseason_L2 hn hC hh hc (pN P 5 + 1) X 0 hS (by first | omega | (simp [xN_N] <;> omega)) (by first | omega | (simp [xN_N] <;> omega))
theorem xset_N (P : PS) (X : XS) (j q k : Nat) : xN (x_set P X j q) k = xN X k := by rw [x_set_d]; rfl
theorem xset_I (P : PS) (X : XS) (j q k : Nat) : xI (x_set P X j q) k = xI X k := by rw [x_set_d]; rfl
theorem xset_B (P : PS) (X : XS) (j q k i : Nat) : xB (x_set P X j q) k i = xB X k i := by rw [x_set_d]; rfl
theorem xset_A (P : PS) (X : XS) (j q k i : Nat) : xA (x_set P X j q) k i = xA X k i := by rw [x_set_d]; rfl
theorem xset_n (P : PS) (X : XS) (j q i : Nat) : sN (x_set P X j q) i = if i = j then sN X q else sN X i := by
  rw [x_set_d]; simp only [rxN_xSetI, rxN_xSetB, rxN_xSetA, rxN_sSetN, rxN_sSetI, rxN_sSetA, rxN_sPutA, rxN_xPutB, rxN_xPutA, rxI_xSetN, rxI_xSetB, rxI_xSetA, rxI_sSetN, rxI_sSetI, rxI_sSetA, rxI_sPutA, rxI_xPutB, rxI_xPutA, rxB_xSetN, rxB_xSetI, rxB_xSetA, rxB_sSetN, rxB_sSetI, rxB_sSetA, rxB_sPutA, rxB_xPutA, rxA_xSetN, rxA_xSetI, rxA_xSetB, rxA_sSetN, rxA_sSetI, rxA_sSetA, rxA_sPutA, rxA_xPutB, rsN_xSetN, rsN_xSetI, rsN_xSetB, rsN_xSetA, rsN_sSetI, rsN_sSetA, rsN_sPutA, rsN_xPutB, rsN_xPutA, rsI_xSetN, rsI_xSetI, rsI_xSetB, rsI_xSetA, rsI_sSetN, rsI_sSetA, rsI_sPutA, rsI_xPutB, rsI_xPutA, rsA_xSetN, rsA_xSetI, rsA_xSetB, rsA_xSetA, rsA_sSetN, rsA_sSetI, rsA_xPutB, rsA_xPutA, xN_N, xI_I, xB_B, xA_A, sN_N, sI_I, sA_A, sA_P, xB_P, xA_P]
theorem xset_i (P : PS) (X : XS) (j q i f : Nat) : sI (x_set P X j q) i f = if i = j ∧ (f = 3 ∨ f = 4 ∨ f = 6 ∨ f = 7) then sI X q f else sI X i f := by
  rw [x_set_d]; simp only [rxN_xSetI, rxN_xSetB, rxN_xSetA, rxN_sSetN, rxN_sSetI, rxN_sSetA, rxN_sPutA, rxN_xPutB, rxN_xPutA, rxI_xSetN, rxI_xSetB, rxI_xSetA, rxI_sSetN, rxI_sSetI, rxI_sSetA, rxI_sPutA, rxI_xPutB, rxI_xPutA, rxB_xSetN, rxB_xSetI, rxB_xSetA, rxB_sSetN, rxB_sSetI, rxB_sSetA, rxB_sPutA, rxB_xPutA, rxA_xSetN, rxA_xSetI, rxA_xSetB, rxA_sSetN, rxA_sSetI, rxA_sSetA, rxA_sPutA, rxA_xPutB, rsN_xSetN, rsN_xSetI, rsN_xSetB, rsN_xSetA, rsN_sSetI, rsN_sSetA, rsN_sPutA, rsN_xPutB, rsN_xPutA, rsI_xSetN, rsI_xSetI, rsI_xSetB, rsI_xSetA, rsI_sSetN, rsI_sSetA, rsI_sPutA, rsI_xPutB, rsI_xPutA, rsA_xSetN, rsA_xSetI, rsA_xSetB, rsA_xSetA, rsA_sSetN, rsA_sSetI, rsA_xPutB, rsA_xPutA, xN_N, xI_I, xB_B, xA_A, sN_N, sI_I, sA_A, sA_P, xB_P, xA_P]
  by_cases e : i = j
  · subst e
    by_cases f3 : f = 3
    · subst f3; simp
    · by_cases f4 : f = 4
      · subst f4; simp
      · by_cases f6 : f = 6
        · subst f6; simp
        · by_cases f7 : f = 7
          · subst f7; simp
          · simp [f3, f4, f6, f7]
  · simp [e]
theorem xset_a (P : PS) (X : XS) (j q i a b : Nat) : sA (x_set P X j q) i a b = if i = j ∧ a < 3 ∧ b < 6 then sA X q a b else sA X i a b := by
  rw [x_set_d]; simp only [rxN_xSetI, rxN_xSetB, rxN_xSetA, rxN_sSetN, rxN_sSetI, rxN_sSetA, rxN_sPutA, rxN_xPutB, rxN_xPutA, rxI_xSetN, rxI_xSetB, rxI_xSetA, rxI_sSetN, rxI_sSetI, rxI_sSetA, rxI_sPutA, rxI_xPutB, rxI_xPutA, rxB_xSetN, rxB_xSetI, rxB_xSetA, rxB_sSetN, rxB_sSetI, rxB_sSetA, rxB_sPutA, rxB_xPutA, rxA_xSetN, rxA_xSetI, rxA_xSetB, rxA_sSetN, rxA_sSetI, rxA_sSetA, rxA_sPutA, rxA_xPutB, rsN_xSetN, rsN_xSetI, rsN_xSetB, rsN_xSetA, rsN_sSetI, rsN_sSetA, rsN_sPutA, rsN_xPutB, rsN_xPutA, rsI_xSetN, rsI_xSetI, rsI_xSetB, rsI_xSetA, rsI_sSetN, rsI_sSetA, rsI_sPutA, rsI_xPutB, rsI_xPutA, rsA_xSetN, rsA_xSetI, rsA_xSetB, rsA_xSetA, rsA_sSetN, rsA_sSetI, rsA_xPutB, rsA_xPutA, xN_N, xI_I, xB_B, xA_A, sN_N, sI_I, sA_A, sA_P, xB_P, xA_P, va_cpy]
  by_cases e : i = j
  · subst e
    by_cases f3 : a = 0
    · subst f3; simp
    · by_cases f4 : a = 1
      · subst f4; simp
      · by_cases f6 : a = 2
        · subst f6; simp
        · have : ¬ a < 3 := by omega
          simp [f3, f4, f6, this]
  · simp [e]
noncomputable def x_remember_L11 : Nat → PS → XS → Nat → XS
  | 0, P, X, k => X
  | fu + 1, P, X, k => (if 20 ≤ k then X else x_remember_L11 fu P (x_set P X ((k - 1) + 3) (k + 3)) (k + 1))
noncomputable def x_remember_b (P : PS) (X : XS) : XS := (if (xN X 3) ≠ 20 then xSetN (x_set P X ((xN X 3) + 3) 0) 3 ((xN (x_set P X ((xN X 3) + 3) 0) 3) + 1) else xSetN (x_set P (xSetN (x_remember_L11 (20 + pN P 1) P X 1) 3 ((xN (x_remember_L11 (20 + pN P 1) P X 1) 3) - 1)) (((xN (x_remember_L11 (20 + pN P 1) P X 1) 3) - 1) + 3) 0) 3 ((xN (x_set P (xSetN (x_remember_L11 (20 + pN P 1) P X 1) 3 ((xN (x_remember_L11 (20 + pN P 1) P X 1) 3) - 1)) (((xN (x_remember_L11 (20 + pN P 1) P X 1) 3) - 1) + 3) 0) 3) + 1))
theorem x_remember_x : ∃ f : PS → XS → XS, ∀ (P : PS) (X : XS) , f P X = x_remember_b P X := ⟨x_remember_b, fun P X => rfl⟩
noncomputable def x_remember : PS → XS → XS := Classical.choose x_remember_x
theorem x_remember_d (P : PS) (X : XS)  : x_remember P X = (if (xN X 3) ≠ 20 then xSetN (x_set P X ((xN X 3) + 3) 0) 3 ((xN (x_set P X ((xN X 3) + 3) 0) 3) + 1) else xSetN (x_set P (xSetN (x_remember_L11 (20 + pN P 1) P X 1) 3 ((xN (x_remember_L11 (20 + pN P 1) P X 1) 3) - 1)) (((xN (x_remember_L11 (20 + pN P 1) P X 1) 3) - 1) + 3) 0) 3 ((xN (x_set P (xSetN (x_remember_L11 (20 + pN P 1) P X 1) 3 ((xN (x_remember_L11 (20 + pN P 1) P X 1) 3) - 1)) (((xN (x_remember_L11 (20 + pN P 1) P X 1) 3) - 1) + 3) 0) 3) + 1)) := Classical.choose_spec x_remember_x P X
theorem xr11_N : ∀ (fu : Nat) (P : PS) (X : XS) (k j : Nat), xN (x_remember_L11 fu P X k) j = xN X j := by
  intro fu
  induction fu with
  | zero => intro P X k j; rfl
  | succ fu ih => intro P X k j; rw [x_remember_L11]; split; rfl; rw [ih, xset_N]
theorem bX0_remember : nBV RX0 yX0_remember cX0_remember 2 none 0 := ⟨q493, qs12, q51, q494, by decide, by decide +kernel⟩
set_option maxRecDepth 100000 in
set_option maxHeartbeats 4000000 in
theorem t_x_remember_L11 {p : Program} {l : Launch} {e : Env} {s : State} {m : MethodId} {args : Array Value} {below : List Frame} {meth : Method} {c : Code} {Q : State → Prop} {D : va_G} {N0 : Nat} {kA : Nat → ClassId} {hs : hT} {P : PS} {n : Nat} (hn : xOk P n)  (hC : nC p s m args meth c RX0 cX0_remember 2 none true D N0 kA)  : ∀ (fu : Nat) (X : XS) (k : Nat) (hk : 1 ≤ k) (hk2 : k ≤ 20) (hf : 20 < k + fu) (hK : nW p l e (nRm 2 0 0) s m args below meth c Q D N0 2 40 [(0, .ref (N0 + 0))] [] (xH N0 kA hs P (x_remember_L11 fu P X k)) n 0 0), nW p l e (nRm 2 0 0) s m args below meth c Q D N0 2 11 [(0, .ref (N0 + 0)), (1, .int (nI k))] [] (xH N0 kA hs P X) n 0 0 := by
  intro fu
  induction fu with
  | zero =>
    intro X k hk hk2 hf hK
    exfalso; omega
  | succ fu ih =>
    intro X k hk hk2 hf hK
    refine n_iload_n hC dX0_remember_11 rfl ?_
    refine n_bipush (v := (nI 20)) hC dX0_remember_12 (by decide) ?_
    refine n_icmp_geN (tgt := 40) hC k 20 rfl rfl (by omega) (by omega) dX0_remember_14 (by decide) (fun c14 => ?_) (fun c14 => ?_)
    · refine n_drop [0] (L' := [(0, .ref (N0 + 0))]) rfl ?_
      rw [x_remember_L11, if_pos c14] at hK
      exact hK
    · refine n_aload_n hC dX0_remember_17 rfl ?_
      refine n_get hC cl0 (k := 2) (v := .ref (N0 + 14)) xc_o (x_lt hn) (by decide) q196 (xf_get N0 P X (by decide)) dX0_remember_18 ?_
      refine n_iload_n hC dX0_remember_21 rfl ?_
      refine n_iconst (v := (nI 1)) hC dX0_remember_22 (by decide) ?_
      refine n_isubN hC (by omega) dX0_remember_23 ?_
      refine n_aald hC (t0 := 4) (f := fun i => some (N0 + sAd (i + 3))) (v := .ref (N0 + (sAd ((k - 1) + 3)))) (xc_a (p := 14) (by decide) (by decide)) (xa_lt hn (by decide)) rfl (k - 1) rfl (by omega) (by decide) rfl dX0_remember_24 ?_
      refine n_aload_n hC dX0_remember_25 rfl ?_
      refine n_get hC cl0 (k := 2) (v := .ref (N0 + 14)) xc_o (x_lt hn) (by decide) q196 (xf_get N0 P X (by decide)) dX0_remember_26 ?_
      refine n_iload_n hC dX0_remember_29 rfl ?_
      refine n_aald hC (t0 := 4) (f := fun i => some (N0 + sAd (i + 3))) (v := .ref (N0 + (sAd (k + 3)))) (xc_a (p := 14) (by decide) (by decide)) (xa_lt hn (by decide)) rfl k rfl (by omega) (by decide) rfl dX0_remember_30 ?_
      refine n_callV1 hC (As := [.ref (N0 + (sAd (k + 3)))]) (rest := []) (xc_so (by omega)) (s_lt0 hn (by omega)) rfl bX2_set (t_x_set l D N0 kA hs P X n hn ((k - 1) + 3) (k + 3) (by omega) (by omega)) (by decide) (by decide) q495 rfl (Nat.le_of_ble_eq_true rfl) dX0_remember_31 (Nat.le_of_ble_eq_true rfl) (Nat.le_of_ble_eq_true rfl) ?_
      refine n_stk (st' := []) rfl ?_
      refine n_iincN (a := k) (L' := [(0, .ref (N0 + 0)), (1, .int (nI (k + 1)))]) hC dX0_remember_34 rfl (by decide) rfl ?_
      refine n_goto (tgt := 11) hC dX0_remember_37 (by decide) ?_
      rw [x_remember_L11, if_neg (Nat.not_le.mpr c14)] at hK
      exact ih (x_set P X ((k - 1) + 3) (k + 3)) (k + 1) (by first | omega | (simp [xN_N] <;> omega)) (by first | omega | (simp [xN_N] <;> omega)) (by first | omega | (simp [xN_N] <;> omega)) hK
set_option maxRecDepth 100000 in
set_option maxHeartbeats 4000000 in
theorem t_x_remember (l : Launch) (D : va_G) (N0 : Nat) (kA : Nat → ClassId) (hs : hT) (P : PS) (X : XS) (n : Nat) (hn : xOk P n)  (h3 : xN X 3 ≤ 20) : nE l yX0_remember cX0_remember 2 none D N0 kA 2 0 0 [.ref (N0 + 0)] (xH N0 kA hs P X) n (nX none (xH N0 kA hs P (x_remember P X)) n) := by
  refine nE_of (by decide) (Nat.le_of_ble_eq_true rfl) ?_
  intro p e s m args below meth c hC hnm
  refine n_loc (L' := [(0, .ref (N0 + 0))]) rfl ?_
  refine n_aload_n hC dX0_remember_0 rfl ?_
  refine n_get hC cl0 (k := 3) (v := .int (nI (xN X 3))) xc_o (x_lt hn) (by decide) q197 (xf_get N0 P X (by decide)) dX0_remember_1 ?_
  refine n_bipush (v := (nI 20)) hC dX0_remember_4 (by decide) ?_
  refine n_icmp_neN (tgt := 50) hC (xN X 3) 20 rfl rfl (by omega) (by omega) dX0_remember_6 (by decide) (fun c6 => ?_) (fun c6 => ?_)
  · refine n_aload_n hC dX0_remember_50 rfl ?_
    refine n_get hC cl0 (k := 2) (v := .ref (N0 + 14)) xc_o (x_lt hn) (by decide) q196 (xf_get N0 P X (by decide)) dX0_remember_51 ?_
    refine n_aload_n hC dX0_remember_54 rfl ?_
    refine n_get hC cl0 (k := 3) (v := .int (nI (xN X 3))) xc_o (x_lt hn) (by decide) q197 (xf_get N0 P X (by decide)) dX0_remember_55 ?_
    refine n_aald hC (t0 := 4) (f := fun i => some (N0 + sAd (i + 3))) (v := .ref (N0 + (sAd ((xN X 3) + 3)))) (xc_a (p := 14) (by decide) (by decide)) (xa_lt hn (by decide)) rfl (xN X 3) rfl (by omega) (by decide) rfl dX0_remember_58 ?_
    refine n_aload_n hC dX0_remember_59 rfl ?_
    refine n_get hC cl0 (k := 1) (v := .ref (N0 + (sAd 0))) xc_o (x_lt hn) (by decide) q195 (xf_get N0 P X (by decide)) dX0_remember_60 ?_
    refine n_callV1 hC (As := [.ref (N0 + (sAd 0))]) (rest := []) (xc_so (by omega)) (s_lt0 hn (by omega)) rfl bX2_set (t_x_set l D N0 kA hs P X n hn ((xN X 3) + 3) 0 (by omega) (by omega)) (by decide) (by decide) q495 rfl (Nat.le_of_ble_eq_true rfl) dX0_remember_63 (Nat.le_of_ble_eq_true rfl) (Nat.le_of_ble_eq_true rfl) ?_
    refine n_stk (st' := []) rfl ?_
    refine n_aload_n hC dX0_remember_66 rfl ?_
    refine n_dup hC dX0_remember_67 rfl ?_
    refine n_get hC cl0 (k := 3) (v := .int (nI (xN (x_set P X ((xN X 3) + 3) 0) 3))) xc_o (x_lt hn) (by decide) q197 (xf_get N0 P (x_set P X ((xN X 3) + 3) 0) (by decide)) dX0_remember_68 ?_
    refine n_iconst (v := (nI 1)) hC dX0_remember_71 (by decide) ?_
    refine n_iaddN hC dX0_remember_72 ?_
    refine n_put hC cl0 (k := 3) xc_o (x_lt hn) (by decide) q197 rfl rfl rfl (by rw [xf_len]; decide) dX0_remember_73 (xu_N (X := (x_set P X ((xN X 3) + 3) 0)) (k := 3) (by decide) (by decide) (by decide) (by decide) (by decide) rfl rfl) ?_
    have eq_ : x_remember P X = xSetN (x_set P X ((xN X 3) + 3) 0) 3 ((xN (x_set P X ((xN X 3) + 3) 0) 3) + 1) := by rw [x_remember_d, if_pos c6]
    refine n_vret hC dX0_remember_76 (Nat.le_of_ble_eq_true rfl) (Nat.le_of_ble_eq_true rfl) ?_
    rw [eq_]
    exact ⟨rfl, rfl, rfl⟩
  · refine n_iconst (v := (nI 1)) hC dX0_remember_9 (by decide) ?_
    refine n_istore_n (L' := [(0, .ref (N0 + 0)), (1, .int (nI 1))]) hC dX0_remember_10 (by decide) rfl ?_
    refine t_x_remember_L11 hn hC  (20 + pN P 1) X 1 (by first | omega | (simp [xN_N] <;> omega)) (by first | omega | (simp [xN_N] <;> omega)) (by first | omega | (simp [xN_N] <;> omega)) ?_
    have hr3 := xr11_N (20 + pN P 1) P X 1 3
    refine n_aload_n hC dX0_remember_40 rfl ?_
    refine n_dup hC dX0_remember_41 rfl ?_
    refine n_get hC cl0 (k := 3) (v := .int (nI (xN (x_remember_L11 (20 + pN P 1) P X 1) 3))) xc_o (x_lt hn) (by decide) q197 (xf_get N0 P (x_remember_L11 (20 + pN P 1) P X 1) (by decide)) dX0_remember_42 ?_
    refine n_iconst (v := (nI 1)) hC dX0_remember_45 (by decide) ?_
    refine n_isubN hC (by omega) dX0_remember_46 ?_
    refine n_put hC cl0 (k := 3) xc_o (x_lt hn) (by decide) q197 rfl rfl rfl (by rw [xf_len]; decide) dX0_remember_47 (xu_N (X := (x_remember_L11 (20 + pN P 1) P X 1)) (k := 3) (by decide) (by decide) (by decide) (by decide) (by decide) rfl rfl) ?_
    refine n_aload_n hC dX0_remember_50 rfl ?_
    refine n_get hC cl0 (k := 2) (v := .ref (N0 + 14)) xc_o (x_lt hn) (by decide) q196 (xf_get N0 P (xSetN (x_remember_L11 (20 + pN P 1) P X 1) 3 ((xN (x_remember_L11 (20 + pN P 1) P X 1) 3) - 1)) (by decide)) dX0_remember_51 ?_
    refine n_aload_n hC dX0_remember_54 rfl ?_
    refine n_get hC cl0 (k := 3) (v := .int (nI (xN (xSetN (x_remember_L11 (20 + pN P 1) P X 1) 3 ((xN (x_remember_L11 (20 + pN P 1) P X 1) 3) - 1)) 3))) xc_o (x_lt hn) (by decide) q197 (xf_get N0 P (xSetN (x_remember_L11 (20 + pN P 1) P X 1) 3 ((xN (x_remember_L11 (20 + pN P 1) P X 1) 3) - 1)) (by decide)) dX0_remember_55 ?_
    refine n_stk (st' := [.int (nI ((xN (x_remember_L11 (20 + pN P 1) P X 1) 3) - 1)), .ref (N0 + 14)]) (by first | simp [rxN_xSetI, rxN_xSetB, rxN_xSetA, rxN_sSetN, rxN_sSetI, rxN_sSetA, rxN_sPutA, rxN_xPutB, rxN_xPutA, rxI_xSetN, rxI_xSetB, rxI_xSetA, rxI_sSetN, rxI_sSetI, rxI_sSetA, rxI_sPutA, rxI_xPutB, rxI_xPutA, rxB_xSetN, rxB_xSetI, rxB_xSetA, rxB_sSetN, rxB_sSetI, rxB_sSetA, rxB_sPutA, rxB_xPutA, rxA_xSetN, rxA_xSetI, rxA_xSetB, rxA_sSetN, rxA_sSetI, rxA_sSetA, rxA_sPutA, rxA_xPutB, rsN_xSetN, rsN_xSetI, rsN_xSetB, rsN_xSetA, rsN_sSetI, rsN_sSetA, rsN_sPutA, rsN_xPutB, rsN_xPutA, rsI_xSetN, rsI_xSetI, rsI_xSetB, rsI_xSetA, rsI_sSetN, rsI_sSetA, rsI_sPutA, rsI_xPutB, rsI_xPutA, rsA_xSetN, rsA_xSetI, rsA_xSetB, rsA_xSetA, rsA_sSetN, rsA_sSetI, rsA_xPutB, rsA_xPutA, xN_N, xI_I, xB_B, xA_A, sN_N, sI_I, sA_A, sA_P, xB_P, xA_P] | rfl) ?_
    refine n_aald hC (t0 := 4) (f := fun i => some (N0 + sAd (i + 3))) (v := .ref (N0 + (sAd (((xN (x_remember_L11 (20 + pN P 1) P X 1) 3) - 1) + 3)))) (xc_a (p := 14) (by decide) (by decide)) (xa_lt hn (by decide)) rfl ((xN (x_remember_L11 (20 + pN P 1) P X 1) 3) - 1) rfl (by omega) (by decide) rfl dX0_remember_58 ?_
    refine n_aload_n hC dX0_remember_59 rfl ?_
    refine n_get hC cl0 (k := 1) (v := .ref (N0 + (sAd 0))) xc_o (x_lt hn) (by decide) q195 (xf_get N0 P (xSetN (x_remember_L11 (20 + pN P 1) P X 1) 3 ((xN (x_remember_L11 (20 + pN P 1) P X 1) 3) - 1)) (by decide)) dX0_remember_60 ?_
    refine n_callV1 hC (As := [.ref (N0 + (sAd 0))]) (rest := []) (xc_so (by omega)) (s_lt0 hn (by omega)) rfl bX2_set (t_x_set l D N0 kA hs P (xSetN (x_remember_L11 (20 + pN P 1) P X 1) 3 ((xN (x_remember_L11 (20 + pN P 1) P X 1) 3) - 1)) n hn (((xN (x_remember_L11 (20 + pN P 1) P X 1) 3) - 1) + 3) 0 (by omega) (by omega)) (by decide) (by decide) q495 rfl (Nat.le_of_ble_eq_true rfl) dX0_remember_63 (Nat.le_of_ble_eq_true rfl) (Nat.le_of_ble_eq_true rfl) ?_
    refine n_stk (st' := []) rfl ?_
    refine n_aload_n hC dX0_remember_66 rfl ?_
    refine n_dup hC dX0_remember_67 rfl ?_
    refine n_get hC cl0 (k := 3) (v := .int (nI (xN (x_set P (xSetN (x_remember_L11 (20 + pN P 1) P X 1) 3 ((xN (x_remember_L11 (20 + pN P 1) P X 1) 3) - 1)) (((xN (x_remember_L11 (20 + pN P 1) P X 1) 3) - 1) + 3) 0) 3))) xc_o (x_lt hn) (by decide) q197 (xf_get N0 P (x_set P (xSetN (x_remember_L11 (20 + pN P 1) P X 1) 3 ((xN (x_remember_L11 (20 + pN P 1) P X 1) 3) - 1)) (((xN (x_remember_L11 (20 + pN P 1) P X 1) 3) - 1) + 3) 0) (by decide)) dX0_remember_68 ?_
    refine n_iconst (v := (nI 1)) hC dX0_remember_71 (by decide) ?_
    refine n_iaddN hC dX0_remember_72 ?_
    refine n_put hC cl0 (k := 3) xc_o (x_lt hn) (by decide) q197 rfl rfl rfl (by rw [xf_len]; decide) dX0_remember_73 (xu_N (X := (x_set P (xSetN (x_remember_L11 (20 + pN P 1) P X 1) 3 ((xN (x_remember_L11 (20 + pN P 1) P X 1) 3) - 1)) (((xN (x_remember_L11 (20 + pN P 1) P X 1) 3) - 1) + 3) 0)) (k := 3) (by decide) (by decide) (by decide) (by decide) (by decide) rfl rfl) ?_
    have eq_ : x_remember P X = xSetN (x_set P (xSetN (x_remember_L11 (20 + pN P 1) P X 1) 3 ((xN (x_remember_L11 (20 + pN P 1) P X 1) 3) - 1)) (((xN (x_remember_L11 (20 + pN P 1) P X 1) 3) - 1) + 3) 0) 3 ((xN (x_set P (xSetN (x_remember_L11 (20 + pN P 1) P X 1) 3 ((xN (x_remember_L11 (20 + pN P 1) P X 1) 3) - 1)) (((xN (x_remember_L11 (20 + pN P 1) P X 1) 3) - 1) + 3) 0) 3) + 1) := by rw [x_remember_d, if_neg (not_not_intro c6)]
    refine n_vret hC dX0_remember_76 (Nat.le_of_ble_eq_true rfl) (Nat.le_of_ble_eq_true rfl) ?_
    rw [eq_]
    exact ⟨rfl, rfl, rfl⟩
