/-! what remember keeps: all but the undone states and their number -/
def keepS (X X' : XS) : Prop := (∀ k, k ≠ 3 → xN X' k = xN X k) ∧ (∀ k, xI X' k = xI X k) ∧ (∀ k i, xB X' k i = xB X k i) ∧ (∀ k i, xA X' k i = xA X k i) ∧ (∀ j, j < 3 → sN X' j = sN X j) ∧ (∀ j f, j < 3 → sI X' j f = sI X j f) ∧ (∀ j a b, j < 3 → sA X' j a b = sA X j a b)
theorem keepS_r (X : XS) : keepS X X := ⟨fun _ _ => rfl, fun _ => rfl, fun _ _ => rfl, fun _ _ => rfl, fun _ _ => rfl, fun _ _ _ => rfl, fun _ _ _ _ => rfl⟩
theorem keepS_t {A B C : XS} (h1 : keepS A B) (h2 : keepS B C) : keepS A C := ⟨fun k hk => (h2.1 k hk).trans (h1.1 k hk), fun k => (h2.2.1 k).trans (h1.2.1 k), fun k i => (h2.2.2.1 k i).trans (h1.2.2.1 k i), fun k i => (h2.2.2.2.1 k i).trans (h1.2.2.2.1 k i), fun j hj => (h2.2.2.2.2.1 j hj).trans (h1.2.2.2.2.1 j hj), fun j f hj => (h2.2.2.2.2.2.1 j f hj).trans (h1.2.2.2.2.2.1 j f hj), fun j a b hj => (h2.2.2.2.2.2.2 j a b hj).trans (h1.2.2.2.2.2.2 j a b hj)⟩
theorem keepS_s (P : PS) (X : XS) {j q : Nat} (hj : 3 ≤ j) : keepS X (x_set P X j q) := ⟨fun k _ => xset_N P X j q k, fun k => xset_I P X j q k, fun k i => xset_B P X j q k i, fun k i => xset_A P X j q k i, fun i hi => by rw [xset_n, if_neg (by omega)], fun i f hi => by rw [xset_i, if_neg (by omega)], fun i a b hi => by rw [xset_a, if_neg (by omega)]⟩
theorem keepS_k (X : XS) (v : Nat) : keepS X (xSetN X 3 v) := ⟨fun k hk => by rw [xN_N, if_neg hk], fun _ => rfl, fun _ _ => rfl, fun _ _ => rfl, fun _ _ => rfl, fun _ _ _ => rfl, fun _ _ _ _ => rfl⟩
theorem keepS_11 : ∀ (fu : Nat) (P : PS) (X : XS) (k : Nat), keepS X (x_remember_L11 fu P X k) := by
  intro fu
  induction fu with
  | zero => intro P X k; exact keepS_r X
  | succ fu ih =>
    intro P X k
    rw [x_remember_L11]
    split
    · exact keepS_r X
    · exact keepS_t (keepS_s P X (by omega)) (ih P _ _)
theorem rem_keep (P : PS) (X : XS) : keepS X (x_remember P X) := by
  rw [x_remember_d]
  split
  · exact keepS_t (keepS_s P X (Nat.le_add_left 3 _)) (keepS_k _ _)
  · exact keepS_t (keepS_t (keepS_11 _ P X 1) (keepS_k _ _)) (keepS_t (keepS_s P _ (Nat.le_add_left 3 _)) (keepS_k _ _))
theorem xrem_n (P : PS) (X : XS) : sN (x_remember P X) 0 = sN X 0 := (rem_keep P X).2.2.2.2.1 0 (by decide)
theorem xrem_i (P : PS) (X : XS) (f : Nat) : sI (x_remember P X) 0 f = sI X 0 f := (rem_keep P X).2.2.2.2.2.1 0 f (by decide)
noncomputable def x_gout (P : PS) (X : XS) (k : Int32) (v : Int32) : Int32 × XS := (if (x_isLimb P X k) = true then (if (x_isIn v (nI 1) (nI 20)) = true then (if (x_has (sI X 0 3) (cl k)) = true then ((sA (x_sgout P (x_remember P X) (cl k) v) 0 0 (cl k)), (x_sgout P (x_remember P X) (cl k) v)) else ((-1000000003), X)) else ((-1000000002), X)) else ((-1000000001), X))
theorem bX0_gout : nBV RX0 yX0_gout cX0_gout 3 (some .int) 2 := ⟨q508, q509, q51, q510, by decide, by decide +kernel⟩
set_option maxRecDepth 100000 in
set_option maxHeartbeats 4000000 in
theorem t_x_gout (l : Launch) (D : va_G) (N0 : Nat) (kA : Nat → ClassId) (hs : hT) (P : PS) (X : XS) (n : Nat) (hn : xOk P n) (k : Int32) (v : Int32) (h3 : xN X 3 ≤ 20) : nE l yX0_gout cX0_gout 3 (some .int) D N0 kA 3 0 0 [.ref (N0 + 0), .int k, .int v] (xH N0 kA hs P X) n (nX (some (.int ((x_gout P X k v).1))) (xH N0 kA hs P ((x_gout P X k v).2)) n) := by
  refine nE_of (by decide) (Nat.le_of_ble_eq_true rfl) ?_
  intro p e s m args below meth c hC hnm
  refine n_loc (L' := [(0, .ref (N0 + 0)), (1, .int k), (2, .int v)]) rfl ?_
  have hm6 := pN_le hn
  refine n_aload_n hC dX0_gout_0 rfl ?_
  refine n_iload_n hC dX0_gout_1 rfl ?_
  refine n_callV1 hC (As := [.int k]) (rest := []) xc_o (x_lt hn) rfl bX0_isLimb (t_x_isLimb l D N0 kA hs P X n hn k ) (by decide) (by decide) q446 rfl (Nat.le_of_ble_eq_true rfl) dX0_gout_2 (Nat.le_of_ble_eq_true rfl) (Nat.le_of_ble_eq_true rfl) ?_
  refine n_stk (st' := [.int (bI (x_isLimb P X k))]) rfl ?_
  refine n_if_neB (tgt := 11) hC dX0_gout_5 (by decide) (fun c5 => ?_) (fun c5 => ?_)
  · have hk0 := (xin_nat (k := k) (by omega)).mp c5
    have hk1 := nI_cl hk0.1
    have hk2 := hk0.2
    refine n_iload_n hC dX0_gout_11 rfl ?_
    refine n_iconst (v := (nI 1)) hC dX0_gout_12 (by decide) ?_
    refine n_bipush (v := (nI 20)) hC dX0_gout_13 (by decide) ?_
    refine n_callS1 hC (As := [.int v, .int (nI 1), .int (nI 20)]) (rest := []) bX0_isIn (t_x_isIn l D N0 kA (xH N0 kA hs P X) n v (nI 1) (nI 20) ) (by decide) (by decide) q269 rfl (Nat.le_of_ble_eq_true rfl) dX0_gout_15 (Nat.le_of_ble_eq_true rfl) (Nat.le_of_ble_eq_true rfl) ?_
    refine n_stk (st' := [.int (bI (x_isIn v (nI 1) (nI 20)))]) rfl ?_
    refine n_if_neB (tgt := 24) hC dX0_gout_18 (by decide) (fun c18 => ?_) (fun c18 => ?_)
    · refine n_aload_n hC dX0_gout_24 rfl ?_
      refine n_get hC cl0 (k := 1) (v := .ref (N0 + (sAd 0))) xc_o (x_lt hn) (by decide) q195 (xf_get N0 P X (by decide)) dX0_gout_25 ?_
      refine n_getN hC cl2 (k := 3) (v := .int (sI X 0 3)) (xc_so (by decide)) (s_lt0 hn (by decide)) (by decide) q153 (sf_get N0 X 0 (by decide)) dX0_gout_28 ?_
      refine n_iload_n hC dX0_gout_31 rfl ?_
      refine n_top (cl k) hk1 ?_
      refine n_callS1 hC (As := [.int (sI X 0 3), .int (nI (cl k))]) (rest := []) bX0_has (t_x_has l D N0 kA (xH N0 kA hs P X) n (sI X 0 3) (cl k) ) (by decide) (by decide) q511 rfl (Nat.le_of_ble_eq_true rfl) dX0_gout_32 (Nat.le_of_ble_eq_true rfl) (Nat.le_of_ble_eq_true rfl) ?_
      refine n_stk (st' := [.int (bI (x_has (sI X 0 3) (cl k)))]) rfl ?_
      refine n_if_neB (tgt := 41) hC dX0_gout_35 (by decide) (fun c35 => ?_) (fun c35 => ?_)
      · refine n_aload_n hC dX0_gout_41 rfl ?_
        refine n_callV1 hC (As := []) (rest := []) xc_o (x_lt hn) rfl bX0_remember (t_x_remember l D N0 kA hs P X n hn  (by omega)) (by decide) (by decide) q491 rfl (Nat.le_of_ble_eq_true rfl) dX0_gout_42 (Nat.le_of_ble_eq_true rfl) (Nat.le_of_ble_eq_true rfl) ?_
        refine n_stk (st' := []) rfl ?_
        refine n_aload_n hC dX0_gout_45 rfl ?_
        refine n_get hC cl0 (k := 1) (v := .ref (N0 + (sAd 0))) xc_o (x_lt hn) (by decide) q195 (xf_get N0 P (x_remember P X) (by decide)) dX0_gout_46 ?_
        refine n_iload_n hC dX0_gout_49 rfl ?_
        refine n_top (cl k) hk1 ?_
        refine n_iload_n hC dX0_gout_50 rfl ?_
        refine n_callV1 hC (As := [.int (nI (cl k)), .int v]) (rest := []) (xc_so (by decide)) (s_lt0 hn (by decide)) rfl bX2_gout (t_x_sgout l D N0 kA hs P (x_remember P X) n hn (cl k) v (by omega)) (by decide) (by decide) q512 rfl (Nat.le_of_ble_eq_true rfl) dX0_gout_51 (Nat.le_of_ble_eq_true rfl) (Nat.le_of_ble_eq_true rfl) ?_
        refine n_stk (st' := []) rfl ?_
        refine n_aload_n hC dX0_gout_54 rfl ?_
        refine n_get hC cl0 (k := 1) (v := .ref (N0 + (sAd 0))) xc_o (x_lt hn) (by decide) q195 (xf_get N0 P (x_sgout P (x_remember P X) (cl k) v) (by decide)) dX0_gout_55 ?_
        refine n_getN hC cl2 (k := 0) (v := .ref (N0 + (sAd 0 + 1))) (xc_so (by decide)) (s_lt0 hn (by decide)) (by decide) q147 (sf_get N0 (x_sgout P (x_remember P X) (cl k) v) 0 (by decide)) dX0_gout_58 ?_
        refine n_iload_n hC dX0_gout_61 rfl ?_
        refine n_top (cl k) hk1 ?_
        refine n_iald hC (f := sA (x_sgout P (x_remember P X) (cl k) v) 0 0) (xc_s (r := 1) (by decide) (by decide)) (s_lt hn (by decide) (by decide)) (cl k) rfl (by omega) (by decide) dX0_gout_62 ?_
        have eq_ : x_gout P X k v = ((sA (x_sgout P (x_remember P X) (cl k) v) 0 0 (cl k)), (x_sgout P (x_remember P X) (cl k) v)) := by rw [x_gout, if_pos c5, if_pos c18, if_pos c35]
        refine n_iret hC dX0_gout_63 (Nat.le_of_ble_eq_true rfl) (Nat.le_of_ble_eq_true rfl) ?_
        rw [eq_]
        dsimp only
        exact ⟨rfl, rfl, rfl⟩
      · refine n_ldc hC dX0_gout_38 q490 ?_
        have eq_ : x_gout P X k v = ((-1000000003), X) := by rw [x_gout, if_pos c5, if_pos c18, if_neg (by rw [c35]; decide)]
        refine n_iret hC dX0_gout_40 (Nat.le_of_ble_eq_true rfl) (Nat.le_of_ble_eq_true rfl) ?_
        rw [eq_]
        dsimp only
        exact ⟨rfl, rfl, rfl⟩
    · refine n_ldc hC dX0_gout_21 q272 ?_
      have eq_ : x_gout P X k v = ((-1000000002), X) := by rw [x_gout, if_pos c5, if_neg (by rw [c18]; decide)]
      refine n_iret hC dX0_gout_23 (Nat.le_of_ble_eq_true rfl) (Nat.le_of_ble_eq_true rfl) ?_
      rw [eq_]
      dsimp only
      exact ⟨rfl, rfl, rfl⟩
  · refine n_ldc hC dX0_gout_8 q450 ?_
    have eq_ : x_gout P X k v = ((-1000000001), X) := by rw [x_gout, if_neg (by rw [c5]; decide)]
    refine n_iret hC dX0_gout_10 (Nat.le_of_ble_eq_true rfl) (Nat.le_of_ble_eq_true rfl) ?_
    rw [eq_]
    dsimp only
    exact ⟨rfl, rfl, rfl⟩
noncomputable def x_stub (P : PS) (X : XS) (k : Int32) : Int32 × XS := (if (x_isLimb P X k) = true then (if (x_has (sI X 0 3) (cl k)) = true then ((sA (x_sstub P (x_remember P X) (cl k)) 0 0 (cl k)), (x_sstub P (x_remember P X) (cl k))) else ((-1000000003), X)) else ((-1000000001), X))
theorem bX0_stub : nBV RX0 yX0_stub cX0_stub 2 (some .int) 1 := ⟨q518, q519, q51, q520, by decide, by decide +kernel⟩
set_option maxRecDepth 100000 in
set_option maxHeartbeats 4000000 in
theorem t_x_stub (l : Launch) (D : va_G) (N0 : Nat) (kA : Nat → ClassId) (hs : hT) (P : PS) (X : XS) (n : Nat) (hn : xOk P n) (k : Int32) (h3 : xN X 3 ≤ 20) : nE l yX0_stub cX0_stub 2 (some .int) D N0 kA 3 0 0 [.ref (N0 + 0), .int k] (xH N0 kA hs P X) n (nX (some (.int ((x_stub P X k).1))) (xH N0 kA hs P ((x_stub P X k).2)) n) := by
  refine nE_of (by decide) (Nat.le_of_ble_eq_true rfl) ?_
  intro p e s m args below meth c hC hnm
  refine n_loc (L' := [(0, .ref (N0 + 0)), (1, .int k)]) rfl ?_
  have hm6 := pN_le hn
  refine n_aload_n hC dX0_stub_0 rfl ?_
  refine n_iload_n hC dX0_stub_1 rfl ?_
  refine n_callV1 hC (As := [.int k]) (rest := []) xc_o (x_lt hn) rfl bX0_isLimb (t_x_isLimb l D N0 kA hs P X n hn k ) (by decide) (by decide) q446 rfl (Nat.le_of_ble_eq_true rfl) dX0_stub_2 (Nat.le_of_ble_eq_true rfl) (Nat.le_of_ble_eq_true rfl) ?_
  refine n_stk (st' := [.int (bI (x_isLimb P X k))]) rfl ?_
  refine n_if_neB (tgt := 11) hC dX0_stub_5 (by decide) (fun c5 => ?_) (fun c5 => ?_)
  · have hk0 := (xin_nat (k := k) (by omega)).mp c5
    have hk1 := nI_cl hk0.1
    have hk2 := hk0.2
    refine n_aload_n hC dX0_stub_11 rfl ?_
    refine n_get hC cl0 (k := 1) (v := .ref (N0 + (sAd 0))) xc_o (x_lt hn) (by decide) q195 (xf_get N0 P X (by decide)) dX0_stub_12 ?_
    refine n_getN hC cl2 (k := 3) (v := .int (sI X 0 3)) (xc_so (by decide)) (s_lt0 hn (by decide)) (by decide) q153 (sf_get N0 X 0 (by decide)) dX0_stub_15 ?_
    refine n_iload_n hC dX0_stub_18 rfl ?_
    refine n_top (cl k) hk1 ?_
    refine n_callS1 hC (As := [.int (sI X 0 3), .int (nI (cl k))]) (rest := []) bX0_has (t_x_has l D N0 kA (xH N0 kA hs P X) n (sI X 0 3) (cl k) ) (by decide) (by decide) q511 rfl (Nat.le_of_ble_eq_true rfl) dX0_stub_19 (Nat.le_of_ble_eq_true rfl) (Nat.le_of_ble_eq_true rfl) ?_
    refine n_stk (st' := [.int (bI (x_has (sI X 0 3) (cl k)))]) rfl ?_
    refine n_if_neB (tgt := 28) hC dX0_stub_22 (by decide) (fun c22 => ?_) (fun c22 => ?_)
    · refine n_aload_n hC dX0_stub_28 rfl ?_
      refine n_callV1 hC (As := []) (rest := []) xc_o (x_lt hn) rfl bX0_remember (t_x_remember l D N0 kA hs P X n hn  (by omega)) (by decide) (by decide) q491 rfl (Nat.le_of_ble_eq_true rfl) dX0_stub_29 (Nat.le_of_ble_eq_true rfl) (Nat.le_of_ble_eq_true rfl) ?_
      refine n_stk (st' := []) rfl ?_
      refine n_aload_n hC dX0_stub_32 rfl ?_
      refine n_get hC cl0 (k := 1) (v := .ref (N0 + (sAd 0))) xc_o (x_lt hn) (by decide) q195 (xf_get N0 P (x_remember P X) (by decide)) dX0_stub_33 ?_
      refine n_iload_n hC dX0_stub_36 rfl ?_
      refine n_top (cl k) hk1 ?_
      refine n_callV1 hC (As := [.int (nI (cl k))]) (rest := []) (xc_so (by decide)) (s_lt0 hn (by decide)) rfl bX2_stub (t_x_sstub l D N0 kA hs P (x_remember P X) n hn (cl k) (by omega)) (by decide) (by decide) q521 rfl (Nat.le_of_ble_eq_true rfl) dX0_stub_37 (Nat.le_of_ble_eq_true rfl) (Nat.le_of_ble_eq_true rfl) ?_
      refine n_stk (st' := []) rfl ?_
      refine n_aload_n hC dX0_stub_40 rfl ?_
      refine n_get hC cl0 (k := 1) (v := .ref (N0 + (sAd 0))) xc_o (x_lt hn) (by decide) q195 (xf_get N0 P (x_sstub P (x_remember P X) (cl k)) (by decide)) dX0_stub_41 ?_
      refine n_getN hC cl2 (k := 0) (v := .ref (N0 + (sAd 0 + 1))) (xc_so (by decide)) (s_lt0 hn (by decide)) (by decide) q147 (sf_get N0 (x_sstub P (x_remember P X) (cl k)) 0 (by decide)) dX0_stub_44 ?_
      refine n_iload_n hC dX0_stub_47 rfl ?_
      refine n_top (cl k) hk1 ?_
      refine n_iald hC (f := sA (x_sstub P (x_remember P X) (cl k)) 0 0) (xc_s (r := 1) (by decide) (by decide)) (s_lt hn (by decide) (by decide)) (cl k) rfl (by omega) (by decide) dX0_stub_48 ?_
      have eq_ : x_stub P X k = ((sA (x_sstub P (x_remember P X) (cl k)) 0 0 (cl k)), (x_sstub P (x_remember P X) (cl k))) := by rw [x_stub, if_pos c5, if_pos c22]
      refine n_iret hC dX0_stub_49 (Nat.le_of_ble_eq_true rfl) (Nat.le_of_ble_eq_true rfl) ?_
      rw [eq_]
      dsimp only
      exact ⟨rfl, rfl, rfl⟩
    · refine n_ldc hC dX0_stub_25 q490 ?_
      have eq_ : x_stub P X k = ((-1000000003), X) := by rw [x_stub, if_pos c5, if_neg (by rw [c22]; decide)]
      refine n_iret hC dX0_stub_27 (Nat.le_of_ble_eq_true rfl) (Nat.le_of_ble_eq_true rfl) ?_
      rw [eq_]
      dsimp only
      exact ⟨rfl, rfl, rfl⟩
  · refine n_ldc hC dX0_stub_8 q450 ?_
    have eq_ : x_stub P X k = ((-1000000001), X) := by rw [x_stub, if_neg (by rw [c5]; decide)]
    refine n_iret hC dX0_stub_10 (Nat.le_of_ble_eq_true rfl) (Nat.le_of_ble_eq_true rfl) ?_
    rw [eq_]
    dsimp only
    exact ⟨rfl, rfl, rfl⟩
noncomputable def x_dies (P : PS) (X : XS) (k : Int32) : Int32 × XS := (if (x_isLimb P X k) = true then (if (x_has (sI X 0 3) (cl k)) = true then ((x_measure P (sSetI (x_remember P X) 0 3 ((sI (x_remember P X) 0 3) &&& (((nI 1) <<< ((nI (cl k)) &&& 31)) ^^^ (-1)))) (cl k) (sN (x_remember P X) 0)), sSetI (x_remember P X) 0 3 ((sI (x_remember P X) 0 3) &&& (((nI 1) <<< ((nI (cl k)) &&& 31)) ^^^ (-1)))) else ((-1000000003), X)) else ((-1000000001), X))
theorem bX0_dies : nBV RX0 yX0_dies cX0_dies 2 (some .int) 1 := ⟨q526, q527, q51, q528, by decide, by decide +kernel⟩
set_option maxRecDepth 100000 in
set_option maxHeartbeats 4000000 in
theorem t_x_dies (l : Launch) (D : va_G) (N0 : Nat) (kA : Nat → ClassId) (hs : hT) (P : PS) (X : XS) (n : Nat) (hn : xOk P n) (k : Int32) (hh : xHe P) (hS : sN X 0 < 30000) (h3 : xN X 3 ≤ 20) : nE l yX0_dies cX0_dies 2 (some .int) D N0 kA 3 0 0 [.ref (N0 + 0), .int k] (xH N0 kA hs P X) n (nX (some (.int ((x_dies P X k).1))) (xH N0 kA hs P ((x_dies P X k).2)) n) := by
  refine nE_of (by decide) (Nat.le_of_ble_eq_true rfl) ?_
  intro p e s m args below meth c hC hnm
  refine n_loc (L' := [(0, .ref (N0 + 0)), (1, .int k)]) rfl ?_
  have hm6 := pN_le hn
  have hrn := xrem_n P X
  have hri := xrem_i P X
  refine n_aload_n hC dX0_dies_0 rfl ?_
  refine n_iload_n hC dX0_dies_1 rfl ?_
  refine n_callV1 hC (As := [.int k]) (rest := []) xc_o (x_lt hn) rfl bX0_isLimb (t_x_isLimb l D N0 kA hs P X n hn k ) (by decide) (by decide) q446 rfl (Nat.le_of_ble_eq_true rfl) dX0_dies_2 (Nat.le_of_ble_eq_true rfl) (Nat.le_of_ble_eq_true rfl) ?_
  refine n_stk (st' := [.int (bI (x_isLimb P X k))]) rfl ?_
  refine n_if_neB (tgt := 11) hC dX0_dies_5 (by decide) (fun c5 => ?_) (fun c5 => ?_)
  · have hk0 := (xin_nat (k := k) (by omega)).mp c5
    have hk1 := nI_cl hk0.1
    have hk2 := hk0.2
    refine n_aload_n hC dX0_dies_11 rfl ?_
    refine n_get hC cl0 (k := 1) (v := .ref (N0 + (sAd 0))) xc_o (x_lt hn) (by decide) q195 (xf_get N0 P X (by decide)) dX0_dies_12 ?_
    refine n_getN hC cl2 (k := 3) (v := .int (sI X 0 3)) (xc_so (by decide)) (s_lt0 hn (by decide)) (by decide) q153 (sf_get N0 X 0 (by decide)) dX0_dies_15 ?_
    refine n_iload_n hC dX0_dies_18 rfl ?_
    refine n_top (cl k) hk1 ?_
    refine n_callS1 hC (As := [.int (sI X 0 3), .int (nI (cl k))]) (rest := []) bX0_has (t_x_has l D N0 kA (xH N0 kA hs P X) n (sI X 0 3) (cl k) ) (by decide) (by decide) q511 rfl (Nat.le_of_ble_eq_true rfl) dX0_dies_19 (Nat.le_of_ble_eq_true rfl) (Nat.le_of_ble_eq_true rfl) ?_
    refine n_stk (st' := [.int (bI (x_has (sI X 0 3) (cl k)))]) rfl ?_
    refine n_if_neB (tgt := 28) hC dX0_dies_22 (by decide) (fun c22 => ?_) (fun c22 => ?_)
    · refine n_aload_n hC dX0_dies_28 rfl ?_
      refine n_callV1 hC (As := []) (rest := []) xc_o (x_lt hn) rfl bX0_remember (t_x_remember l D N0 kA hs P X n hn  (by omega)) (by decide) (by decide) q491 rfl (Nat.le_of_ble_eq_true rfl) dX0_dies_29 (Nat.le_of_ble_eq_true rfl) (Nat.le_of_ble_eq_true rfl) ?_
      refine n_stk (st' := []) rfl ?_
      refine n_aload_n hC dX0_dies_32 rfl ?_
      refine n_get hC cl0 (k := 1) (v := .ref (N0 + (sAd 0))) xc_o (x_lt hn) (by decide) q195 (xf_get N0 P (x_remember P X) (by decide)) dX0_dies_33 ?_
      refine n_dup hC dX0_dies_36 rfl ?_
      refine n_getN hC cl2 (k := 3) (v := .int (sI (x_remember P X) 0 3)) (xc_so (by decide)) (s_lt0 hn (by decide)) (by decide) q153 (sf_get N0 (x_remember P X) 0 (by decide)) dX0_dies_37 ?_
      refine n_iconst (v := (nI 1)) hC dX0_dies_40 (by decide) ?_
      refine n_iload_n hC dX0_dies_41 rfl ?_
      refine n_top (cl k) hk1 ?_
      refine n_ishl hC dX0_dies_42 ?_
      refine n_iconst (v := (-1)) hC dX0_dies_43 (by decide) ?_
      refine n_ixor hC dX0_dies_44 ?_
      refine n_iand hC dX0_dies_45 ?_
      refine n_putN hC cl2 (k := 3) (xc_so (by decide)) (s_lt0 hn (by decide)) (by decide) q153 rfl rfl rfl (by rw [sf_len]; decide) dX0_dies_46 (su_I (X := (x_remember P X)) (f := 3) (by decide) (by decide)) ?_
      refine n_aload_n hC dX0_dies_49 rfl ?_
      refine n_get hC cl0 (k := 1) (v := .ref (N0 + (sAd 0))) xc_o (x_lt hn) (by decide) q195 (xf_get N0 P (sSetI (x_remember P X) 0 3 ((sI (x_remember P X) 0 3) &&& (((nI 1) <<< ((nI (cl k)) &&& 31)) ^^^ (-1)))) (by decide)) dX0_dies_50 ?_
      refine n_iload_n hC dX0_dies_53 rfl ?_
      refine n_top (cl k) hk1 ?_
      refine n_aload_n hC dX0_dies_54 rfl ?_
      refine n_get hC cl0 (k := 1) (v := .ref (N0 + (sAd 0))) xc_o (x_lt hn) (by decide) q195 (xf_get N0 P (sSetI (x_remember P X) 0 3 ((sI (x_remember P X) 0 3) &&& (((nI 1) <<< ((nI (cl k)) &&& 31)) ^^^ (-1)))) (by decide)) dX0_dies_55 ?_
      refine n_getN hC cl2 (k := 5) (v := .int (nI (sN (sSetI (x_remember P X) 0 3 ((sI (x_remember P X) 0 3) &&& (((nI 1) <<< ((nI (cl k)) &&& 31)) ^^^ (-1)))) 0))) (xc_so (by decide)) (s_lt0 hn (by decide)) (by decide) q157 (sf_get N0 (sSetI (x_remember P X) 0 3 ((sI (x_remember P X) 0 3) &&& (((nI 1) <<< ((nI (cl k)) &&& 31)) ^^^ (-1)))) 0 (by decide)) dX0_dies_58 ?_
      refine n_stk (st' := [.int (nI (sN (x_remember P X) 0)), .int (nI (cl k)), .ref (N0 + (sAd 0))]) (by first | simp [rxN_xSetI, rxN_xSetB, rxN_xSetA, rxN_sSetN, rxN_sSetI, rxN_sSetA, rxN_sPutA, rxN_xPutB, rxN_xPutA, rxI_xSetN, rxI_xSetB, rxI_xSetA, rxI_sSetN, rxI_sSetI, rxI_sSetA, rxI_sPutA, rxI_xPutB, rxI_xPutA, rxB_xSetN, rxB_xSetI, rxB_xSetA, rxB_sSetN, rxB_sSetI, rxB_sSetA, rxB_sPutA, rxB_xPutA, rxA_xSetN, rxA_xSetI, rxA_xSetB, rxA_sSetN, rxA_sSetI, rxA_sSetA, rxA_sPutA, rxA_xPutB, rsN_xSetN, rsN_xSetI, rsN_xSetB, rsN_xSetA, rsN_sSetI, rsN_sSetA, rsN_sPutA, rsN_xPutB, rsN_xPutA, rsI_xSetN, rsI_xSetI, rsI_xSetB, rsI_xSetA, rsI_sSetN, rsI_sSetA, rsI_sPutA, rsI_xPutB, rsI_xPutA, rsA_xSetN, rsA_xSetI, rsA_xSetB, rsA_xSetA, rsA_sSetN, rsA_sSetI, rsA_xPutB, rsA_xPutA, xN_N, xI_I, xB_B, xA_A, sN_N, sI_I, sA_A, sA_P, xB_P, xA_P] | rfl) ?_
      refine n_callV1 hC (As := [.int (nI (cl k)), .int (nI (sN (x_remember P X) 0))]) (rest := []) (xc_so (by decide)) (s_lt0 hn (by decide)) rfl bX2_measure (t_x_measure l D N0 kA hs P (sSetI (x_remember P X) 0 3 ((sI (x_remember P X) 0 3) &&& (((nI 1) <<< ((nI (cl k)) &&& 31)) ^^^ (-1)))) n hn (cl k) (sN (x_remember P X) 0) (by omega) (by omega) hh) (by decide) (by decide) q455 rfl (Nat.le_of_ble_eq_true rfl) dX0_dies_61 (Nat.le_of_ble_eq_true rfl) (Nat.le_of_ble_eq_true rfl) ?_
      refine n_stk (st' := [.int (x_measure P (sSetI (x_remember P X) 0 3 ((sI (x_remember P X) 0 3) &&& (((nI 1) <<< ((nI (cl k)) &&& 31)) ^^^ (-1)))) (cl k) (sN (x_remember P X) 0))]) rfl ?_
      have eq_ : x_dies P X k = ((x_measure P (sSetI (x_remember P X) 0 3 ((sI (x_remember P X) 0 3) &&& (((nI 1) <<< ((nI (cl k)) &&& 31)) ^^^ (-1)))) (cl k) (sN (x_remember P X) 0)), sSetI (x_remember P X) 0 3 ((sI (x_remember P X) 0 3) &&& (((nI 1) <<< ((nI (cl k)) &&& 31)) ^^^ (-1)))) := by rw [x_dies, if_pos c5, if_pos c22]
      refine n_iret hC dX0_dies_64 (Nat.le_of_ble_eq_true rfl) (Nat.le_of_ble_eq_true rfl) ?_
      rw [eq_]
      dsimp only
      exact ⟨rfl, rfl, rfl⟩
    · refine n_ldc hC dX0_dies_25 q490 ?_
      have eq_ : x_dies P X k = ((-1000000003), X) := by rw [x_dies, if_pos c5, if_neg (by rw [c22]; decide)]
      refine n_iret hC dX0_dies_27 (Nat.le_of_ble_eq_true rfl) (Nat.le_of_ble_eq_true rfl) ?_
      rw [eq_]
      dsimp only
      exact ⟨rfl, rfl, rfl⟩
  · refine n_ldc hC dX0_dies_8 q450 ?_
    have eq_ : x_dies P X k = ((-1000000001), X) := by rw [x_dies, if_neg (by rw [c5]; decide)]
    refine n_iret hC dX0_dies_10 (Nat.le_of_ble_eq_true rfl) (Nat.le_of_ble_eq_true rfl) ?_
    rw [eq_]
    dsimp only
    exact ⟨rfl, rfl, rfl⟩
noncomputable def x_copy (P : PS) (X : XS) (k : Int32) : Int32 × XS := (if (x_isLimb P X k) = true then (if (x_has (sI X 0 3) (cl k)) = true then ((x_own P (x_remember P X) (cl k) (sN (x_remember P X) 0)), sSetA (x_remember P X) 0 1 (cl k) (x_own P (x_remember P X) (cl k) (sN (x_remember P X) 0))) else ((-1000000003), X)) else ((-1000000001), X))
theorem bX0_copy : nBV RX0 yX0_copy cX0_copy 2 (some .int) 1 := ⟨q530, q531, q51, q532, by decide, by decide +kernel⟩
set_option maxRecDepth 100000 in
set_option maxHeartbeats 4000000 in
theorem t_x_copy (l : Launch) (D : va_G) (N0 : Nat) (kA : Nat → ClassId) (hs : hT) (P : PS) (X : XS) (n : Nat) (hn : xOk P n) (k : Int32) (hS : sN X 0 < 30000) (h3 : xN X 3 ≤ 20) : nE l yX0_copy cX0_copy 2 (some .int) D N0 kA 3 0 0 [.ref (N0 + 0), .int k] (xH N0 kA hs P X) n (nX (some (.int ((x_copy P X k).1))) (xH N0 kA hs P ((x_copy P X k).2)) n) := by
  refine nE_of (by decide) (Nat.le_of_ble_eq_true rfl) ?_
  intro p e s m args below meth c hC hnm
  refine n_loc (L' := [(0, .ref (N0 + 0)), (1, .int k)]) rfl ?_
  have hm6 := pN_le hn
  have hrn := xrem_n P X
  have hri := xrem_i P X
  refine n_aload_n hC dX0_copy_0 rfl ?_
  refine n_iload_n hC dX0_copy_1 rfl ?_
  refine n_callV1 hC (As := [.int k]) (rest := []) xc_o (x_lt hn) rfl bX0_isLimb (t_x_isLimb l D N0 kA hs P X n hn k ) (by decide) (by decide) q446 rfl (Nat.le_of_ble_eq_true rfl) dX0_copy_2 (Nat.le_of_ble_eq_true rfl) (Nat.le_of_ble_eq_true rfl) ?_
  refine n_stk (st' := [.int (bI (x_isLimb P X k))]) rfl ?_
  refine n_if_neB (tgt := 11) hC dX0_copy_5 (by decide) (fun c5 => ?_) (fun c5 => ?_)
  · have hk0 := (xin_nat (k := k) (by omega)).mp c5
    have hk1 := nI_cl hk0.1
    have hk2 := hk0.2
    refine n_aload_n hC dX0_copy_11 rfl ?_
    refine n_get hC cl0 (k := 1) (v := .ref (N0 + (sAd 0))) xc_o (x_lt hn) (by decide) q195 (xf_get N0 P X (by decide)) dX0_copy_12 ?_
    refine n_getN hC cl2 (k := 3) (v := .int (sI X 0 3)) (xc_so (by decide)) (s_lt0 hn (by decide)) (by decide) q153 (sf_get N0 X 0 (by decide)) dX0_copy_15 ?_
    refine n_iload_n hC dX0_copy_18 rfl ?_
    refine n_top (cl k) hk1 ?_
    refine n_callS1 hC (As := [.int (sI X 0 3), .int (nI (cl k))]) (rest := []) bX0_has (t_x_has l D N0 kA (xH N0 kA hs P X) n (sI X 0 3) (cl k) ) (by decide) (by decide) q511 rfl (Nat.le_of_ble_eq_true rfl) dX0_copy_19 (Nat.le_of_ble_eq_true rfl) (Nat.le_of_ble_eq_true rfl) ?_
    refine n_stk (st' := [.int (bI (x_has (sI X 0 3) (cl k)))]) rfl ?_
    refine n_if_neB (tgt := 28) hC dX0_copy_22 (by decide) (fun c22 => ?_) (fun c22 => ?_)
    · refine n_aload_n hC dX0_copy_28 rfl ?_
      refine n_callV1 hC (As := []) (rest := []) xc_o (x_lt hn) rfl bX0_remember (t_x_remember l D N0 kA hs P X n hn  (by omega)) (by decide) (by decide) q491 rfl (Nat.le_of_ble_eq_true rfl) dX0_copy_29 (Nat.le_of_ble_eq_true rfl) (Nat.le_of_ble_eq_true rfl) ?_
      refine n_stk (st' := []) rfl ?_
      refine n_aload_n hC dX0_copy_32 rfl ?_
      refine n_get hC cl0 (k := 1) (v := .ref (N0 + (sAd 0))) xc_o (x_lt hn) (by decide) q195 (xf_get N0 P (x_remember P X) (by decide)) dX0_copy_33 ?_
      refine n_getN hC cl2 (k := 1) (v := .ref (N0 + (sAd 0 + 2))) (xc_so (by decide)) (s_lt0 hn (by decide)) (by decide) q149 (sf_get N0 (x_remember P X) 0 (by decide)) dX0_copy_36 ?_
      refine n_iload_n hC dX0_copy_39 rfl ?_
      refine n_top (cl k) hk1 ?_
      refine n_aload_n hC dX0_copy_40 rfl ?_
      refine n_get hC cl0 (k := 1) (v := .ref (N0 + (sAd 0))) xc_o (x_lt hn) (by decide) q195 (xf_get N0 P (x_remember P X) (by decide)) dX0_copy_41 ?_
      refine n_iload_n hC dX0_copy_44 rfl ?_
      refine n_top (cl k) hk1 ?_
      refine n_aload_n hC dX0_copy_45 rfl ?_
      refine n_get hC cl0 (k := 1) (v := .ref (N0 + (sAd 0))) xc_o (x_lt hn) (by decide) q195 (xf_get N0 P (x_remember P X) (by decide)) dX0_copy_46 ?_
      refine n_getN hC cl2 (k := 5) (v := .int (nI (sN (x_remember P X) 0))) (xc_so (by decide)) (s_lt0 hn (by decide)) (by decide) q157 (sf_get N0 (x_remember P X) 0 (by decide)) dX0_copy_49 ?_
      refine n_callV1 hC (As := [.int (nI (cl k)), .int (nI (sN (x_remember P X) 0))]) (rest := [.int (nI (cl k)), .ref (N0 + (sAd 0 + 2))]) (xc_so (by decide)) (s_lt0 hn (by decide)) rfl bX2_own (t_x_own l D N0 kA hs P (x_remember P X) n hn (cl k) (sN (x_remember P X) 0) (by omega) (by omega)) (by decide) (by decide) q533 rfl (Nat.le_of_ble_eq_true rfl) dX0_copy_52 (Nat.le_of_ble_eq_true rfl) (Nat.le_of_ble_eq_true rfl) ?_
      refine n_stk (st' := [.int (x_own P (x_remember P X) (cl k) (sN (x_remember P X) 0)), .int (nI (cl k)), .ref (N0 + (sAd 0 + 2))]) rfl ?_
      refine n_iast hC (f := sA (x_remember P X) 0 1) (xc_s (r := 2) (by decide) (by decide)) (s_lt hn (by decide) (by decide)) (cl k) rfl (by omega) (by decide) dX0_copy_55 (su_A (X := (x_remember P X)) (a := 1) (by decide) (by decide)) ?_
      refine n_aload_n hC dX0_copy_56 rfl ?_
      refine n_get hC cl0 (k := 1) (v := .ref (N0 + (sAd 0))) xc_o (x_lt hn) (by decide) q195 (xf_get N0 P (sSetA (x_remember P X) 0 1 (cl k) (x_own P (x_remember P X) (cl k) (sN (x_remember P X) 0))) (by decide)) dX0_copy_57 ?_
      refine n_getN hC cl2 (k := 1) (v := .ref (N0 + (sAd 0 + 2))) (xc_so (by decide)) (s_lt0 hn (by decide)) (by decide) q149 (sf_get N0 (sSetA (x_remember P X) 0 1 (cl k) (x_own P (x_remember P X) (cl k) (sN (x_remember P X) 0))) 0 (by decide)) dX0_copy_60 ?_
      refine n_iload_n hC dX0_copy_63 rfl ?_
      refine n_top (cl k) hk1 ?_
      refine n_iald hC (f := sA (sSetA (x_remember P X) 0 1 (cl k) (x_own P (x_remember P X) (cl k) (sN (x_remember P X) 0))) 0 1) (xc_s (r := 2) (by decide) (by decide)) (s_lt hn (by decide) (by decide)) (cl k) rfl (by omega) (by decide) dX0_copy_64 ?_
      refine n_stk (st' := [.int (x_own P (x_remember P X) (cl k) (sN (x_remember P X) 0))]) (by first | simp [rxN_xSetI, rxN_xSetB, rxN_xSetA, rxN_sSetN, rxN_sSetI, rxN_sSetA, rxN_sPutA, rxN_xPutB, rxN_xPutA, rxI_xSetN, rxI_xSetB, rxI_xSetA, rxI_sSetN, rxI_sSetI, rxI_sSetA, rxI_sPutA, rxI_xPutB, rxI_xPutA, rxB_xSetN, rxB_xSetI, rxB_xSetA, rxB_sSetN, rxB_sSetI, rxB_sSetA, rxB_sPutA, rxB_xPutA, rxA_xSetN, rxA_xSetI, rxA_xSetB, rxA_sSetN, rxA_sSetI, rxA_sSetA, rxA_sPutA, rxA_xPutB, rsN_xSetN, rsN_xSetI, rsN_xSetB, rsN_xSetA, rsN_sSetI, rsN_sSetA, rsN_sPutA, rsN_xPutB, rsN_xPutA, rsI_xSetN, rsI_xSetI, rsI_xSetB, rsI_xSetA, rsI_sSetN, rsI_sSetA, rsI_sPutA, rsI_xPutB, rsI_xPutA, rsA_xSetN, rsA_xSetI, rsA_xSetB, rsA_xSetA, rsA_sSetN, rsA_sSetI, rsA_xPutB, rsA_xPutA, xN_N, xI_I, xB_B, xA_A, sN_N, sI_I, sA_A, sA_P, xB_P, xA_P] | rfl) ?_
      have eq_ : x_copy P X k = ((x_own P (x_remember P X) (cl k) (sN (x_remember P X) 0)), sSetA (x_remember P X) 0 1 (cl k) (x_own P (x_remember P X) (cl k) (sN (x_remember P X) 0))) := by rw [x_copy, if_pos c5, if_pos c22]
      refine n_iret hC dX0_copy_65 (Nat.le_of_ble_eq_true rfl) (Nat.le_of_ble_eq_true rfl) ?_
      rw [eq_]
      dsimp only
      exact ⟨rfl, rfl, rfl⟩
    · refine n_ldc hC dX0_copy_25 q490 ?_
      have eq_ : x_copy P X k = ((-1000000003), X) := by rw [x_copy, if_pos c5, if_neg (by rw [c22]; decide)]
      refine n_iret hC dX0_copy_27 (Nat.le_of_ble_eq_true rfl) (Nat.le_of_ble_eq_true rfl) ?_
      rw [eq_]
      dsimp only
      exact ⟨rfl, rfl, rfl⟩
  · refine n_ldc hC dX0_copy_8 q450 ?_
    have eq_ : x_copy P X k = ((-1000000001), X) := by rw [x_copy, if_neg (by rw [c5]; decide)]
    refine n_iret hC dX0_copy_10 (Nat.le_of_ble_eq_true rfl) (Nat.le_of_ble_eq_true rfl) ?_
    rw [eq_]
    dsimp only
    exact ⟨rfl, rfl, rfl⟩
/-- what a season of now changes: paid, noughts, total, seasons of state 0 -/
def keepP (X X' : XS) : Prop := (∀ k, xN X' k = xN X k) ∧ (∀ k, xI X' k = xI X k) ∧ (∀ k i, xB X' k i = xB X k i) ∧ (∀ k i, xA X' k i = xA X k i) ∧ (∀ j, j ≠ 0 → sN X' j = sN X j) ∧ (∀ j f, j ≠ 0 ∨ (f ≠ 4 ∧ f ≠ 6) → sI X' j f = sI X j f) ∧ (∀ j a b, j ≠ 0 ∨ a ≠ 2 → sA X' j a b = sA X j a b)
theorem keepP_r (X : XS) : keepP X X := ⟨fun _ => rfl, fun _ => rfl, fun _ _ => rfl, fun _ _ => rfl, fun _ _ => rfl, fun _ _ _ => rfl, fun _ _ _ _ => rfl⟩
theorem keepP_t {A B C : XS} (h1 : keepP A B) (h2 : keepP B C) : keepP A C := ⟨fun k => (h2.1 k).trans (h1.1 k), fun k => (h2.2.1 k).trans (h1.2.1 k), fun k i => (h2.2.2.1 k i).trans (h1.2.2.1 k i), fun k i => (h2.2.2.2.1 k i).trans (h1.2.2.2.1 k i), fun j hj => (h2.2.2.2.2.1 j hj).trans (h1.2.2.2.2.1 j hj), fun j f hj => (h2.2.2.2.2.2.1 j f hj).trans (h1.2.2.2.2.2.1 j f hj), fun j a b hj => (h2.2.2.2.2.2.2 j a b hj).trans (h1.2.2.2.2.2.2 j a b hj)⟩
theorem keepP_n (X : XS) (v : Nat) : keepP X (sSetN X 0 v) := ⟨fun _ => rfl, fun _ => rfl, fun _ _ => rfl, fun _ _ => rfl, fun j hj => by rw [sN_N, if_neg hj], fun _ _ _ => rfl, fun _ _ _ _ => rfl⟩
theorem keepP_w (X : XS) (i : Nat) (a b c : Int32) : keepP X (sSetI (sSetI (sSetA X 0 2 i a) 0 6 b) 0 4 c) := ⟨fun _ => rfl, fun _ => rfl, fun _ _ => rfl, fun _ _ => rfl, fun _ _ => rfl, fun j f h => by rw [sI_I, if_neg (by omega), sI_I, if_neg (by omega)]; rfl, fun j a b h => by show sA (sSetA X 0 2 i _) j a b = _; rw [sA_A, if_neg (by omega)]⟩
theorem ssea_2 : ∀ (fu : Nat) (P : PS) (X : XS) (i : Nat), i ≤ pN P 5 → pN P 5 < i + fu → keepP X (x_sseason_L2 fu P X i) ∧ sN (x_sseason_L2 fu P X i) 0 = sN X 0 + 1 := by
  intro fu
  induction fu with
  | zero => intro P X i hi hf; exfalso; omega
  | succ fu ih =>
    intro P X i hi hf
    rw [x_sseason_L2]
    split
    · exact ⟨keepP_n X _, by rw [sN_N, if_pos rfl]⟩
    · split
      · exact ih P X (i + 1) (by omega) (by omega)
      · split
        · have := ih P (sSetI (sSetI (sSetA X 0 2 i ((nI (pB P 4 i)) * (x_measure P X (pB P 3 i) (sN X 0)))) 0 6 ((sI X 0 6) + ((nI (pB P 4 i)) * (x_measure P X (pB P 3 i) (sN X 0))))) 0 4 ((sI X 0 4) ||| ((nI 1) <<< ((nI i) &&& 31)))) (i + 1) (by omega) (by omega)
          exact ⟨keepP_t (keepP_w X i _ _ _) this.1, this.2⟩
        · have := ih P (sSetI (sSetI (sSetA X 0 2 i ((nI (pB P 4 i)) * (x_measure P X (pB P 3 i) (sN X 0)))) 0 6 ((sI X 0 6) + ((nI (pB P 4 i)) * (x_measure P X (pB P 3 i) (sN X 0))))) 0 4 ((sI X 0 4) ||| (nI 0))) (i + 1) (by omega) (by omega)
          exact ⟨keepP_t (keepP_w X i _ _ _) this.1, this.2⟩
theorem ssea_K (P : PS) (X : XS) : keepP X (x_sseason P X) ∧ sN (x_sseason P X) 0 = sN X 0 + 1 := by
  rw [x_sseason_d]
  exact ssea_2 _ P X 0 (by omega) (by omega)
theorem ref_zero {P : PS} {X : XS} {v : Int32} (h : 0 ≤ x_refused P X v) : (v = nI (cl v) ∧ 1 ≤ cl v ∧ cl v ≤ 40) ∧ pN P 1 ≠ 0 ∧ sN X 0 ≤ 9000 := by
  unfold x_refused at h
  split at h
  · next h1 =>
    split at h
    · exact absurd h (by decide)
    · next h2 =>
      split at h
      · next h3 =>
        have := (xin_cst (x := v) 1 40 (by decide) (by decide)).mp h1
        exact ⟨⟨nI_cl this.1, this.2⟩, h2, h3⟩
      · exact absurd h (by decide)
  · exact absurd h (by decide)
theorem sgout_n (P : PS) (X : XS) (k : Nat) (v : Int32) (j : Nat) : sN (x_sgout P X k v) j = sN X j := by unfold x_sgout; split <;> rfl
theorem sstub_n (P : PS) (X : XS) (k j : Nat) : sN (x_sstub P X k) j = sN X j := by unfold x_sstub; split <;> rfl
theorem xdraw_lt {P : PS} {X : XS} {z : Nat} (hz : 0 < z) : (x_draw P X z).1 < z := by rw [x_draw_d]; exact Nat.mod_lt _ hz
theorem xdraw_n (P : PS) (X : XS) (z j : Nat) : sN (x_draw P X z).2 j = sN X j := by rw [x_draw_d]; rfl
theorem xdraw_sd {P : PS} {X : XS} {z : Nat} : 0 ≤ sI (x_draw P X z).2 0 7 := by
  rw [x_draw_d]
  show 0 ≤ nI (nxS _)
  exact nI_pos' (by have := nxS_lt (cl (sI X 0 7)); omega)
noncomputable def x_season_L20 : Nat → PS → XS → Int32 → Nat → Int32 × XS
  | 0, _, X, _, _ => (0, X)
  | fu + 1, P, X, v, i => (if (cl v) ≤ i then ((nI (sN X 0)), X) else x_season_L20 fu P (x_sseason P X) v (i + 1))
noncomputable def x_season (P : PS) (X : XS) (v : Int32) : Int32 × XS := (if 0 ≤ (x_refused P X v) then x_season_L20 (cl v + 1) P (x_remember P X) v 0 else ((x_refused P X v), X))
theorem bX0_season : nBV RX0 yX0_season cX0_season 3 (some .int) 1 := ⟨q483, q484, q51, q485, by decide, by decide +kernel⟩
set_option maxRecDepth 100000 in
set_option maxHeartbeats 4000000 in
theorem t_x_season_L20 {p : Program} {l : Launch} {e : Env} {s : State} {m : MethodId} {args : Array Value} {below : List Frame} {meth : Method} {c : Code} {D : va_G} {N0 : Nat} {kA : Nat → ClassId} {hs : hT} {P : PS} {n : Nat} (hn : xOk P n) {v : Int32} (hC : nC p s m args meth c RX0 cX0_season 3 (some .int) true D N0 kA) (hh : xHe P) (hc : xCo P) : ∀ (fu : Nat) (X : XS) (i : Nat) (hv1 : v = nI (cl v)) (hv2 : cl v ≤ 40) (hS1 : sN X 0 ≤ 9000 + i) (hi : i ≤ cl v) (hf : cl v < i + fu), nW p l e (nRm 4 0 0) s m args below meth c (nQ below (nX (some (.int ((x_season_L20 fu P X v i).1))) (xH N0 kA hs P ((x_season_L20 fu P X v i).2)) n) D N0 s 0 0) D N0 3 20 [(0, .ref (N0 + 0)), (1, .int v), (2, .int (nI i))] [] (xH N0 kA hs P X) n 0 0 := by
  intro fu
  induction fu with
  | zero =>
    intro X i hv1 hv2 hS1 hi hf
    exfalso; omega
  | succ fu ih =>
    intro X i hv1 hv2 hS1 hi hf
    have hm6 := pN_le hn
    refine n_iload_n hC dX0_season_20 rfl ?_
    refine n_iload_n hC dX0_season_21 rfl ?_
    refine n_top (cl v) hv1 ?_
    refine n_icmp_geN (tgt := 38) hC i (cl v) rfl rfl (by omega) (by omega) dX0_season_22 (by decide) (fun c22 => ?_) (fun c22 => ?_)
    · refine n_aload_n hC dX0_season_38 rfl ?_
      refine n_get hC cl0 (k := 1) (v := .ref (N0 + (sAd 0))) xc_o (x_lt hn) (by decide) q195 (xf_get N0 P X (by decide)) dX0_season_39 ?_
      refine n_getN hC cl2 (k := 5) (v := .int (nI (sN X 0))) (xc_so (by decide)) (s_lt0 hn (by decide)) (by decide) q157 (sf_get N0 X 0 (by decide)) dX0_season_42 ?_
      have eq_ : x_season_L20 (fu + 1) P X v i = ((nI (sN X 0)), X) := by rw [x_season_L20, if_pos c22]
      refine n_iret hC dX0_season_45 (Nat.le_of_ble_eq_true rfl) (Nat.le_of_ble_eq_true rfl) ?_
      rw [eq_]
      dsimp only
      exact ⟨rfl, rfl, rfl⟩
    · refine n_aload_n hC dX0_season_25 rfl ?_
      refine n_get hC cl0 (k := 1) (v := .ref (N0 + (sAd 0))) xc_o (x_lt hn) (by decide) q195 (xf_get N0 P X (by decide)) dX0_season_26 ?_
      have hsk := (ssea_K P X).2
      refine n_callV1 hC (As := []) (rest := []) (xc_so (by decide)) (s_lt0 hn (by decide)) rfl bX2_season (t_x_sseason l D N0 kA hs P X n hn  hh (by omega) hc) (by decide) (by decide) q502 rfl (Nat.le_of_ble_eq_true rfl) dX0_season_29 (Nat.le_of_ble_eq_true rfl) (Nat.le_of_ble_eq_true rfl) ?_
      refine n_stk (st' := []) rfl ?_
      refine n_iincN (a := i) (L' := [(0, .ref (N0 + 0)), (1, .int v), (2, .int (nI (i + 1)))]) hC dX0_season_32 rfl (by decide) rfl ?_
      refine n_goto (tgt := 20) hC dX0_season_35 (by decide) ?_
      rw [show x_season_L20 (fu + 1) P X v i = x_season_L20 fu P (x_sseason P X) v (i + 1) from by rw [x_season_L20, if_neg (Nat.not_le.mpr c22)]]
      exact ih (x_sseason P X) (i + 1) hv1 hv2 (by first | omega | (simp [xN_N] <;> omega)) (by first | omega | (simp [xN_N] <;> omega)) (by first | omega | (simp [xN_N] <;> omega))
set_option maxRecDepth 100000 in
set_option maxHeartbeats 4000000 in
theorem t_x_season (l : Launch) (D : va_G) (N0 : Nat) (kA : Nat → ClassId) (hs : hT) (P : PS) (X : XS) (n : Nat) (hn : xOk P n) (v : Int32) (hh : xHe P) (hS : sN X 0 < 30000) (hc : xCo P) (h3 : xN X 3 ≤ 20) : nE l yX0_season cX0_season 3 (some .int) D N0 kA 4 0 0 [.ref (N0 + 0), .int v] (xH N0 kA hs P X) n (nX (some (.int ((x_season P X v).1))) (xH N0 kA hs P ((x_season P X v).2)) n) := by
  refine nE_of (by decide) (Nat.le_of_ble_eq_true rfl) ?_
  intro p e s m args below meth c hC hnm
  refine n_loc (L' := [(0, .ref (N0 + 0)), (1, .int v)]) rfl ?_
  have hm6 := pN_le hn
  refine n_aload_n hC dX0_season_0 rfl ?_
  refine n_iload_n hC dX0_season_1 rfl ?_
  refine n_callV1 hC (As := [.int v]) (rest := []) xc_o (x_lt hn) rfl bX0_refusedSeasons (t_x_refused l D N0 kA hs P X n hn v hS) (by decide) (by decide) q486 rfl (Nat.le_of_ble_eq_true rfl) dX0_season_2 (Nat.le_of_ble_eq_true rfl) (Nat.le_of_ble_eq_true rfl) ?_
  refine n_stk (st' := [.int (x_refused P X v)]) rfl ?_
  refine n_if_ge (tgt := 14) hC dX0_season_5 (by decide) (fun c5 => ?_) (fun c5 => ?_)
  · have hz := ref_zero c5
    have hv1 := hz.1.1
    have hv2 := hz.1.2
    refine n_aload_n hC dX0_season_14 rfl ?_
    refine n_callV1 hC (As := []) (rest := []) xc_o (x_lt hn) rfl bX0_remember (t_x_remember l D N0 kA hs P X n hn  (by omega)) (by decide) (by decide) q491 rfl (Nat.le_of_ble_eq_true rfl) dX0_season_15 (Nat.le_of_ble_eq_true rfl) (Nat.le_of_ble_eq_true rfl) ?_
    refine n_stk (st' := []) rfl ?_
    refine n_iconst (v := (nI 0)) hC dX0_season_18 (by decide) ?_
    refine n_istore_n (L' := [(0, .ref (N0 + 0)), (1, .int v), (2, .int (nI 0))]) hC dX0_season_19 (by decide) rfl ?_
    rw [show x_season P X v = x_season_L20 (cl v + 1) P (x_remember P X) v 0 from by rw [x_season, if_pos c5]]
    exact t_x_season_L20 hn hC hh hc (cl v + 1) (x_remember P X) 0 hv1 hv2.2 (by rw [xrem_n]; omega) (by first | omega | (simp [xN_N] <;> omega)) (by first | omega | (simp [xN_N] <;> omega))
  · refine n_aload_n hC dX0_season_8 rfl ?_
    refine n_iload_n hC dX0_season_9 rfl ?_
    refine n_callV1 hC (As := [.int v]) (rest := []) xc_o (x_lt hn) rfl bX0_refusedSeasons (t_x_refused l D N0 kA hs P X n hn v hS) (by decide) (by decide) q486 rfl (Nat.le_of_ble_eq_true rfl) dX0_season_10 (Nat.le_of_ble_eq_true rfl) (Nat.le_of_ble_eq_true rfl) ?_
    refine n_stk (st' := [.int (x_refused P X v)]) rfl ?_
    have eq_ : x_season P X v = ((x_refused P X v), X) := by rw [x_season, if_neg c5]
    refine n_iret hC dX0_season_13 (Nat.le_of_ble_eq_true rfl) (Nat.le_of_ble_eq_true rfl) ?_
    rw [eq_]
    dsimp only
    exact ⟨rfl, rfl, rfl⟩
noncomputable def x_byDraws_b (P : PS) (X : XS) : XS := (if 2 ≤ ((x_draw P X 6).1) then (if ((x_draw P X 6).1) = 0 then (if (x_has (sI ((x_draw P ((x_draw P X 6).2) 20).2) 0 3) 0) = true then (x_sseason P (x_sgout P ((x_draw P ((x_draw P X 6).2) 20).2) 0 (nI (((x_draw P ((x_draw P X 6).2) 20).1) + 1)))) else (if ((x_draw P X 6).1) ≠ 1 then (x_sseason P ((x_draw P ((x_draw P X 6).2) 20).2)) else (x_sseason P ((x_draw P ((x_draw P X 6).2) 20).2)))) else (if ((x_draw P X 6).1) ≠ 1 then (x_sseason P ((x_draw P X 6).2)) else (if (x_has (sI ((x_draw P X 6).2) 0 3) 0) = true then (x_sseason P (x_sstub P ((x_draw P X 6).2) 0)) else (x_sseason P ((x_draw P X 6).2))))) else (if ((x_draw P X 6).1) = 0 then (if (x_has (sI ((x_draw P ((x_draw P ((x_draw P X 6).2) (pN P 1)).2) 20).2) 0 3) ((x_draw P ((x_draw P X 6).2) (pN P 1)).1)) = true then (x_sseason P (x_sgout P ((x_draw P ((x_draw P ((x_draw P X 6).2) (pN P 1)).2) 20).2) ((x_draw P ((x_draw P X 6).2) (pN P 1)).1) (nI (((x_draw P ((x_draw P ((x_draw P X 6).2) (pN P 1)).2) 20).1) + 1)))) else (if ((x_draw P X 6).1) ≠ 1 then (x_sseason P ((x_draw P ((x_draw P ((x_draw P X 6).2) (pN P 1)).2) 20).2)) else (x_sseason P ((x_draw P ((x_draw P ((x_draw P X 6).2) (pN P 1)).2) 20).2)))) else (if ((x_draw P X 6).1) ≠ 1 then (x_sseason P ((x_draw P ((x_draw P X 6).2) (pN P 1)).2)) else (if (x_has (sI ((x_draw P ((x_draw P X 6).2) (pN P 1)).2) 0 3) ((x_draw P ((x_draw P X 6).2) (pN P 1)).1)) = true then (x_sseason P (x_sstub P ((x_draw P ((x_draw P X 6).2) (pN P 1)).2) ((x_draw P ((x_draw P X 6).2) (pN P 1)).1))) else (x_sseason P ((x_draw P ((x_draw P X 6).2) (pN P 1)).2))))))
theorem x_byDraws_x : ∃ f : PS → XS → XS, ∀ (P : PS) (X : XS) , f P X = x_byDraws_b P X := ⟨x_byDraws_b, fun P X => rfl⟩
noncomputable def x_byDraws : PS → XS → XS := Classical.choose x_byDraws_x
theorem x_byDraws_d (P : PS) (X : XS)  : x_byDraws P X = (if 2 ≤ ((x_draw P X 6).1) then (if ((x_draw P X 6).1) = 0 then (if (x_has (sI ((x_draw P ((x_draw P X 6).2) 20).2) 0 3) 0) = true then (x_sseason P (x_sgout P ((x_draw P ((x_draw P X 6).2) 20).2) 0 (nI (((x_draw P ((x_draw P X 6).2) 20).1) + 1)))) else (if ((x_draw P X 6).1) ≠ 1 then (x_sseason P ((x_draw P ((x_draw P X 6).2) 20).2)) else (x_sseason P ((x_draw P ((x_draw P X 6).2) 20).2)))) else (if ((x_draw P X 6).1) ≠ 1 then (x_sseason P ((x_draw P X 6).2)) else (if (x_has (sI ((x_draw P X 6).2) 0 3) 0) = true then (x_sseason P (x_sstub P ((x_draw P X 6).2) 0)) else (x_sseason P ((x_draw P X 6).2))))) else (if ((x_draw P X 6).1) = 0 then (if (x_has (sI ((x_draw P ((x_draw P ((x_draw P X 6).2) (pN P 1)).2) 20).2) 0 3) ((x_draw P ((x_draw P X 6).2) (pN P 1)).1)) = true then (x_sseason P (x_sgout P ((x_draw P ((x_draw P ((x_draw P X 6).2) (pN P 1)).2) 20).2) ((x_draw P ((x_draw P X 6).2) (pN P 1)).1) (nI (((x_draw P ((x_draw P ((x_draw P X 6).2) (pN P 1)).2) 20).1) + 1)))) else (if ((x_draw P X 6).1) ≠ 1 then (x_sseason P ((x_draw P ((x_draw P ((x_draw P X 6).2) (pN P 1)).2) 20).2)) else (x_sseason P ((x_draw P ((x_draw P ((x_draw P X 6).2) (pN P 1)).2) 20).2)))) else (if ((x_draw P X 6).1) ≠ 1 then (x_sseason P ((x_draw P ((x_draw P X 6).2) (pN P 1)).2)) else (if (x_has (sI ((x_draw P ((x_draw P X 6).2) (pN P 1)).2) 0 3) ((x_draw P ((x_draw P X 6).2) (pN P 1)).1)) = true then (x_sseason P (x_sstub P ((x_draw P ((x_draw P X 6).2) (pN P 1)).2) ((x_draw P ((x_draw P X 6).2) (pN P 1)).1))) else (x_sseason P ((x_draw P ((x_draw P X 6).2) (pN P 1)).2)))))) := Classical.choose_spec x_byDraws_x P X
theorem bX2_byDraws : nBV RX2 yX2_byDraws cX2_byDraws 4 none 0 := ⟨q539, q540, q53, q541, by decide, by decide +kernel⟩
set_option maxRecDepth 100000 in
set_option maxHeartbeats 4000000 in
theorem t_x_byDraws (l : Launch) (D : va_G) (N0 : Nat) (kA : Nat → ClassId) (hs : hT) (P : PS) (X : XS) (n : Nat) (hn : xOk P n)  (hh : xHe P) (hS : sN X 0 < 30000) (hc : xCo P) (hd : 0 ≤ sI X 0 7) (hp : 0 < pN P 1) : nE l yX2_byDraws cX2_byDraws 4 none D N0 kA 4 0 0 [.ref (N0 + (sAd 0))] (xH N0 kA hs P X) n (nX none (xH N0 kA hs P (x_byDraws P X)) n) := by
  refine nE_of (by decide) (Nat.le_of_ble_eq_true rfl) ?_
  intro p e s m args below meth c hC hnm
  refine n_loc (L' := [(0, .ref (N0 + (sAd 0)))]) rfl ?_
  have hm6 := pN_le hn
  refine n_aload_n hC dX2_byDraws_0 rfl ?_
  refine n_bipush (v := (nI 6)) hC dX2_byDraws_1 (by decide) ?_
  refine n_callV1 hC (As := [.int (nI 6)]) (rest := []) (xc_so (by decide)) (s_lt0 hn (by decide)) rfl bX2_draw (t_x_draw l D N0 kA hs P X n hn 6 hd (by omega) (by omega)) (by decide) (by decide) q542 rfl (Nat.le_of_ble_eq_true rfl) dX2_byDraws_3 (Nat.le_of_ble_eq_true rfl) (Nat.le_of_ble_eq_true rfl) ?_
  refine n_stk (st' := [.int (nI ((x_draw P X 6).1))]) rfl ?_
  have w1 := xdraw_lt (P := P) (X := X) (z := 6) (by decide)
  refine n_istore_n (L' := [(0, .ref (N0 + (sAd 0))), (1, .int (nI ((x_draw P X 6).1)))]) hC dX2_byDraws_6 (by decide) rfl ?_
  refine n_iload_n hC dX2_byDraws_7 rfl ?_
  refine n_iconst (v := (nI 2)) hC dX2_byDraws_8 (by decide) ?_
  refine n_icmp_geN (tgt := 29) hC ((x_draw P X 6).1) 2 rfl rfl (by omega) (by omega) dX2_byDraws_9 (by decide) (fun c9 => ?_) (fun c9 => ?_)
  · refine n_iconst (v := (nI 0)) hC dX2_byDraws_29 (by decide) ?_
    refine n_istore_n (L' := [(0, .ref (N0 + (sAd 0))), (1, .int (nI ((x_draw P X 6).1))), (2, .int (nI 0))]) hC dX2_byDraws_30 (by decide) rfl ?_
    refine n_iload_n hC dX2_byDraws_31 rfl ?_
    refine n_if_neN (tgt := 46) hC (by omega) dX2_byDraws_32 (by decide) (fun c32 => ?_) (fun c32 => ?_)
    · refine n_iconst (v := (nI 0)) hC dX2_byDraws_46 (by decide) ?_
      refine n_istore_n (L' := [(0, .ref (N0 + (sAd 0))), (1, .int (nI ((x_draw P X 6).1))), (2, .int (nI 0)), (3, .int (nI 0))]) hC dX2_byDraws_47 (by decide) rfl ?_
      refine n_iload_n hC dX2_byDraws_48 rfl ?_
      refine n_if_neN (tgt := 72) hC (by omega) dX2_byDraws_49 (by decide) (fun _ => ?_) (fun c_ => False.elim (by omega))
      refine n_iload_n hC dX2_byDraws_72 rfl ?_
      refine n_iconst (v := (nI 1)) hC dX2_byDraws_73 (by decide) ?_
      refine n_icmp_neN (tgt := 93) hC ((x_draw P X 6).1) 1 rfl rfl (by omega) (by omega) dX2_byDraws_74 (by decide) (fun c74 => ?_) (fun c74 => ?_)
      · refine n_aload_n hC dX2_byDraws_93 rfl ?_
        refine n_callV1 hC (As := []) (rest := []) (xc_so (by decide)) (s_lt0 hn (by decide)) rfl bX2_season (t_x_sseason l D N0 kA hs P ((x_draw P X 6).2) n hn  hh (by simp only [sgout_n, sstub_n, xdraw_n]; exact hS) hc) (by decide) (by decide) q552 rfl (Nat.le_of_ble_eq_true rfl) dX2_byDraws_94 (Nat.le_of_ble_eq_true rfl) (Nat.le_of_ble_eq_true rfl) ?_
        refine n_stk (st' := []) rfl ?_
        have eq_ : x_byDraws P X = (x_sseason P ((x_draw P X 6).2)) := by rw [x_byDraws_d, if_pos c9, if_neg c32, if_pos c74]
        refine n_vret hC dX2_byDraws_97 (Nat.le_of_ble_eq_true rfl) (Nat.le_of_ble_eq_true rfl) ?_
        rw [eq_]
        exact ⟨rfl, rfl, rfl⟩
      · refine n_aload_n hC dX2_byDraws_77 rfl ?_
        refine n_get hC cl2 (k := 3) (v := .int (sI ((x_draw P X 6).2) 0 3)) (xc_so (by decide)) (s_lt0 hn (by decide)) (by decide) q152 (sf_get N0 ((x_draw P X 6).2) 0 (by decide)) dX2_byDraws_78 ?_
        refine n_iload_n hC dX2_byDraws_81 rfl ?_
        refine n_callSN1 hC (As := [.int (sI ((x_draw P X 6).2) 0 3), .int (nI 0)]) (rest := []) bX0_has (t_x_has l D N0 kA (xH N0 kA hs P ((x_draw P X 6).2)) n (sI ((x_draw P X 6).2) 0 3) 0 ) (by decide) (by decide) q459 rfl (Nat.le_of_ble_eq_true rfl) dX2_byDraws_82 (Nat.le_of_ble_eq_true rfl) (Nat.le_of_ble_eq_true rfl) ?_
        refine n_stk (st' := [.int (bI (x_has (sI ((x_draw P X 6).2) 0 3) 0))]) rfl ?_
        refine n_if_eqB (tgt := 93) hC dX2_byDraws_85 (by decide) (fun c85 => ?_) (fun c85 => ?_)
        · refine n_aload_n hC dX2_byDraws_93 rfl ?_
          refine n_callV1 hC (As := []) (rest := []) (xc_so (by decide)) (s_lt0 hn (by decide)) rfl bX2_season (t_x_sseason l D N0 kA hs P ((x_draw P X 6).2) n hn  hh (by simp only [sgout_n, sstub_n, xdraw_n]; exact hS) hc) (by decide) (by decide) q552 rfl (Nat.le_of_ble_eq_true rfl) dX2_byDraws_94 (Nat.le_of_ble_eq_true rfl) (Nat.le_of_ble_eq_true rfl) ?_
          refine n_stk (st' := []) rfl ?_
          have eq_ : x_byDraws P X = (x_sseason P ((x_draw P X 6).2)) := by rw [x_byDraws_d, if_pos c9, if_neg c32, if_neg (not_not_intro c74), if_neg (by rw [c85]; decide)]
          refine n_vret hC dX2_byDraws_97 (Nat.le_of_ble_eq_true rfl) (Nat.le_of_ble_eq_true rfl) ?_
          rw [eq_]
          exact ⟨rfl, rfl, rfl⟩
        · refine n_aload_n hC dX2_byDraws_88 rfl ?_
          refine n_iload_n hC dX2_byDraws_89 rfl ?_
          refine n_callV1 hC (As := [.int (nI 0)]) (rest := []) (xc_so (by decide)) (s_lt0 hn (by decide)) rfl bX2_stub (t_x_sstub l D N0 kA hs P ((x_draw P X 6).2) n hn 0 (by omega)) (by decide) (by decide) q551 rfl (Nat.le_of_ble_eq_true rfl) dX2_byDraws_90 (Nat.le_of_ble_eq_true rfl) (Nat.le_of_ble_eq_true rfl) ?_
          refine n_stk (st' := []) rfl ?_
          refine n_aload_n hC dX2_byDraws_93 rfl ?_
          refine n_callV1 hC (As := []) (rest := []) (xc_so (by decide)) (s_lt0 hn (by decide)) rfl bX2_season (t_x_sseason l D N0 kA hs P (x_sstub P ((x_draw P X 6).2) 0) n hn  hh (by simp only [sgout_n, sstub_n, xdraw_n]; exact hS) hc) (by decide) (by decide) q552 rfl (Nat.le_of_ble_eq_true rfl) dX2_byDraws_94 (Nat.le_of_ble_eq_true rfl) (Nat.le_of_ble_eq_true rfl) ?_
          refine n_stk (st' := []) rfl ?_
          have eq_ : x_byDraws P X = (x_sseason P (x_sstub P ((x_draw P X 6).2) 0)) := by rw [x_byDraws_d, if_pos c9, if_neg c32, if_neg (not_not_intro c74), if_pos c85]
          refine n_vret hC dX2_byDraws_97 (Nat.le_of_ble_eq_true rfl) (Nat.le_of_ble_eq_true rfl) ?_
          rw [eq_]
          exact ⟨rfl, rfl, rfl⟩
    · refine n_aload_n hC dX2_byDraws_35 rfl ?_
      refine n_bipush (v := (nI 20)) hC dX2_byDraws_36 (by decide) ?_
      refine n_callV1 hC (As := [.int (nI 20)]) (rest := []) (xc_so (by decide)) (s_lt0 hn (by decide)) rfl bX2_draw (t_x_draw l D N0 kA hs P ((x_draw P X 6).2) n hn 20 xdraw_sd (by omega) (by omega)) (by decide) (by decide) q542 rfl (Nat.le_of_ble_eq_true rfl) dX2_byDraws_38 (Nat.le_of_ble_eq_true rfl) (Nat.le_of_ble_eq_true rfl) ?_
      refine n_stk (st' := [.int (nI ((x_draw P ((x_draw P X 6).2) 20).1))]) rfl ?_
      refine n_iconst (v := (nI 1)) hC dX2_byDraws_41 (by decide) ?_
      refine n_iaddN hC dX2_byDraws_42 ?_
      refine n_goto (tgt := 47) hC dX2_byDraws_43 (by decide) ?_
      refine n_istore_n (L' := [(0, .ref (N0 + (sAd 0))), (1, .int (nI ((x_draw P X 6).1))), (2, .int (nI 0)), (3, .int (nI (((x_draw P ((x_draw P X 6).2) 20).1) + 1)))]) hC dX2_byDraws_47 (by decide) rfl ?_
      refine n_iload_n hC dX2_byDraws_48 rfl ?_
      refine n_if_neN (tgt := 72) hC (by omega) dX2_byDraws_49 (by decide) (fun c_ => False.elim (by omega)) (fun _ => ?_)
      refine n_aload_n hC dX2_byDraws_52 rfl ?_
      refine n_get hC cl2 (k := 3) (v := .int (sI ((x_draw P ((x_draw P X 6).2) 20).2) 0 3)) (xc_so (by decide)) (s_lt0 hn (by decide)) (by decide) q152 (sf_get N0 ((x_draw P ((x_draw P X 6).2) 20).2) 0 (by decide)) dX2_byDraws_53 ?_
      refine n_iload_n hC dX2_byDraws_56 rfl ?_
      refine n_callSN1 hC (As := [.int (sI ((x_draw P ((x_draw P X 6).2) 20).2) 0 3), .int (nI 0)]) (rest := []) bX0_has (t_x_has l D N0 kA (xH N0 kA hs P ((x_draw P ((x_draw P X 6).2) 20).2)) n (sI ((x_draw P ((x_draw P X 6).2) 20).2) 0 3) 0 ) (by decide) (by decide) q459 rfl (Nat.le_of_ble_eq_true rfl) dX2_byDraws_57 (Nat.le_of_ble_eq_true rfl) (Nat.le_of_ble_eq_true rfl) ?_
      refine n_stk (st' := [.int (bI (x_has (sI ((x_draw P ((x_draw P X 6).2) 20).2) 0 3) 0))]) rfl ?_
      refine n_if_eqB (tgt := 72) hC dX2_byDraws_60 (by decide) (fun c60 => ?_) (fun c60 => ?_)
      · refine n_iload_n hC dX2_byDraws_72 rfl ?_
        refine n_iconst (v := (nI 1)) hC dX2_byDraws_73 (by decide) ?_
        refine n_icmp_neN (tgt := 93) hC ((x_draw P X 6).1) 1 rfl rfl (by omega) (by omega) dX2_byDraws_74 (by decide) (fun c74 => ?_) (fun c74 => ?_)
        · refine n_aload_n hC dX2_byDraws_93 rfl ?_
          refine n_callV1 hC (As := []) (rest := []) (xc_so (by decide)) (s_lt0 hn (by decide)) rfl bX2_season (t_x_sseason l D N0 kA hs P ((x_draw P ((x_draw P X 6).2) 20).2) n hn  hh (by simp only [sgout_n, sstub_n, xdraw_n]; exact hS) hc) (by decide) (by decide) q552 rfl (Nat.le_of_ble_eq_true rfl) dX2_byDraws_94 (Nat.le_of_ble_eq_true rfl) (Nat.le_of_ble_eq_true rfl) ?_
          refine n_stk (st' := []) rfl ?_
          have eq_ : x_byDraws P X = (x_sseason P ((x_draw P ((x_draw P X 6).2) 20).2)) := by rw [x_byDraws_d, if_pos c9, if_pos c32, if_neg (by rw [c60]; decide), if_pos c74]
          refine n_vret hC dX2_byDraws_97 (Nat.le_of_ble_eq_true rfl) (Nat.le_of_ble_eq_true rfl) ?_
          rw [eq_]
          exact ⟨rfl, rfl, rfl⟩
        · refine n_aload_n hC dX2_byDraws_77 rfl ?_
          refine n_get hC cl2 (k := 3) (v := .int (sI ((x_draw P ((x_draw P X 6).2) 20).2) 0 3)) (xc_so (by decide)) (s_lt0 hn (by decide)) (by decide) q152 (sf_get N0 ((x_draw P ((x_draw P X 6).2) 20).2) 0 (by decide)) dX2_byDraws_78 ?_
          refine n_iload_n hC dX2_byDraws_81 rfl ?_
          refine n_callSN1 hC (As := [.int (sI ((x_draw P ((x_draw P X 6).2) 20).2) 0 3), .int (nI 0)]) (rest := []) bX0_has (t_x_has l D N0 kA (xH N0 kA hs P ((x_draw P ((x_draw P X 6).2) 20).2)) n (sI ((x_draw P ((x_draw P X 6).2) 20).2) 0 3) 0 ) (by decide) (by decide) q459 rfl (Nat.le_of_ble_eq_true rfl) dX2_byDraws_82 (Nat.le_of_ble_eq_true rfl) (Nat.le_of_ble_eq_true rfl) ?_
          refine n_stk (st' := [.int (bI (x_has (sI ((x_draw P ((x_draw P X 6).2) 20).2) 0 3) 0))]) rfl ?_
          refine n_if_eqT (tgt := 93) hC dX2_byDraws_85 (by decide) (bI_1.mpr c60) ?_
          refine n_aload_n hC dX2_byDraws_93 rfl ?_
          refine n_callV1 hC (As := []) (rest := []) (xc_so (by decide)) (s_lt0 hn (by decide)) rfl bX2_season (t_x_sseason l D N0 kA hs P ((x_draw P ((x_draw P X 6).2) 20).2) n hn  hh (by simp only [sgout_n, sstub_n, xdraw_n]; exact hS) hc) (by decide) (by decide) q552 rfl (Nat.le_of_ble_eq_true rfl) dX2_byDraws_94 (Nat.le_of_ble_eq_true rfl) (Nat.le_of_ble_eq_true rfl) ?_
          refine n_stk (st' := []) rfl ?_
          have eq_ : x_byDraws P X = (x_sseason P ((x_draw P ((x_draw P X 6).2) 20).2)) := by rw [x_byDraws_d, if_pos c9, if_pos c32, if_neg (by rw [c60]; decide), if_neg (not_not_intro c74)]
          refine n_vret hC dX2_byDraws_97 (Nat.le_of_ble_eq_true rfl) (Nat.le_of_ble_eq_true rfl) ?_
          rw [eq_]
          exact ⟨rfl, rfl, rfl⟩
      · refine n_aload_n hC dX2_byDraws_63 rfl ?_
        refine n_iload_n hC dX2_byDraws_64 rfl ?_
        refine n_iload_n hC dX2_byDraws_65 rfl ?_
        refine n_callV1 hC (As := [.int (nI 0), .int (nI (((x_draw P ((x_draw P X 6).2) 20).1) + 1))]) (rest := []) (xc_so (by decide)) (s_lt0 hn (by decide)) rfl bX2_gout (t_x_sgout l D N0 kA hs P ((x_draw P ((x_draw P X 6).2) 20).2) n hn 0 (nI (((x_draw P ((x_draw P X 6).2) 20).1) + 1)) (by omega)) (by decide) (by decide) q550 rfl (Nat.le_of_ble_eq_true rfl) dX2_byDraws_66 (Nat.le_of_ble_eq_true rfl) (Nat.le_of_ble_eq_true rfl) ?_
        refine n_stk (st' := []) rfl ?_
        refine n_goto (tgt := 93) hC dX2_byDraws_69 (by decide) ?_
        refine n_aload_n hC dX2_byDraws_93 rfl ?_
        refine n_callV1 hC (As := []) (rest := []) (xc_so (by decide)) (s_lt0 hn (by decide)) rfl bX2_season (t_x_sseason l D N0 kA hs P (x_sgout P ((x_draw P ((x_draw P X 6).2) 20).2) 0 (nI (((x_draw P ((x_draw P X 6).2) 20).1) + 1))) n hn  hh (by simp only [sgout_n, sstub_n, xdraw_n]; exact hS) hc) (by decide) (by decide) q552 rfl (Nat.le_of_ble_eq_true rfl) dX2_byDraws_94 (Nat.le_of_ble_eq_true rfl) (Nat.le_of_ble_eq_true rfl) ?_
        refine n_stk (st' := []) rfl ?_
        have eq_ : x_byDraws P X = (x_sseason P (x_sgout P ((x_draw P ((x_draw P X 6).2) 20).2) 0 (nI (((x_draw P ((x_draw P X 6).2) 20).1) + 1)))) := by rw [x_byDraws_d, if_pos c9, if_pos c32, if_pos c60]
        refine n_vret hC dX2_byDraws_97 (Nat.le_of_ble_eq_true rfl) (Nat.le_of_ble_eq_true rfl) ?_
        rw [eq_]
        exact ⟨rfl, rfl, rfl⟩
  · refine n_aload_n hC dX2_byDraws_12 rfl ?_
    refine n_aload_n hC dX2_byDraws_13 rfl ?_
    refine n_get hC cl2 (k := 9) (v := .ref (N0 + 0)) (xc_so (by decide)) (s_lt0 hn (by decide)) (by decide) q163 (sf_get N0 ((x_draw P X 6).2) 0 (by decide)) dX2_byDraws_14 ?_
    refine n_getN hC cl0 (k := 0) (v := .ref (N0 + (pb P))) xc_o (x_lt hn) (by decide) q193 (xf_get N0 P ((x_draw P X 6).2) (by decide)) dX2_byDraws_17 ?_
    refine n_getN hC cl1 (k := 1) (v := .int (nI (pN P 1))) (xc_po hn) (p_lt0 hn) (by decide) q84 (pf_get N0 P (by decide)) dX2_byDraws_20 ?_
    refine n_callV1 hC (As := [.int (nI (pN P 1))]) (rest := []) (xc_so (by decide)) (s_lt0 hn (by decide)) rfl bX2_draw (t_x_draw l D N0 kA hs P ((x_draw P X 6).2) n hn (pN P 1) xdraw_sd hp (by omega)) (by decide) (by decide) q542 rfl (Nat.le_of_ble_eq_true rfl) dX2_byDraws_23 (Nat.le_of_ble_eq_true rfl) (Nat.le_of_ble_eq_true rfl) ?_
    refine n_stk (st' := [.int (nI ((x_draw P ((x_draw P X 6).2) (pN P 1)).1))]) rfl ?_
    have w2 := xdraw_lt (P := P) (X := (x_draw P X 6).2) (z := pN P 1) hp
    refine n_goto (tgt := 30) hC dX2_byDraws_26 (by decide) ?_
    refine n_istore_n (L' := [(0, .ref (N0 + (sAd 0))), (1, .int (nI ((x_draw P X 6).1))), (2, .int (nI ((x_draw P ((x_draw P X 6).2) (pN P 1)).1)))]) hC dX2_byDraws_30 (by decide) rfl ?_
    refine n_iload_n hC dX2_byDraws_31 rfl ?_
    refine n_if_neN (tgt := 46) hC (by omega) dX2_byDraws_32 (by decide) (fun c32 => ?_) (fun c32 => ?_)
    · refine n_iconst (v := (nI 0)) hC dX2_byDraws_46 (by decide) ?_
      refine n_istore_n (L' := [(0, .ref (N0 + (sAd 0))), (1, .int (nI ((x_draw P X 6).1))), (2, .int (nI ((x_draw P ((x_draw P X 6).2) (pN P 1)).1))), (3, .int (nI 0))]) hC dX2_byDraws_47 (by decide) rfl ?_
      refine n_iload_n hC dX2_byDraws_48 rfl ?_
      refine n_if_neN (tgt := 72) hC (by omega) dX2_byDraws_49 (by decide) (fun _ => ?_) (fun c_ => False.elim (by omega))
      refine n_iload_n hC dX2_byDraws_72 rfl ?_
      refine n_iconst (v := (nI 1)) hC dX2_byDraws_73 (by decide) ?_
      refine n_icmp_neN (tgt := 93) hC ((x_draw P X 6).1) 1 rfl rfl (by omega) (by omega) dX2_byDraws_74 (by decide) (fun c74 => ?_) (fun c74 => ?_)
      · refine n_aload_n hC dX2_byDraws_93 rfl ?_
        refine n_callV1 hC (As := []) (rest := []) (xc_so (by decide)) (s_lt0 hn (by decide)) rfl bX2_season (t_x_sseason l D N0 kA hs P ((x_draw P ((x_draw P X 6).2) (pN P 1)).2) n hn  hh (by simp only [sgout_n, sstub_n, xdraw_n]; exact hS) hc) (by decide) (by decide) q552 rfl (Nat.le_of_ble_eq_true rfl) dX2_byDraws_94 (Nat.le_of_ble_eq_true rfl) (Nat.le_of_ble_eq_true rfl) ?_
        refine n_stk (st' := []) rfl ?_
        have eq_ : x_byDraws P X = (x_sseason P ((x_draw P ((x_draw P X 6).2) (pN P 1)).2)) := by rw [x_byDraws_d, if_neg (Nat.not_le.mpr c9), if_neg c32, if_pos c74]
        refine n_vret hC dX2_byDraws_97 (Nat.le_of_ble_eq_true rfl) (Nat.le_of_ble_eq_true rfl) ?_
        rw [eq_]
        exact ⟨rfl, rfl, rfl⟩
      · refine n_aload_n hC dX2_byDraws_77 rfl ?_
        refine n_get hC cl2 (k := 3) (v := .int (sI ((x_draw P ((x_draw P X 6).2) (pN P 1)).2) 0 3)) (xc_so (by decide)) (s_lt0 hn (by decide)) (by decide) q152 (sf_get N0 ((x_draw P ((x_draw P X 6).2) (pN P 1)).2) 0 (by decide)) dX2_byDraws_78 ?_
        refine n_iload_n hC dX2_byDraws_81 rfl ?_
        refine n_callSN1 hC (As := [.int (sI ((x_draw P ((x_draw P X 6).2) (pN P 1)).2) 0 3), .int (nI ((x_draw P ((x_draw P X 6).2) (pN P 1)).1))]) (rest := []) bX0_has (t_x_has l D N0 kA (xH N0 kA hs P ((x_draw P ((x_draw P X 6).2) (pN P 1)).2)) n (sI ((x_draw P ((x_draw P X 6).2) (pN P 1)).2) 0 3) ((x_draw P ((x_draw P X 6).2) (pN P 1)).1) ) (by decide) (by decide) q459 rfl (Nat.le_of_ble_eq_true rfl) dX2_byDraws_82 (Nat.le_of_ble_eq_true rfl) (Nat.le_of_ble_eq_true rfl) ?_
        refine n_stk (st' := [.int (bI (x_has (sI ((x_draw P ((x_draw P X 6).2) (pN P 1)).2) 0 3) ((x_draw P ((x_draw P X 6).2) (pN P 1)).1)))]) rfl ?_
        refine n_if_eqB (tgt := 93) hC dX2_byDraws_85 (by decide) (fun c85 => ?_) (fun c85 => ?_)
        · refine n_aload_n hC dX2_byDraws_93 rfl ?_
          refine n_callV1 hC (As := []) (rest := []) (xc_so (by decide)) (s_lt0 hn (by decide)) rfl bX2_season (t_x_sseason l D N0 kA hs P ((x_draw P ((x_draw P X 6).2) (pN P 1)).2) n hn  hh (by simp only [sgout_n, sstub_n, xdraw_n]; exact hS) hc) (by decide) (by decide) q552 rfl (Nat.le_of_ble_eq_true rfl) dX2_byDraws_94 (Nat.le_of_ble_eq_true rfl) (Nat.le_of_ble_eq_true rfl) ?_
          refine n_stk (st' := []) rfl ?_
          have eq_ : x_byDraws P X = (x_sseason P ((x_draw P ((x_draw P X 6).2) (pN P 1)).2)) := by rw [x_byDraws_d, if_neg (Nat.not_le.mpr c9), if_neg c32, if_neg (not_not_intro c74), if_neg (by rw [c85]; decide)]
          refine n_vret hC dX2_byDraws_97 (Nat.le_of_ble_eq_true rfl) (Nat.le_of_ble_eq_true rfl) ?_
          rw [eq_]
          exact ⟨rfl, rfl, rfl⟩
        · refine n_aload_n hC dX2_byDraws_88 rfl ?_
          refine n_iload_n hC dX2_byDraws_89 rfl ?_
          refine n_callV1 hC (As := [.int (nI ((x_draw P ((x_draw P X 6).2) (pN P 1)).1))]) (rest := []) (xc_so (by decide)) (s_lt0 hn (by decide)) rfl bX2_stub (t_x_sstub l D N0 kA hs P ((x_draw P ((x_draw P X 6).2) (pN P 1)).2) n hn ((x_draw P ((x_draw P X 6).2) (pN P 1)).1) (by omega)) (by decide) (by decide) q551 rfl (Nat.le_of_ble_eq_true rfl) dX2_byDraws_90 (Nat.le_of_ble_eq_true rfl) (Nat.le_of_ble_eq_true rfl) ?_
          refine n_stk (st' := []) rfl ?_
          refine n_aload_n hC dX2_byDraws_93 rfl ?_
          refine n_callV1 hC (As := []) (rest := []) (xc_so (by decide)) (s_lt0 hn (by decide)) rfl bX2_season (t_x_sseason l D N0 kA hs P (x_sstub P ((x_draw P ((x_draw P X 6).2) (pN P 1)).2) ((x_draw P ((x_draw P X 6).2) (pN P 1)).1)) n hn  hh (by simp only [sgout_n, sstub_n, xdraw_n]; exact hS) hc) (by decide) (by decide) q552 rfl (Nat.le_of_ble_eq_true rfl) dX2_byDraws_94 (Nat.le_of_ble_eq_true rfl) (Nat.le_of_ble_eq_true rfl) ?_
          refine n_stk (st' := []) rfl ?_
          have eq_ : x_byDraws P X = (x_sseason P (x_sstub P ((x_draw P ((x_draw P X 6).2) (pN P 1)).2) ((x_draw P ((x_draw P X 6).2) (pN P 1)).1))) := by rw [x_byDraws_d, if_neg (Nat.not_le.mpr c9), if_neg c32, if_neg (not_not_intro c74), if_pos c85]
          refine n_vret hC dX2_byDraws_97 (Nat.le_of_ble_eq_true rfl) (Nat.le_of_ble_eq_true rfl) ?_
          rw [eq_]
          exact ⟨rfl, rfl, rfl⟩
    · refine n_aload_n hC dX2_byDraws_35 rfl ?_
      refine n_bipush (v := (nI 20)) hC dX2_byDraws_36 (by decide) ?_
      refine n_callV1 hC (As := [.int (nI 20)]) (rest := []) (xc_so (by decide)) (s_lt0 hn (by decide)) rfl bX2_draw (t_x_draw l D N0 kA hs P ((x_draw P ((x_draw P X 6).2) (pN P 1)).2) n hn 20 xdraw_sd (by omega) (by omega)) (by decide) (by decide) q542 rfl (Nat.le_of_ble_eq_true rfl) dX2_byDraws_38 (Nat.le_of_ble_eq_true rfl) (Nat.le_of_ble_eq_true rfl) ?_
      refine n_stk (st' := [.int (nI ((x_draw P ((x_draw P ((x_draw P X 6).2) (pN P 1)).2) 20).1))]) rfl ?_
      refine n_iconst (v := (nI 1)) hC dX2_byDraws_41 (by decide) ?_
      refine n_iaddN hC dX2_byDraws_42 ?_
      refine n_goto (tgt := 47) hC dX2_byDraws_43 (by decide) ?_
      refine n_istore_n (L' := [(0, .ref (N0 + (sAd 0))), (1, .int (nI ((x_draw P X 6).1))), (2, .int (nI ((x_draw P ((x_draw P X 6).2) (pN P 1)).1))), (3, .int (nI (((x_draw P ((x_draw P ((x_draw P X 6).2) (pN P 1)).2) 20).1) + 1)))]) hC dX2_byDraws_47 (by decide) rfl ?_
      refine n_iload_n hC dX2_byDraws_48 rfl ?_
      refine n_if_neN (tgt := 72) hC (by omega) dX2_byDraws_49 (by decide) (fun c_ => False.elim (by omega)) (fun _ => ?_)
      refine n_aload_n hC dX2_byDraws_52 rfl ?_
      refine n_get hC cl2 (k := 3) (v := .int (sI ((x_draw P ((x_draw P ((x_draw P X 6).2) (pN P 1)).2) 20).2) 0 3)) (xc_so (by decide)) (s_lt0 hn (by decide)) (by decide) q152 (sf_get N0 ((x_draw P ((x_draw P ((x_draw P X 6).2) (pN P 1)).2) 20).2) 0 (by decide)) dX2_byDraws_53 ?_
      refine n_iload_n hC dX2_byDraws_56 rfl ?_
      refine n_callSN1 hC (As := [.int (sI ((x_draw P ((x_draw P ((x_draw P X 6).2) (pN P 1)).2) 20).2) 0 3), .int (nI ((x_draw P ((x_draw P X 6).2) (pN P 1)).1))]) (rest := []) bX0_has (t_x_has l D N0 kA (xH N0 kA hs P ((x_draw P ((x_draw P ((x_draw P X 6).2) (pN P 1)).2) 20).2)) n (sI ((x_draw P ((x_draw P ((x_draw P X 6).2) (pN P 1)).2) 20).2) 0 3) ((x_draw P ((x_draw P X 6).2) (pN P 1)).1) ) (by decide) (by decide) q459 rfl (Nat.le_of_ble_eq_true rfl) dX2_byDraws_57 (Nat.le_of_ble_eq_true rfl) (Nat.le_of_ble_eq_true rfl) ?_
      refine n_stk (st' := [.int (bI (x_has (sI ((x_draw P ((x_draw P ((x_draw P X 6).2) (pN P 1)).2) 20).2) 0 3) ((x_draw P ((x_draw P X 6).2) (pN P 1)).1)))]) rfl ?_
      refine n_if_eqB (tgt := 72) hC dX2_byDraws_60 (by decide) (fun c60 => ?_) (fun c60 => ?_)
      · refine n_iload_n hC dX2_byDraws_72 rfl ?_
        refine n_iconst (v := (nI 1)) hC dX2_byDraws_73 (by decide) ?_
        refine n_icmp_neN (tgt := 93) hC ((x_draw P X 6).1) 1 rfl rfl (by omega) (by omega) dX2_byDraws_74 (by decide) (fun c74 => ?_) (fun c74 => ?_)
        · refine n_aload_n hC dX2_byDraws_93 rfl ?_
          refine n_callV1 hC (As := []) (rest := []) (xc_so (by decide)) (s_lt0 hn (by decide)) rfl bX2_season (t_x_sseason l D N0 kA hs P ((x_draw P ((x_draw P ((x_draw P X 6).2) (pN P 1)).2) 20).2) n hn  hh (by simp only [sgout_n, sstub_n, xdraw_n]; exact hS) hc) (by decide) (by decide) q552 rfl (Nat.le_of_ble_eq_true rfl) dX2_byDraws_94 (Nat.le_of_ble_eq_true rfl) (Nat.le_of_ble_eq_true rfl) ?_
          refine n_stk (st' := []) rfl ?_
          have eq_ : x_byDraws P X = (x_sseason P ((x_draw P ((x_draw P ((x_draw P X 6).2) (pN P 1)).2) 20).2)) := by rw [x_byDraws_d, if_neg (Nat.not_le.mpr c9), if_pos c32, if_neg (by rw [c60]; decide), if_pos c74]
          refine n_vret hC dX2_byDraws_97 (Nat.le_of_ble_eq_true rfl) (Nat.le_of_ble_eq_true rfl) ?_
          rw [eq_]
          exact ⟨rfl, rfl, rfl⟩
        · refine n_aload_n hC dX2_byDraws_77 rfl ?_
          refine n_get hC cl2 (k := 3) (v := .int (sI ((x_draw P ((x_draw P ((x_draw P X 6).2) (pN P 1)).2) 20).2) 0 3)) (xc_so (by decide)) (s_lt0 hn (by decide)) (by decide) q152 (sf_get N0 ((x_draw P ((x_draw P ((x_draw P X 6).2) (pN P 1)).2) 20).2) 0 (by decide)) dX2_byDraws_78 ?_
          refine n_iload_n hC dX2_byDraws_81 rfl ?_
          refine n_callSN1 hC (As := [.int (sI ((x_draw P ((x_draw P ((x_draw P X 6).2) (pN P 1)).2) 20).2) 0 3), .int (nI ((x_draw P ((x_draw P X 6).2) (pN P 1)).1))]) (rest := []) bX0_has (t_x_has l D N0 kA (xH N0 kA hs P ((x_draw P ((x_draw P ((x_draw P X 6).2) (pN P 1)).2) 20).2)) n (sI ((x_draw P ((x_draw P ((x_draw P X 6).2) (pN P 1)).2) 20).2) 0 3) ((x_draw P ((x_draw P X 6).2) (pN P 1)).1) ) (by decide) (by decide) q459 rfl (Nat.le_of_ble_eq_true rfl) dX2_byDraws_82 (Nat.le_of_ble_eq_true rfl) (Nat.le_of_ble_eq_true rfl) ?_
          refine n_stk (st' := [.int (bI (x_has (sI ((x_draw P ((x_draw P ((x_draw P X 6).2) (pN P 1)).2) 20).2) 0 3) ((x_draw P ((x_draw P X 6).2) (pN P 1)).1)))]) rfl ?_
          refine n_if_eqT (tgt := 93) hC dX2_byDraws_85 (by decide) (bI_1.mpr c60) ?_
          refine n_aload_n hC dX2_byDraws_93 rfl ?_
          refine n_callV1 hC (As := []) (rest := []) (xc_so (by decide)) (s_lt0 hn (by decide)) rfl bX2_season (t_x_sseason l D N0 kA hs P ((x_draw P ((x_draw P ((x_draw P X 6).2) (pN P 1)).2) 20).2) n hn  hh (by simp only [sgout_n, sstub_n, xdraw_n]; exact hS) hc) (by decide) (by decide) q552 rfl (Nat.le_of_ble_eq_true rfl) dX2_byDraws_94 (Nat.le_of_ble_eq_true rfl) (Nat.le_of_ble_eq_true rfl) ?_
          refine n_stk (st' := []) rfl ?_
          have eq_ : x_byDraws P X = (x_sseason P ((x_draw P ((x_draw P ((x_draw P X 6).2) (pN P 1)).2) 20).2)) := by rw [x_byDraws_d, if_neg (Nat.not_le.mpr c9), if_pos c32, if_neg (by rw [c60]; decide), if_neg (not_not_intro c74)]
          refine n_vret hC dX2_byDraws_97 (Nat.le_of_ble_eq_true rfl) (Nat.le_of_ble_eq_true rfl) ?_
          rw [eq_]
          exact ⟨rfl, rfl, rfl⟩
      · refine n_aload_n hC dX2_byDraws_63 rfl ?_
        refine n_iload_n hC dX2_byDraws_64 rfl ?_
        refine n_iload_n hC dX2_byDraws_65 rfl ?_
        refine n_callV1 hC (As := [.int (nI ((x_draw P ((x_draw P X 6).2) (pN P 1)).1)), .int (nI (((x_draw P ((x_draw P ((x_draw P X 6).2) (pN P 1)).2) 20).1) + 1))]) (rest := []) (xc_so (by decide)) (s_lt0 hn (by decide)) rfl bX2_gout (t_x_sgout l D N0 kA hs P ((x_draw P ((x_draw P ((x_draw P X 6).2) (pN P 1)).2) 20).2) n hn ((x_draw P ((x_draw P X 6).2) (pN P 1)).1) (nI (((x_draw P ((x_draw P ((x_draw P X 6).2) (pN P 1)).2) 20).1) + 1)) (by omega)) (by decide) (by decide) q550 rfl (Nat.le_of_ble_eq_true rfl) dX2_byDraws_66 (Nat.le_of_ble_eq_true rfl) (Nat.le_of_ble_eq_true rfl) ?_
        refine n_stk (st' := []) rfl ?_
        refine n_goto (tgt := 93) hC dX2_byDraws_69 (by decide) ?_
        refine n_aload_n hC dX2_byDraws_93 rfl ?_
        refine n_callV1 hC (As := []) (rest := []) (xc_so (by decide)) (s_lt0 hn (by decide)) rfl bX2_season (t_x_sseason l D N0 kA hs P (x_sgout P ((x_draw P ((x_draw P ((x_draw P X 6).2) (pN P 1)).2) 20).2) ((x_draw P ((x_draw P X 6).2) (pN P 1)).1) (nI (((x_draw P ((x_draw P ((x_draw P X 6).2) (pN P 1)).2) 20).1) + 1))) n hn  hh (by simp only [sgout_n, sstub_n, xdraw_n]; exact hS) hc) (by decide) (by decide) q552 rfl (Nat.le_of_ble_eq_true rfl) dX2_byDraws_94 (Nat.le_of_ble_eq_true rfl) (Nat.le_of_ble_eq_true rfl) ?_
        refine n_stk (st' := []) rfl ?_
        have eq_ : x_byDraws P X = (x_sseason P (x_sgout P ((x_draw P ((x_draw P ((x_draw P X 6).2) (pN P 1)).2) 20).2) ((x_draw P ((x_draw P X 6).2) (pN P 1)).1) (nI (((x_draw P ((x_draw P ((x_draw P X 6).2) (pN P 1)).2) 20).1) + 1)))) := by rw [x_byDraws_d, if_neg (Nat.not_le.mpr c9), if_pos c32, if_pos c60]
        refine n_vret hC dX2_byDraws_97 (Nat.le_of_ble_eq_true rfl) (Nat.le_of_ble_eq_true rfl) ?_
        rw [eq_]
        exact ⟨rfl, rfl, rfl⟩
/-- what a drawn season changes: state 0 -/
def keepD (X X' : XS) : Prop := (∀ k, xN X' k = xN X k) ∧ (∀ k, xI X' k = xI X k) ∧ (∀ k i, xB X' k i = xB X k i) ∧ (∀ k i, xA X' k i = xA X k i) ∧ (∀ j, j ≠ 0 → sN X' j = sN X j) ∧ (∀ j f, j ≠ 0 → sI X' j f = sI X j f) ∧ (∀ j a b, j ≠ 0 → sA X' j a b = sA X j a b)
theorem keepD_t {A B C : XS} (h1 : keepD A B) (h2 : keepD B C) : keepD A C := ⟨fun k => (h2.1 k).trans (h1.1 k), fun k => (h2.2.1 k).trans (h1.2.1 k), fun k i => (h2.2.2.1 k i).trans (h1.2.2.1 k i), fun k i => (h2.2.2.2.1 k i).trans (h1.2.2.2.1 k i), fun j hj => (h2.2.2.2.2.1 j hj).trans (h1.2.2.2.2.1 j hj), fun j f hj => (h2.2.2.2.2.2.1 j f hj).trans (h1.2.2.2.2.2.1 j f hj), fun j a b hj => (h2.2.2.2.2.2.2 j a b hj).trans (h1.2.2.2.2.2.2 j a b hj)⟩
theorem keepD_p {A B : XS} (h : keepP A B) : keepD A B := ⟨h.1, h.2.1, h.2.2.1, h.2.2.2.1, h.2.2.2.2.1, fun j f hj => h.2.2.2.2.2.1 j f (Or.inl hj), fun j a b hj => h.2.2.2.2.2.2 j a b (Or.inl hj)⟩
theorem keepD_d (P : PS) (X : XS) (z : Nat) : keepD X (x_draw P X z).2 := by
  rw [x_draw_d]
  exact ⟨fun _ => rfl, fun _ => rfl, fun _ _ => rfl, fun _ _ => rfl, fun _ _ => rfl, fun j f hj => by show sI (sSetI X 0 7 _) j f = _; rw [sI_I, if_neg (by omega)], fun _ _ _ _ => rfl⟩
theorem keepD_g (P : PS) (X : XS) (k : Nat) (v : Int32) : keepD X (x_sgout P X k v) := by
  unfold x_sgout
  split <;> exact ⟨fun _ => rfl, fun _ => rfl, fun _ _ => rfl, fun _ _ => rfl, fun _ _ => rfl, fun _ _ _ => rfl, fun j a b hj => by rw [sA_A, if_neg (by omega)]⟩
theorem keepD_s (P : PS) (X : XS) (k : Nat) : keepD X (x_sstub P X k) := by
  unfold x_sstub
  split <;> exact ⟨fun _ => rfl, fun _ => rfl, fun _ _ => rfl, fun _ _ => rfl, fun _ _ => rfl, fun _ _ _ => rfl, fun j a b hj => by rw [sA_A, if_neg (by omega)]⟩
theorem sgout_i (P : PS) (X : XS) (k : Nat) (v : Int32) (j f : Nat) : sI (x_sgout P X k v) j f = sI X j f := by unfold x_sgout; split <;> rfl
theorem sstub_i (P : PS) (X : XS) (k j f : Nat) : sI (x_sstub P X k) j f = sI X j f := by unfold x_sstub; split <;> rfl
theorem byD_K (P : PS) (X : XS) : keepD X (x_byDraws P X) ∧ sN (x_byDraws P X) 0 = sN X 0 + 1 ∧ 0 ≤ sI (x_byDraws P X) 0 7 := by
  rw [x_byDraws_d]
  have key : ∀ Y : XS, keepD X Y → sN Y 0 = sN X 0 → 0 ≤ sI Y 0 7 → keepD X (x_sseason P Y) ∧ sN (x_sseason P Y) 0 = sN X 0 + 1 ∧ 0 ≤ sI (x_sseason P Y) 0 7 := fun Y h1 h2 h3 => by
    have k := ssea_K P Y
    exact ⟨keepD_t h1 (keepD_p k.1), by rw [k.2, h2], by rw [k.1.2.2.2.2.2.1 0 7 (Or.inr (by decide))]; exact h3⟩
  have d1 := keepD_d P X 6
  have n1 : sN (x_draw P X 6).2 0 = sN X 0 := xdraw_n P X 6 0
  have s1 : 0 ≤ sI (x_draw P X 6).2 0 7 := xdraw_sd
  generalize x_draw P X 6 = A at *
  have d2 := keepD_t d1 (keepD_d P A.2 (pN P 1))
  have n2 : sN (x_draw P A.2 (pN P 1)).2 0 = sN X 0 := (xdraw_n P A.2 _ 0).trans n1
  have s2 : 0 ≤ sI (x_draw P A.2 (pN P 1)).2 0 7 := xdraw_sd
  have d3 := keepD_t d1 (keepD_d P A.2 20)
  have n3 : sN (x_draw P A.2 20).2 0 = sN X 0 := (xdraw_n P A.2 _ 0).trans n1
  have s3 : 0 ≤ sI (x_draw P A.2 20).2 0 7 := xdraw_sd
  generalize x_draw P A.2 20 = C at *
  generalize x_draw P A.2 (pN P 1) = B at *
  have d4 := keepD_t d2 (keepD_d P B.2 20)
  have n4 : sN (x_draw P B.2 20).2 0 = sN X 0 := (xdraw_n P B.2 _ 0).trans n2
  have s4 : 0 ≤ sI (x_draw P B.2 20).2 0 7 := xdraw_sd
  generalize x_draw P B.2 20 = E at *
  repeat' split
  all_goals refine key _ ?_ ?_ ?_
  all_goals first
    | with_reducible assumption
    | (with_reducible refine keepD_t ?_ (keepD_s P _ _); with_reducible assumption)
    | (with_reducible refine keepD_t ?_ (keepD_g P _ _ _); with_reducible assumption)
    | (rw [sstub_n]; with_reducible assumption)
    | (rw [sgout_n]; with_reducible assumption)
    | (rw [sstub_i]; with_reducible assumption)
    | (rw [sgout_i]; with_reducible assumption)
noncomputable def x_drift_L20 : Nat → PS → XS → Int32 → Nat → Int32 × XS
  | 0, _, X, _, _ => (0, X)
  | fu + 1, P, X, v, i => (if (cl v) ≤ i then ((nI (sN X 0)), X) else x_drift_L20 fu P (x_byDraws P X) v (i + 1))
noncomputable def x_drift (P : PS) (X : XS) (v : Int32) : Int32 × XS := (if 0 ≤ (x_refused P X v) then x_drift_L20 (cl v + 1) P (x_remember P X) v 0 else ((x_refused P X v), X))
theorem bX0_drift : nBV RX0 yX0_drift cX0_drift 3 (some .int) 1 := ⟨q535, q536, q51, q537, by decide, by decide +kernel⟩
set_option maxRecDepth 100000 in
set_option maxHeartbeats 4000000 in
theorem t_x_drift_L20 {p : Program} {l : Launch} {e : Env} {s : State} {m : MethodId} {args : Array Value} {below : List Frame} {meth : Method} {c : Code} {D : va_G} {N0 : Nat} {kA : Nat → ClassId} {hs : hT} {P : PS} {n : Nat} (hn : xOk P n) {v : Int32} (hC : nC p s m args meth c RX0 cX0_drift 3 (some .int) true D N0 kA) (hh : xHe P) (hc : xCo P) : ∀ (fu : Nat) (X : XS) (i : Nat) (hv1 : v = nI (cl v)) (hv2 : cl v ≤ 40) (hp : 0 < pN P 1) (hd : 0 ≤ sI X 0 7) (hS1 : sN X 0 ≤ 9000 + i) (hi : i ≤ cl v) (hf : cl v < i + fu), nW p l e (nRm 5 0 0) s m args below meth c (nQ below (nX (some (.int ((x_drift_L20 fu P X v i).1))) (xH N0 kA hs P ((x_drift_L20 fu P X v i).2)) n) D N0 s 0 0) D N0 3 20 [(0, .ref (N0 + 0)), (1, .int v), (2, .int (nI i))] [] (xH N0 kA hs P X) n 0 0 := by
  intro fu
  induction fu with
  | zero =>
    intro X i hv1 hv2 hp hd hS1 hi hf
    exfalso; omega
  | succ fu ih =>
    intro X i hv1 hv2 hp hd hS1 hi hf
    have hm6 := pN_le hn
    refine n_iload_n hC dX0_drift_20 rfl ?_
    refine n_iload_n hC dX0_drift_21 rfl ?_
    refine n_top (cl v) hv1 ?_
    refine n_icmp_geN (tgt := 38) hC i (cl v) rfl rfl (by omega) (by omega) dX0_drift_22 (by decide) (fun c22 => ?_) (fun c22 => ?_)
    · refine n_aload_n hC dX0_drift_38 rfl ?_
      refine n_get hC cl0 (k := 1) (v := .ref (N0 + (sAd 0))) xc_o (x_lt hn) (by decide) q195 (xf_get N0 P X (by decide)) dX0_drift_39 ?_
      refine n_getN hC cl2 (k := 5) (v := .int (nI (sN X 0))) (xc_so (by decide)) (s_lt0 hn (by decide)) (by decide) q157 (sf_get N0 X 0 (by decide)) dX0_drift_42 ?_
      have eq_ : x_drift_L20 (fu + 1) P X v i = ((nI (sN X 0)), X) := by rw [x_drift_L20, if_pos c22]
      refine n_iret hC dX0_drift_45 (Nat.le_of_ble_eq_true rfl) (Nat.le_of_ble_eq_true rfl) ?_
      rw [eq_]
      dsimp only
      exact ⟨rfl, rfl, rfl⟩
    · refine n_aload_n hC dX0_drift_25 rfl ?_
      refine n_get hC cl0 (k := 1) (v := .ref (N0 + (sAd 0))) xc_o (x_lt hn) (by decide) q195 (xf_get N0 P X (by decide)) dX0_drift_26 ?_
      have hsk := byD_K P X
      refine n_callV1 hC (As := []) (rest := []) (xc_so (by decide)) (s_lt0 hn (by decide)) rfl bX2_byDraws (t_x_byDraws l D N0 kA hs P X n hn  hh (by omega) hc hd hp) (by decide) (by decide) q538 rfl (Nat.le_of_ble_eq_true rfl) dX0_drift_29 (Nat.le_of_ble_eq_true rfl) (Nat.le_of_ble_eq_true rfl) ?_
      refine n_stk (st' := []) rfl ?_
      refine n_iincN (a := i) (L' := [(0, .ref (N0 + 0)), (1, .int v), (2, .int (nI (i + 1)))]) hC dX0_drift_32 rfl (by decide) rfl ?_
      refine n_goto (tgt := 20) hC dX0_drift_35 (by decide) ?_
      rw [show x_drift_L20 (fu + 1) P X v i = x_drift_L20 fu P (x_byDraws P X) v (i + 1) from by rw [x_drift_L20, if_neg (Nat.not_le.mpr c22)]]
      exact ih (x_byDraws P X) (i + 1) hv1 hv2 hp hsk.2.2 (by rw [hsk.2.1]; omega) (by first | omega | (simp [xN_N] <;> omega)) (by first | omega | (simp [xN_N] <;> omega))
set_option maxRecDepth 100000 in
set_option maxHeartbeats 4000000 in
theorem t_x_drift (l : Launch) (D : va_G) (N0 : Nat) (kA : Nat → ClassId) (hs : hT) (P : PS) (X : XS) (n : Nat) (hn : xOk P n) (v : Int32) (hh : xHe P) (hS : sN X 0 < 30000) (hc : xCo P) (hd : 0 ≤ sI X 0 7) (h3 : xN X 3 ≤ 20) : nE l yX0_drift cX0_drift 3 (some .int) D N0 kA 5 0 0 [.ref (N0 + 0), .int v] (xH N0 kA hs P X) n (nX (some (.int ((x_drift P X v).1))) (xH N0 kA hs P ((x_drift P X v).2)) n) := by
  refine nE_of (by decide) (Nat.le_of_ble_eq_true rfl) ?_
  intro p e s m args below meth c hC hnm
  refine n_loc (L' := [(0, .ref (N0 + 0)), (1, .int v)]) rfl ?_
  have hm6 := pN_le hn
  refine n_aload_n hC dX0_drift_0 rfl ?_
  refine n_iload_n hC dX0_drift_1 rfl ?_
  refine n_callV1 hC (As := [.int v]) (rest := []) xc_o (x_lt hn) rfl bX0_refusedSeasons (t_x_refused l D N0 kA hs P X n hn v hS) (by decide) (by decide) q486 rfl (Nat.le_of_ble_eq_true rfl) dX0_drift_2 (Nat.le_of_ble_eq_true rfl) (Nat.le_of_ble_eq_true rfl) ?_
  refine n_stk (st' := [.int (x_refused P X v)]) rfl ?_
  refine n_if_ge (tgt := 14) hC dX0_drift_5 (by decide) (fun c5 => ?_) (fun c5 => ?_)
  · have hz := ref_zero c5
    have hv1 := hz.1.1
    have hv2 := hz.1.2
    refine n_aload_n hC dX0_drift_14 rfl ?_
    refine n_callV1 hC (As := []) (rest := []) xc_o (x_lt hn) rfl bX0_remember (t_x_remember l D N0 kA hs P X n hn  (by omega)) (by decide) (by decide) q491 rfl (Nat.le_of_ble_eq_true rfl) dX0_drift_15 (Nat.le_of_ble_eq_true rfl) (Nat.le_of_ble_eq_true rfl) ?_
    refine n_stk (st' := []) rfl ?_
    refine n_iconst (v := (nI 0)) hC dX0_drift_18 (by decide) ?_
    refine n_istore_n (L' := [(0, .ref (N0 + 0)), (1, .int v), (2, .int (nI 0))]) hC dX0_drift_19 (by decide) rfl ?_
    rw [show x_drift P X v = x_drift_L20 (cl v + 1) P (x_remember P X) v 0 from by rw [x_drift, if_pos c5]]
    exact t_x_drift_L20 hn hC hh hc (cl v + 1) (x_remember P X) 0 hv1 hv2.2 (Nat.pos_of_ne_zero hz.2.1) (by rw [xrem_i]; exact hd) (by rw [xrem_n]; omega) (by first | omega | (simp [xN_N] <;> omega)) (by first | omega | (simp [xN_N] <;> omega))
  · refine n_aload_n hC dX0_drift_8 rfl ?_
    refine n_iload_n hC dX0_drift_9 rfl ?_
    refine n_callV1 hC (As := [.int v]) (rest := []) xc_o (x_lt hn) rfl bX0_refusedSeasons (t_x_refused l D N0 kA hs P X n hn v hS) (by decide) (by decide) q486 rfl (Nat.le_of_ble_eq_true rfl) dX0_drift_10 (Nat.le_of_ble_eq_true rfl) (Nat.le_of_ble_eq_true rfl) ?_
    refine n_stk (st' := [.int (x_refused P X v)]) rfl ?_
    have eq_ : x_drift P X v = ((x_refused P X v), X) := by rw [x_drift, if_neg c5]
    refine n_iret hC dX0_drift_13 (Nat.le_of_ble_eq_true rfl) (Nat.le_of_ble_eq_true rfl) ?_
    rw [eq_]
    dsimp only
    exact ⟨rfl, rfl, rfl⟩
