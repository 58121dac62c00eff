/-! the class: baskets -/
noncomputable def x_isSafe_L21 : Nat → PS → XS → Bool → Int32 → Nat → Int32 → Nat → Int32
  | 0, _, _, _, _, _, _, _ => 0
  | fu + 1, P, X, b, f, q, u, k => (if (pN P 1) ≤ k then u else (if (nI (xB X 13 k)) ≤ 0 then x_isSafe_L21 fu P X b f q (u + (nI 0)) (k + 1) else x_isSafe_L21 fu P X b f q (u + ((nI (xB X 13 k)) * (x_own P X k q))) (k + 1)))
noncomputable def x_isSafe_L6 : Nat → PS → XS → Bool → Int32 → Nat → Bool
  | 0, _, _, _, _, _ => false
  | fu + 1, P, X, b, f, q => (if 4 ≤ q then b else (if b = true then (if q = 0 then (if (x_isSafe_L21 (pN P 1 + 1) P X b f q (nI 0) 0) = (x_isSafe_L21 (pN P 1 + 1) P X b f q (nI 0) 0) then x_isSafe_L6 fu P X true (x_isSafe_L21 (pN P 1 + 1) P X b f q (nI 0) 0) (q + 1) else x_isSafe_L6 fu P X false (x_isSafe_L21 (pN P 1 + 1) P X b f q (nI 0) 0) (q + 1)) else (if (x_isSafe_L21 (pN P 1 + 1) P X b f q (nI 0) 0) = f then x_isSafe_L6 fu P X true f (q + 1) else x_isSafe_L6 fu P X false f (q + 1))) else b))
noncomputable def x_isSafe (P : PS) (X : XS) : Bool := x_isSafe_L6 (5 + pN P 1) P X true (nI 0) 0
theorem bX0_isSafe : nBV RX0 yX0_isSafe cX0_isSafe 6 (some .boolean) 0 := ⟨q577, qs14, q51, q578, by decide, by decide +kernel⟩
set_option maxRecDepth 100000 in
set_option maxHeartbeats 4000000 in
theorem t_x_isSafe_L21 {p : Program} {l : Launch} {e : Env} {s : State} {m : MethodId} {args : Array Value} {below : List Frame} {meth : Method} {c : Code} {Q : State → Prop} {D : va_G} {N0 : Nat} {kA : Nat → ClassId} {hs : hT} {P : PS} {X : XS} {n : Nat} (hn : xOk P n)  (hC : nC p s m args meth c RX0 cX0_isSafe 6 (some .boolean) true D N0 kA)  : ∀ (fu : Nat) (b : Bool) (f : Int32) (q : Nat) (u : Int32) (k : Nat) (hq : q < 4) (hk : k ≤ pN P 1) (hf : pN P 1 < k + fu) (hK : nW p l e (nRm 2 0 0) s m args below meth c Q D N0 6 76 [(0, .ref (N0 + 0)), (1, .int (bI b)), (2, .int f), (3, .int (nI q)), (4, .int (x_isSafe_L21 fu P X b f q u k))] [] (xH N0 kA hs P X) n 0 0), nW p l e (nRm 2 0 0) s m args below meth c Q D N0 6 21 [(0, .ref (N0 + 0)), (1, .int (bI b)), (2, .int f), (3, .int (nI q)), (4, .int u), (5, .int (nI k))] [] (xH N0 kA hs P X) n 0 0 := by
  intro fu
  induction fu with
  | zero =>
    intro b f q u k hq hk hf hK
    exfalso; omega
  | succ fu ih =>
    intro b f q u k hq hk hf hK
    have hm6 := pN_le hn
    refine n_iload hC dX0_isSafe_21 rfl ?_
    refine n_aload_n hC dX0_isSafe_23 rfl ?_
    refine n_get hC cl0 (k := 0) (v := .ref (N0 + (pb P))) xc_o (x_lt hn) (by decide) q194 (xf_get N0 P X (by decide)) dX0_isSafe_24 ?_
    refine n_getN hC cl1 (k := 1) (v := .int (nI (pN P 1))) (xc_po hn) (p_lt0 hn) (by decide) q86 (pf_get N0 P (by decide)) dX0_isSafe_27 ?_
    refine n_icmp_geN (tgt := 76) hC k (pN P 1) rfl rfl (by omega) (by omega) dX0_isSafe_30 (by decide) (fun c30 => ?_) (fun c30 => ?_)
    · refine n_drop [0, 1, 2, 3, 4] (L' := [(0, .ref (N0 + 0)), (1, .int (bI b)), (2, .int f), (3, .int (nI q)), (4, .int u)]) rfl ?_
      rw [x_isSafe_L21, if_pos c30] at hK
      exact hK
    · refine n_iload hC dX0_isSafe_33 rfl ?_
      refine n_aload_n hC dX0_isSafe_35 rfl ?_
      refine n_get hC cl0 (k := 13) (v := .ref (N0 + 20)) xc_o (x_lt hn) (by decide) q207 (xf_get N0 P X (by decide)) dX0_isSafe_36 ?_
      refine n_iload hC dX0_isSafe_39 rfl ?_
      refine n_iald hC (f := fun j => nI (xB X 13 j)) (xc_a (p := 20) (by decide) (by decide)) (xa_lt hn (by decide)) k rfl (by omega) (by decide) dX0_isSafe_41 ?_
      refine n_if_le (tgt := 66) hC dX0_isSafe_42 (by decide) (fun c42 => ?_) (fun c42 => ?_)
      · refine n_iconst (v := (nI 0)) hC dX0_isSafe_66 (by decide) ?_
        refine n_iadd hC dX0_isSafe_67 ?_
        refine n_istore (L' := [(0, .ref (N0 + 0)), (1, .int (bI b)), (2, .int f), (3, .int (nI q)), (4, .int (u + (nI 0))), (5, .int (nI k))]) hC dX0_isSafe_68 (by decide) rfl ?_
        refine n_iincN (a := k) (L' := [(0, .ref (N0 + 0)), (1, .int (bI b)), (2, .int f), (3, .int (nI q)), (4, .int (u + (nI 0))), (5, .int (nI (k + 1)))]) hC dX0_isSafe_70 rfl (by decide) rfl ?_
        refine n_goto (tgt := 21) hC dX0_isSafe_73 (by decide) ?_
        rw [x_isSafe_L21, if_neg (Nat.not_le.mpr c30), if_pos c42] at hK
        exact ih b f q (u + (nI 0)) (k + 1) (by omega) (by omega) (by omega) hK
      · refine n_aload_n hC dX0_isSafe_45 rfl ?_
        refine n_get hC cl0 (k := 13) (v := .ref (N0 + 20)) xc_o (x_lt hn) (by decide) q207 (xf_get N0 P X (by decide)) dX0_isSafe_46 ?_
        refine n_iload hC dX0_isSafe_49 rfl ?_
        refine n_iald hC (f := fun j => nI (xB X 13 j)) (xc_a (p := 20) (by decide) (by decide)) (xa_lt hn (by decide)) k rfl (by omega) (by decide) dX0_isSafe_51 ?_
        refine n_aload_n hC dX0_isSafe_52 rfl ?_
        refine n_get hC cl0 (k := 1) (v := .ref (N0 + (sAd 0))) xc_o (x_lt hn) (by decide) q195 (xf_get N0 P X (by decide)) dX0_isSafe_53 ?_
        refine n_iload hC dX0_isSafe_56 rfl ?_
        refine n_iload_n hC dX0_isSafe_58 rfl ?_
        refine n_callV1 hC (As := [.int (nI k), .int (nI q)]) (rest := [.int (nI (xB X 13 k)), .int u]) (xc_so (by decide)) (s_lt0 hn (by decide)) rfl bX2_own (t_x_own l D N0 kA hs P X n hn k q (by omega) (by omega)) (by decide) (by decide) q533 rfl (Nat.le_of_ble_eq_true rfl) dX0_isSafe_59 (Nat.le_of_ble_eq_true rfl) (Nat.le_of_ble_eq_true rfl) ?_
        refine n_stk (st' := [.int (x_own P X k q), .int (nI (xB X 13 k)), .int u]) rfl ?_
        refine n_imul hC dX0_isSafe_62 ?_
        refine n_goto (tgt := 67) hC dX0_isSafe_63 (by decide) ?_
        refine n_iadd hC dX0_isSafe_67 ?_
        refine n_istore (L' := [(0, .ref (N0 + 0)), (1, .int (bI b)), (2, .int f), (3, .int (nI q)), (4, .int (u + ((nI (xB X 13 k)) * (x_own P X k q)))), (5, .int (nI k))]) hC dX0_isSafe_68 (by decide) rfl ?_
        refine n_iincN (a := k) (L' := [(0, .ref (N0 + 0)), (1, .int (bI b)), (2, .int f), (3, .int (nI q)), (4, .int (u + ((nI (xB X 13 k)) * (x_own P X k q)))), (5, .int (nI (k + 1)))]) hC dX0_isSafe_70 rfl (by decide) rfl ?_
        refine n_goto (tgt := 21) hC dX0_isSafe_73 (by decide) ?_
        rw [x_isSafe_L21, if_neg (Nat.not_le.mpr c30), if_neg c42] at hK
        exact ih b f q (u + ((nI (xB X 13 k)) * (x_own P X k q))) (k + 1) (by omega) (by omega) (by omega) hK
set_option maxRecDepth 100000 in
set_option maxHeartbeats 4000000 in
theorem t_x_isSafe_L6 {p : Program} {l : Launch} {e : Env} {s : State} {m : MethodId} {args : Array Value} {below : List Frame} {meth : Method} {c : Code} {D : va_G} {N0 : Nat} {kA : Nat → ClassId} {hs : hT} {P : PS} {X : XS} {n : Nat} (hn : xOk P n)  (hC : nC p s m args meth c RX0 cX0_isSafe 6 (some .boolean) true D N0 kA)  : ∀ (fu : Nat) (b : Bool) (f : Int32) (q : Nat) (hq : q ≤ 4) (hf : 4 < q + fu), nW p l e (nRm 2 0 0) s m args below meth c (nQ below (nX (some (.int (bI (x_isSafe_L6 fu P X b f q)))) (xH N0 kA hs P X) n) D N0 s 0 0) D N0 6 6 [(0, .ref (N0 + 0)), (1, .int (bI b)), (2, .int f), (3, .int (nI q))] [] (xH N0 kA hs P X) n 0 0 := by
  intro fu
  induction fu with
  | zero =>
    intro b f q hq hf
    exfalso; omega
  | succ fu ih =>
    intro b f q hq hf
    have hm6 := pN_le hn
    refine n_iload_n hC dX0_isSafe_6 rfl ?_
    refine n_iconst (v := (nI 4)) hC dX0_isSafe_7 (by decide) ?_
    refine n_icmp_geN (tgt := 105) hC q 4 rfl rfl (by omega) (by omega) dX0_isSafe_8 (by decide) (fun c8 => ?_) (fun c8 => ?_)
    · refine n_iload_n hC dX0_isSafe_105 rfl ?_
      have eq_ : x_isSafe_L6 (fu + 1) P X b f q = b := by rw [x_isSafe_L6, if_pos c8]
      refine n_zret hC dX0_isSafe_106 (show narrow .boolean (.int (bI b)) = _ from by cases b <;> decide) (Nat.le_of_ble_eq_true rfl) (Nat.le_of_ble_eq_true rfl) ?_
      rw [eq_]
      exact ⟨rfl, rfl, rfl⟩
    · refine n_iload_n hC dX0_isSafe_11 rfl ?_
      refine n_if_eqB (tgt := 105) hC dX0_isSafe_12 (by decide) (fun c12 => ?_) (fun c12 => ?_)
      · refine n_iload_n hC dX0_isSafe_105 rfl ?_
        have eq_ : x_isSafe_L6 (fu + 1) P X b f q = b := by rw [x_isSafe_L6, if_neg (Nat.not_le.mpr c8), if_neg (by rw [c12]; decide)]
        refine n_zret hC dX0_isSafe_106 (show narrow .boolean (.int (bI b)) = _ from by cases b <;> decide) (Nat.le_of_ble_eq_true rfl) (Nat.le_of_ble_eq_true rfl) ?_
        rw [eq_]
        exact ⟨rfl, rfl, rfl⟩
      · refine n_iconst (v := (nI 0)) hC dX0_isSafe_15 (by decide) ?_
        refine n_istore (L' := [(0, .ref (N0 + 0)), (1, .int (bI b)), (2, .int f), (3, .int (nI q)), (4, .int (nI 0))]) hC dX0_isSafe_16 (by decide) rfl ?_
        refine n_iconst (v := (nI 0)) hC dX0_isSafe_18 (by decide) ?_
        refine n_istore (L' := [(0, .ref (N0 + 0)), (1, .int (bI b)), (2, .int f), (3, .int (nI q)), (4, .int (nI 0)), (5, .int (nI 0))]) hC dX0_isSafe_19 (by decide) rfl ?_
        refine t_x_isSafe_L21 hn hC  (pN P 1 + 1) b f q (nI 0) 0 (by omega) (by omega) (by omega) ?_
        refine n_iload_n hC dX0_isSafe_76 rfl ?_
        refine n_if_neN (tgt := 85) hC (by omega) dX0_isSafe_77 (by decide) (fun c77 => ?_) (fun c77 => ?_)
        · refine n_iload_n hC dX0_isSafe_85 rfl ?_
          refine n_istore_n (L' := [(0, .ref (N0 + 0)), (1, .int (bI b)), (2, .int f), (3, .int (nI q)), (4, .int (x_isSafe_L21 (pN P 1 + 1) P X b f q (nI 0) 0))]) hC dX0_isSafe_86 (by decide) rfl ?_
          refine n_iload hC dX0_isSafe_87 rfl ?_
          refine n_iload_n hC dX0_isSafe_89 rfl ?_
          refine n_icmp_ne (tgt := 97) hC dX0_isSafe_90 (by decide) (fun c90 => ?_) (fun c90 => ?_)
          · refine n_iconst (v := (nI 0)) hC dX0_isSafe_97 (by decide) ?_
            refine n_istore_n (L' := [(0, .ref (N0 + 0)), (1, .int (nI 0)), (2, .int f), (3, .int (nI q)), (4, .int (x_isSafe_L21 (pN P 1 + 1) P X b f q (nI 0) 0))]) hC dX0_isSafe_98 (by decide) rfl ?_
            refine n_iincN (a := q) (L' := [(0, .ref (N0 + 0)), (1, .int (nI 0)), (2, .int f), (3, .int (nI (q + 1))), (4, .int (x_isSafe_L21 (pN P 1 + 1) P X b f q (nI 0) 0))]) hC dX0_isSafe_99 rfl (by decide) rfl ?_
            refine n_goto (tgt := 6) hC dX0_isSafe_102 (by decide) ?_
            refine n_drop [0, 1, 2, 3] (L' := [(0, .ref (N0 + 0)), (1, .int (nI 0)), (2, .int f), (3, .int (nI (q + 1)))]) rfl ?_
            rw [show x_isSafe_L6 (fu + 1) P X b f q = x_isSafe_L6 fu P X false f (q + 1) from by rw [x_isSafe_L6, if_neg (Nat.not_le.mpr c8), if_pos c12, if_neg c77, if_neg c90]]
            exact ih false f (q + 1) (by omega) (by omega)
          · refine n_iconst (v := (nI 1)) hC dX0_isSafe_93 (by decide) ?_
            refine n_goto (tgt := 98) hC dX0_isSafe_94 (by decide) ?_
            refine n_istore_n (L' := [(0, .ref (N0 + 0)), (1, .int (nI 1)), (2, .int f), (3, .int (nI q)), (4, .int (x_isSafe_L21 (pN P 1 + 1) P X b f q (nI 0) 0))]) hC dX0_isSafe_98 (by decide) rfl ?_
            refine n_iincN (a := q) (L' := [(0, .ref (N0 + 0)), (1, .int (nI 1)), (2, .int f), (3, .int (nI (q + 1))), (4, .int (x_isSafe_L21 (pN P 1 + 1) P X b f q (nI 0) 0))]) hC dX0_isSafe_99 rfl (by decide) rfl ?_
            refine n_goto (tgt := 6) hC dX0_isSafe_102 (by decide) ?_
            refine n_drop [0, 1, 2, 3] (L' := [(0, .ref (N0 + 0)), (1, .int (nI 1)), (2, .int f), (3, .int (nI (q + 1)))]) rfl ?_
            rw [show x_isSafe_L6 (fu + 1) P X b f q = x_isSafe_L6 fu P X true f (q + 1) from by rw [x_isSafe_L6, if_neg (Nat.not_le.mpr c8), if_pos c12, if_neg c77, if_pos c90]]
            exact ih true f (q + 1) (by omega) (by omega)
        · refine n_iload hC dX0_isSafe_80 rfl ?_
          refine n_goto (tgt := 86) hC dX0_isSafe_82 (by decide) ?_
          refine n_istore_n (L' := [(0, .ref (N0 + 0)), (1, .int (bI b)), (2, .int (x_isSafe_L21 (pN P 1 + 1) P X b f q (nI 0) 0)), (3, .int (nI q)), (4, .int (x_isSafe_L21 (pN P 1 + 1) P X b f q (nI 0) 0))]) hC dX0_isSafe_86 (by decide) rfl ?_
          refine n_iload hC dX0_isSafe_87 rfl ?_
          refine n_iload_n hC dX0_isSafe_89 rfl ?_
          refine n_icmp_ne (tgt := 97) hC dX0_isSafe_90 (by decide) (fun c90 => ?_) (fun c90 => ?_)
          · refine n_iconst (v := (nI 0)) hC dX0_isSafe_97 (by decide) ?_
            refine n_istore_n (L' := [(0, .ref (N0 + 0)), (1, .int (nI 0)), (2, .int (x_isSafe_L21 (pN P 1 + 1) P X b f q (nI 0) 0)), (3, .int (nI q)), (4, .int (x_isSafe_L21 (pN P 1 + 1) P X b f q (nI 0) 0))]) hC dX0_isSafe_98 (by decide) rfl ?_
            refine n_iincN (a := q) (L' := [(0, .ref (N0 + 0)), (1, .int (nI 0)), (2, .int (x_isSafe_L21 (pN P 1 + 1) P X b f q (nI 0) 0)), (3, .int (nI (q + 1))), (4, .int (x_isSafe_L21 (pN P 1 + 1) P X b f q (nI 0) 0))]) hC dX0_isSafe_99 rfl (by decide) rfl ?_
            refine n_goto (tgt := 6) hC dX0_isSafe_102 (by decide) ?_
            refine n_drop [0, 1, 2, 3] (L' := [(0, .ref (N0 + 0)), (1, .int (nI 0)), (2, .int (x_isSafe_L21 (pN P 1 + 1) P X b f q (nI 0) 0)), (3, .int (nI (q + 1)))]) rfl ?_
            rw [show x_isSafe_L6 (fu + 1) P X b f q = x_isSafe_L6 fu P X false (x_isSafe_L21 (pN P 1 + 1) P X b f q (nI 0) 0) (q + 1) from by rw [x_isSafe_L6, if_neg (Nat.not_le.mpr c8), if_pos c12, if_pos c77, if_neg c90]]
            exact ih false (x_isSafe_L21 (pN P 1 + 1) P X b f q (nI 0) 0) (q + 1) (by omega) (by omega)
          · refine n_iconst (v := (nI 1)) hC dX0_isSafe_93 (by decide) ?_
            refine n_goto (tgt := 98) hC dX0_isSafe_94 (by decide) ?_
            refine n_istore_n (L' := [(0, .ref (N0 + 0)), (1, .int (nI 1)), (2, .int (x_isSafe_L21 (pN P 1 + 1) P X b f q (nI 0) 0)), (3, .int (nI q)), (4, .int (x_isSafe_L21 (pN P 1 + 1) P X b f q (nI 0) 0))]) hC dX0_isSafe_98 (by decide) rfl ?_
            refine n_iincN (a := q) (L' := [(0, .ref (N0 + 0)), (1, .int (nI 1)), (2, .int (x_isSafe_L21 (pN P 1 + 1) P X b f q (nI 0) 0)), (3, .int (nI (q + 1))), (4, .int (x_isSafe_L21 (pN P 1 + 1) P X b f q (nI 0) 0))]) hC dX0_isSafe_99 rfl (by decide) rfl ?_
            refine n_goto (tgt := 6) hC dX0_isSafe_102 (by decide) ?_
            refine n_drop [0, 1, 2, 3] (L' := [(0, .ref (N0 + 0)), (1, .int (nI 1)), (2, .int (x_isSafe_L21 (pN P 1 + 1) P X b f q (nI 0) 0)), (3, .int (nI (q + 1)))]) rfl ?_
            rw [show x_isSafe_L6 (fu + 1) P X b f q = x_isSafe_L6 fu P X true (x_isSafe_L21 (pN P 1 + 1) P X b f q (nI 0) 0) (q + 1) from by rw [x_isSafe_L6, if_neg (Nat.not_le.mpr c8), if_pos c12, if_pos c77, if_pos c90]]
            exact ih true (x_isSafe_L21 (pN P 1 + 1) P X b f q (nI 0) 0) (q + 1) (by omega) (by omega)
set_option maxRecDepth 100000 in
set_option maxHeartbeats 4000000 in
theorem t_x_isSafe (l : Launch) (D : va_G) (N0 : Nat) (kA : Nat → ClassId) (hs : hT) (P : PS) (X : XS) (n : Nat) (hn : xOk P n)   : nE l yX0_isSafe cX0_isSafe 6 (some .boolean) D N0 kA 2 0 0 [.ref (N0 + 0)] (xH N0 kA hs P X) n (nX (some (.int (bI (x_isSafe P X)))) (xH N0 kA hs P X) n) := by
  refine nE_of (by decide) (Nat.le_of_ble_eq_true rfl) ?_
  intro p e s m args below meth c hC hnm
  refine n_loc (L' := [(0, .ref (N0 + 0))]) rfl ?_
  have hm6 := pN_le hn
  refine n_iconst (v := (nI 1)) hC dX0_isSafe_0 (by decide) ?_
  refine n_istore_n (L' := [(0, .ref (N0 + 0)), (1, .int (nI 1))]) hC dX0_isSafe_1 (by decide) rfl ?_
  refine n_iconst (v := (nI 0)) hC dX0_isSafe_2 (by decide) ?_
  refine n_istore_n (L' := [(0, .ref (N0 + 0)), (1, .int (nI 1)), (2, .int (nI 0))]) hC dX0_isSafe_3 (by decide) rfl ?_
  refine n_iconst (v := (nI 0)) hC dX0_isSafe_4 (by decide) ?_
  refine n_istore_n (L' := [(0, .ref (N0 + 0)), (1, .int (nI 1)), (2, .int (nI 0)), (3, .int (nI 0))]) hC dX0_isSafe_5 (by decide) rfl ?_
  rw [show x_isSafe P X = x_isSafe_L6 (5 + pN P 1) P X true (nI 0) 0 from by rw [x_isSafe]]
  exact t_x_isSafe_L6 hn hC  (5 + pN P 1) true (nI 0) 0 (by omega) (by omega)
noncomputable def x_basketS_L119 : Nat → PS → (XS → Nat → Nat → Nat → XS) → XS → Nat → Nat → Nat → Nat → Bool → Nat → XS
  | 0, P, F, X, f, b, t, k, w, z => X
  | fu + 1, P, F, X, f, b, t, k, w, z => (if 4 < z then X else (if w = true then x_basketS_L119 fu P F (F (xSetB X 13 k z) (k + 1) (b + 1) (t + z)) f b t k w (z + 1) else X))
noncomputable def x_basketS_L63 : Nat → PS → (XS → Nat → Nat → Nat → XS) → XS → Nat → Nat → Nat → Nat → XS
  | 0, P, F, X, f, b, t, k => X
  | fu + 1, P, F, X, f, b, t, k => (if (pN P 1) ≤ k then X else (if 3 ≤ b then X else (if (x_has (sI X 0 3) k) = true then (if (sA X 0 1 k) = (-1) then x_basketS_L63 fu P F (xSetB (x_basketS_L119 (6 + pN P 1) P F X f b t k true 1) 13 k 0) f b t (k + 1) else x_basketS_L63 fu P F (xSetB (x_basketS_L119 (6 + pN P 1) P F X f b t k false 1) 13 k 0) f b t (k + 1)) else x_basketS_L63 fu P F (xSetB (x_basketS_L119 (6 + pN P 1) P F X f b t k false 1) 13 k 0) f b t (k + 1))))
noncomputable def x_basketS (P : PS) (F : (XS → Nat → Nat → Nat → XS)) (X : XS) (f : Nat) (b : Nat) (t : Nat) : XS := (if 0 < b then (if (x_isSafe P X) = true then (if (nI t) < (nI (xN X 15)) then x_basketS_L63 (8 + pN P 1) P F (xPutB (xSetN (xSetN X 15 t) 16 b) 14 (va_cpy (xB (xSetN (xSetN X 15 t) 16 b) 13) (xB (xSetN (xSetN X 15 t) 16 b) 14) 0 0 6)) f b t f else (if (nI t) = (nI (xN X 15)) then (if (nI (xN X 16)) ≤ (nI b) then x_basketS_L63 (8 + pN P 1) P F X f b t f else x_basketS_L63 (8 + pN P 1) P F (xPutB (xSetN (xSetN X 15 t) 16 b) 14 (va_cpy (xB (xSetN (xSetN X 15 t) 16 b) 13) (xB (xSetN (xSetN X 15 t) 16 b) 14) 0 0 6)) f b t f) else x_basketS_L63 (8 + pN P 1) P F X f b t f)) else x_basketS_L63 (8 + pN P 1) P F X f b t f) else x_basketS_L63 (8 + pN P 1) P F X f b t f)
theorem bX0_basketFrom : nBV RX0 yX0_basketFrom cX0_basketFrom 7 none 3 := ⟨q573, qs13, q51, q574, by decide, by decide +kernel⟩
set_option maxRecDepth 100000 in
set_option maxHeartbeats 4000000 in
theorem t_x_basketS_L119 {p : Program} {l : Launch} {e : Env} {s : State} {m : MethodId} {args : Array Value} {below : List Frame} {meth : Method} {c : Code} {Q : State → Prop} {D : va_G} {N0 : Nat} {kA : Nat → ClassId} {hs : hT} {P : PS} {F : (XS → Nat → Nat → Nat → XS)} {n : Nat} (hn : xOk P n) {g : Nat} {f : Nat} {b : Nat} {t : Nat} (hC : nC p s m args meth c RX0 cX0_basketFrom 7 none true D N0 kA) (hf6 : f ≤ 6) (hb3 : b ≤ 3) (hg : 3 < b + (g + 1)) (hF : ∀ (Y : XS) (f b t : Nat), f ≤ 6 → b ≤ 3 → 3 < b + g → nE l yX0_basketFrom cX0_basketFrom 7 none D N0 kA (3 + g) 0 0 [.ref (N0 + 0), .int (nI f), .int (nI b), .int (nI t)] (xH N0 kA hs P Y) n (nX none (xH N0 kA hs P (F Y f b t)) n)) : ∀ (fu : Nat) (X : XS) (k : Nat) (w : Bool) (z : Nat) (hk : k < pN P 1) (hb4 : b < 3) (hz : z ≤ 5) (hfu : 5 < z + fu) (hK : nW p l e (nRm (4 + g) 0 0) s m args below meth c Q D N0 7 160 [(0, .ref (N0 + 0)), (1, .int (nI f)), (2, .int (nI b)), (3, .int (nI t)), (4, .int (nI k)), (5, .int (bI w))] [] (xH N0 kA hs P (x_basketS_L119 fu P F X f b t k w z)) n 0 0), nW p l e (nRm (4 + g) 0 0) s m args below meth c Q D N0 7 119 [(0, .ref (N0 + 0)), (1, .int (nI f)), (2, .int (nI b)), (3, .int (nI t)), (4, .int (nI k)), (5, .int (bI w)), (6, .int (nI z))] [] (xH N0 kA hs P X) n 0 0 := by
  intro fu
  induction fu with
  | zero =>
    intro X k w z hk hb4 hz hfu hK
    exfalso; omega
  | succ fu ih =>
    intro X k w z hk hb4 hz hfu hK
    have hm6 := pN_le hn
    refine n_iload hC dX0_basketFrom_119 rfl ?_
    refine n_iconst (v := (nI 4)) hC dX0_basketFrom_121 (by decide) ?_
    refine n_icmp_gtN (tgt := 160) hC z 4 rfl rfl (by omega) (by omega) dX0_basketFrom_122 (by decide) (fun c122 => ?_) (fun c122 => ?_)
    · refine n_drop [0, 1, 2, 3, 4, 5] (L' := [(0, .ref (N0 + 0)), (1, .int (nI f)), (2, .int (nI b)), (3, .int (nI t)), (4, .int (nI k)), (5, .int (bI w))]) rfl ?_
      rw [x_basketS_L119, if_pos c122] at hK
      exact hK
    · refine n_iload hC dX0_basketFrom_125 rfl ?_
      refine n_if_eqB (tgt := 160) hC dX0_basketFrom_127 (by decide) (fun c127 => ?_) (fun c127 => ?_)
      · refine n_drop [0, 1, 2, 3, 4, 5] (L' := [(0, .ref (N0 + 0)), (1, .int (nI f)), (2, .int (nI b)), (3, .int (nI t)), (4, .int (nI k)), (5, .int (bI w))]) rfl ?_
        rw [x_basketS_L119, if_neg (Nat.not_lt.mpr c122), if_neg (by rw [c127]; decide)] at hK
        exact hK
      · refine n_aload_n hC dX0_basketFrom_130 rfl ?_
        refine n_get hC cl0 (k := 13) (v := .ref (N0 + 20)) xc_o (x_lt hn) (by decide) q207 (xf_get N0 P X (by decide)) dX0_basketFrom_131 ?_
        refine n_iload hC dX0_basketFrom_134 rfl ?_
        refine n_iload hC dX0_basketFrom_136 rfl ?_
        refine n_iast hC (f := fun j => nI (xB X 13 j)) (xc_a (p := 20) (by decide) (by decide)) (xa_lt hn (by decide)) k rfl (by omega) (by decide) dX0_basketFrom_138 (xu_B (X := X) (k := 13) (len := 6) rfl rfl (by decide) (by decide)) ?_
        refine n_aload_n hC dX0_basketFrom_139 rfl ?_
        refine n_iload hC dX0_basketFrom_140 rfl ?_
        refine n_iconst (v := (nI 1)) hC dX0_basketFrom_142 (by decide) ?_
        refine n_iaddN hC dX0_basketFrom_143 ?_
        refine n_iload_n hC dX0_basketFrom_144 rfl ?_
        refine n_iconst (v := (nI 1)) hC dX0_basketFrom_145 (by decide) ?_
        refine n_iaddN hC dX0_basketFrom_146 ?_
        refine n_iload_n hC dX0_basketFrom_147 rfl ?_
        refine n_iload hC dX0_basketFrom_148 rfl ?_
        refine n_iaddN hC dX0_basketFrom_150 ?_
        refine n_callV1 hC (As := [.int (nI (k + 1)), .int (nI (b + 1)), .int (nI (t + z))]) (rest := []) xc_o (x_lt hn) rfl bX0_basketFrom (hF (xSetB X 13 k z) (k + 1) (b + 1) (t + z) (by omega) (by omega) (by omega)) (by dsimp only [nRm]; omega) (by dsimp only [nRm]; omega) q571 rfl (Nat.le_of_ble_eq_true rfl) dX0_basketFrom_151 (Nat.le_of_ble_eq_true rfl) (Nat.le_of_ble_eq_true rfl) ?_
        refine n_stk (st' := []) rfl ?_
        refine n_iincN (a := z) (L' := [(0, .ref (N0 + 0)), (1, .int (nI f)), (2, .int (nI b)), (3, .int (nI t)), (4, .int (nI k)), (5, .int (bI w)), (6, .int (nI (z + 1)))]) hC dX0_basketFrom_154 rfl (by decide) rfl ?_
        refine n_goto (tgt := 119) hC dX0_basketFrom_157 (by decide) ?_
        rw [x_basketS_L119, if_neg (Nat.not_lt.mpr c122), if_pos c127] at hK
        exact ih (F (xSetB X 13 k z) (k + 1) (b + 1) (t + z)) k w (z + 1) (by first | omega | (simp [xN_N] <;> omega)) (by first | omega | (simp [xN_N] <;> omega)) (by first | omega | (simp [xN_N] <;> omega)) (by first | omega | (simp [xN_N] <;> omega)) hK
set_option maxRecDepth 100000 in
set_option maxHeartbeats 4000000 in
theorem t_x_basketS_L63 {p : Program} {l : Launch} {e : Env} {s : State} {m : MethodId} {args : Array Value} {below : List Frame} {meth : Method} {c : Code} {D : va_G} {N0 : Nat} {kA : Nat → ClassId} {hs : hT} {P : PS} {F : (XS → Nat → Nat → Nat → XS)} {n : Nat} (hn : xOk P n) {g : Nat} {f : Nat} {b : Nat} {t : Nat} (hC : nC p s m args meth c RX0 cX0_basketFrom 7 none true D N0 kA) (hf6 : f ≤ 6) (hb3 : b ≤ 3) (hg : 3 < b + (g + 1)) (hF : ∀ (Y : XS) (f b t : Nat), f ≤ 6 → b ≤ 3 → 3 < b + g → nE l yX0_basketFrom cX0_basketFrom 7 none D N0 kA (3 + g) 0 0 [.ref (N0 + 0), .int (nI f), .int (nI b), .int (nI t)] (xH N0 kA hs P Y) n (nX none (xH N0 kA hs P (F Y f b t)) n)) : ∀ (fu : Nat) (X : XS) (k : Nat) (hk : k ≤ 7) (hfu : 7 < k + fu), nW p l e (nRm (4 + g) 0 0) s m args below meth c (nQ below (nX none (xH N0 kA hs P (x_basketS_L63 fu P F X f b t k)) n) D N0 s 0 0) D N0 7 63 [(0, .ref (N0 + 0)), (1, .int (nI f)), (2, .int (nI b)), (3, .int (nI t)), (4, .int (nI k))] [] (xH N0 kA hs P X) n 0 0 := by
  intro fu
  induction fu with
  | zero =>
    intro X k hk hfu
    exfalso; omega
  | succ fu ih =>
    intro X k hk hfu
    have hm6 := pN_le hn
    refine n_iload hC dX0_basketFrom_63 rfl ?_
    refine n_aload_n hC dX0_basketFrom_65 rfl ?_
    refine n_get hC cl0 (k := 0) (v := .ref (N0 + (pb P))) xc_o (x_lt hn) (by decide) q194 (xf_get N0 P X (by decide)) dX0_basketFrom_66 ?_
    refine n_getN hC cl1 (k := 1) (v := .int (nI (pN P 1))) (xc_po hn) (p_lt0 hn) (by decide) q86 (pf_get N0 P (by decide)) dX0_basketFrom_69 ?_
    refine n_icmp_geN (tgt := 174) hC k (pN P 1) rfl rfl (by omega) (by omega) dX0_basketFrom_72 (by decide) (fun c72 => ?_) (fun c72 => ?_)
    · have eq_ : x_basketS_L63 (fu + 1) P F X f b t k = X := by rw [x_basketS_L63, if_pos c72]
      refine n_vret hC dX0_basketFrom_174 (Nat.le_of_ble_eq_true rfl) (Nat.le_of_ble_eq_true rfl) ?_
      rw [eq_]
      exact ⟨rfl, rfl, rfl⟩
    · refine n_iload_n hC dX0_basketFrom_75 rfl ?_
      refine n_iconst (v := (nI 3)) hC dX0_basketFrom_76 (by decide) ?_
      refine n_icmp_geN (tgt := 174) hC b 3 rfl rfl (by omega) (by omega) dX0_basketFrom_77 (by decide) (fun c77 => ?_) (fun c77 => ?_)
      · have eq_ : x_basketS_L63 (fu + 1) P F X f b t k = X := by rw [x_basketS_L63, if_neg (Nat.not_le.mpr c72), if_pos c77]
        refine n_vret hC dX0_basketFrom_174 (Nat.le_of_ble_eq_true rfl) (Nat.le_of_ble_eq_true rfl) ?_
        rw [eq_]
        exact ⟨rfl, rfl, rfl⟩
      · refine n_aload_n hC dX0_basketFrom_80 rfl ?_
        refine n_get hC cl0 (k := 1) (v := .ref (N0 + (sAd 0))) xc_o (x_lt hn) (by decide) q195 (xf_get N0 P X (by decide)) dX0_basketFrom_81 ?_
        refine n_getN hC cl2 (k := 3) (v := .int (sI X 0 3)) (xc_so (by decide)) (s_lt0 hn (by decide)) (by decide) q153 (sf_get N0 X 0 (by decide)) dX0_basketFrom_84 ?_
        refine n_iload hC dX0_basketFrom_87 rfl ?_
        refine n_callS1 hC (As := [.int (sI X 0 3), .int (nI k)]) (rest := []) bX0_has (t_x_has l D N0 kA (xH N0 kA hs P X) n (sI X 0 3) k ) (by dsimp only [nRm]; omega) (by dsimp only [nRm]; omega) q511 rfl (Nat.le_of_ble_eq_true rfl) dX0_basketFrom_89 (Nat.le_of_ble_eq_true rfl) (Nat.le_of_ble_eq_true rfl) ?_
        refine n_stk (st' := [.int (bI (x_has (sI X 0 3) k))]) rfl ?_
        refine n_if_eqB (tgt := 113) hC dX0_basketFrom_92 (by decide) (fun c92 => ?_) (fun c92 => ?_)
        · refine n_iconst (v := (nI 0)) hC dX0_basketFrom_113 (by decide) ?_
          refine n_istore (L' := [(0, .ref (N0 + 0)), (1, .int (nI f)), (2, .int (nI b)), (3, .int (nI t)), (4, .int (nI k)), (5, .int (nI 0))]) hC dX0_basketFrom_114 (by decide) rfl ?_
          refine n_iconst (v := (nI 1)) hC dX0_basketFrom_116 (by decide) ?_
          refine n_istore (L' := [(0, .ref (N0 + 0)), (1, .int (nI f)), (2, .int (nI b)), (3, .int (nI t)), (4, .int (nI k)), (5, .int (nI 0)), (6, .int (nI 1))]) hC dX0_basketFrom_117 (by decide) rfl ?_
          refine t_x_basketS_L119 hn hC hf6 hb3 hg hF (6 + pN P 1) X k false 1 (by first | omega | (simp [xN_N] <;> omega)) (by first | omega | (simp [xN_N] <;> omega)) (by first | omega | (simp [xN_N] <;> omega)) (by first | omega | (simp [xN_N] <;> omega)) ?_
          refine n_aload_n hC dX0_basketFrom_160 rfl ?_
          refine n_get hC cl0 (k := 13) (v := .ref (N0 + 20)) xc_o (x_lt hn) (by decide) q207 (xf_get N0 P (x_basketS_L119 (6 + pN P 1) P F X f b t k false 1) (by decide)) dX0_basketFrom_161 ?_
          refine n_iload hC dX0_basketFrom_164 rfl ?_
          refine n_iconst (v := (nI 0)) hC dX0_basketFrom_166 (by decide) ?_
          refine n_iast hC (f := fun j => nI (xB (x_basketS_L119 (6 + pN P 1) P F X f b t k false 1) 13 j)) (xc_a (p := 20) (by decide) (by decide)) (xa_lt hn (by decide)) k rfl (by omega) (by decide) dX0_basketFrom_167 (xu_B (X := (x_basketS_L119 (6 + pN P 1) P F X f b t k false 1)) (k := 13) (len := 6) rfl rfl (by decide) (by decide)) ?_
          refine n_iincN (a := k) (L' := [(0, .ref (N0 + 0)), (1, .int (nI f)), (2, .int (nI b)), (3, .int (nI t)), (4, .int (nI (k + 1))), (5, .int (nI 0))]) hC dX0_basketFrom_168 rfl (by decide) rfl ?_
          refine n_goto (tgt := 63) hC dX0_basketFrom_171 (by decide) ?_
          refine n_drop [0, 1, 2, 3, 4] (L' := [(0, .ref (N0 + 0)), (1, .int (nI f)), (2, .int (nI b)), (3, .int (nI t)), (4, .int (nI (k + 1)))]) rfl ?_
          rw [show x_basketS_L63 (fu + 1) P F X f b t k = x_basketS_L63 fu P F (xSetB (x_basketS_L119 (6 + pN P 1) P F X f b t k false 1) 13 k 0) f b t (k + 1) from by rw [x_basketS_L63, if_neg (Nat.not_le.mpr c72), if_neg (Nat.not_le.mpr c77), if_neg (by rw [c92]; decide)]]
          exact ih (xSetB (x_basketS_L119 (6 + pN P 1) P F X f b t k false 1) 13 k 0) (k + 1) (by first | omega | (simp [xN_N] <;> omega)) (by first | omega | (simp [xN_N] <;> omega))
        · refine n_aload_n hC dX0_basketFrom_95 rfl ?_
          refine n_get hC cl0 (k := 1) (v := .ref (N0 + (sAd 0))) xc_o (x_lt hn) (by decide) q195 (xf_get N0 P X (by decide)) dX0_basketFrom_96 ?_
          refine n_getN hC cl2 (k := 1) (v := .ref (N0 + (sAd 0 + 2))) (xc_so (by decide)) (s_lt0 hn (by decide)) (by decide) q149 (sf_get N0 X 0 (by decide)) dX0_basketFrom_99 ?_
          refine n_iload hC dX0_basketFrom_102 rfl ?_
          refine n_iald hC (f := sA X 0 1) (xc_s (r := 2) (by decide) (by decide)) (s_lt hn (by decide) (by decide)) k rfl (by omega) (by decide) dX0_basketFrom_104 ?_
          refine n_iconst (v := (-1)) hC dX0_basketFrom_105 (by decide) ?_
          refine n_icmp_ne (tgt := 113) hC dX0_basketFrom_106 (by decide) (fun c106 => ?_) (fun c106 => ?_)
          · refine n_iconst (v := (nI 0)) hC dX0_basketFrom_113 (by decide) ?_
            refine n_istore (L' := [(0, .ref (N0 + 0)), (1, .int (nI f)), (2, .int (nI b)), (3, .int (nI t)), (4, .int (nI k)), (5, .int (nI 0))]) hC dX0_basketFrom_114 (by decide) rfl ?_
            refine n_iconst (v := (nI 1)) hC dX0_basketFrom_116 (by decide) ?_
            refine n_istore (L' := [(0, .ref (N0 + 0)), (1, .int (nI f)), (2, .int (nI b)), (3, .int (nI t)), (4, .int (nI k)), (5, .int (nI 0)), (6, .int (nI 1))]) hC dX0_basketFrom_117 (by decide) rfl ?_
            refine t_x_basketS_L119 hn hC hf6 hb3 hg hF (6 + pN P 1) X k false 1 (by first | omega | (simp [xN_N] <;> omega)) (by first | omega | (simp [xN_N] <;> omega)) (by first | omega | (simp [xN_N] <;> omega)) (by first | omega | (simp [xN_N] <;> omega)) ?_
            refine n_aload_n hC dX0_basketFrom_160 rfl ?_
            refine n_get hC cl0 (k := 13) (v := .ref (N0 + 20)) xc_o (x_lt hn) (by decide) q207 (xf_get N0 P (x_basketS_L119 (6 + pN P 1) P F X f b t k false 1) (by decide)) dX0_basketFrom_161 ?_
            refine n_iload hC dX0_basketFrom_164 rfl ?_
            refine n_iconst (v := (nI 0)) hC dX0_basketFrom_166 (by decide) ?_
            refine n_iast hC (f := fun j => nI (xB (x_basketS_L119 (6 + pN P 1) P F X f b t k false 1) 13 j)) (xc_a (p := 20) (by decide) (by decide)) (xa_lt hn (by decide)) k rfl (by omega) (by decide) dX0_basketFrom_167 (xu_B (X := (x_basketS_L119 (6 + pN P 1) P F X f b t k false 1)) (k := 13) (len := 6) rfl rfl (by decide) (by decide)) ?_
            refine n_iincN (a := k) (L' := [(0, .ref (N0 + 0)), (1, .int (nI f)), (2, .int (nI b)), (3, .int (nI t)), (4, .int (nI (k + 1))), (5, .int (nI 0))]) hC dX0_basketFrom_168 rfl (by decide) rfl ?_
            refine n_goto (tgt := 63) hC dX0_basketFrom_171 (by decide) ?_
            refine n_drop [0, 1, 2, 3, 4] (L' := [(0, .ref (N0 + 0)), (1, .int (nI f)), (2, .int (nI b)), (3, .int (nI t)), (4, .int (nI (k + 1)))]) rfl ?_
            rw [show x_basketS_L63 (fu + 1) P F X f b t k = x_basketS_L63 fu P F (xSetB (x_basketS_L119 (6 + pN P 1) P F X f b t k false 1) 13 k 0) f b t (k + 1) from by rw [x_basketS_L63, if_neg (Nat.not_le.mpr c72), if_neg (Nat.not_le.mpr c77), if_pos c92, if_neg c106]]
            exact ih (xSetB (x_basketS_L119 (6 + pN P 1) P F X f b t k false 1) 13 k 0) (k + 1) (by first | omega | (simp [xN_N] <;> omega)) (by first | omega | (simp [xN_N] <;> omega))
          · refine n_iconst (v := (nI 1)) hC dX0_basketFrom_109 (by decide) ?_
            refine n_goto (tgt := 114) hC dX0_basketFrom_110 (by decide) ?_
            refine n_istore (L' := [(0, .ref (N0 + 0)), (1, .int (nI f)), (2, .int (nI b)), (3, .int (nI t)), (4, .int (nI k)), (5, .int (nI 1))]) hC dX0_basketFrom_114 (by decide) rfl ?_
            refine n_iconst (v := (nI 1)) hC dX0_basketFrom_116 (by decide) ?_
            refine n_istore (L' := [(0, .ref (N0 + 0)), (1, .int (nI f)), (2, .int (nI b)), (3, .int (nI t)), (4, .int (nI k)), (5, .int (nI 1)), (6, .int (nI 1))]) hC dX0_basketFrom_117 (by decide) rfl ?_
            refine t_x_basketS_L119 hn hC hf6 hb3 hg hF (6 + pN P 1) X k true 1 (by first | omega | (simp [xN_N] <;> omega)) (by first | omega | (simp [xN_N] <;> omega)) (by first | omega | (simp [xN_N] <;> omega)) (by first | omega | (simp [xN_N] <;> omega)) ?_
            refine n_aload_n hC dX0_basketFrom_160 rfl ?_
            refine n_get hC cl0 (k := 13) (v := .ref (N0 + 20)) xc_o (x_lt hn) (by decide) q207 (xf_get N0 P (x_basketS_L119 (6 + pN P 1) P F X f b t k true 1) (by decide)) dX0_basketFrom_161 ?_
            refine n_iload hC dX0_basketFrom_164 rfl ?_
            refine n_iconst (v := (nI 0)) hC dX0_basketFrom_166 (by decide) ?_
            refine n_iast hC (f := fun j => nI (xB (x_basketS_L119 (6 + pN P 1) P F X f b t k true 1) 13 j)) (xc_a (p := 20) (by decide) (by decide)) (xa_lt hn (by decide)) k rfl (by omega) (by decide) dX0_basketFrom_167 (xu_B (X := (x_basketS_L119 (6 + pN P 1) P F X f b t k true 1)) (k := 13) (len := 6) rfl rfl (by decide) (by decide)) ?_
            refine n_iincN (a := k) (L' := [(0, .ref (N0 + 0)), (1, .int (nI f)), (2, .int (nI b)), (3, .int (nI t)), (4, .int (nI (k + 1))), (5, .int (nI 1))]) hC dX0_basketFrom_168 rfl (by decide) rfl ?_
            refine n_goto (tgt := 63) hC dX0_basketFrom_171 (by decide) ?_
            refine n_drop [0, 1, 2, 3, 4] (L' := [(0, .ref (N0 + 0)), (1, .int (nI f)), (2, .int (nI b)), (3, .int (nI t)), (4, .int (nI (k + 1)))]) rfl ?_
            rw [show x_basketS_L63 (fu + 1) P F X f b t k = x_basketS_L63 fu P F (xSetB (x_basketS_L119 (6 + pN P 1) P F X f b t k true 1) 13 k 0) f b t (k + 1) from by rw [x_basketS_L63, if_neg (Nat.not_le.mpr c72), if_neg (Nat.not_le.mpr c77), if_pos c92, if_pos c106]]
            exact ih (xSetB (x_basketS_L119 (6 + pN P 1) P F X f b t k true 1) 13 k 0) (k + 1) (by first | omega | (simp [xN_N] <;> omega)) (by first | omega | (simp [xN_N] <;> omega))
set_option maxRecDepth 100000 in
set_option maxHeartbeats 4000000 in
theorem t_x_basketS (l : Launch) (D : va_G) (N0 : Nat) (kA : Nat → ClassId) (hs : hT) (P : PS) (F : (XS → Nat → Nat → Nat → XS)) (X : XS) (n : Nat) (hn : xOk P n) (g : Nat) (f : Nat) (b : Nat) (t : Nat) (hf6 : f ≤ 6) (hb3 : b ≤ 3) (hg : 3 < b + (g + 1)) (hF : ∀ (Y : XS) (f b t : Nat), f ≤ 6 → b ≤ 3 → 3 < b + g → nE l yX0_basketFrom cX0_basketFrom 7 none D N0 kA (3 + g) 0 0 [.ref (N0 + 0), .int (nI f), .int (nI b), .int (nI t)] (xH N0 kA hs P Y) n (nX none (xH N0 kA hs P (F Y f b t)) n)) : nE l yX0_basketFrom cX0_basketFrom 7 none D N0 kA (4 + g) 0 0 [.ref (N0 + 0), .int (nI f), .int (nI b), .int (nI t)] (xH N0 kA hs P X) n (nX none (xH N0 kA hs P (x_basketS P F X f b t)) n) := by
  refine nE_of (by decide) (Nat.le_of_ble_eq_true rfl) ?_
  intro p e s m args below meth c hC hnm
  refine n_loc (L' := [(0, .ref (N0 + 0)), (1, .int (nI f)), (2, .int (nI b)), (3, .int (nI t))]) rfl ?_
  have hm6 := pN_le hn
  refine n_iload_n hC dX0_basketFrom_0 rfl ?_
  refine n_if_leN (tgt := 60) hC (by omega) dX0_basketFrom_1 (by decide) (fun c1 => ?_) (fun c1 => ?_)
  · refine n_iload_n hC dX0_basketFrom_60 rfl ?_
    refine n_istore (L' := [(0, .ref (N0 + 0)), (1, .int (nI f)), (2, .int (nI b)), (3, .int (nI t)), (4, .int (nI f))]) hC dX0_basketFrom_61 (by decide) rfl ?_
    rw [show x_basketS P F X f b t = x_basketS_L63 (8 + pN P 1) P F X f b t f from by rw [x_basketS, if_neg (by omega)]]
    exact t_x_basketS_L63 hn hC hf6 hb3 hg hF (8 + pN P 1) X f (by first | omega | (simp [xN_N] <;> omega)) (by first | omega | (simp [xN_N] <;> omega))
  · refine n_aload_n hC dX0_basketFrom_4 rfl ?_
    refine n_callV1 hC (As := []) (rest := []) xc_o (x_lt hn) rfl bX0_isSafe (t_x_isSafe l D N0 kA hs P X n hn  ) (by dsimp only [nRm]; omega) (by dsimp only [nRm]; omega) q575 rfl (Nat.le_of_ble_eq_true rfl) dX0_basketFrom_5 (Nat.le_of_ble_eq_true rfl) (Nat.le_of_ble_eq_true rfl) ?_
    refine n_stk (st' := [.int (bI (x_isSafe P X))]) rfl ?_
    refine n_if_eqB (tgt := 60) hC dX0_basketFrom_8 (by decide) (fun c8 => ?_) (fun c8 => ?_)
    · refine n_iload_n hC dX0_basketFrom_60 rfl ?_
      refine n_istore (L' := [(0, .ref (N0 + 0)), (1, .int (nI f)), (2, .int (nI b)), (3, .int (nI t)), (4, .int (nI f))]) hC dX0_basketFrom_61 (by decide) rfl ?_
      rw [show x_basketS P F X f b t = x_basketS_L63 (8 + pN P 1) P F X f b t f from by rw [x_basketS, if_pos c1, if_neg (by rw [c8]; decide)]]
      exact t_x_basketS_L63 hn hC hf6 hb3 hg hF (8 + pN P 1) X f (by first | omega | (simp [xN_N] <;> omega)) (by first | omega | (simp [xN_N] <;> omega))
    · refine n_iload_n hC dX0_basketFrom_11 rfl ?_
      refine n_aload_n hC dX0_basketFrom_12 rfl ?_
      refine n_get hC cl0 (k := 15) (v := .int (nI (xN X 15))) xc_o (x_lt hn) (by decide) q209 (xf_get N0 P X (by decide)) dX0_basketFrom_13 ?_
      refine n_icmp_lt (tgt := 35) hC dX0_basketFrom_16 (by decide) (fun c16 => ?_) (fun c16 => ?_)
      · refine n_aload_n hC dX0_basketFrom_35 rfl ?_
        refine n_iload_n hC dX0_basketFrom_36 rfl ?_
        refine n_put hC cl0 (k := 15) xc_o (x_lt hn) (by decide) q209 rfl rfl rfl (by rw [xf_len]; decide) dX0_basketFrom_37 (xu_N (X := X) (k := 15) (by decide) (by decide) (by decide) (by decide) (by decide) rfl rfl) ?_
        refine n_aload_n hC dX0_basketFrom_40 rfl ?_
        refine n_iload_n hC dX0_basketFrom_41 rfl ?_
        refine n_put hC cl0 (k := 16) xc_o (x_lt hn) (by decide) q210 rfl rfl rfl (by rw [xf_len]; decide) dX0_basketFrom_42 (xu_N (X := (xSetN X 15 t)) (k := 16) (by decide) (by decide) (by decide) (by decide) (by decide) rfl rfl) ?_
        refine n_aload_n hC dX0_basketFrom_45 rfl ?_
        refine n_get hC cl0 (k := 13) (v := .ref (N0 + 20)) xc_o (x_lt hn) (by decide) q207 (xf_get N0 P (xSetN (xSetN X 15 t) 16 b) (by decide)) dX0_basketFrom_46 ?_
        refine n_iconst (v := (nI 0)) hC dX0_basketFrom_49 (by decide) ?_
        refine n_aload_n hC dX0_basketFrom_50 rfl ?_
        refine n_get hC cl0 (k := 14) (v := .ref (N0 + 21)) xc_o (x_lt hn) (by decide) q208 (xf_get N0 P (xSetN (xSetN X 15 t) 16 b) (by decide)) dX0_basketFrom_51 ?_
        refine n_iconst (v := (nI 0)) hC dX0_basketFrom_54 (by decide) ?_
        refine n_bipush (v := (nI 6)) hC dX0_basketFrom_55 (by decide) ?_
        refine n_copyi hC (h' := xH N0 kA hs P (xPutB (xSetN (xSetN X 15 t) 16 b) 14 (va_cpy (xB (xSetN (xSetN X 15 t) 16 b) 13) (xB (xSetN (xSetN X 15 t) 16 b) 14) 0 0 6))) (k := 6) (f := fun j => nI (xB (xSetN (xSetN X 15 t) 16 b) 13 j)) (g := fun j => nI (xB (xSetN (xSetN X 15 t) 16 b) 14 j)) q579 q501 q500 q62 (xc_a (p := 20) (by decide) (by decide)) (xa_lt hn (by decide)) (xc_a (p := 21) (by decide) (by decide)) (xa_lt hn (by decide)) (by decide) (by decide) (by decide) (by dsimp only [nRm]; omega) (Nat.le_trans (m := 60) (by decide) (by dsimp only [nRm]; omega)) dX0_basketFrom_57 (by rw [cpy_nI]; exact xu_PB (X := (xSetN (xSetN X 15 t) 16 b)) (k := 14) (len := 6) rfl rfl (by decide) (by decide)) ?_
        refine n_iload_n hC dX0_basketFrom_60 rfl ?_
        refine n_istore (L' := [(0, .ref (N0 + 0)), (1, .int (nI f)), (2, .int (nI b)), (3, .int (nI t)), (4, .int (nI f))]) hC dX0_basketFrom_61 (by decide) rfl ?_
        rw [show x_basketS P F X f b t = x_basketS_L63 (8 + pN P 1) P F (xPutB (xSetN (xSetN X 15 t) 16 b) 14 (va_cpy (xB (xSetN (xSetN X 15 t) 16 b) 13) (xB (xSetN (xSetN X 15 t) 16 b) 14) 0 0 6)) f b t f from by rw [x_basketS, if_pos c1, if_pos c8, if_pos c16]]
        exact t_x_basketS_L63 hn hC hf6 hb3 hg hF (8 + pN P 1) (xPutB (xSetN (xSetN X 15 t) 16 b) 14 (va_cpy (xB (xSetN (xSetN X 15 t) 16 b) 13) (xB (xSetN (xSetN X 15 t) 16 b) 14) 0 0 6)) f (by first | omega | (simp [xN_N] <;> omega)) (by first | omega | (simp [xN_N] <;> omega))
      · refine n_iload_n hC dX0_basketFrom_19 rfl ?_
        refine n_aload_n hC dX0_basketFrom_20 rfl ?_
        refine n_get hC cl0 (k := 15) (v := .int (nI (xN X 15))) xc_o (x_lt hn) (by decide) q209 (xf_get N0 P X (by decide)) dX0_basketFrom_21 ?_
        refine n_icmp_ne (tgt := 60) hC dX0_basketFrom_24 (by decide) (fun c24 => ?_) (fun c24 => ?_)
        · refine n_iload_n hC dX0_basketFrom_60 rfl ?_
          refine n_istore (L' := [(0, .ref (N0 + 0)), (1, .int (nI f)), (2, .int (nI b)), (3, .int (nI t)), (4, .int (nI f))]) hC dX0_basketFrom_61 (by decide) rfl ?_
          rw [show x_basketS P F X f b t = x_basketS_L63 (8 + pN P 1) P F X f b t f from by rw [x_basketS, if_pos c1, if_pos c8, if_neg c16, if_neg c24]]
          exact t_x_basketS_L63 hn hC hf6 hb3 hg hF (8 + pN P 1) X f (by first | omega | (simp [xN_N] <;> omega)) (by first | omega | (simp [xN_N] <;> omega))
        · refine n_iload_n hC dX0_basketFrom_27 rfl ?_
          refine n_aload_n hC dX0_basketFrom_28 rfl ?_
          refine n_get hC cl0 (k := 16) (v := .int (nI (xN X 16))) xc_o (x_lt hn) (by decide) q210 (xf_get N0 P X (by decide)) dX0_basketFrom_29 ?_
          refine n_icmp_ge (tgt := 60) hC dX0_basketFrom_32 (by decide) (fun c32 => ?_) (fun c32 => ?_)
          · refine n_iload_n hC dX0_basketFrom_60 rfl ?_
            refine n_istore (L' := [(0, .ref (N0 + 0)), (1, .int (nI f)), (2, .int (nI b)), (3, .int (nI t)), (4, .int (nI f))]) hC dX0_basketFrom_61 (by decide) rfl ?_
            rw [show x_basketS P F X f b t = x_basketS_L63 (8 + pN P 1) P F X f b t f from by rw [x_basketS, if_pos c1, if_pos c8, if_neg c16, if_pos c24, if_pos c32]]
            exact t_x_basketS_L63 hn hC hf6 hb3 hg hF (8 + pN P 1) X f (by first | omega | (simp [xN_N] <;> omega)) (by first | omega | (simp [xN_N] <;> omega))
          · refine n_aload_n hC dX0_basketFrom_35 rfl ?_
            refine n_iload_n hC dX0_basketFrom_36 rfl ?_
            refine n_put hC cl0 (k := 15) xc_o (x_lt hn) (by decide) q209 rfl rfl rfl (by rw [xf_len]; decide) dX0_basketFrom_37 (xu_N (X := X) (k := 15) (by decide) (by decide) (by decide) (by decide) (by decide) rfl rfl) ?_
            refine n_aload_n hC dX0_basketFrom_40 rfl ?_
            refine n_iload_n hC dX0_basketFrom_41 rfl ?_
            refine n_put hC cl0 (k := 16) xc_o (x_lt hn) (by decide) q210 rfl rfl rfl (by rw [xf_len]; decide) dX0_basketFrom_42 (xu_N (X := (xSetN X 15 t)) (k := 16) (by decide) (by decide) (by decide) (by decide) (by decide) rfl rfl) ?_
            refine n_aload_n hC dX0_basketFrom_45 rfl ?_
            refine n_get hC cl0 (k := 13) (v := .ref (N0 + 20)) xc_o (x_lt hn) (by decide) q207 (xf_get N0 P (xSetN (xSetN X 15 t) 16 b) (by decide)) dX0_basketFrom_46 ?_
            refine n_iconst (v := (nI 0)) hC dX0_basketFrom_49 (by decide) ?_
            refine n_aload_n hC dX0_basketFrom_50 rfl ?_
            refine n_get hC cl0 (k := 14) (v := .ref (N0 + 21)) xc_o (x_lt hn) (by decide) q208 (xf_get N0 P (xSetN (xSetN X 15 t) 16 b) (by decide)) dX0_basketFrom_51 ?_
            refine n_iconst (v := (nI 0)) hC dX0_basketFrom_54 (by decide) ?_
            refine n_bipush (v := (nI 6)) hC dX0_basketFrom_55 (by decide) ?_
            refine n_copyi hC (h' := xH N0 kA hs P (xPutB (xSetN (xSetN X 15 t) 16 b) 14 (va_cpy (xB (xSetN (xSetN X 15 t) 16 b) 13) (xB (xSetN (xSetN X 15 t) 16 b) 14) 0 0 6))) (k := 6) (f := fun j => nI (xB (xSetN (xSetN X 15 t) 16 b) 13 j)) (g := fun j => nI (xB (xSetN (xSetN X 15 t) 16 b) 14 j)) q579 q501 q500 q62 (xc_a (p := 20) (by decide) (by decide)) (xa_lt hn (by decide)) (xc_a (p := 21) (by decide) (by decide)) (xa_lt hn (by decide)) (by decide) (by decide) (by decide) (by dsimp only [nRm]; omega) (Nat.le_trans (m := 60) (by decide) (by dsimp only [nRm]; omega)) dX0_basketFrom_57 (by rw [cpy_nI]; exact xu_PB (X := (xSetN (xSetN X 15 t) 16 b)) (k := 14) (len := 6) rfl rfl (by decide) (by decide)) ?_
            refine n_iload_n hC dX0_basketFrom_60 rfl ?_
            refine n_istore (L' := [(0, .ref (N0 + 0)), (1, .int (nI f)), (2, .int (nI b)), (3, .int (nI t)), (4, .int (nI f))]) hC dX0_basketFrom_61 (by decide) rfl ?_
            rw [show x_basketS P F X f b t = x_basketS_L63 (8 + pN P 1) P F (xPutB (xSetN (xSetN X 15 t) 16 b) 14 (va_cpy (xB (xSetN (xSetN X 15 t) 16 b) 13) (xB (xSetN (xSetN X 15 t) 16 b) 14) 0 0 6)) f b t f from by rw [x_basketS, if_pos c1, if_pos c8, if_neg c16, if_pos c24, if_neg c32]]
            exact t_x_basketS_L63 hn hC hf6 hb3 hg hF (8 + pN P 1) (xPutB (xSetN (xSetN X 15 t) 16 b) 14 (va_cpy (xB (xSetN (xSetN X 15 t) 16 b) 13) (xB (xSetN (xSetN X 15 t) 16 b) 14) 0 0 6)) f (by first | omega | (simp [xN_N] <;> omega)) (by first | omega | (simp [xN_N] <;> omega))
