theorem kS_refl {M : MS} (hx : mTx M) : kS M M := ⟨hx, Nat.le_refl _, fun _ _ _ _ => rfl⟩
theorem kS_f {M S : MS} {a b : Nat} (h : kS M S) : kS M (m_fails S a b).2 := h
theorem limb38_K : ∀ (fu : Nat) (M : MS) (k f i : Nat), mTx M → f ≤ 2 → kS M (m_takeLimb_L38 fu M k f i).2 ∧ (m_takeLimb_L38 fu M k f i).1 ≤ 2 := by
  intro fu
  induction fu with
  | zero => intro M k f i hx hf; exact ⟨kS_refl hx, Nat.zero_le 2⟩
  | succ fu ih =>
    intro M k f i hx hf
    rw [m_takeLimb_L38]
    obtain ⟨h1, h2⟩ := into_22_K (4 * k + i) (nI 0) (nI 18) hx
    split
    · exact ⟨kS_refl hx, hf⟩
    · split
      · obtain ⟨a1, a2⟩ := ih _ k _ (i + 1) h1.1 h2
        exact ⟨h1.t a1, a2⟩
      · exact ⟨kS_refl hx, hf⟩
theorem limb_K {M : MS} (hx : mTx M) : kS (mSetN M 20 (mN M 20 + 1)) (m_takeLimb M).2 ∧ (m_takeLimb M).1 ≤ 2 := by
  have hx0 : mTx (mSetA (mSetN M 20 (mN M 20 + 1)) 23 (mN M 20) (-1)) := tx_A (tx_o (by decide) (by decide) hx)
  obtain ⟨h1, h2⟩ := into_21_K (mN M 20) (nI 20) (nI 99) hx0
  rw [m_takeLimb_d]
  obtain ⟨a1, a2⟩ := limb38_K 5 _ (mN M 20) _ 0 h1.1 h2
  exact ⟨kS.t h1 a1, a2⟩
theorem contract_K {M : MS} (hx : mTx M) : kS (mSetN M 24 (mN M 24 + 1)) (m_takeContract M).2 ∧ (m_takeContract M).1 ≤ 2 := by
  have hx0 : mTx (mSetN M 24 (mN M 24 + 1)) := tx_o (by decide) (by decide) hx
  obtain ⟨h1, h2⟩ := into_25_K (mN M 24) (nI 0) (nI 99) hx0
  rw [m_takeContract_d]
  split
  · exact ⟨h1, h2⟩
  · obtain ⟨h3, h4⟩ := into_26_K (mN M 24) (nI 0) ((nI (mN ((m_into_25 (mSetN M 24 ((mN M 24) + 1)) (mN M 24) (nI 0) (nI 99)).2) 20)) - (nI 1)) h1.1
    split
    · exact ⟨h1.t h3, h4⟩
    · obtain ⟨h5, h6⟩ := into_27_K (mN M 24) (nI 1) (nI 50) h3.1
      exact ⟨(h1.t h3).t h5, h6⟩
theorem num_S {M : MS} (a b : Int32) (hx : mTx M) : kS M (m_takeNumber M a b).2 ∧ (m_takeNumber M a b).1 ≤ 2 := ⟨(num_K a b hx).1.kS, (num_K a b hx).2.1⟩
theorem rate_K {M : MS} (hx : mTx M) : kS (mSetN M 28 (mN M 28 + 1)) (m_takeRate M).2 ∧ (m_takeRate M).1 ≤ 4 := by
  have hx0 : mTx (mSetN M 28 (mN M 28 + 1)) := tx_o (by decide) (by decide) hx
  rw [m_takeRate_d]
  obtain ⟨h1, h2⟩ := into_29_K (mN M 28) (nI 0) ((nI (mN M 20)) - (nI 1)) hx0
  generalize m_into_29 (mSetN M 28 ((mN M 28) + 1)) (mN M 28) (nI 0) ((nI (mN M 20)) - (nI 1)) = A at *
  obtain ⟨h3, h4⟩ := into_30_K (mN M 28) (nI 0) ((nI (mN A.2 20)) - (nI 1)) h1.1
  generalize m_into_30 A.2 (mN M 28) (nI 0) ((nI (mN A.2 20)) - (nI 1)) = B at *
  have e3 : kS (mSetN M 28 (mN M 28 + 1)) B.2 := h1.t h3
  obtain ⟨h5, h6⟩ := into_31_K (mN M 28) (nI 1) (nI 20) h3.1
  generalize m_into_31 B.2 (mN M 28) (nI 1) (nI 20) = C at *
  have e5 : kS (mSetN M 28 (mN M 28 + 1)) C.2 := e3.t h5
  obtain ⟨h7, h8⟩ := into_32_K (mN M 28) (nI 1) (nI 20) h5.1
  generalize m_into_32 C.2 (mN M 28) (nI 1) (nI 20) = E at *
  have e7 : kS (mSetN M 28 (mN M 28 + 1)) E.2 := e5.t h7
  have f4 : kS (mSetN M 28 (mN M 28 + 1)) (m_fails B.2 4 (mN B.2 19)).2 := e3
  repeat' split
  all_goals first
    | exact ⟨h1, by omega⟩ | exact ⟨e3, by omega⟩ | exact ⟨e5, by omega⟩ | exact ⟨e7, by omega⟩ | exact ⟨f4, Nat.le_refl 4⟩
theorem heir_K {M : MS} (hx : mTx M) : kS M (m_takeHeir M).2 ∧ (m_takeHeir M).1 ≤ 4 := by
  rw [m_takeHeir_d]
  obtain ⟨h1, h2⟩ := num_S (nI 0) ((nI (mN M 20)) - (nI 1)) hx
  generalize m_takeNumber M (nI 0) ((nI (mN M 20)) - (nI 1)) = A at *
  obtain ⟨h3, h4⟩ := num_S (nI 0) ((nI (mN A.2 20)) - (nI 1)) h1.1
  generalize m_takeNumber A.2 (nI 0) ((nI (mN A.2 20)) - (nI 1)) = B at *
  have e3 : kS M B.2 := h1.t h3
  have f1 : kS M (m_fails A.2 4 (mN A.2 19)).2 := h1
  have f4 : kS M (m_fails B.2 4 (mN B.2 19)).2 := e3
  have g4 : kS M (mSetA B.2 23 (mN A.2 18) (nI (mN B.2 18))) := e3
  repeat' split
  all_goals first
    | exact ⟨h1, by omega⟩ | exact ⟨e3, by omega⟩ | exact ⟨f1, Nat.le_refl 4⟩ | exact ⟨f4, Nat.le_refl 4⟩ | exact ⟨g4, by omega⟩
noncomputable def m_takeClause_b (M : MS) : Nat × MS := (if ((m_here M).1) = (nI 108) then (if (mN ((m_here M).2) 20) ≠ 6 then (if ((m_takeLimb (mSetN ((m_here M).2) 17 ((mN ((m_here M).2) 17) + 1))).1) = 0 then (if ((m_here ((m_takeLimb (mSetN ((m_here M).2) 17 ((mN ((m_here M).2) 17) + 1))).2)).1) = (nI 59) then ((m_takeLimb (mSetN ((m_here M).2) 17 ((mN ((m_here M).2) 17) + 1))).1, mSetN ((m_here ((m_takeLimb (mSetN ((m_here M).2) 17 ((mN ((m_here M).2) 17) + 1))).2)).2) 17 ((mN ((m_here ((m_takeLimb (mSetN ((m_here M).2) 17 ((mN ((m_here M).2) 17) + 1))).2)).2) 17) + 1)) else ((m_fails ((m_here ((m_takeLimb (mSetN ((m_here M).2) 17 ((mN ((m_here M).2) 17) + 1))).2)).2) 1 (mN ((m_here ((m_takeLimb (mSetN ((m_here M).2) 17 ((mN ((m_here M).2) 17) + 1))).2)).2) 17)).1, (m_fails ((m_here ((m_takeLimb (mSetN ((m_here M).2) 17 ((mN ((m_here M).2) 17) + 1))).2)).2) 1 (mN ((m_here ((m_takeLimb (mSetN ((m_here M).2) 17 ((mN ((m_here M).2) 17) + 1))).2)).2) 17)).2)) else ((m_takeLimb (mSetN ((m_here M).2) 17 ((mN ((m_here M).2) 17) + 1))).1, mSetN ((m_takeLimb (mSetN ((m_here M).2) 17 ((mN ((m_here M).2) 17) + 1))).2) 17 ((mN ((m_takeLimb (mSetN ((m_here M).2) 17 ((mN ((m_here M).2) 17) + 1))).2) 17) + 1))) else ((m_fails ((m_here M).2) 3 (mN ((m_here M).2) 17)).1, (m_fails ((m_here M).2) 3 (mN ((m_here M).2) 17)).2)) else (if ((m_here M).1) = (nI 99) then (if (mN ((m_here M).2) 20) = 0 then ((m_fails ((m_here M).2) 1 (mN ((m_here M).2) 17)).1, (m_fails ((m_here M).2) 1 (mN ((m_here M).2) 17)).2) else (if (mN ((m_here M).2) 24) ≠ 6 then (if ((m_takeContract (mSetN ((m_here M).2) 17 ((mN ((m_here M).2) 17) + 1))).1) = 0 then (if ((m_here ((m_takeContract (mSetN ((m_here M).2) 17 ((mN ((m_here M).2) 17) + 1))).2)).1) = (nI 59) then ((m_takeContract (mSetN ((m_here M).2) 17 ((mN ((m_here M).2) 17) + 1))).1, mSetN ((m_here ((m_takeContract (mSetN ((m_here M).2) 17 ((mN ((m_here M).2) 17) + 1))).2)).2) 17 ((mN ((m_here ((m_takeContract (mSetN ((m_here M).2) 17 ((mN ((m_here M).2) 17) + 1))).2)).2) 17) + 1)) else ((m_fails ((m_here ((m_takeContract (mSetN ((m_here M).2) 17 ((mN ((m_here M).2) 17) + 1))).2)).2) 1 (mN ((m_here ((m_takeContract (mSetN ((m_here M).2) 17 ((mN ((m_here M).2) 17) + 1))).2)).2) 17)).1, (m_fails ((m_here ((m_takeContract (mSetN ((m_here M).2) 17 ((mN ((m_here M).2) 17) + 1))).2)).2) 1 (mN ((m_here ((m_takeContract (mSetN ((m_here M).2) 17 ((mN ((m_here M).2) 17) + 1))).2)).2) 17)).2)) else ((m_takeContract (mSetN ((m_here M).2) 17 ((mN ((m_here M).2) 17) + 1))).1, mSetN ((m_takeContract (mSetN ((m_here M).2) 17 ((mN ((m_here M).2) 17) + 1))).2) 17 ((mN ((m_takeContract (mSetN ((m_here M).2) 17 ((mN ((m_here M).2) 17) + 1))).2) 17) + 1))) else ((m_fails ((m_here M).2) 3 (mN ((m_here M).2) 17)).1, (m_fails ((m_here M).2) 3 (mN ((m_here M).2) 17)).2))) else (if ((m_here M).1) = (nI 114) then (if (mN ((m_here M).2) 20) = 0 then ((m_fails ((m_here M).2) 1 (mN ((m_here M).2) 17)).1, (m_fails ((m_here M).2) 1 (mN ((m_here M).2) 17)).2) else (if (mN ((m_here M).2) 28) ≠ 8 then (if ((m_takeRate (mSetN ((m_here M).2) 17 ((mN ((m_here M).2) 17) + 1))).1) = 0 then (if ((m_here ((m_takeRate (mSetN ((m_here M).2) 17 ((mN ((m_here M).2) 17) + 1))).2)).1) = (nI 59) then ((m_takeRate (mSetN ((m_here M).2) 17 ((mN ((m_here M).2) 17) + 1))).1, mSetN ((m_here ((m_takeRate (mSetN ((m_here M).2) 17 ((mN ((m_here M).2) 17) + 1))).2)).2) 17 ((mN ((m_here ((m_takeRate (mSetN ((m_here M).2) 17 ((mN ((m_here M).2) 17) + 1))).2)).2) 17) + 1)) else ((m_fails ((m_here ((m_takeRate (mSetN ((m_here M).2) 17 ((mN ((m_here M).2) 17) + 1))).2)).2) 1 (mN ((m_here ((m_takeRate (mSetN ((m_here M).2) 17 ((mN ((m_here M).2) 17) + 1))).2)).2) 17)).1, (m_fails ((m_here ((m_takeRate (mSetN ((m_here M).2) 17 ((mN ((m_here M).2) 17) + 1))).2)).2) 1 (mN ((m_here ((m_takeRate (mSetN ((m_here M).2) 17 ((mN ((m_here M).2) 17) + 1))).2)).2) 17)).2)) else ((m_takeRate (mSetN ((m_here M).2) 17 ((mN ((m_here M).2) 17) + 1))).1, mSetN ((m_takeRate (mSetN ((m_here M).2) 17 ((mN ((m_here M).2) 17) + 1))).2) 17 ((mN ((m_takeRate (mSetN ((m_here M).2) 17 ((mN ((m_here M).2) 17) + 1))).2) 17) + 1))) else ((m_fails ((m_here M).2) 3 (mN ((m_here M).2) 17)).1, (m_fails ((m_here M).2) 3 (mN ((m_here M).2) 17)).2))) else (if ((m_here M).1) = (nI 104) then (if (mN ((m_here M).2) 20) = 0 then ((m_fails ((m_here M).2) 1 (mN ((m_here M).2) 17)).1, (m_fails ((m_here M).2) 1 (mN ((m_here M).2) 17)).2) else (if ((m_takeHeir (mSetN ((m_here M).2) 17 ((mN ((m_here M).2) 17) + 1))).1) = 0 then (if ((m_here ((m_takeHeir (mSetN ((m_here M).2) 17 ((mN ((m_here M).2) 17) + 1))).2)).1) = (nI 59) then ((m_takeHeir (mSetN ((m_here M).2) 17 ((mN ((m_here M).2) 17) + 1))).1, mSetN ((m_here ((m_takeHeir (mSetN ((m_here M).2) 17 ((mN ((m_here M).2) 17) + 1))).2)).2) 17 ((mN ((m_here ((m_takeHeir (mSetN ((m_here M).2) 17 ((mN ((m_here M).2) 17) + 1))).2)).2) 17) + 1)) else ((m_fails ((m_here ((m_takeHeir (mSetN ((m_here M).2) 17 ((mN ((m_here M).2) 17) + 1))).2)).2) 1 (mN ((m_here ((m_takeHeir (mSetN ((m_here M).2) 17 ((mN ((m_here M).2) 17) + 1))).2)).2) 17)).1, (m_fails ((m_here ((m_takeHeir (mSetN ((m_here M).2) 17 ((mN ((m_here M).2) 17) + 1))).2)).2) 1 (mN ((m_here ((m_takeHeir (mSetN ((m_here M).2) 17 ((mN ((m_here M).2) 17) + 1))).2)).2) 17)).2)) else ((m_takeHeir (mSetN ((m_here M).2) 17 ((mN ((m_here M).2) 17) + 1))).1, mSetN ((m_takeHeir (mSetN ((m_here M).2) 17 ((mN ((m_here M).2) 17) + 1))).2) 17 ((mN ((m_takeHeir (mSetN ((m_here M).2) 17 ((mN ((m_here M).2) 17) + 1))).2) 17) + 1)))) else ((m_fails ((m_here M).2) 1 (mN ((m_here M).2) 17)).1, (m_fails ((m_here M).2) 1 (mN ((m_here M).2) 17)).2)))))
theorem m_takeClause_x : ∃ f : MS → Nat × MS, ∀ (M : MS) , f M = m_takeClause_b M := ⟨m_takeClause_b, fun M => rfl⟩
noncomputable def m_takeClause : MS → Nat × MS := Classical.choose m_takeClause_x
theorem m_takeClause_d (M : MS)  : m_takeClause M = (if ((m_here M).1) = (nI 108) then (if (mN ((m_here M).2) 20) ≠ 6 then (if ((m_takeLimb (mSetN ((m_here M).2) 17 ((mN ((m_here M).2) 17) + 1))).1) = 0 then (if ((m_here ((m_takeLimb (mSetN ((m_here M).2) 17 ((mN ((m_here M).2) 17) + 1))).2)).1) = (nI 59) then ((m_takeLimb (mSetN ((m_here M).2) 17 ((mN ((m_here M).2) 17) + 1))).1, mSetN ((m_here ((m_takeLimb (mSetN ((m_here M).2) 17 ((mN ((m_here M).2) 17) + 1))).2)).2) 17 ((mN ((m_here ((m_takeLimb (mSetN ((m_here M).2) 17 ((mN ((m_here M).2) 17) + 1))).2)).2) 17) + 1)) else ((m_fails ((m_here ((m_takeLimb (mSetN ((m_here M).2) 17 ((mN ((m_here M).2) 17) + 1))).2)).2) 1 (mN ((m_here ((m_takeLimb (mSetN ((m_here M).2) 17 ((mN ((m_here M).2) 17) + 1))).2)).2) 17)).1, (m_fails ((m_here ((m_takeLimb (mSetN ((m_here M).2) 17 ((mN ((m_here M).2) 17) + 1))).2)).2) 1 (mN ((m_here ((m_takeLimb (mSetN ((m_here M).2) 17 ((mN ((m_here M).2) 17) + 1))).2)).2) 17)).2)) else ((m_takeLimb (mSetN ((m_here M).2) 17 ((mN ((m_here M).2) 17) + 1))).1, mSetN ((m_takeLimb (mSetN ((m_here M).2) 17 ((mN ((m_here M).2) 17) + 1))).2) 17 ((mN ((m_takeLimb (mSetN ((m_here M).2) 17 ((mN ((m_here M).2) 17) + 1))).2) 17) + 1))) else ((m_fails ((m_here M).2) 3 (mN ((m_here M).2) 17)).1, (m_fails ((m_here M).2) 3 (mN ((m_here M).2) 17)).2)) else (if ((m_here M).1) = (nI 99) then (if (mN ((m_here M).2) 20) = 0 then ((m_fails ((m_here M).2) 1 (mN ((m_here M).2) 17)).1, (m_fails ((m_here M).2) 1 (mN ((m_here M).2) 17)).2) else (if (mN ((m_here M).2) 24) ≠ 6 then (if ((m_takeContract (mSetN ((m_here M).2) 17 ((mN ((m_here M).2) 17) + 1))).1) = 0 then (if ((m_here ((m_takeContract (mSetN ((m_here M).2) 17 ((mN ((m_here M).2) 17) + 1))).2)).1) = (nI 59) then ((m_takeContract (mSetN ((m_here M).2) 17 ((mN ((m_here M).2) 17) + 1))).1, mSetN ((m_here ((m_takeContract (mSetN ((m_here M).2) 17 ((mN ((m_here M).2) 17) + 1))).2)).2) 17 ((mN ((m_here ((m_takeContract (mSetN ((m_here M).2) 17 ((mN ((m_here M).2) 17) + 1))).2)).2) 17) + 1)) else ((m_fails ((m_here ((m_takeContract (mSetN ((m_here M).2) 17 ((mN ((m_here M).2) 17) + 1))).2)).2) 1 (mN ((m_here ((m_takeContract (mSetN ((m_here M).2) 17 ((mN ((m_here M).2) 17) + 1))).2)).2) 17)).1, (m_fails ((m_here ((m_takeContract (mSetN ((m_here M).2) 17 ((mN ((m_here M).2) 17) + 1))).2)).2) 1 (mN ((m_here ((m_takeContract (mSetN ((m_here M).2) 17 ((mN ((m_here M).2) 17) + 1))).2)).2) 17)).2)) else ((m_takeContract (mSetN ((m_here M).2) 17 ((mN ((m_here M).2) 17) + 1))).1, mSetN ((m_takeContract (mSetN ((m_here M).2) 17 ((mN ((m_here M).2) 17) + 1))).2) 17 ((mN ((m_takeContract (mSetN ((m_here M).2) 17 ((mN ((m_here M).2) 17) + 1))).2) 17) + 1))) else ((m_fails ((m_here M).2) 3 (mN ((m_here M).2) 17)).1, (m_fails ((m_here M).2) 3 (mN ((m_here M).2) 17)).2))) else (if ((m_here M).1) = (nI 114) then (if (mN ((m_here M).2) 20) = 0 then ((m_fails ((m_here M).2) 1 (mN ((m_here M).2) 17)).1, (m_fails ((m_here M).2) 1 (mN ((m_here M).2) 17)).2) else (if (mN ((m_here M).2) 28) ≠ 8 then (if ((m_takeRate (mSetN ((m_here M).2) 17 ((mN ((m_here M).2) 17) + 1))).1) = 0 then (if ((m_here ((m_takeRate (mSetN ((m_here M).2) 17 ((mN ((m_here M).2) 17) + 1))).2)).1) = (nI 59) then ((m_takeRate (mSetN ((m_here M).2) 17 ((mN ((m_here M).2) 17) + 1))).1, mSetN ((m_here ((m_takeRate (mSetN ((m_here M).2) 17 ((mN ((m_here M).2) 17) + 1))).2)).2) 17 ((mN ((m_here ((m_takeRate (mSetN ((m_here M).2) 17 ((mN ((m_here M).2) 17) + 1))).2)).2) 17) + 1)) else ((m_fails ((m_here ((m_takeRate (mSetN ((m_here M).2) 17 ((mN ((m_here M).2) 17) + 1))).2)).2) 1 (mN ((m_here ((m_takeRate (mSetN ((m_here M).2) 17 ((mN ((m_here M).2) 17) + 1))).2)).2) 17)).1, (m_fails ((m_here ((m_takeRate (mSetN ((m_here M).2) 17 ((mN ((m_here M).2) 17) + 1))).2)).2) 1 (mN ((m_here ((m_takeRate (mSetN ((m_here M).2) 17 ((mN ((m_here M).2) 17) + 1))).2)).2) 17)).2)) else ((m_takeRate (mSetN ((m_here M).2) 17 ((mN ((m_here M).2) 17) + 1))).1, mSetN ((m_takeRate (mSetN ((m_here M).2) 17 ((mN ((m_here M).2) 17) + 1))).2) 17 ((mN ((m_takeRate (mSetN ((m_here M).2) 17 ((mN ((m_here M).2) 17) + 1))).2) 17) + 1))) else ((m_fails ((m_here M).2) 3 (mN ((m_here M).2) 17)).1, (m_fails ((m_here M).2) 3 (mN ((m_here M).2) 17)).2))) else (if ((m_here M).1) = (nI 104) then (if (mN ((m_here M).2) 20) = 0 then ((m_fails ((m_here M).2) 1 (mN ((m_here M).2) 17)).1, (m_fails ((m_here M).2) 1 (mN ((m_here M).2) 17)).2) else (if ((m_takeHeir (mSetN ((m_here M).2) 17 ((mN ((m_here M).2) 17) + 1))).1) = 0 then (if ((m_here ((m_takeHeir (mSetN ((m_here M).2) 17 ((mN ((m_here M).2) 17) + 1))).2)).1) = (nI 59) then ((m_takeHeir (mSetN ((m_here M).2) 17 ((mN ((m_here M).2) 17) + 1))).1, mSetN ((m_here ((m_takeHeir (mSetN ((m_here M).2) 17 ((mN ((m_here M).2) 17) + 1))).2)).2) 17 ((mN ((m_here ((m_takeHeir (mSetN ((m_here M).2) 17 ((mN ((m_here M).2) 17) + 1))).2)).2) 17) + 1)) else ((m_fails ((m_here ((m_takeHeir (mSetN ((m_here M).2) 17 ((mN ((m_here M).2) 17) + 1))).2)).2) 1 (mN ((m_here ((m_takeHeir (mSetN ((m_here M).2) 17 ((mN ((m_here M).2) 17) + 1))).2)).2) 17)).1, (m_fails ((m_here ((m_takeHeir (mSetN ((m_here M).2) 17 ((mN ((m_here M).2) 17) + 1))).2)).2) 1 (mN ((m_here ((m_takeHeir (mSetN ((m_here M).2) 17 ((mN ((m_here M).2) 17) + 1))).2)).2) 17)).2)) else ((m_takeHeir (mSetN ((m_here M).2) 17 ((mN ((m_here M).2) 17) + 1))).1, mSetN ((m_takeHeir (mSetN ((m_here M).2) 17 ((mN ((m_here M).2) 17) + 1))).2) 17 ((mN ((m_takeHeir (mSetN ((m_here M).2) 17 ((mN ((m_here M).2) 17) + 1))).2) 17) + 1)))) else ((m_fails ((m_here M).2) 1 (mN ((m_here M).2) 17)).1, (m_fails ((m_here M).2) 1 (mN ((m_here M).2) 17)).2))))) := Classical.choose_spec m_takeClause_x M
theorem bX3_takeClause : nBV RX3 yX3_takeClause cX3_takeClause 5 (some .int) 0 := ⟨q837, qs20, q55, q838, by decide, by decide +kernel⟩
set_option maxRecDepth 100000 in
set_option maxHeartbeats 4000000 in
theorem t_m_takeClause (l : Launch) (D : va_G) (N0 : Nat) (kA : Nat → ClassId) (mb : Nat) (hs : hT) (M : MS) (n : Nat) (hn : mb + 28 < n)  (hx : mTx M) (h20 : mN M 20 ≤ 6) (h24 : mN M 24 ≤ 6) (h28 : mN M 28 ≤ 8) : nE l yX3_takeClause cX3_takeClause 5 (some .int) D N0 kA 4 0 0 [.ref (N0 + mb)] (mH N0 mb kA hs M) n (nX (some (.int (nI ((m_takeClause M).1)))) (mH N0 mb kA hs ((m_takeClause M).2)) n) := by
  refine nE_of (by decide) (Nat.le_of_ble_eq_true rfl) ?_
  intro p e s m args below meth c hC hnm
  refine n_loc (L' := [(0, .ref (N0 + mb))]) rfl ?_
  refine n_aload_n hC dX3_takeClause_0 rfl ?_
  refine n_callV1 hC (As := []) (rest := []) mc_o (by omega) rfl bX3_here (t_m_here l D N0 kA mb hs M n hn  hx) (by decide) (by decide) q831 rfl (Nat.le_of_ble_eq_true rfl) dX3_takeClause_1 (Nat.le_of_ble_eq_true rfl) (Nat.le_of_ble_eq_true rfl) ?_
  refine n_stk (st' := [.int ((m_here M).1)]) rfl ?_
  have hh := here_K hx
  have hx1 := hh.2.2.2.2.1
  have e20 := hh.1 20 (by decide)
  have e24 := hh.1 24 (by decide)
  have e28 := hh.1 28 (by decide)
  refine n_istore_n (L' := [(0, .ref (N0 + mb)), (1, .int ((m_here M).1))]) hC dX3_takeClause_4 (by decide) rfl ?_
  refine n_iload_n hC dX3_takeClause_5 rfl ?_
  refine n_bipush (v := (nI 108)) hC dX3_takeClause_6 (by decide) ?_
  refine n_icmp_ne (tgt := 15) hC dX3_takeClause_8 (by decide) (fun c8 => ?_) (fun c8 => ?_)
  · refine n_iload_n hC dX3_takeClause_15 rfl ?_
    refine n_bipush (v := (nI 99)) hC dX3_takeClause_16 (by decide) ?_
    refine n_icmp_ne (tgt := 25) hC dX3_takeClause_18 (by decide) (fun c18 => ?_) (fun c18 => ?_)
    · refine n_iload_n hC dX3_takeClause_25 rfl ?_
      refine n_bipush (v := (nI 114)) hC dX3_takeClause_26 (by decide) ?_
      refine n_icmp_ne (tgt := 35) hC dX3_takeClause_28 (by decide) (fun c28 => ?_) (fun c28 => ?_)
      · refine n_iload_n hC dX3_takeClause_35 rfl ?_
        refine n_bipush (v := (nI 104)) hC dX3_takeClause_36 (by decide) ?_
        refine n_icmp_ne (tgt := 45) hC dX3_takeClause_38 (by decide) (fun c38 => ?_) (fun c38 => ?_)
        · refine n_iconst (v := (-1)) hC dX3_takeClause_45 (by decide) ?_
          refine n_istore_n (L' := [(0, .ref (N0 + mb)), (1, .int ((m_here M).1)), (2, .int (-1))]) hC dX3_takeClause_46 (by decide) rfl ?_
          refine n_iload_n hC dX3_takeClause_47 rfl ?_
          refine n_if_ltT (tgt := 62) hC dX3_takeClause_48 (by decide) (by decide) ?_
          refine n_aload_n hC dX3_takeClause_62 rfl ?_
          refine n_iconst (v := (nI 1)) hC dX3_takeClause_63 (by decide) ?_
          refine n_aload_n hC dX3_takeClause_64 rfl ?_
          refine n_get hC cl3 (k := 17) (v := .int (nI (mN ((m_here M).2) 17))) mc_o (by omega) (by decide) q697 (mf_get N0 mb ((m_here M).2) (by decide)) dX3_takeClause_65 ?_
          refine n_callV1 hC (As := [.int (nI 1), .int (nI (mN ((m_here M).2) 17))]) (rest := []) mc_o (by omega) rfl bX3_fails (t_m_fails l D N0 kA mb hs ((m_here M).2) n hn 1 (mN ((m_here M).2) 17) ) (by decide) (by decide) q839 rfl (Nat.le_of_ble_eq_true rfl) dX3_takeClause_68 (Nat.le_of_ble_eq_true rfl) (Nat.le_of_ble_eq_true rfl) ?_
          refine n_stk (st' := [.int (nI ((m_fails ((m_here M).2) 1 (mN ((m_here M).2) 17)).1))]) rfl ?_
          have eq_ : m_takeClause M = ((m_fails ((m_here M).2) 1 (mN ((m_here M).2) 17)).1, (m_fails ((m_here M).2) 1 (mN ((m_here M).2) 17)).2) := by rw [m_takeClause_d, if_neg c8, if_neg c18, if_neg c28, if_neg c38]
          refine n_iret hC dX3_takeClause_71 (Nat.le_of_ble_eq_true rfl) (Nat.le_of_ble_eq_true rfl) ?_
          rw [eq_]
          dsimp only
          exact ⟨rfl, rfl, rfl⟩
        · refine n_iconst (v := (nI 3)) hC dX3_takeClause_41 (by decide) ?_
          refine n_goto (tgt := 46) hC dX3_takeClause_42 (by decide) ?_
          refine n_istore_n (L' := [(0, .ref (N0 + mb)), (1, .int ((m_here M).1)), (2, .int (nI 3))]) hC dX3_takeClause_46 (by decide) rfl ?_
          refine n_iload_n hC dX3_takeClause_47 rfl ?_
          refine n_if_ltF (tgt := 62) hC dX3_takeClause_48 (by decide) (by decide) ?_
          refine n_iload_n hC dX3_takeClause_51 rfl ?_
          refine n_if_leF (tgt := 72) hC dX3_takeClause_52 (by decide) (by decide) ?_
          refine n_aload_n hC dX3_takeClause_55 rfl ?_
          refine n_get hC cl3 (k := 20) (v := .int (nI (mN ((m_here M).2) 20))) mc_o (by omega) (by decide) q700 (mf_get N0 mb ((m_here M).2) (by decide)) dX3_takeClause_56 ?_
          refine n_if_neN (tgt := 72) hC (by omega) dX3_takeClause_59 (by decide) (fun c59 => ?_) (fun c59 => ?_)
          · refine n_iload_n hC dX3_takeClause_72 rfl ?_
            refine n_if_neT (tgt := 93) hC dX3_takeClause_73 (by decide) (by decide) ?_
            refine n_iload_n hC dX3_takeClause_93 rfl ?_
            refine n_iconst (v := (nI 1)) hC dX3_takeClause_94 (by decide) ?_
            refine n_icmp_neT (tgt := 115) hC dX3_takeClause_95 (by decide) (by decide) ?_
            refine n_iload_n hC dX3_takeClause_115 rfl ?_
            refine n_iconst (v := (nI 2)) hC dX3_takeClause_116 (by decide) ?_
            refine n_icmp_neT (tgt := 133) hC dX3_takeClause_117 (by decide) (by decide) ?_
            refine n_iconst (v := (nI 0)) hC dX3_takeClause_133 (by decide) ?_
            refine n_istore_n (L' := [(0, .ref (N0 + mb)), (1, .int ((m_here M).1)), (2, .int (nI 3)), (3, .int (nI 0))]) hC dX3_takeClause_134 (by decide) rfl ?_
            refine n_iload_n hC dX3_takeClause_135 rfl ?_
            refine n_if_eqT (tgt := 149) hC dX3_takeClause_136 (by decide) (by decide) ?_
            have hp := hh.2.2.2.2.2.2 (by rw [c38]; decide)
            have hx2 : mTx (mSetN (m_here M).2 17 ((mN (m_here M).2 17) + 1)) := tx_at hx1 (by rw [hh.1 15 (by decide)]; omega)
            refine n_aload_n hC dX3_takeClause_149 rfl ?_
            refine n_dup hC dX3_takeClause_150 rfl ?_
            refine n_get hC cl3 (k := 17) (v := .int (nI (mN ((m_here M).2) 17))) mc_o (by omega) (by decide) q697 (mf_get N0 mb ((m_here M).2) (by decide)) dX3_takeClause_151 ?_
            refine n_iconst (v := (nI 1)) hC dX3_takeClause_154 (by decide) ?_
            refine n_iaddN hC dX3_takeClause_155 ?_
            refine n_put hC cl3 (k := 17) mc_o (by omega) (by decide) q697 rfl rfl rfl (by rw [mf_len]; decide) dX3_takeClause_156 (mu_N (M := ((m_here M).2)) (k := 17) (by decide) rfl rfl) ?_
            refine n_iload_n hC dX3_takeClause_159 rfl ?_
            refine n_if_neT (tgt := 170) hC dX3_takeClause_160 (by decide) (by decide) ?_
            refine n_iload_n hC dX3_takeClause_170 rfl ?_
            refine n_iconst (v := (nI 1)) hC dX3_takeClause_171 (by decide) ?_
            refine n_icmp_neT (tgt := 182) hC dX3_takeClause_172 (by decide) (by decide) ?_
            refine n_iload_n hC dX3_takeClause_182 rfl ?_
            refine n_iconst (v := (nI 2)) hC dX3_takeClause_183 (by decide) ?_
            refine n_icmp_neT (tgt := 194) hC dX3_takeClause_184 (by decide) (by decide) ?_
            refine n_aload_n hC dX3_takeClause_194 rfl ?_
            refine n_callV1 hC (As := []) (rest := []) mc_o (by omega) rfl bX3_takeHeir (t_m_takeHeir l D N0 kA mb hs (mSetN ((m_here M).2) 17 ((mN ((m_here M).2) 17) + 1)) n hn  hx2 (by show mN (m_here M).2 20 ≤ 6; omega)) (by decide) (by decide) q865 rfl (Nat.le_of_ble_eq_true rfl) dX3_takeClause_195 (Nat.le_of_ble_eq_true rfl) (Nat.le_of_ble_eq_true rfl) ?_
            refine n_stk (st' := [.int (nI ((m_takeHeir (mSetN ((m_here M).2) 17 ((mN ((m_here M).2) 17) + 1))).1))]) rfl ?_
            have hK2 := heir_K hx2
            have hr := hK2.2
            have hx3 := hK2.1.1
            refine n_istore (L' := [(0, .ref (N0 + mb)), (1, .int ((m_here M).1)), (2, .int (nI 3)), (3, .int (nI 0)), (4, .int (nI ((m_takeHeir (mSetN ((m_here M).2) 17 ((mN ((m_here M).2) 17) + 1))).1)))]) hC dX3_takeClause_198 (by decide) rfl ?_
            refine n_iload hC dX3_takeClause_200 rfl ?_
            refine n_if_neN (tgt := 224) hC (by omega) dX3_takeClause_202 (by decide) (fun c202 => ?_) (fun c202 => ?_)
            · refine n_aload_n hC dX3_takeClause_224 rfl ?_
              refine n_dup hC dX3_takeClause_225 rfl ?_
              refine n_get hC cl3 (k := 17) (v := .int (nI (mN ((m_takeHeir (mSetN ((m_here M).2) 17 ((mN ((m_here M).2) 17) + 1))).2) 17))) mc_o (by omega) (by decide) q697 (mf_get N0 mb ((m_takeHeir (mSetN ((m_here M).2) 17 ((mN ((m_here M).2) 17) + 1))).2) (by decide)) dX3_takeClause_226 ?_
              refine n_iconst (v := (nI 1)) hC dX3_takeClause_229 (by decide) ?_
              refine n_iaddN hC dX3_takeClause_230 ?_
              refine n_put hC cl3 (k := 17) mc_o (by omega) (by decide) q697 rfl rfl rfl (by rw [mf_len]; decide) dX3_takeClause_231 (mu_N (M := ((m_takeHeir (mSetN ((m_here M).2) 17 ((mN ((m_here M).2) 17) + 1))).2)) (k := 17) (by decide) rfl rfl) ?_
              refine n_iload hC dX3_takeClause_234 rfl ?_
              have eq_ : m_takeClause M = ((m_takeHeir (mSetN ((m_here M).2) 17 ((mN ((m_here M).2) 17) + 1))).1, mSetN ((m_takeHeir (mSetN ((m_here M).2) 17 ((mN ((m_here M).2) 17) + 1))).2) 17 ((mN ((m_takeHeir (mSetN ((m_here M).2) 17 ((mN ((m_here M).2) 17) + 1))).2) 17) + 1)) := by rw [m_takeClause_d, if_neg c8, if_neg c18, if_neg c28, if_pos c38, if_neg c59, if_neg c202]
              refine n_iret hC dX3_takeClause_236 (Nat.le_of_ble_eq_true rfl) (Nat.le_of_ble_eq_true rfl) ?_
              rw [eq_]
              dsimp only
              exact ⟨rfl, rfl, rfl⟩
            · refine n_aload_n hC dX3_takeClause_205 rfl ?_
              refine n_callV1 hC (As := []) (rest := []) mc_o (by omega) rfl bX3_here (t_m_here l D N0 kA mb hs ((m_takeHeir (mSetN ((m_here M).2) 17 ((mN ((m_here M).2) 17) + 1))).2) n hn  hx3) (by decide) (by decide) q831 rfl (Nat.le_of_ble_eq_true rfl) dX3_takeClause_206 (Nat.le_of_ble_eq_true rfl) (Nat.le_of_ble_eq_true rfl) ?_
              refine n_stk (st' := [.int ((m_here ((m_takeHeir (mSetN ((m_here M).2) 17 ((mN ((m_here M).2) 17) + 1))).2)).1)]) rfl ?_
              refine n_bipush (v := (nI 59)) hC dX3_takeClause_209 (by decide) ?_
              refine n_icmp_eq (tgt := 224) hC dX3_takeClause_211 (by decide) (fun c211 => ?_) (fun c211 => ?_)
              · refine n_aload_n hC dX3_takeClause_224 rfl ?_
                refine n_dup hC dX3_takeClause_225 rfl ?_
                refine n_get hC cl3 (k := 17) (v := .int (nI (mN ((m_here ((m_takeHeir (mSetN ((m_here M).2) 17 ((mN ((m_here M).2) 17) + 1))).2)).2) 17))) mc_o (by omega) (by decide) q697 (mf_get N0 mb ((m_here ((m_takeHeir (mSetN ((m_here M).2) 17 ((mN ((m_here M).2) 17) + 1))).2)).2) (by decide)) dX3_takeClause_226 ?_
                refine n_iconst (v := (nI 1)) hC dX3_takeClause_229 (by decide) ?_
                refine n_iaddN hC dX3_takeClause_230 ?_
                refine n_put hC cl3 (k := 17) mc_o (by omega) (by decide) q697 rfl rfl rfl (by rw [mf_len]; decide) dX3_takeClause_231 (mu_N (M := ((m_here ((m_takeHeir (mSetN ((m_here M).2) 17 ((mN ((m_here M).2) 17) + 1))).2)).2)) (k := 17) (by decide) rfl rfl) ?_
                refine n_iload hC dX3_takeClause_234 rfl ?_
                have eq_ : m_takeClause M = ((m_takeHeir (mSetN ((m_here M).2) 17 ((mN ((m_here M).2) 17) + 1))).1, mSetN ((m_here ((m_takeHeir (mSetN ((m_here M).2) 17 ((mN ((m_here M).2) 17) + 1))).2)).2) 17 ((mN ((m_here ((m_takeHeir (mSetN ((m_here M).2) 17 ((mN ((m_here M).2) 17) + 1))).2)).2) 17) + 1)) := by rw [m_takeClause_d, if_neg c8, if_neg c18, if_neg c28, if_pos c38, if_neg c59, if_pos c202, if_pos c211]
                refine n_iret hC dX3_takeClause_236 (Nat.le_of_ble_eq_true rfl) (Nat.le_of_ble_eq_true rfl) ?_
                rw [eq_]
                dsimp only
                exact ⟨rfl, rfl, rfl⟩
              · refine n_aload_n hC dX3_takeClause_214 rfl ?_
                refine n_iconst (v := (nI 1)) hC dX3_takeClause_215 (by decide) ?_
                refine n_aload_n hC dX3_takeClause_216 rfl ?_
                refine n_get hC cl3 (k := 17) (v := .int (nI (mN ((m_here ((m_takeHeir (mSetN ((m_here M).2) 17 ((mN ((m_here M).2) 17) + 1))).2)).2) 17))) mc_o (by omega) (by decide) q697 (mf_get N0 mb ((m_here ((m_takeHeir (mSetN ((m_here M).2) 17 ((mN ((m_here M).2) 17) + 1))).2)).2) (by decide)) dX3_takeClause_217 ?_
                refine n_callV1 hC (As := [.int (nI 1), .int (nI (mN ((m_here ((m_takeHeir (mSetN ((m_here M).2) 17 ((mN ((m_here M).2) 17) + 1))).2)).2) 17))]) (rest := []) mc_o (by omega) rfl bX3_fails (t_m_fails l D N0 kA mb hs ((m_here ((m_takeHeir (mSetN ((m_here M).2) 17 ((mN ((m_here M).2) 17) + 1))).2)).2) n hn 1 (mN ((m_here ((m_takeHeir (mSetN ((m_here M).2) 17 ((mN ((m_here M).2) 17) + 1))).2)).2) 17) ) (by decide) (by decide) q839 rfl (Nat.le_of_ble_eq_true rfl) dX3_takeClause_220 (Nat.le_of_ble_eq_true rfl) (Nat.le_of_ble_eq_true rfl) ?_
                refine n_stk (st' := [.int (nI ((m_fails ((m_here ((m_takeHeir (mSetN ((m_here M).2) 17 ((mN ((m_here M).2) 17) + 1))).2)).2) 1 (mN ((m_here ((m_takeHeir (mSetN ((m_here M).2) 17 ((mN ((m_here M).2) 17) + 1))).2)).2) 17)).1))]) rfl ?_
                have eq_ : m_takeClause M = ((m_fails ((m_here ((m_takeHeir (mSetN ((m_here M).2) 17 ((mN ((m_here M).2) 17) + 1))).2)).2) 1 (mN ((m_here ((m_takeHeir (mSetN ((m_here M).2) 17 ((mN ((m_here M).2) 17) + 1))).2)).2) 17)).1, (m_fails ((m_here ((m_takeHeir (mSetN ((m_here M).2) 17 ((mN ((m_here M).2) 17) + 1))).2)).2) 1 (mN ((m_here ((m_takeHeir (mSetN ((m_here M).2) 17 ((mN ((m_here M).2) 17) + 1))).2)).2) 17)).2) := by rw [m_takeClause_d, if_neg c8, if_neg c18, if_neg c28, if_pos c38, if_neg c59, if_pos c202, if_neg c211]
                refine n_iret hC dX3_takeClause_223 (Nat.le_of_ble_eq_true rfl) (Nat.le_of_ble_eq_true rfl) ?_
                rw [eq_]
                dsimp only
                exact ⟨rfl, rfl, rfl⟩
          · refine n_aload_n hC dX3_takeClause_62 rfl ?_
            refine n_iconst (v := (nI 1)) hC dX3_takeClause_63 (by decide) ?_
            refine n_aload_n hC dX3_takeClause_64 rfl ?_
            refine n_get hC cl3 (k := 17) (v := .int (nI (mN ((m_here M).2) 17))) mc_o (by omega) (by decide) q697 (mf_get N0 mb ((m_here M).2) (by decide)) dX3_takeClause_65 ?_
            refine n_callV1 hC (As := [.int (nI 1), .int (nI (mN ((m_here M).2) 17))]) (rest := []) mc_o (by omega) rfl bX3_fails (t_m_fails l D N0 kA mb hs ((m_here M).2) n hn 1 (mN ((m_here M).2) 17) ) (by decide) (by decide) q839 rfl (Nat.le_of_ble_eq_true rfl) dX3_takeClause_68 (Nat.le_of_ble_eq_true rfl) (Nat.le_of_ble_eq_true rfl) ?_
            refine n_stk (st' := [.int (nI ((m_fails ((m_here M).2) 1 (mN ((m_here M).2) 17)).1))]) rfl ?_
            have eq_ : m_takeClause M = ((m_fails ((m_here M).2) 1 (mN ((m_here M).2) 17)).1, (m_fails ((m_here M).2) 1 (mN ((m_here M).2) 17)).2) := by rw [m_takeClause_d, if_neg c8, if_neg c18, if_neg c28, if_pos c38, if_pos c59]
            refine n_iret hC dX3_takeClause_71 (Nat.le_of_ble_eq_true rfl) (Nat.le_of_ble_eq_true rfl) ?_
            rw [eq_]
            dsimp only
            exact ⟨rfl, rfl, rfl⟩
      · refine n_iconst (v := (nI 2)) hC dX3_takeClause_31 (by decide) ?_
        refine n_goto (tgt := 46) hC dX3_takeClause_32 (by decide) ?_
        refine n_istore_n (L' := [(0, .ref (N0 + mb)), (1, .int ((m_here M).1)), (2, .int (nI 2))]) hC dX3_takeClause_46 (by decide) rfl ?_
        refine n_iload_n hC dX3_takeClause_47 rfl ?_
        refine n_if_ltF (tgt := 62) hC dX3_takeClause_48 (by decide) (by decide) ?_
        refine n_iload_n hC dX3_takeClause_51 rfl ?_
        refine n_if_leF (tgt := 72) hC dX3_takeClause_52 (by decide) (by decide) ?_
        refine n_aload_n hC dX3_takeClause_55 rfl ?_
        refine n_get hC cl3 (k := 20) (v := .int (nI (mN ((m_here M).2) 20))) mc_o (by omega) (by decide) q700 (mf_get N0 mb ((m_here M).2) (by decide)) dX3_takeClause_56 ?_
        refine n_if_neN (tgt := 72) hC (by omega) dX3_takeClause_59 (by decide) (fun c59 => ?_) (fun c59 => ?_)
        · refine n_iload_n hC dX3_takeClause_72 rfl ?_
          refine n_if_neT (tgt := 93) hC dX3_takeClause_73 (by decide) (by decide) ?_
          refine n_iload_n hC dX3_takeClause_93 rfl ?_
          refine n_iconst (v := (nI 1)) hC dX3_takeClause_94 (by decide) ?_
          refine n_icmp_neT (tgt := 115) hC dX3_takeClause_95 (by decide) (by decide) ?_
          refine n_iload_n hC dX3_takeClause_115 rfl ?_
          refine n_iconst (v := (nI 2)) hC dX3_takeClause_116 (by decide) ?_
          refine n_icmp_neF (tgt := 133) hC dX3_takeClause_117 (by decide) (by decide) ?_
          refine n_aload_n hC dX3_takeClause_120 rfl ?_
          refine n_get hC cl3 (k := 28) (v := .int (nI (mN ((m_here M).2) 28))) mc_o (by omega) (by decide) q708 (mf_get N0 mb ((m_here M).2) (by decide)) dX3_takeClause_121 ?_
          refine n_bipush (v := (nI 8)) hC dX3_takeClause_124 (by decide) ?_
          refine n_icmp_neN (tgt := 133) hC (mN ((m_here M).2) 28) 8 rfl rfl (by omega) (by omega) dX3_takeClause_126 (by decide) (fun c126 => ?_) (fun c126 => ?_)
          · refine n_iconst (v := (nI 0)) hC dX3_takeClause_133 (by decide) ?_
            refine n_istore_n (L' := [(0, .ref (N0 + mb)), (1, .int ((m_here M).1)), (2, .int (nI 2)), (3, .int (nI 0))]) hC dX3_takeClause_134 (by decide) rfl ?_
            refine n_iload_n hC dX3_takeClause_135 rfl ?_
            refine n_if_eqT (tgt := 149) hC dX3_takeClause_136 (by decide) (by decide) ?_
            have hp := hh.2.2.2.2.2.2 (by rw [c28]; decide)
            have hx2 : mTx (mSetN (m_here M).2 17 ((mN (m_here M).2 17) + 1)) := tx_at hx1 (by rw [hh.1 15 (by decide)]; omega)
            refine n_aload_n hC dX3_takeClause_149 rfl ?_
            refine n_dup hC dX3_takeClause_150 rfl ?_
            refine n_get hC cl3 (k := 17) (v := .int (nI (mN ((m_here M).2) 17))) mc_o (by omega) (by decide) q697 (mf_get N0 mb ((m_here M).2) (by decide)) dX3_takeClause_151 ?_
            refine n_iconst (v := (nI 1)) hC dX3_takeClause_154 (by decide) ?_
            refine n_iaddN hC dX3_takeClause_155 ?_
            refine n_put hC cl3 (k := 17) mc_o (by omega) (by decide) q697 rfl rfl rfl (by rw [mf_len]; decide) dX3_takeClause_156 (mu_N (M := ((m_here M).2)) (k := 17) (by decide) rfl rfl) ?_
            refine n_iload_n hC dX3_takeClause_159 rfl ?_
            refine n_if_neT (tgt := 170) hC dX3_takeClause_160 (by decide) (by decide) ?_
            refine n_iload_n hC dX3_takeClause_170 rfl ?_
            refine n_iconst (v := (nI 1)) hC dX3_takeClause_171 (by decide) ?_
            refine n_icmp_neT (tgt := 182) hC dX3_takeClause_172 (by decide) (by decide) ?_
            refine n_iload_n hC dX3_takeClause_182 rfl ?_
            refine n_iconst (v := (nI 2)) hC dX3_takeClause_183 (by decide) ?_
            refine n_icmp_neF (tgt := 194) hC dX3_takeClause_184 (by decide) (by decide) ?_
            refine n_aload_n hC dX3_takeClause_187 rfl ?_
            refine n_callV1 hC (As := []) (rest := []) mc_o (by omega) rfl bX3_takeRate (t_m_takeRate l D N0 kA mb hs (mSetN ((m_here M).2) 17 ((mN ((m_here M).2) 17) + 1)) n hn  hx2 (by show mN (m_here M).2 28 < 8; omega)) (by decide) (by decide) q861 rfl (Nat.le_of_ble_eq_true rfl) dX3_takeClause_188 (Nat.le_of_ble_eq_true rfl) (Nat.le_of_ble_eq_true rfl) ?_
            refine n_stk (st' := [.int (nI ((m_takeRate (mSetN ((m_here M).2) 17 ((mN ((m_here M).2) 17) + 1))).1))]) rfl ?_
            refine n_goto (tgt := 198) hC dX3_takeClause_191 (by decide) ?_
            have hK2 := rate_K hx2
            have hr := hK2.2
            have hx3 := hK2.1.1
            refine n_istore (L' := [(0, .ref (N0 + mb)), (1, .int ((m_here M).1)), (2, .int (nI 2)), (3, .int (nI 0)), (4, .int (nI ((m_takeRate (mSetN ((m_here M).2) 17 ((mN ((m_here M).2) 17) + 1))).1)))]) hC dX3_takeClause_198 (by decide) rfl ?_
            refine n_iload hC dX3_takeClause_200 rfl ?_
            refine n_if_neN (tgt := 224) hC (by omega) dX3_takeClause_202 (by decide) (fun c202 => ?_) (fun c202 => ?_)
            · refine n_aload_n hC dX3_takeClause_224 rfl ?_
              refine n_dup hC dX3_takeClause_225 rfl ?_
              refine n_get hC cl3 (k := 17) (v := .int (nI (mN ((m_takeRate (mSetN ((m_here M).2) 17 ((mN ((m_here M).2) 17) + 1))).2) 17))) mc_o (by omega) (by decide) q697 (mf_get N0 mb ((m_takeRate (mSetN ((m_here M).2) 17 ((mN ((m_here M).2) 17) + 1))).2) (by decide)) dX3_takeClause_226 ?_
              refine n_iconst (v := (nI 1)) hC dX3_takeClause_229 (by decide) ?_
              refine n_iaddN hC dX3_takeClause_230 ?_
              refine n_put hC cl3 (k := 17) mc_o (by omega) (by decide) q697 rfl rfl rfl (by rw [mf_len]; decide) dX3_takeClause_231 (mu_N (M := ((m_takeRate (mSetN ((m_here M).2) 17 ((mN ((m_here M).2) 17) + 1))).2)) (k := 17) (by decide) rfl rfl) ?_
              refine n_iload hC dX3_takeClause_234 rfl ?_
              have eq_ : m_takeClause M = ((m_takeRate (mSetN ((m_here M).2) 17 ((mN ((m_here M).2) 17) + 1))).1, mSetN ((m_takeRate (mSetN ((m_here M).2) 17 ((mN ((m_here M).2) 17) + 1))).2) 17 ((mN ((m_takeRate (mSetN ((m_here M).2) 17 ((mN ((m_here M).2) 17) + 1))).2) 17) + 1)) := by rw [m_takeClause_d, if_neg c8, if_neg c18, if_pos c28, if_neg c59, if_pos c126, if_neg c202]
              refine n_iret hC dX3_takeClause_236 (Nat.le_of_ble_eq_true rfl) (Nat.le_of_ble_eq_true rfl) ?_
              rw [eq_]
              dsimp only
              exact ⟨rfl, rfl, rfl⟩
            · refine n_aload_n hC dX3_takeClause_205 rfl ?_
              refine n_callV1 hC (As := []) (rest := []) mc_o (by omega) rfl bX3_here (t_m_here l D N0 kA mb hs ((m_takeRate (mSetN ((m_here M).2) 17 ((mN ((m_here M).2) 17) + 1))).2) n hn  hx3) (by decide) (by decide) q831 rfl (Nat.le_of_ble_eq_true rfl) dX3_takeClause_206 (Nat.le_of_ble_eq_true rfl) (Nat.le_of_ble_eq_true rfl) ?_
              refine n_stk (st' := [.int ((m_here ((m_takeRate (mSetN ((m_here M).2) 17 ((mN ((m_here M).2) 17) + 1))).2)).1)]) rfl ?_
              refine n_bipush (v := (nI 59)) hC dX3_takeClause_209 (by decide) ?_
              refine n_icmp_eq (tgt := 224) hC dX3_takeClause_211 (by decide) (fun c211 => ?_) (fun c211 => ?_)
              · refine n_aload_n hC dX3_takeClause_224 rfl ?_
                refine n_dup hC dX3_takeClause_225 rfl ?_
                refine n_get hC cl3 (k := 17) (v := .int (nI (mN ((m_here ((m_takeRate (mSetN ((m_here M).2) 17 ((mN ((m_here M).2) 17) + 1))).2)).2) 17))) mc_o (by omega) (by decide) q697 (mf_get N0 mb ((m_here ((m_takeRate (mSetN ((m_here M).2) 17 ((mN ((m_here M).2) 17) + 1))).2)).2) (by decide)) dX3_takeClause_226 ?_
                refine n_iconst (v := (nI 1)) hC dX3_takeClause_229 (by decide) ?_
                refine n_iaddN hC dX3_takeClause_230 ?_
                refine n_put hC cl3 (k := 17) mc_o (by omega) (by decide) q697 rfl rfl rfl (by rw [mf_len]; decide) dX3_takeClause_231 (mu_N (M := ((m_here ((m_takeRate (mSetN ((m_here M).2) 17 ((mN ((m_here M).2) 17) + 1))).2)).2)) (k := 17) (by decide) rfl rfl) ?_
                refine n_iload hC dX3_takeClause_234 rfl ?_
                have eq_ : m_takeClause M = ((m_takeRate (mSetN ((m_here M).2) 17 ((mN ((m_here M).2) 17) + 1))).1, mSetN ((m_here ((m_takeRate (mSetN ((m_here M).2) 17 ((mN ((m_here M).2) 17) + 1))).2)).2) 17 ((mN ((m_here ((m_takeRate (mSetN ((m_here M).2) 17 ((mN ((m_here M).2) 17) + 1))).2)).2) 17) + 1)) := by rw [m_takeClause_d, if_neg c8, if_neg c18, if_pos c28, if_neg c59, if_pos c126, if_pos c202, if_pos c211]
                refine n_iret hC dX3_takeClause_236 (Nat.le_of_ble_eq_true rfl) (Nat.le_of_ble_eq_true rfl) ?_
                rw [eq_]
                dsimp only
                exact ⟨rfl, rfl, rfl⟩
              · refine n_aload_n hC dX3_takeClause_214 rfl ?_
                refine n_iconst (v := (nI 1)) hC dX3_takeClause_215 (by decide) ?_
                refine n_aload_n hC dX3_takeClause_216 rfl ?_
                refine n_get hC cl3 (k := 17) (v := .int (nI (mN ((m_here ((m_takeRate (mSetN ((m_here M).2) 17 ((mN ((m_here M).2) 17) + 1))).2)).2) 17))) mc_o (by omega) (by decide) q697 (mf_get N0 mb ((m_here ((m_takeRate (mSetN ((m_here M).2) 17 ((mN ((m_here M).2) 17) + 1))).2)).2) (by decide)) dX3_takeClause_217 ?_
                refine n_callV1 hC (As := [.int (nI 1), .int (nI (mN ((m_here ((m_takeRate (mSetN ((m_here M).2) 17 ((mN ((m_here M).2) 17) + 1))).2)).2) 17))]) (rest := []) mc_o (by omega) rfl bX3_fails (t_m_fails l D N0 kA mb hs ((m_here ((m_takeRate (mSetN ((m_here M).2) 17 ((mN ((m_here M).2) 17) + 1))).2)).2) n hn 1 (mN ((m_here ((m_takeRate (mSetN ((m_here M).2) 17 ((mN ((m_here M).2) 17) + 1))).2)).2) 17) ) (by decide) (by decide) q839 rfl (Nat.le_of_ble_eq_true rfl) dX3_takeClause_220 (Nat.le_of_ble_eq_true rfl) (Nat.le_of_ble_eq_true rfl) ?_
                refine n_stk (st' := [.int (nI ((m_fails ((m_here ((m_takeRate (mSetN ((m_here M).2) 17 ((mN ((m_here M).2) 17) + 1))).2)).2) 1 (mN ((m_here ((m_takeRate (mSetN ((m_here M).2) 17 ((mN ((m_here M).2) 17) + 1))).2)).2) 17)).1))]) rfl ?_
                have eq_ : m_takeClause M = ((m_fails ((m_here ((m_takeRate (mSetN ((m_here M).2) 17 ((mN ((m_here M).2) 17) + 1))).2)).2) 1 (mN ((m_here ((m_takeRate (mSetN ((m_here M).2) 17 ((mN ((m_here M).2) 17) + 1))).2)).2) 17)).1, (m_fails ((m_here ((m_takeRate (mSetN ((m_here M).2) 17 ((mN ((m_here M).2) 17) + 1))).2)).2) 1 (mN ((m_here ((m_takeRate (mSetN ((m_here M).2) 17 ((mN ((m_here M).2) 17) + 1))).2)).2) 17)).2) := by rw [m_takeClause_d, if_neg c8, if_neg c18, if_pos c28, if_neg c59, if_pos c126, if_pos c202, if_neg c211]
                refine n_iret hC dX3_takeClause_223 (Nat.le_of_ble_eq_true rfl) (Nat.le_of_ble_eq_true rfl) ?_
                rw [eq_]
                dsimp only
                exact ⟨rfl, rfl, rfl⟩
          · refine n_iconst (v := (nI 1)) hC dX3_takeClause_129 (by decide) ?_
            refine n_goto (tgt := 134) hC dX3_takeClause_130 (by decide) ?_
            refine n_istore_n (L' := [(0, .ref (N0 + mb)), (1, .int ((m_here M).1)), (2, .int (nI 2)), (3, .int (nI 1))]) hC dX3_takeClause_134 (by decide) rfl ?_
            refine n_iload_n hC dX3_takeClause_135 rfl ?_
            refine n_if_eqF (tgt := 149) hC dX3_takeClause_136 (by decide) (by decide) ?_
            refine n_aload_n hC dX3_takeClause_139 rfl ?_
            refine n_iconst (v := (nI 3)) hC dX3_takeClause_140 (by decide) ?_
            refine n_aload_n hC dX3_takeClause_141 rfl ?_
            refine n_get hC cl3 (k := 17) (v := .int (nI (mN ((m_here M).2) 17))) mc_o (by omega) (by decide) q697 (mf_get N0 mb ((m_here M).2) (by decide)) dX3_takeClause_142 ?_
            refine n_callV1 hC (As := [.int (nI 3), .int (nI (mN ((m_here M).2) 17))]) (rest := []) mc_o (by omega) rfl bX3_fails (t_m_fails l D N0 kA mb hs ((m_here M).2) n hn 3 (mN ((m_here M).2) 17) ) (by decide) (by decide) q839 rfl (Nat.le_of_ble_eq_true rfl) dX3_takeClause_145 (Nat.le_of_ble_eq_true rfl) (Nat.le_of_ble_eq_true rfl) ?_
            refine n_stk (st' := [.int (nI ((m_fails ((m_here M).2) 3 (mN ((m_here M).2) 17)).1))]) rfl ?_
            have eq_ : m_takeClause M = ((m_fails ((m_here M).2) 3 (mN ((m_here M).2) 17)).1, (m_fails ((m_here M).2) 3 (mN ((m_here M).2) 17)).2) := by rw [m_takeClause_d, if_neg c8, if_neg c18, if_pos c28, if_neg c59, if_neg (not_not_intro c126)]
            refine n_iret hC dX3_takeClause_148 (Nat.le_of_ble_eq_true rfl) (Nat.le_of_ble_eq_true rfl) ?_
            rw [eq_]
            dsimp only
            exact ⟨rfl, rfl, rfl⟩
        · refine n_aload_n hC dX3_takeClause_62 rfl ?_
          refine n_iconst (v := (nI 1)) hC dX3_takeClause_63 (by decide) ?_
          refine n_aload_n hC dX3_takeClause_64 rfl ?_
          refine n_get hC cl3 (k := 17) (v := .int (nI (mN ((m_here M).2) 17))) mc_o (by omega) (by decide) q697 (mf_get N0 mb ((m_here M).2) (by decide)) dX3_takeClause_65 ?_
          refine n_callV1 hC (As := [.int (nI 1), .int (nI (mN ((m_here M).2) 17))]) (rest := []) mc_o (by omega) rfl bX3_fails (t_m_fails l D N0 kA mb hs ((m_here M).2) n hn 1 (mN ((m_here M).2) 17) ) (by decide) (by decide) q839 rfl (Nat.le_of_ble_eq_true rfl) dX3_takeClause_68 (Nat.le_of_ble_eq_true rfl) (Nat.le_of_ble_eq_true rfl) ?_
          refine n_stk (st' := [.int (nI ((m_fails ((m_here M).2) 1 (mN ((m_here M).2) 17)).1))]) rfl ?_
          have eq_ : m_takeClause M = ((m_fails ((m_here M).2) 1 (mN ((m_here M).2) 17)).1, (m_fails ((m_here M).2) 1 (mN ((m_here M).2) 17)).2) := by rw [m_takeClause_d, if_neg c8, if_neg c18, if_pos c28, if_pos c59]
          refine n_iret hC dX3_takeClause_71 (Nat.le_of_ble_eq_true rfl) (Nat.le_of_ble_eq_true rfl) ?_
          rw [eq_]
          dsimp only
          exact ⟨rfl, rfl, rfl⟩
    · refine n_iconst (v := (nI 1)) hC dX3_takeClause_21 (by decide) ?_
      refine n_goto (tgt := 46) hC dX3_takeClause_22 (by decide) ?_
      refine n_istore_n (L' := [(0, .ref (N0 + mb)), (1, .int ((m_here M).1)), (2, .int (nI 1))]) hC dX3_takeClause_46 (by decide) rfl ?_
      refine n_iload_n hC dX3_takeClause_47 rfl ?_
      refine n_if_ltF (tgt := 62) hC dX3_takeClause_48 (by decide) (by decide) ?_
      refine n_iload_n hC dX3_takeClause_51 rfl ?_
      refine n_if_leF (tgt := 72) hC dX3_takeClause_52 (by decide) (by decide) ?_
      refine n_aload_n hC dX3_takeClause_55 rfl ?_
      refine n_get hC cl3 (k := 20) (v := .int (nI (mN ((m_here M).2) 20))) mc_o (by omega) (by decide) q700 (mf_get N0 mb ((m_here M).2) (by decide)) dX3_takeClause_56 ?_
      refine n_if_neN (tgt := 72) hC (by omega) dX3_takeClause_59 (by decide) (fun c59 => ?_) (fun c59 => ?_)
      · refine n_iload_n hC dX3_takeClause_72 rfl ?_
        refine n_if_neT (tgt := 93) hC dX3_takeClause_73 (by decide) (by decide) ?_
        refine n_iload_n hC dX3_takeClause_93 rfl ?_
        refine n_iconst (v := (nI 1)) hC dX3_takeClause_94 (by decide) ?_
        refine n_icmp_neF (tgt := 115) hC dX3_takeClause_95 (by decide) (by decide) ?_
        refine n_aload_n hC dX3_takeClause_98 rfl ?_
        refine n_get hC cl3 (k := 24) (v := .int (nI (mN ((m_here M).2) 24))) mc_o (by omega) (by decide) q704 (mf_get N0 mb ((m_here M).2) (by decide)) dX3_takeClause_99 ?_
        refine n_bipush (v := (nI 6)) hC dX3_takeClause_102 (by decide) ?_
        refine n_icmp_neN (tgt := 111) hC (mN ((m_here M).2) 24) 6 rfl rfl (by omega) (by omega) dX3_takeClause_104 (by decide) (fun c104 => ?_) (fun c104 => ?_)
        · refine n_iconst (v := (nI 0)) hC dX3_takeClause_111 (by decide) ?_
          refine n_goto (tgt := 134) hC dX3_takeClause_112 (by decide) ?_
          refine n_istore_n (L' := [(0, .ref (N0 + mb)), (1, .int ((m_here M).1)), (2, .int (nI 1)), (3, .int (nI 0))]) hC dX3_takeClause_134 (by decide) rfl ?_
          refine n_iload_n hC dX3_takeClause_135 rfl ?_
          refine n_if_eqT (tgt := 149) hC dX3_takeClause_136 (by decide) (by decide) ?_
          have hp := hh.2.2.2.2.2.2 (by rw [c18]; decide)
          have hx2 : mTx (mSetN (m_here M).2 17 ((mN (m_here M).2 17) + 1)) := tx_at hx1 (by rw [hh.1 15 (by decide)]; omega)
          refine n_aload_n hC dX3_takeClause_149 rfl ?_
          refine n_dup hC dX3_takeClause_150 rfl ?_
          refine n_get hC cl3 (k := 17) (v := .int (nI (mN ((m_here M).2) 17))) mc_o (by omega) (by decide) q697 (mf_get N0 mb ((m_here M).2) (by decide)) dX3_takeClause_151 ?_
          refine n_iconst (v := (nI 1)) hC dX3_takeClause_154 (by decide) ?_
          refine n_iaddN hC dX3_takeClause_155 ?_
          refine n_put hC cl3 (k := 17) mc_o (by omega) (by decide) q697 rfl rfl rfl (by rw [mf_len]; decide) dX3_takeClause_156 (mu_N (M := ((m_here M).2)) (k := 17) (by decide) rfl rfl) ?_
          refine n_iload_n hC dX3_takeClause_159 rfl ?_
          refine n_if_neT (tgt := 170) hC dX3_takeClause_160 (by decide) (by decide) ?_
          refine n_iload_n hC dX3_takeClause_170 rfl ?_
          refine n_iconst (v := (nI 1)) hC dX3_takeClause_171 (by decide) ?_
          refine n_icmp_neF (tgt := 182) hC dX3_takeClause_172 (by decide) (by decide) ?_
          refine n_aload_n hC dX3_takeClause_175 rfl ?_
          refine n_callV1 hC (As := []) (rest := []) mc_o (by omega) rfl bX3_takeContract (t_m_takeContract l D N0 kA mb hs (mSetN ((m_here M).2) 17 ((mN ((m_here M).2) 17) + 1)) n hn  hx2 (by show mN (m_here M).2 24 < 6; omega)) (by decide) (by decide) q857 rfl (Nat.le_of_ble_eq_true rfl) dX3_takeClause_176 (Nat.le_of_ble_eq_true rfl) (Nat.le_of_ble_eq_true rfl) ?_
          refine n_stk (st' := [.int (nI ((m_takeContract (mSetN ((m_here M).2) 17 ((mN ((m_here M).2) 17) + 1))).1))]) rfl ?_
          refine n_goto (tgt := 198) hC dX3_takeClause_179 (by decide) ?_
          have hK2 := contract_K hx2
          have hr := hK2.2
          have hx3 := hK2.1.1
          refine n_istore (L' := [(0, .ref (N0 + mb)), (1, .int ((m_here M).1)), (2, .int (nI 1)), (3, .int (nI 0)), (4, .int (nI ((m_takeContract (mSetN ((m_here M).2) 17 ((mN ((m_here M).2) 17) + 1))).1)))]) hC dX3_takeClause_198 (by decide) rfl ?_
          refine n_iload hC dX3_takeClause_200 rfl ?_
          refine n_if_neN (tgt := 224) hC (by omega) dX3_takeClause_202 (by decide) (fun c202 => ?_) (fun c202 => ?_)
          · refine n_aload_n hC dX3_takeClause_224 rfl ?_
            refine n_dup hC dX3_takeClause_225 rfl ?_
            refine n_get hC cl3 (k := 17) (v := .int (nI (mN ((m_takeContract (mSetN ((m_here M).2) 17 ((mN ((m_here M).2) 17) + 1))).2) 17))) mc_o (by omega) (by decide) q697 (mf_get N0 mb ((m_takeContract (mSetN ((m_here M).2) 17 ((mN ((m_here M).2) 17) + 1))).2) (by decide)) dX3_takeClause_226 ?_
            refine n_iconst (v := (nI 1)) hC dX3_takeClause_229 (by decide) ?_
            refine n_iaddN hC dX3_takeClause_230 ?_
            refine n_put hC cl3 (k := 17) mc_o (by omega) (by decide) q697 rfl rfl rfl (by rw [mf_len]; decide) dX3_takeClause_231 (mu_N (M := ((m_takeContract (mSetN ((m_here M).2) 17 ((mN ((m_here M).2) 17) + 1))).2)) (k := 17) (by decide) rfl rfl) ?_
            refine n_iload hC dX3_takeClause_234 rfl ?_
            have eq_ : m_takeClause M = ((m_takeContract (mSetN ((m_here M).2) 17 ((mN ((m_here M).2) 17) + 1))).1, mSetN ((m_takeContract (mSetN ((m_here M).2) 17 ((mN ((m_here M).2) 17) + 1))).2) 17 ((mN ((m_takeContract (mSetN ((m_here M).2) 17 ((mN ((m_here M).2) 17) + 1))).2) 17) + 1)) := by rw [m_takeClause_d, if_neg c8, if_pos c18, if_neg c59, if_pos c104, if_neg c202]
            refine n_iret hC dX3_takeClause_236 (Nat.le_of_ble_eq_true rfl) (Nat.le_of_ble_eq_true rfl) ?_
            rw [eq_]
            dsimp only
            exact ⟨rfl, rfl, rfl⟩
          · refine n_aload_n hC dX3_takeClause_205 rfl ?_
            refine n_callV1 hC (As := []) (rest := []) mc_o (by omega) rfl bX3_here (t_m_here l D N0 kA mb hs ((m_takeContract (mSetN ((m_here M).2) 17 ((mN ((m_here M).2) 17) + 1))).2) n hn  hx3) (by decide) (by decide) q831 rfl (Nat.le_of_ble_eq_true rfl) dX3_takeClause_206 (Nat.le_of_ble_eq_true rfl) (Nat.le_of_ble_eq_true rfl) ?_
            refine n_stk (st' := [.int ((m_here ((m_takeContract (mSetN ((m_here M).2) 17 ((mN ((m_here M).2) 17) + 1))).2)).1)]) rfl ?_
            refine n_bipush (v := (nI 59)) hC dX3_takeClause_209 (by decide) ?_
            refine n_icmp_eq (tgt := 224) hC dX3_takeClause_211 (by decide) (fun c211 => ?_) (fun c211 => ?_)
            · refine n_aload_n hC dX3_takeClause_224 rfl ?_
              refine n_dup hC dX3_takeClause_225 rfl ?_
              refine n_get hC cl3 (k := 17) (v := .int (nI (mN ((m_here ((m_takeContract (mSetN ((m_here M).2) 17 ((mN ((m_here M).2) 17) + 1))).2)).2) 17))) mc_o (by omega) (by decide) q697 (mf_get N0 mb ((m_here ((m_takeContract (mSetN ((m_here M).2) 17 ((mN ((m_here M).2) 17) + 1))).2)).2) (by decide)) dX3_takeClause_226 ?_
              refine n_iconst (v := (nI 1)) hC dX3_takeClause_229 (by decide) ?_
              refine n_iaddN hC dX3_takeClause_230 ?_
              refine n_put hC cl3 (k := 17) mc_o (by omega) (by decide) q697 rfl rfl rfl (by rw [mf_len]; decide) dX3_takeClause_231 (mu_N (M := ((m_here ((m_takeContract (mSetN ((m_here M).2) 17 ((mN ((m_here M).2) 17) + 1))).2)).2)) (k := 17) (by decide) rfl rfl) ?_
              refine n_iload hC dX3_takeClause_234 rfl ?_
              have eq_ : m_takeClause M = ((m_takeContract (mSetN ((m_here M).2) 17 ((mN ((m_here M).2) 17) + 1))).1, mSetN ((m_here ((m_takeContract (mSetN ((m_here M).2) 17 ((mN ((m_here M).2) 17) + 1))).2)).2) 17 ((mN ((m_here ((m_takeContract (mSetN ((m_here M).2) 17 ((mN ((m_here M).2) 17) + 1))).2)).2) 17) + 1)) := by rw [m_takeClause_d, if_neg c8, if_pos c18, if_neg c59, if_pos c104, if_pos c202, if_pos c211]
              refine n_iret hC dX3_takeClause_236 (Nat.le_of_ble_eq_true rfl) (Nat.le_of_ble_eq_true rfl) ?_
              rw [eq_]
              dsimp only
              exact ⟨rfl, rfl, rfl⟩
            · refine n_aload_n hC dX3_takeClause_214 rfl ?_
              refine n_iconst (v := (nI 1)) hC dX3_takeClause_215 (by decide) ?_
              refine n_aload_n hC dX3_takeClause_216 rfl ?_
              refine n_get hC cl3 (k := 17) (v := .int (nI (mN ((m_here ((m_takeContract (mSetN ((m_here M).2) 17 ((mN ((m_here M).2) 17) + 1))).2)).2) 17))) mc_o (by omega) (by decide) q697 (mf_get N0 mb ((m_here ((m_takeContract (mSetN ((m_here M).2) 17 ((mN ((m_here M).2) 17) + 1))).2)).2) (by decide)) dX3_takeClause_217 ?_
              refine n_callV1 hC (As := [.int (nI 1), .int (nI (mN ((m_here ((m_takeContract (mSetN ((m_here M).2) 17 ((mN ((m_here M).2) 17) + 1))).2)).2) 17))]) (rest := []) mc_o (by omega) rfl bX3_fails (t_m_fails l D N0 kA mb hs ((m_here ((m_takeContract (mSetN ((m_here M).2) 17 ((mN ((m_here M).2) 17) + 1))).2)).2) n hn 1 (mN ((m_here ((m_takeContract (mSetN ((m_here M).2) 17 ((mN ((m_here M).2) 17) + 1))).2)).2) 17) ) (by decide) (by decide) q839 rfl (Nat.le_of_ble_eq_true rfl) dX3_takeClause_220 (Nat.le_of_ble_eq_true rfl) (Nat.le_of_ble_eq_true rfl) ?_
              refine n_stk (st' := [.int (nI ((m_fails ((m_here ((m_takeContract (mSetN ((m_here M).2) 17 ((mN ((m_here M).2) 17) + 1))).2)).2) 1 (mN ((m_here ((m_takeContract (mSetN ((m_here M).2) 17 ((mN ((m_here M).2) 17) + 1))).2)).2) 17)).1))]) rfl ?_
              have eq_ : m_takeClause M = ((m_fails ((m_here ((m_takeContract (mSetN ((m_here M).2) 17 ((mN ((m_here M).2) 17) + 1))).2)).2) 1 (mN ((m_here ((m_takeContract (mSetN ((m_here M).2) 17 ((mN ((m_here M).2) 17) + 1))).2)).2) 17)).1, (m_fails ((m_here ((m_takeContract (mSetN ((m_here M).2) 17 ((mN ((m_here M).2) 17) + 1))).2)).2) 1 (mN ((m_here ((m_takeContract (mSetN ((m_here M).2) 17 ((mN ((m_here M).2) 17) + 1))).2)).2) 17)).2) := by rw [m_takeClause_d, if_neg c8, if_pos c18, if_neg c59, if_pos c104, if_pos c202, if_neg c211]
              refine n_iret hC dX3_takeClause_223 (Nat.le_of_ble_eq_true rfl) (Nat.le_of_ble_eq_true rfl) ?_
              rw [eq_]
              dsimp only
              exact ⟨rfl, rfl, rfl⟩
        · refine n_iconst (v := (nI 1)) hC dX3_takeClause_107 (by decide) ?_
          refine n_goto (tgt := 134) hC dX3_takeClause_108 (by decide) ?_
          refine n_istore_n (L' := [(0, .ref (N0 + mb)), (1, .int ((m_here M).1)), (2, .int (nI 1)), (3, .int (nI 1))]) hC dX3_takeClause_134 (by decide) rfl ?_
          refine n_iload_n hC dX3_takeClause_135 rfl ?_
          refine n_if_eqF (tgt := 149) hC dX3_takeClause_136 (by decide) (by decide) ?_
          refine n_aload_n hC dX3_takeClause_139 rfl ?_
          refine n_iconst (v := (nI 3)) hC dX3_takeClause_140 (by decide) ?_
          refine n_aload_n hC dX3_takeClause_141 rfl ?_
          refine n_get hC cl3 (k := 17) (v := .int (nI (mN ((m_here M).2) 17))) mc_o (by omega) (by decide) q697 (mf_get N0 mb ((m_here M).2) (by decide)) dX3_takeClause_142 ?_
          refine n_callV1 hC (As := [.int (nI 3), .int (nI (mN ((m_here M).2) 17))]) (rest := []) mc_o (by omega) rfl bX3_fails (t_m_fails l D N0 kA mb hs ((m_here M).2) n hn 3 (mN ((m_here M).2) 17) ) (by decide) (by decide) q839 rfl (Nat.le_of_ble_eq_true rfl) dX3_takeClause_145 (Nat.le_of_ble_eq_true rfl) (Nat.le_of_ble_eq_true rfl) ?_
          refine n_stk (st' := [.int (nI ((m_fails ((m_here M).2) 3 (mN ((m_here M).2) 17)).1))]) rfl ?_
          have eq_ : m_takeClause M = ((m_fails ((m_here M).2) 3 (mN ((m_here M).2) 17)).1, (m_fails ((m_here M).2) 3 (mN ((m_here M).2) 17)).2) := by rw [m_takeClause_d, if_neg c8, if_pos c18, if_neg c59, if_neg (not_not_intro c104)]
          refine n_iret hC dX3_takeClause_148 (Nat.le_of_ble_eq_true rfl) (Nat.le_of_ble_eq_true rfl) ?_
          rw [eq_]
          dsimp only
          exact ⟨rfl, rfl, rfl⟩
      · refine n_aload_n hC dX3_takeClause_62 rfl ?_
        refine n_iconst (v := (nI 1)) hC dX3_takeClause_63 (by decide) ?_
        refine n_aload_n hC dX3_takeClause_64 rfl ?_
        refine n_get hC cl3 (k := 17) (v := .int (nI (mN ((m_here M).2) 17))) mc_o (by omega) (by decide) q697 (mf_get N0 mb ((m_here M).2) (by decide)) dX3_takeClause_65 ?_
        refine n_callV1 hC (As := [.int (nI 1), .int (nI (mN ((m_here M).2) 17))]) (rest := []) mc_o (by omega) rfl bX3_fails (t_m_fails l D N0 kA mb hs ((m_here M).2) n hn 1 (mN ((m_here M).2) 17) ) (by decide) (by decide) q839 rfl (Nat.le_of_ble_eq_true rfl) dX3_takeClause_68 (Nat.le_of_ble_eq_true rfl) (Nat.le_of_ble_eq_true rfl) ?_
        refine n_stk (st' := [.int (nI ((m_fails ((m_here M).2) 1 (mN ((m_here M).2) 17)).1))]) rfl ?_
        have eq_ : m_takeClause M = ((m_fails ((m_here M).2) 1 (mN ((m_here M).2) 17)).1, (m_fails ((m_here M).2) 1 (mN ((m_here M).2) 17)).2) := by rw [m_takeClause_d, if_neg c8, if_pos c18, if_pos c59]
        refine n_iret hC dX3_takeClause_71 (Nat.le_of_ble_eq_true rfl) (Nat.le_of_ble_eq_true rfl) ?_
        rw [eq_]
        dsimp only
        exact ⟨rfl, rfl, rfl⟩
  · refine n_iconst (v := (nI 0)) hC dX3_takeClause_11 (by decide) ?_
    refine n_goto (tgt := 46) hC dX3_takeClause_12 (by decide) ?_
    refine n_istore_n (L' := [(0, .ref (N0 + mb)), (1, .int ((m_here M).1)), (2, .int (nI 0))]) hC dX3_takeClause_46 (by decide) rfl ?_
    refine n_iload_n hC dX3_takeClause_47 rfl ?_
    refine n_if_ltF (tgt := 62) hC dX3_takeClause_48 (by decide) (by decide) ?_
    refine n_iload_n hC dX3_takeClause_51 rfl ?_
    refine n_if_leT (tgt := 72) hC dX3_takeClause_52 (by decide) (by decide) ?_
    refine n_iload_n hC dX3_takeClause_72 rfl ?_
    refine n_if_neF (tgt := 93) hC dX3_takeClause_73 (by decide) (by decide) ?_
    refine n_aload_n hC dX3_takeClause_76 rfl ?_
    refine n_get hC cl3 (k := 20) (v := .int (nI (mN ((m_here M).2) 20))) mc_o (by omega) (by decide) q700 (mf_get N0 mb ((m_here M).2) (by decide)) dX3_takeClause_77 ?_
    refine n_bipush (v := (nI 6)) hC dX3_takeClause_80 (by decide) ?_
    refine n_icmp_neN (tgt := 89) hC (mN ((m_here M).2) 20) 6 rfl rfl (by omega) (by omega) dX3_takeClause_82 (by decide) (fun c82 => ?_) (fun c82 => ?_)
    · refine n_iconst (v := (nI 0)) hC dX3_takeClause_89 (by decide) ?_
      refine n_goto (tgt := 134) hC dX3_takeClause_90 (by decide) ?_
      refine n_istore_n (L' := [(0, .ref (N0 + mb)), (1, .int ((m_here M).1)), (2, .int (nI 0)), (3, .int (nI 0))]) hC dX3_takeClause_134 (by decide) rfl ?_
      refine n_iload_n hC dX3_takeClause_135 rfl ?_
      refine n_if_eqT (tgt := 149) hC dX3_takeClause_136 (by decide) (by decide) ?_
      have hp := hh.2.2.2.2.2.2 (by rw [c8]; decide)
      have hx2 : mTx (mSetN (m_here M).2 17 ((mN (m_here M).2 17) + 1)) := tx_at hx1 (by rw [hh.1 15 (by decide)]; omega)
      refine n_aload_n hC dX3_takeClause_149 rfl ?_
      refine n_dup hC dX3_takeClause_150 rfl ?_
      refine n_get hC cl3 (k := 17) (v := .int (nI (mN ((m_here M).2) 17))) mc_o (by omega) (by decide) q697 (mf_get N0 mb ((m_here M).2) (by decide)) dX3_takeClause_151 ?_
      refine n_iconst (v := (nI 1)) hC dX3_takeClause_154 (by decide) ?_
      refine n_iaddN hC dX3_takeClause_155 ?_
      refine n_put hC cl3 (k := 17) mc_o (by omega) (by decide) q697 rfl rfl rfl (by rw [mf_len]; decide) dX3_takeClause_156 (mu_N (M := ((m_here M).2)) (k := 17) (by decide) rfl rfl) ?_
      refine n_iload_n hC dX3_takeClause_159 rfl ?_
      refine n_if_neF (tgt := 170) hC dX3_takeClause_160 (by decide) (by decide) ?_
      refine n_aload_n hC dX3_takeClause_163 rfl ?_
      refine n_callV1 hC (As := []) (rest := []) mc_o (by omega) rfl bX3_takeLimb (t_m_takeLimb l D N0 kA mb hs (mSetN ((m_here M).2) 17 ((mN ((m_here M).2) 17) + 1)) n hn  hx2 (by show mN (m_here M).2 20 < 6; omega)) (by decide) (by decide) q843 rfl (Nat.le_of_ble_eq_true rfl) dX3_takeClause_164 (Nat.le_of_ble_eq_true rfl) (Nat.le_of_ble_eq_true rfl) ?_
      refine n_stk (st' := [.int (nI ((m_takeLimb (mSetN ((m_here M).2) 17 ((mN ((m_here M).2) 17) + 1))).1))]) rfl ?_
      refine n_goto (tgt := 198) hC dX3_takeClause_167 (by decide) ?_
      have hK2 := limb_K hx2
      have hr := hK2.2
      have hx3 := hK2.1.1
      refine n_istore (L' := [(0, .ref (N0 + mb)), (1, .int ((m_here M).1)), (2, .int (nI 0)), (3, .int (nI 0)), (4, .int (nI ((m_takeLimb (mSetN ((m_here M).2) 17 ((mN ((m_here M).2) 17) + 1))).1)))]) hC dX3_takeClause_198 (by decide) rfl ?_
      refine n_iload hC dX3_takeClause_200 rfl ?_
      refine n_if_neN (tgt := 224) hC (by omega) dX3_takeClause_202 (by decide) (fun c202 => ?_) (fun c202 => ?_)
      · refine n_aload_n hC dX3_takeClause_224 rfl ?_
        refine n_dup hC dX3_takeClause_225 rfl ?_
        refine n_get hC cl3 (k := 17) (v := .int (nI (mN ((m_takeLimb (mSetN ((m_here M).2) 17 ((mN ((m_here M).2) 17) + 1))).2) 17))) mc_o (by omega) (by decide) q697 (mf_get N0 mb ((m_takeLimb (mSetN ((m_here M).2) 17 ((mN ((m_here M).2) 17) + 1))).2) (by decide)) dX3_takeClause_226 ?_
        refine n_iconst (v := (nI 1)) hC dX3_takeClause_229 (by decide) ?_
        refine n_iaddN hC dX3_takeClause_230 ?_
        refine n_put hC cl3 (k := 17) mc_o (by omega) (by decide) q697 rfl rfl rfl (by rw [mf_len]; decide) dX3_takeClause_231 (mu_N (M := ((m_takeLimb (mSetN ((m_here M).2) 17 ((mN ((m_here M).2) 17) + 1))).2)) (k := 17) (by decide) rfl rfl) ?_
        refine n_iload hC dX3_takeClause_234 rfl ?_
        have eq_ : m_takeClause M = ((m_takeLimb (mSetN ((m_here M).2) 17 ((mN ((m_here M).2) 17) + 1))).1, mSetN ((m_takeLimb (mSetN ((m_here M).2) 17 ((mN ((m_here M).2) 17) + 1))).2) 17 ((mN ((m_takeLimb (mSetN ((m_here M).2) 17 ((mN ((m_here M).2) 17) + 1))).2) 17) + 1)) := by rw [m_takeClause_d, if_pos c8, if_pos c82, if_neg c202]
        refine n_iret hC dX3_takeClause_236 (Nat.le_of_ble_eq_true rfl) (Nat.le_of_ble_eq_true rfl) ?_
        rw [eq_]
        dsimp only
        exact ⟨rfl, rfl, rfl⟩
      · refine n_aload_n hC dX3_takeClause_205 rfl ?_
        refine n_callV1 hC (As := []) (rest := []) mc_o (by omega) rfl bX3_here (t_m_here l D N0 kA mb hs ((m_takeLimb (mSetN ((m_here M).2) 17 ((mN ((m_here M).2) 17) + 1))).2) n hn  hx3) (by decide) (by decide) q831 rfl (Nat.le_of_ble_eq_true rfl) dX3_takeClause_206 (Nat.le_of_ble_eq_true rfl) (Nat.le_of_ble_eq_true rfl) ?_
        refine n_stk (st' := [.int ((m_here ((m_takeLimb (mSetN ((m_here M).2) 17 ((mN ((m_here M).2) 17) + 1))).2)).1)]) rfl ?_
        refine n_bipush (v := (nI 59)) hC dX3_takeClause_209 (by decide) ?_
        refine n_icmp_eq (tgt := 224) hC dX3_takeClause_211 (by decide) (fun c211 => ?_) (fun c211 => ?_)
        · refine n_aload_n hC dX3_takeClause_224 rfl ?_
          refine n_dup hC dX3_takeClause_225 rfl ?_
          refine n_get hC cl3 (k := 17) (v := .int (nI (mN ((m_here ((m_takeLimb (mSetN ((m_here M).2) 17 ((mN ((m_here M).2) 17) + 1))).2)).2) 17))) mc_o (by omega) (by decide) q697 (mf_get N0 mb ((m_here ((m_takeLimb (mSetN ((m_here M).2) 17 ((mN ((m_here M).2) 17) + 1))).2)).2) (by decide)) dX3_takeClause_226 ?_
          refine n_iconst (v := (nI 1)) hC dX3_takeClause_229 (by decide) ?_
          refine n_iaddN hC dX3_takeClause_230 ?_
          refine n_put hC cl3 (k := 17) mc_o (by omega) (by decide) q697 rfl rfl rfl (by rw [mf_len]; decide) dX3_takeClause_231 (mu_N (M := ((m_here ((m_takeLimb (mSetN ((m_here M).2) 17 ((mN ((m_here M).2) 17) + 1))).2)).2)) (k := 17) (by decide) rfl rfl) ?_
          refine n_iload hC dX3_takeClause_234 rfl ?_
          have eq_ : m_takeClause M = ((m_takeLimb (mSetN ((m_here M).2) 17 ((mN ((m_here M).2) 17) + 1))).1, mSetN ((m_here ((m_takeLimb (mSetN ((m_here M).2) 17 ((mN ((m_here M).2) 17) + 1))).2)).2) 17 ((mN ((m_here ((m_takeLimb (mSetN ((m_here M).2) 17 ((mN ((m_here M).2) 17) + 1))).2)).2) 17) + 1)) := by rw [m_takeClause_d, if_pos c8, if_pos c82, if_pos c202, if_pos c211]
          refine n_iret hC dX3_takeClause_236 (Nat.le_of_ble_eq_true rfl) (Nat.le_of_ble_eq_true rfl) ?_
          rw [eq_]
          dsimp only
          exact ⟨rfl, rfl, rfl⟩
        · refine n_aload_n hC dX3_takeClause_214 rfl ?_
          refine n_iconst (v := (nI 1)) hC dX3_takeClause_215 (by decide) ?_
          refine n_aload_n hC dX3_takeClause_216 rfl ?_
          refine n_get hC cl3 (k := 17) (v := .int (nI (mN ((m_here ((m_takeLimb (mSetN ((m_here M).2) 17 ((mN ((m_here M).2) 17) + 1))).2)).2) 17))) mc_o (by omega) (by decide) q697 (mf_get N0 mb ((m_here ((m_takeLimb (mSetN ((m_here M).2) 17 ((mN ((m_here M).2) 17) + 1))).2)).2) (by decide)) dX3_takeClause_217 ?_
          refine n_callV1 hC (As := [.int (nI 1), .int (nI (mN ((m_here ((m_takeLimb (mSetN ((m_here M).2) 17 ((mN ((m_here M).2) 17) + 1))).2)).2) 17))]) (rest := []) mc_o (by omega) rfl bX3_fails (t_m_fails l D N0 kA mb hs ((m_here ((m_takeLimb (mSetN ((m_here M).2) 17 ((mN ((m_here M).2) 17) + 1))).2)).2) n hn 1 (mN ((m_here ((m_takeLimb (mSetN ((m_here M).2) 17 ((mN ((m_here M).2) 17) + 1))).2)).2) 17) ) (by decide) (by decide) q839 rfl (Nat.le_of_ble_eq_true rfl) dX3_takeClause_220 (Nat.le_of_ble_eq_true rfl) (Nat.le_of_ble_eq_true rfl) ?_
          refine n_stk (st' := [.int (nI ((m_fails ((m_here ((m_takeLimb (mSetN ((m_here M).2) 17 ((mN ((m_here M).2) 17) + 1))).2)).2) 1 (mN ((m_here ((m_takeLimb (mSetN ((m_here M).2) 17 ((mN ((m_here M).2) 17) + 1))).2)).2) 17)).1))]) rfl ?_
          have eq_ : m_takeClause M = ((m_fails ((m_here ((m_takeLimb (mSetN ((m_here M).2) 17 ((mN ((m_here M).2) 17) + 1))).2)).2) 1 (mN ((m_here ((m_takeLimb (mSetN ((m_here M).2) 17 ((mN ((m_here M).2) 17) + 1))).2)).2) 17)).1, (m_fails ((m_here ((m_takeLimb (mSetN ((m_here M).2) 17 ((mN ((m_here M).2) 17) + 1))).2)).2) 1 (mN ((m_here ((m_takeLimb (mSetN ((m_here M).2) 17 ((mN ((m_here M).2) 17) + 1))).2)).2) 17)).2) := by rw [m_takeClause_d, if_pos c8, if_pos c82, if_pos c202, if_neg c211]
          refine n_iret hC dX3_takeClause_223 (Nat.le_of_ble_eq_true rfl) (Nat.le_of_ble_eq_true rfl) ?_
          rw [eq_]
          dsimp only
          exact ⟨rfl, rfl, rfl⟩
    · refine n_iconst (v := (nI 1)) hC dX3_takeClause_85 (by decide) ?_
      refine n_goto (tgt := 134) hC dX3_takeClause_86 (by decide) ?_
      refine n_istore_n (L' := [(0, .ref (N0 + mb)), (1, .int ((m_here M).1)), (2, .int (nI 0)), (3, .int (nI 1))]) hC dX3_takeClause_134 (by decide) rfl ?_
      refine n_iload_n hC dX3_takeClause_135 rfl ?_
      refine n_if_eqF (tgt := 149) hC dX3_takeClause_136 (by decide) (by decide) ?_
      refine n_aload_n hC dX3_takeClause_139 rfl ?_
      refine n_iconst (v := (nI 3)) hC dX3_takeClause_140 (by decide) ?_
      refine n_aload_n hC dX3_takeClause_141 rfl ?_
      refine n_get hC cl3 (k := 17) (v := .int (nI (mN ((m_here M).2) 17))) mc_o (by omega) (by decide) q697 (mf_get N0 mb ((m_here M).2) (by decide)) dX3_takeClause_142 ?_
      refine n_callV1 hC (As := [.int (nI 3), .int (nI (mN ((m_here M).2) 17))]) (rest := []) mc_o (by omega) rfl bX3_fails (t_m_fails l D N0 kA mb hs ((m_here M).2) n hn 3 (mN ((m_here M).2) 17) ) (by decide) (by decide) q839 rfl (Nat.le_of_ble_eq_true rfl) dX3_takeClause_145 (Nat.le_of_ble_eq_true rfl) (Nat.le_of_ble_eq_true rfl) ?_
      refine n_stk (st' := [.int (nI ((m_fails ((m_here M).2) 3 (mN ((m_here M).2) 17)).1))]) rfl ?_
      have eq_ : m_takeClause M = ((m_fails ((m_here M).2) 3 (mN ((m_here M).2) 17)).1, (m_fails ((m_here M).2) 3 (mN ((m_here M).2) 17)).2) := by rw [m_takeClause_d, if_pos c8, if_neg (not_not_intro c82)]
      refine n_iret hC dX3_takeClause_148 (Nat.le_of_ble_eq_true rfl) (Nat.le_of_ble_eq_true rfl) ?_
      rw [eq_]
      dsimp only
      exact ⟨rfl, rfl, rfl⟩
/-- what a clause's reading leaves -/
def szs (S : MS) : Prop := mN S 20 ≤ 6 ∧ mN S 24 ≤ 6 ∧ mN S 28 ≤ 8 ∧ mN S 15 ≤ 250
def cK (M : MS) (r : Nat × MS) : Prop := (r.1 = 0 → mTx r.2 ∧ mN M 17 < mN r.2 17) ∧ szs r.2 ∧ r.1 ≤ 4
theorem cfail {M S : MS} {a b : Nat} (ha : a ≠ 0) (ha4 : a ≤ 4) (hs : szs S) : cK M ((m_fails S a b).1, (m_fails S a b).2) := ⟨fun z => absurd z ha, hs, ha4⟩
theorem szs_15 {S : MS} (hs : szs S) : szs (mSetN S 15 0) := ⟨hs.1, hs.2.1, hs.2.2.1, by simp [mN_N]⟩
theorem szs_17 {S : MS} {v : Nat} (hs : szs S) : szs (mSetN S 17 v) := hs
theorem szs_h {S : MS} (hx : mTx S) (hs : szs S) : szs (m_here S).2 := by
  obtain ⟨h1, -⟩ := here_K hx
  unfold szs
  rw [h1 20 (by decide), h1 24 (by decide), h1 28 (by decide), h1 15 (by decide)]
  exact hs
theorem ctail {M : MS} {R : Nat × MS} (hR : R.1 ≤ 4) (hx : mTx R.2) (h17 : mN M 17 ≤ mN R.2 17) (hs : szs R.2) : cK M (if (R.1) = 0 then (if ((m_here (R.2)).1) = (nI 59) then (R.1, mSetN ((m_here (R.2)).2) 17 ((mN ((m_here (R.2)).2) 17) + 1)) else ((m_fails ((m_here (R.2)).2) 1 (mN ((m_here (R.2)).2) 17)).1, (m_fails ((m_here (R.2)).2) 1 (mN ((m_here (R.2)).2) 17)).2)) else (R.1, mSetN (R.2) 17 ((mN (R.2) 17) + 1))) := by
  obtain ⟨h1, -, -, -, h5, h6, h7⟩ := here_K hx
  have hs2 := szs_h hx hs
  split
  · split
    · next h0 h59 =>
      have hp := h7 (by rw [h59]; decide)
      refine ⟨fun _ => ⟨tx_at h5 (by rw [h1 15 (by decide)]; omega), ?_⟩, szs_17 hs2, hR⟩
      show mN M 17 < mN (mSetN (m_here R.2).2 17 _) 17
      rw [mN_N, if_pos rfl]
      omega
    · exact cfail (by decide) (by decide) hs2
  · next h0 => exact ⟨fun z => absurd z h0, szs_17 hs, hR⟩
theorem kS_sz {M S : MS} (h : kS M S) (hs : szs M) : szs S := by
  unfold szs
  rw [h.2.2 20 (by decide) (by decide) (by decide), h.2.2 24 (by decide) (by decide) (by decide), h.2.2 28 (by decide) (by decide) (by decide), h.2.2 15 (by decide) (by decide) (by decide)]
  exact hs
theorem clause_K {M : MS} (hx : mTx M) (hs : szs M) : cK M (m_takeClause M) := by
  obtain ⟨h1, -, -, -, h5, h6, h7⟩ := here_K hx
  have hs2 := szs_h hx hs
  have e15 := h1 15 (by decide)
  rw [m_takeClause_d]
  generalize m_here M = H at *
  have go : 0 ≤ H.1 → mTx (mSetN H.2 17 (mN H.2 17 + 1)) ∧ mN M 17 ≤ mN (mSetN H.2 17 (mN H.2 17 + 1)) 17 := fun z => by
    have := h7 z
    exact ⟨tx_at h5 (by rw [e15]; omega), by rw [mN_N, if_pos rfl]; omega⟩
  obtain ⟨z20, z24, z28, z15⟩ := id hs2
  split
  · next c =>
    obtain ⟨t1, t2⟩ := go (by rw [c]; decide)
    split
    · next c2 =>
      obtain ⟨a1, a2⟩ := limb_K t1
      exact ctail (by omega) a1.1 (Nat.le_trans t2 a1.2.1) (kS_sz a1 ⟨by rw [mN_N, if_pos rfl]; show mN H.2 20 + 1 ≤ 6; omega, z24, z28, z15⟩)
    · exact cfail (by decide) (by decide) hs2
  · split
    · next c =>
      obtain ⟨t1, t2⟩ := go (by rw [c]; decide)
      split
      · exact cfail (by decide) (by decide) hs2
      · split
        · obtain ⟨a1, a2⟩ := contract_K t1
          exact ctail (by omega) a1.1 (Nat.le_trans t2 a1.2.1) (kS_sz a1 ⟨z20, by rw [mN_N, if_pos rfl]; show mN H.2 24 + 1 ≤ 6; omega, z28, z15⟩)
        · exact cfail (by decide) (by decide) hs2
    · split
      · next c =>
        obtain ⟨t1, t2⟩ := go (by rw [c]; decide)
        split
        · exact cfail (by decide) (by decide) hs2
        · split
          · obtain ⟨a1, a2⟩ := rate_K t1
            exact ctail a2 a1.1 (Nat.le_trans t2 a1.2.1) (kS_sz a1 ⟨z20, z24, by rw [mN_N, if_pos rfl]; show mN H.2 28 + 1 ≤ 8; omega, z15⟩)
          · exact cfail (by decide) (by decide) hs2
      · split
        · next c =>
          obtain ⟨t1, t2⟩ := go (by rw [c]; decide)
          split
          · exact cfail (by decide) (by decide) hs2
          · obtain ⟨a1, a2⟩ := heir_K t1
            exact ctail a2 a1.1 (Nat.le_trans t2 a1.2.1) (kS_sz a1 hs2)
        · exact cfail (by decide) (by decide) hs2
noncomputable def m_takeRead_L26 : Nat → MS → Nat → MS
  | 0, M, k => M
  | fu + 1, M, k => (if 12 ≤ k then M else (if (mN M 0) ≤ k then (if 6 ≤ k then m_takeRead_L26 fu (mSetA M 12 k (-1)) (k + 1) else m_takeRead_L26 fu (mSetA M 12 k (nI 0)) (k + 1)) else m_takeRead_L26 fu (mSetA M 12 k (nI (mB M 21 k))) (k + 1)))
noncomputable def m_takeRead_L74 : Nat → MS → Nat → MS
  | 0, M, k => M
  | fu + 1, M, k => (if 6 ≤ k then M else (if (mN M 0) ≤ k then m_takeRead_L74 fu (mSetA (mSetA M 2 k (-1)) 12 (12 + k) (-1)) (k + 1) else m_takeRead_L74 fu (mSetA (mSetA M 2 k (mA M 23 k)) 12 (12 + k) (-1)) (k + 1)))
noncomputable def m_takeRead_L122 : Nat → MS → Nat → MS
  | 0, M, k => M
  | fu + 1, M, k => (if (4 * (mN M 0)) ≤ k then M else m_takeRead_L122 fu (mSetA M 1 k ((nI (mB M 22 k)) - (nI 9))) (k + 1))
noncomputable def m_takeRead_L194 : Nat → MS → Nat → MS
  | 0, M, k => M
  | fu + 1, M, k => (if (mN M 3) ≤ k then M else m_takeRead_L194 fu (mSetB (mSetB (mSetB M 4 k (mB M 25 k)) 5 k (mB M 26 k)) 6 k (mB M 27 k)) (k + 1))
noncomputable def m_takeRead_L246 : Nat → MS → Nat → MS
  | 0, M, k => M
  | fu + 1, M, k => (if (mN M 7) ≤ k then M else m_takeRead_L246 fu (mSetB (mSetB (mSetB (mSetB M 8 k (mB M 29 k)) 9 k (mB M 30 k)) 10 k (mB M 31 k)) 11 k (mB M 32 k)) (k + 1))
noncomputable def m_takeRead_b (M : MS) : MS := (m_takeRead_L246 9 (m_takeRead_L194 7 (mSetA (mSetA (mSetA (mSetA (m_takeRead_L122 25 (m_takeRead_L74 7 (m_takeRead_L26 13 (mSetN (mSetN (mSetN M 0 (mN M 20)) 3 (mN M 24)) 7 (mN M 28)) 0) 0) 0) 12 18 (((nI 1) <<< ((nI (mN (m_takeRead_L122 25 (m_takeRead_L74 7 (m_takeRead_L26 13 (mSetN (mSetN (mSetN M 0 (mN M 20)) 3 (mN M 24)) 7 (mN M 28)) 0) 0) 0) 0)) &&& 31)) - (nI 1))) 12 19 (nI 0)) 12 20 (nI 0)) 12 21 (nI 0)) 0) 0)
theorem m_takeRead_x : ∃ f : MS → MS, ∀ (M : MS) , f M = m_takeRead_b M := ⟨m_takeRead_b, fun M => rfl⟩
noncomputable def m_takeRead : MS → MS := Classical.choose m_takeRead_x
theorem m_takeRead_d (M : MS)  : m_takeRead M = (m_takeRead_L246 9 (m_takeRead_L194 7 (mSetA (mSetA (mSetA (mSetA (m_takeRead_L122 25 (m_takeRead_L74 7 (m_takeRead_L26 13 (mSetN (mSetN (mSetN M 0 (mN M 20)) 3 (mN M 24)) 7 (mN M 28)) 0) 0) 0) 12 18 (((nI 1) <<< ((nI (mN (m_takeRead_L122 25 (m_takeRead_L74 7 (m_takeRead_L26 13 (mSetN (mSetN (mSetN M 0 (mN M 20)) 3 (mN M 24)) 7 (mN M 28)) 0) 0) 0) 0)) &&& 31)) - (nI 1))) 12 19 (nI 0)) 12 20 (nI 0)) 12 21 (nI 0)) 0) 0) := Classical.choose_spec m_takeRead_x M
theorem tr26_N : ∀ (fu : Nat) (M : MS) (k j : Nat), mN (m_takeRead_L26 fu M k) j = mN M j := by
  intro fu
  induction fu with
  | zero => intro M k j; rfl
  | succ fu ih => intro M k j; rw [m_takeRead_L26]; repeat' split
                  all_goals first | rfl | (rw [ih]; rfl)
theorem tr74_N : ∀ (fu : Nat) (M : MS) (k j : Nat), mN (m_takeRead_L74 fu M k) j = mN M j := by
  intro fu
  induction fu with
  | zero => intro M k j; rfl
  | succ fu ih => intro M k j; rw [m_takeRead_L74]; repeat' split
                  all_goals first | rfl | (rw [ih]; rfl)
theorem tr122_N : ∀ (fu : Nat) (M : MS) (k j : Nat), mN (m_takeRead_L122 fu M k) j = mN M j := by
  intro fu
  induction fu with
  | zero => intro M k j; rfl
  | succ fu ih => intro M k j; rw [m_takeRead_L122]; repeat' split
                  all_goals first | rfl | (rw [ih]; rfl)
theorem tr194_N : ∀ (fu : Nat) (M : MS) (k j : Nat), mN (m_takeRead_L194 fu M k) j = mN M j := by
  intro fu
  induction fu with
  | zero => intro M k j; rfl
  | succ fu ih => intro M k j; rw [m_takeRead_L194]; repeat' split
                  all_goals first | rfl | (rw [ih]; rfl)
theorem tr246_N : ∀ (fu : Nat) (M : MS) (k j : Nat), mN (m_takeRead_L246 fu M k) j = mN M j := by
  intro fu
  induction fu with
  | zero => intro M k j; rfl
  | succ fu ih => intro M k j; rw [m_takeRead_L246]; repeat' split
                  all_goals first | rfl | (rw [ih]; rfl)
theorem bX3_takeRead : nBV RX3 yX3_takeRead cX3_takeRead 2 none 0 := ⟨q871, qs28, q55, q872, by decide, by decide +kernel⟩
set_option maxRecDepth 100000 in
set_option maxHeartbeats 4000000 in
theorem t_m_takeRead_L26 {p : Program} {l : Launch} {e : Env} {s : State} {m : MethodId} {args : Array Value} {below : List Frame} {meth : Method} {c : Code} {Q : State → Prop} {D : va_G} {N0 : Nat} {kA : Nat → ClassId} {mb : Nat} {hs : hT} {n : Nat} (hn : mb + 28 < n)  (hC : nC p s m args meth c RX3 cX3_takeRead 2 none true D N0 kA)  : ∀ (fu : Nat) (M : MS) (k : Nat) (h0 : mN M 0 ≤ 6) (hk : k ≤ 12) (hf : 12 < k + fu) (hK : nW p l e (nRm 0 0 0) s m args below meth c Q D N0 2 72 [(0, .ref (N0 + mb))] [] (mH N0 mb kA hs (m_takeRead_L26 fu M k)) n 0 0), nW p l e (nRm 0 0 0) s m args below meth c Q D N0 2 26 [(0, .ref (N0 + mb)), (1, .int (nI k))] [] (mH N0 mb kA hs M) n 0 0 := by
  intro fu
  induction fu with
  | zero =>
    intro M k h0 hk hf hK
    exfalso; omega
  | succ fu ih =>
    intro M k h0 hk hf hK
    refine n_iload_n hC dX3_takeRead_26 rfl ?_
    refine n_bipush (v := (nI 12)) hC dX3_takeRead_27 (by decide) ?_
    refine n_icmp_geN (tgt := 72) hC k 12 rfl rfl (by omega) (by omega) dX3_takeRead_29 (by decide) (fun c29 => ?_) (fun c29 => ?_)
    · refine n_drop [0] (L' := [(0, .ref (N0 + mb))]) rfl ?_
      rw [m_takeRead_L26, if_pos c29] at hK
      exact hK
    · refine n_aload_n hC dX3_takeRead_32 rfl ?_
      refine n_get hC cl3 (k := 12) (v := .ref (N0 + (mb + 10))) mc_o (by omega) (by decide) q692 (mf_get N0 mb M (by decide)) dX3_takeRead_33 ?_
      refine n_iload_n hC dX3_takeRead_36 rfl ?_
      refine n_iload_n hC dX3_takeRead_37 rfl ?_
      refine n_aload_n hC dX3_takeRead_38 rfl ?_
      refine n_get hC cl3 (k := 0) (v := .int (nI (mN M 0))) mc_o (by omega) (by decide) q680 (mf_get N0 mb M (by decide)) dX3_takeRead_39 ?_
      refine n_icmp_geN (tgt := 54) hC k (mN M 0) rfl rfl (by omega) (by omega) dX3_takeRead_42 (by decide) (fun c42 => ?_) (fun c42 => ?_)
      · refine n_iload_n hC dX3_takeRead_54 rfl ?_
        refine n_bipush (v := (nI 6)) hC dX3_takeRead_55 (by decide) ?_
        refine n_icmp_geN (tgt := 64) hC k 6 rfl rfl (by omega) (by omega) dX3_takeRead_57 (by decide) (fun c57 => ?_) (fun c57 => ?_)
        · refine n_iconst (v := (-1)) hC dX3_takeRead_64 (by decide) ?_
          refine n_iast hC (f := mA M 12) (mc_a (p := 10) (by decide) (by decide)) (by omega) k rfl (by omega) (by decide) dX3_takeRead_65 (mu_A (M := M) (k := 12) (len := 22) (kd := 0) rfl rfl rfl (by decide) (by decide)) ?_
          refine n_iincN (a := k) (L' := [(0, .ref (N0 + mb)), (1, .int (nI (k + 1)))]) hC dX3_takeRead_66 rfl (by decide) rfl ?_
          refine n_goto (tgt := 26) hC dX3_takeRead_69 (by decide) ?_
          rw [m_takeRead_L26, if_neg (Nat.not_le.mpr c29), if_pos c42, if_pos c57] at hK
          exact ih (mSetA M 12 k (-1)) (k + 1) (by first | omega | (simp [mN_A, mN_B, mN_I, mN_N] <;> omega)) (by first | omega | (simp [mN_A, mN_B, mN_I, mN_N] <;> omega)) (by first | omega | (simp [mN_A, mN_B, mN_I, mN_N] <;> omega)) hK
        · refine n_iconst (v := (nI 0)) hC dX3_takeRead_60 (by decide) ?_
          refine n_goto (tgt := 65) hC dX3_takeRead_61 (by decide) ?_
          refine n_iast hC (f := mA M 12) (mc_a (p := 10) (by decide) (by decide)) (by omega) k rfl (by omega) (by decide) dX3_takeRead_65 (mu_A (M := M) (k := 12) (len := 22) (kd := 0) rfl rfl rfl (by decide) (by decide)) ?_
          refine n_iincN (a := k) (L' := [(0, .ref (N0 + mb)), (1, .int (nI (k + 1)))]) hC dX3_takeRead_66 rfl (by decide) rfl ?_
          refine n_goto (tgt := 26) hC dX3_takeRead_69 (by decide) ?_
          rw [m_takeRead_L26, if_neg (Nat.not_le.mpr c29), if_pos c42, if_neg (Nat.not_le.mpr c57)] at hK
          exact ih (mSetA M 12 k (nI 0)) (k + 1) (by first | omega | (simp [mN_A, mN_B, mN_I, mN_N] <;> omega)) (by first | omega | (simp [mN_A, mN_B, mN_I, mN_N] <;> omega)) (by first | omega | (simp [mN_A, mN_B, mN_I, mN_N] <;> omega)) hK
      · refine n_aload_n hC dX3_takeRead_45 rfl ?_
        refine n_get hC cl3 (k := 21) (v := .ref (N0 + (mb + 12))) mc_o (by omega) (by decide) q701 (mf_get N0 mb M (by decide)) dX3_takeRead_46 ?_
        refine n_iload_n hC dX3_takeRead_49 rfl ?_
        refine n_iald hC (f := fun j => nI (mB M 21 j)) (mc_a (p := 12) (by decide) (by decide)) (by omega) k rfl (by omega) (by decide) dX3_takeRead_50 ?_
        refine n_goto (tgt := 65) hC dX3_takeRead_51 (by decide) ?_
        refine n_iast hC (f := mA M 12) (mc_a (p := 10) (by decide) (by decide)) (by omega) k rfl (by omega) (by decide) dX3_takeRead_65 (mu_A (M := M) (k := 12) (len := 22) (kd := 0) rfl rfl rfl (by decide) (by decide)) ?_
        refine n_iincN (a := k) (L' := [(0, .ref (N0 + mb)), (1, .int (nI (k + 1)))]) hC dX3_takeRead_66 rfl (by decide) rfl ?_
        refine n_goto (tgt := 26) hC dX3_takeRead_69 (by decide) ?_
        rw [m_takeRead_L26, if_neg (Nat.not_le.mpr c29), if_neg (Nat.not_le.mpr c42)] at hK
        exact ih (mSetA M 12 k (nI (mB M 21 k))) (k + 1) (by first | omega | (simp [mN_A, mN_B, mN_I, mN_N] <;> omega)) (by first | omega | (simp [mN_A, mN_B, mN_I, mN_N] <;> omega)) (by first | omega | (simp [mN_A, mN_B, mN_I, mN_N] <;> omega)) hK
set_option maxRecDepth 100000 in
set_option maxHeartbeats 4000000 in
theorem t_m_takeRead_L74 {p : Program} {l : Launch} {e : Env} {s : State} {m : MethodId} {args : Array Value} {below : List Frame} {meth : Method} {c : Code} {Q : State → Prop} {D : va_G} {N0 : Nat} {kA : Nat → ClassId} {mb : Nat} {hs : hT} {n : Nat} (hn : mb + 28 < n)  (hC : nC p s m args meth c RX3 cX3_takeRead 2 none true D N0 kA)  : ∀ (fu : Nat) (M : MS) (k : Nat) (h0 : mN M 0 ≤ 6) (hk : k ≤ 6) (hf : 6 < k + fu) (hK : nW p l e (nRm 0 0 0) s m args below meth c Q D N0 2 120 [(0, .ref (N0 + mb))] [] (mH N0 mb kA hs (m_takeRead_L74 fu M k)) n 0 0), nW p l e (nRm 0 0 0) s m args below meth c Q D N0 2 74 [(0, .ref (N0 + mb)), (1, .int (nI k))] [] (mH N0 mb kA hs M) n 0 0 := by
  intro fu
  induction fu with
  | zero =>
    intro M k h0 hk hf hK
    exfalso; omega
  | succ fu ih =>
    intro M k h0 hk hf hK
    refine n_iload_n hC dX3_takeRead_74 rfl ?_
    refine n_bipush (v := (nI 6)) hC dX3_takeRead_75 (by decide) ?_
    refine n_icmp_geN (tgt := 120) hC k 6 rfl rfl (by omega) (by omega) dX3_takeRead_77 (by decide) (fun c77 => ?_) (fun c77 => ?_)
    · refine n_drop [0] (L' := [(0, .ref (N0 + mb))]) rfl ?_
      rw [m_takeRead_L74, if_pos c77] at hK
      exact hK
    · refine n_aload_n hC dX3_takeRead_80 rfl ?_
      refine n_get hC cl3 (k := 2) (v := .ref (N0 + (mb + 2))) mc_o (by omega) (by decide) q682 (mf_get N0 mb M (by decide)) dX3_takeRead_81 ?_
      refine n_iload_n hC dX3_takeRead_84 rfl ?_
      refine n_iload_n hC dX3_takeRead_85 rfl ?_
      refine n_aload_n hC dX3_takeRead_86 rfl ?_
      refine n_get hC cl3 (k := 0) (v := .int (nI (mN M 0))) mc_o (by omega) (by decide) q680 (mf_get N0 mb M (by decide)) dX3_takeRead_87 ?_
      refine n_icmp_geN (tgt := 102) hC k (mN M 0) rfl rfl (by omega) (by omega) dX3_takeRead_90 (by decide) (fun c90 => ?_) (fun c90 => ?_)
      · refine n_iconst (v := (-1)) hC dX3_takeRead_102 (by decide) ?_
        refine n_iast hC (f := mA M 2) (mc_a (p := 2) (by decide) (by decide)) (by omega) k rfl (by omega) (by decide) dX3_takeRead_103 (mu_A (M := M) (k := 2) (len := 6) (kd := 0) rfl rfl rfl (by decide) (by decide)) ?_
        refine n_aload_n hC dX3_takeRead_104 rfl ?_
        refine n_get hC cl3 (k := 12) (v := .ref (N0 + (mb + 10))) mc_o (by omega) (by decide) q692 (mf_get N0 mb (mSetA M 2 k (-1)) (by decide)) dX3_takeRead_105 ?_
        refine n_bipush (v := (nI 12)) hC dX3_takeRead_108 (by decide) ?_
        refine n_iload_n hC dX3_takeRead_110 rfl ?_
        refine n_iaddN hC dX3_takeRead_111 ?_
        refine n_iconst (v := (-1)) hC dX3_takeRead_112 (by decide) ?_
        refine n_iast hC (f := mA (mSetA M 2 k (-1)) 12) (mc_a (p := 10) (by decide) (by decide)) (by omega) (12 + k) rfl (by omega) (by decide) dX3_takeRead_113 (mu_A (M := (mSetA M 2 k (-1))) (k := 12) (len := 22) (kd := 0) rfl rfl rfl (by decide) (by decide)) ?_
        refine n_iincN (a := k) (L' := [(0, .ref (N0 + mb)), (1, .int (nI (k + 1)))]) hC dX3_takeRead_114 rfl (by decide) rfl ?_
        refine n_goto (tgt := 74) hC dX3_takeRead_117 (by decide) ?_
        rw [m_takeRead_L74, if_neg (Nat.not_le.mpr c77), if_pos c90] at hK
        exact ih (mSetA (mSetA M 2 k (-1)) 12 (12 + k) (-1)) (k + 1) (by first | omega | (simp [mN_A, mN_B, mN_I, mN_N] <;> omega)) (by first | omega | (simp [mN_A, mN_B, mN_I, mN_N] <;> omega)) (by first | omega | (simp [mN_A, mN_B, mN_I, mN_N] <;> omega)) hK
      · refine n_aload_n hC dX3_takeRead_93 rfl ?_
        refine n_get hC cl3 (k := 23) (v := .ref (N0 + (mb + 14))) mc_o (by omega) (by decide) q703 (mf_get N0 mb M (by decide)) dX3_takeRead_94 ?_
        refine n_iload_n hC dX3_takeRead_97 rfl ?_
        refine n_iald hC (f := mA M 23) (mc_a (p := 14) (by decide) (by decide)) (by omega) k rfl (by omega) (by decide) dX3_takeRead_98 ?_
        refine n_goto (tgt := 103) hC dX3_takeRead_99 (by decide) ?_
        refine n_iast hC (f := mA M 2) (mc_a (p := 2) (by decide) (by decide)) (by omega) k rfl (by omega) (by decide) dX3_takeRead_103 (mu_A (M := M) (k := 2) (len := 6) (kd := 0) rfl rfl rfl (by decide) (by decide)) ?_
        refine n_aload_n hC dX3_takeRead_104 rfl ?_
        refine n_get hC cl3 (k := 12) (v := .ref (N0 + (mb + 10))) mc_o (by omega) (by decide) q692 (mf_get N0 mb (mSetA M 2 k (mA M 23 k)) (by decide)) dX3_takeRead_105 ?_
        refine n_bipush (v := (nI 12)) hC dX3_takeRead_108 (by decide) ?_
        refine n_iload_n hC dX3_takeRead_110 rfl ?_
        refine n_iaddN hC dX3_takeRead_111 ?_
        refine n_iconst (v := (-1)) hC dX3_takeRead_112 (by decide) ?_
        refine n_iast hC (f := mA (mSetA M 2 k (mA M 23 k)) 12) (mc_a (p := 10) (by decide) (by decide)) (by omega) (12 + k) rfl (by omega) (by decide) dX3_takeRead_113 (mu_A (M := (mSetA M 2 k (mA M 23 k))) (k := 12) (len := 22) (kd := 0) rfl rfl rfl (by decide) (by decide)) ?_
        refine n_iincN (a := k) (L' := [(0, .ref (N0 + mb)), (1, .int (nI (k + 1)))]) hC dX3_takeRead_114 rfl (by decide) rfl ?_
        refine n_goto (tgt := 74) hC dX3_takeRead_117 (by decide) ?_
        rw [m_takeRead_L74, if_neg (Nat.not_le.mpr c77), if_neg (Nat.not_le.mpr c90)] at hK
        exact ih (mSetA (mSetA M 2 k (mA M 23 k)) 12 (12 + k) (-1)) (k + 1) (by first | omega | (simp [mN_A, mN_B, mN_I, mN_N] <;> omega)) (by first | omega | (simp [mN_A, mN_B, mN_I, mN_N] <;> omega)) (by first | omega | (simp [mN_A, mN_B, mN_I, mN_N] <;> omega)) hK
set_option maxRecDepth 100000 in
set_option maxHeartbeats 4000000 in
theorem t_m_takeRead_L122 {p : Program} {l : Launch} {e : Env} {s : State} {m : MethodId} {args : Array Value} {below : List Frame} {meth : Method} {c : Code} {Q : State → Prop} {D : va_G} {N0 : Nat} {kA : Nat → ClassId} {mb : Nat} {hs : hT} {n : Nat} (hn : mb + 28 < n)  (hC : nC p s m args meth c RX3 cX3_takeRead 2 none true D N0 kA)  : ∀ (fu : Nat) (M : MS) (k : Nat) (h0 : mN M 0 ≤ 6) (hk : k ≤ 4 * mN M 0) (hf : 4 * mN M 0 < k + fu) (hK : nW p l e (nRm 0 0 0) s m args below meth c Q D N0 2 153 [(0, .ref (N0 + mb))] [] (mH N0 mb kA hs (m_takeRead_L122 fu M k)) n 0 0), nW p l e (nRm 0 0 0) s m args below meth c Q D N0 2 122 [(0, .ref (N0 + mb)), (1, .int (nI k))] [] (mH N0 mb kA hs M) n 0 0 := by
  intro fu
  induction fu with
  | zero =>
    intro M k h0 hk hf hK
    exfalso; omega
  | succ fu ih =>
    intro M k h0 hk hf hK
    refine n_iload_n hC dX3_takeRead_122 rfl ?_
    refine n_iconst (v := (nI 4)) hC dX3_takeRead_123 (by decide) ?_
    refine n_aload_n hC dX3_takeRead_124 rfl ?_
    refine n_get hC cl3 (k := 0) (v := .int (nI (mN M 0))) mc_o (by omega) (by decide) q680 (mf_get N0 mb M (by decide)) dX3_takeRead_125 ?_
    refine n_imulN hC dX3_takeRead_128 ?_
    refine n_icmp_geN (tgt := 153) hC k (4 * (mN M 0)) rfl rfl (by omega) (by omega) dX3_takeRead_129 (by decide) (fun c129 => ?_) (fun c129 => ?_)
    · refine n_drop [0] (L' := [(0, .ref (N0 + mb))]) rfl ?_
      rw [m_takeRead_L122, if_pos c129] at hK
      exact hK
    · refine n_aload_n hC dX3_takeRead_132 rfl ?_
      refine n_get hC cl3 (k := 1) (v := .ref (N0 + (mb + 1))) mc_o (by omega) (by decide) q681 (mf_get N0 mb M (by decide)) dX3_takeRead_133 ?_
      refine n_iload_n hC dX3_takeRead_136 rfl ?_
      refine n_aload_n hC dX3_takeRead_137 rfl ?_
      refine n_get hC cl3 (k := 22) (v := .ref (N0 + (mb + 13))) mc_o (by omega) (by decide) q702 (mf_get N0 mb M (by decide)) dX3_takeRead_138 ?_
      refine n_iload_n hC dX3_takeRead_141 rfl ?_
      refine n_iald hC (f := fun j => nI (mB M 22 j)) (mc_a (p := 13) (by decide) (by decide)) (by omega) k rfl (by omega) (by decide) dX3_takeRead_142 ?_
      refine n_bipush (v := (nI 9)) hC dX3_takeRead_143 (by decide) ?_
      refine n_isub hC dX3_takeRead_145 ?_
      refine n_iast hC (f := mA M 1) (mc_a (p := 1) (by decide) (by decide)) (by omega) k rfl (by omega) (by decide) dX3_takeRead_146 (mu_A (M := M) (k := 1) (len := 24) (kd := 0) rfl rfl rfl (by decide) (by decide)) ?_
      refine n_iincN (a := k) (L' := [(0, .ref (N0 + mb)), (1, .int (nI (k + 1)))]) hC dX3_takeRead_147 rfl (by decide) rfl ?_
      refine n_goto (tgt := 122) hC dX3_takeRead_150 (by decide) ?_
      rw [m_takeRead_L122, if_neg (Nat.not_le.mpr c129)] at hK
      exact ih (mSetA M 1 k ((nI (mB M 22 k)) - (nI 9))) (k + 1) (by first | omega | (simp [mN_A, mN_B, mN_I, mN_N] <;> omega)) (by first | omega | (simp [mN_A, mN_B, mN_I, mN_N] <;> omega)) (by first | omega | (simp [mN_A, mN_B, mN_I, mN_N] <;> omega)) hK
set_option maxRecDepth 100000 in
set_option maxHeartbeats 4000000 in
theorem t_m_takeRead_L194 {p : Program} {l : Launch} {e : Env} {s : State} {m : MethodId} {args : Array Value} {below : List Frame} {meth : Method} {c : Code} {Q : State → Prop} {D : va_G} {N0 : Nat} {kA : Nat → ClassId} {mb : Nat} {hs : hT} {n : Nat} (hn : mb + 28 < n)  (hC : nC p s m args meth c RX3 cX3_takeRead 2 none true D N0 kA)  : ∀ (fu : Nat) (M : MS) (k : Nat) (h3 : mN M 3 ≤ 6) (hk : k ≤ mN M 3) (hf : mN M 3 < k + fu) (hK : nW p l e (nRm 0 0 0) s m args below meth c Q D N0 2 244 [(0, .ref (N0 + mb))] [] (mH N0 mb kA hs (m_takeRead_L194 fu M k)) n 0 0), nW p l e (nRm 0 0 0) s m args below meth c Q D N0 2 194 [(0, .ref (N0 + mb)), (1, .int (nI k))] [] (mH N0 mb kA hs M) n 0 0 := by
  intro fu
  induction fu with
  | zero =>
    intro M k h3 hk hf hK
    exfalso; omega
  | succ fu ih =>
    intro M k h3 hk hf hK
    refine n_iload_n hC dX3_takeRead_194 rfl ?_
    refine n_aload_n hC dX3_takeRead_195 rfl ?_
    refine n_get hC cl3 (k := 3) (v := .int (nI (mN M 3))) mc_o (by omega) (by decide) q683 (mf_get N0 mb M (by decide)) dX3_takeRead_196 ?_
    refine n_icmp_geN (tgt := 244) hC k (mN M 3) rfl rfl (by omega) (by omega) dX3_takeRead_199 (by decide) (fun c199 => ?_) (fun c199 => ?_)
    · refine n_drop [0] (L' := [(0, .ref (N0 + mb))]) rfl ?_
      rw [m_takeRead_L194, if_pos c199] at hK
      exact hK
    · refine n_aload_n hC dX3_takeRead_202 rfl ?_
      refine n_get hC cl3 (k := 4) (v := .ref (N0 + (mb + 3))) mc_o (by omega) (by decide) q684 (mf_get N0 mb M (by decide)) dX3_takeRead_203 ?_
      refine n_iload_n hC dX3_takeRead_206 rfl ?_
      refine n_aload_n hC dX3_takeRead_207 rfl ?_
      refine n_get hC cl3 (k := 25) (v := .ref (N0 + (mb + 15))) mc_o (by omega) (by decide) q705 (mf_get N0 mb M (by decide)) dX3_takeRead_208 ?_
      refine n_iload_n hC dX3_takeRead_211 rfl ?_
      refine n_iald hC (f := fun j => nI (mB M 25 j)) (mc_a (p := 15) (by decide) (by decide)) (by omega) k rfl (by omega) (by decide) dX3_takeRead_212 ?_
      refine n_iast hC (f := fun j => nI (mB M 4 j)) (mc_a (p := 3) (by decide) (by decide)) (by omega) k rfl (by omega) (by decide) dX3_takeRead_213 (mu_B (M := M) (k := 4) (len := 6) rfl rfl (by decide) (by decide)) ?_
      refine n_aload_n hC dX3_takeRead_214 rfl ?_
      refine n_get hC cl3 (k := 5) (v := .ref (N0 + (mb + 4))) mc_o (by omega) (by decide) q685 (mf_get N0 mb (mSetB M 4 k (mB M 25 k)) (by decide)) dX3_takeRead_215 ?_
      refine n_iload_n hC dX3_takeRead_218 rfl ?_
      refine n_aload_n hC dX3_takeRead_219 rfl ?_
      refine n_get hC cl3 (k := 26) (v := .ref (N0 + (mb + 16))) mc_o (by omega) (by decide) q706 (mf_get N0 mb (mSetB M 4 k (mB M 25 k)) (by decide)) dX3_takeRead_220 ?_
      refine n_iload_n hC dX3_takeRead_223 rfl ?_
      refine n_iald hC (f := fun j => nI (mB (mSetB M 4 k (mB M 25 k)) 26 j)) (mc_a (p := 16) (by decide) (by decide)) (by omega) k rfl (by omega) (by decide) dX3_takeRead_224 ?_
      refine n_stk (st' := [.int (nI (mB M 26 k)), .int (nI k), .ref (N0 + (mb + 4))]) (by first | rfl | simp [mA_A, mB_B]) ?_
      refine n_iast hC (f := fun j => nI (mB (mSetB M 4 k (mB M 25 k)) 5 j)) (mc_a (p := 4) (by decide) (by decide)) (by omega) k rfl (by omega) (by decide) dX3_takeRead_225 (mu_B (M := (mSetB M 4 k (mB M 25 k))) (k := 5) (len := 6) rfl rfl (by decide) (by decide)) ?_
      refine n_aload_n hC dX3_takeRead_226 rfl ?_
      refine n_get hC cl3 (k := 6) (v := .ref (N0 + (mb + 5))) mc_o (by omega) (by decide) q686 (mf_get N0 mb (mSetB (mSetB M 4 k (mB M 25 k)) 5 k (mB M 26 k)) (by decide)) dX3_takeRead_227 ?_
      refine n_iload_n hC dX3_takeRead_230 rfl ?_
      refine n_aload_n hC dX3_takeRead_231 rfl ?_
      refine n_get hC cl3 (k := 27) (v := .ref (N0 + (mb + 17))) mc_o (by omega) (by decide) q707 (mf_get N0 mb (mSetB (mSetB M 4 k (mB M 25 k)) 5 k (mB M 26 k)) (by decide)) dX3_takeRead_232 ?_
      refine n_iload_n hC dX3_takeRead_235 rfl ?_
      refine n_iald hC (f := fun j => nI (mB (mSetB (mSetB M 4 k (mB M 25 k)) 5 k (mB M 26 k)) 27 j)) (mc_a (p := 17) (by decide) (by decide)) (by omega) k rfl (by omega) (by decide) dX3_takeRead_236 ?_
      refine n_stk (st' := [.int (nI (mB M 27 k)), .int (nI k), .ref (N0 + (mb + 5))]) (by first | rfl | simp [mA_A, mB_B]) ?_
      refine n_iast hC (f := fun j => nI (mB (mSetB (mSetB M 4 k (mB M 25 k)) 5 k (mB M 26 k)) 6 j)) (mc_a (p := 5) (by decide) (by decide)) (by omega) k rfl (by omega) (by decide) dX3_takeRead_237 (mu_B (M := (mSetB (mSetB M 4 k (mB M 25 k)) 5 k (mB M 26 k))) (k := 6) (len := 6) rfl rfl (by decide) (by decide)) ?_
      refine n_iincN (a := k) (L' := [(0, .ref (N0 + mb)), (1, .int (nI (k + 1)))]) hC dX3_takeRead_238 rfl (by decide) rfl ?_
      refine n_goto (tgt := 194) hC dX3_takeRead_241 (by decide) ?_
      rw [m_takeRead_L194, if_neg (Nat.not_le.mpr c199)] at hK
      exact ih (mSetB (mSetB (mSetB M 4 k (mB M 25 k)) 5 k (mB M 26 k)) 6 k (mB M 27 k)) (k + 1) (by first | omega | (simp [mN_A, mN_B, mN_I, mN_N] <;> omega)) (by first | omega | (simp [mN_A, mN_B, mN_I, mN_N] <;> omega)) (by first | omega | (simp [mN_A, mN_B, mN_I, mN_N] <;> omega)) hK
set_option maxRecDepth 100000 in
set_option maxHeartbeats 4000000 in
theorem t_m_takeRead_L246 {p : Program} {l : Launch} {e : Env} {s : State} {m : MethodId} {args : Array Value} {below : List Frame} {meth : Method} {c : Code} {Q : State → Prop} {D : va_G} {N0 : Nat} {kA : Nat → ClassId} {mb : Nat} {hs : hT} {n : Nat} (hn : mb + 28 < n)  (hC : nC p s m args meth c RX3 cX3_takeRead 2 none true D N0 kA)  : ∀ (fu : Nat) (M : MS) (k : Nat) (h7 : mN M 7 ≤ 8) (hk : k ≤ mN M 7) (hf : mN M 7 < k + fu) (hK : nW p l e (nRm 0 0 0) s m args below meth c Q D N0 2 308 [(0, .ref (N0 + mb))] [] (mH N0 mb kA hs (m_takeRead_L246 fu M k)) n 0 0), nW p l e (nRm 0 0 0) s m args below meth c Q D N0 2 246 [(0, .ref (N0 + mb)), (1, .int (nI k))] [] (mH N0 mb kA hs M) n 0 0 := by
  intro fu
  induction fu with
  | zero =>
    intro M k h7 hk hf hK
    exfalso; omega
  | succ fu ih =>
    intro M k h7 hk hf hK
    refine n_iload_n hC dX3_takeRead_246 rfl ?_
    refine n_aload_n hC dX3_takeRead_247 rfl ?_
    refine n_get hC cl3 (k := 7) (v := .int (nI (mN M 7))) mc_o (by omega) (by decide) q687 (mf_get N0 mb M (by decide)) dX3_takeRead_248 ?_
    refine n_icmp_geN (tgt := 308) hC k (mN M 7) rfl rfl (by omega) (by omega) dX3_takeRead_251 (by decide) (fun c251 => ?_) (fun c251 => ?_)
    · refine n_drop [0] (L' := [(0, .ref (N0 + mb))]) rfl ?_
      rw [m_takeRead_L246, if_pos c251] at hK
      exact hK
    · refine n_aload_n hC dX3_takeRead_254 rfl ?_
      refine n_get hC cl3 (k := 8) (v := .ref (N0 + (mb + 6))) mc_o (by omega) (by decide) q688 (mf_get N0 mb M (by decide)) dX3_takeRead_255 ?_
      refine n_iload_n hC dX3_takeRead_258 rfl ?_
      refine n_aload_n hC dX3_takeRead_259 rfl ?_
      refine n_get hC cl3 (k := 29) (v := .ref (N0 + (mb + 18))) mc_o (by omega) (by decide) q709 (mf_get N0 mb M (by decide)) dX3_takeRead_260 ?_
      refine n_iload_n hC dX3_takeRead_263 rfl ?_
      refine n_iald hC (f := fun j => nI (mB M 29 j)) (mc_a (p := 18) (by decide) (by decide)) (by omega) k rfl (by omega) (by decide) dX3_takeRead_264 ?_
      refine n_iast hC (f := fun j => nI (mB M 8 j)) (mc_a (p := 6) (by decide) (by decide)) (by omega) k rfl (by omega) (by decide) dX3_takeRead_265 (mu_B (M := M) (k := 8) (len := 8) rfl rfl (by decide) (by decide)) ?_
      refine n_aload_n hC dX3_takeRead_266 rfl ?_
      refine n_get hC cl3 (k := 9) (v := .ref (N0 + (mb + 7))) mc_o (by omega) (by decide) q689 (mf_get N0 mb (mSetB M 8 k (mB M 29 k)) (by decide)) dX3_takeRead_267 ?_
      refine n_iload_n hC dX3_takeRead_270 rfl ?_
      refine n_aload_n hC dX3_takeRead_271 rfl ?_
      refine n_get hC cl3 (k := 30) (v := .ref (N0 + (mb + 19))) mc_o (by omega) (by decide) q710 (mf_get N0 mb (mSetB M 8 k (mB M 29 k)) (by decide)) dX3_takeRead_272 ?_
      refine n_iload_n hC dX3_takeRead_275 rfl ?_
      refine n_iald hC (f := fun j => nI (mB (mSetB M 8 k (mB M 29 k)) 30 j)) (mc_a (p := 19) (by decide) (by decide)) (by omega) k rfl (by omega) (by decide) dX3_takeRead_276 ?_
      refine n_stk (st' := [.int (nI (mB M 30 k)), .int (nI k), .ref (N0 + (mb + 7))]) (by first | rfl | simp [mA_A, mB_B]) ?_
      refine n_iast hC (f := fun j => nI (mB (mSetB M 8 k (mB M 29 k)) 9 j)) (mc_a (p := 7) (by decide) (by decide)) (by omega) k rfl (by omega) (by decide) dX3_takeRead_277 (mu_B (M := (mSetB M 8 k (mB M 29 k))) (k := 9) (len := 8) rfl rfl (by decide) (by decide)) ?_
      refine n_aload_n hC dX3_takeRead_278 rfl ?_
      refine n_get hC cl3 (k := 10) (v := .ref (N0 + (mb + 8))) mc_o (by omega) (by decide) q690 (mf_get N0 mb (mSetB (mSetB M 8 k (mB M 29 k)) 9 k (mB M 30 k)) (by decide)) dX3_takeRead_279 ?_
      refine n_iload_n hC dX3_takeRead_282 rfl ?_
      refine n_aload_n hC dX3_takeRead_283 rfl ?_
      refine n_get hC cl3 (k := 31) (v := .ref (N0 + (mb + 20))) mc_o (by omega) (by decide) q711 (mf_get N0 mb (mSetB (mSetB M 8 k (mB M 29 k)) 9 k (mB M 30 k)) (by decide)) dX3_takeRead_284 ?_
      refine n_iload_n hC dX3_takeRead_287 rfl ?_
      refine n_iald hC (f := fun j => nI (mB (mSetB (mSetB M 8 k (mB M 29 k)) 9 k (mB M 30 k)) 31 j)) (mc_a (p := 20) (by decide) (by decide)) (by omega) k rfl (by omega) (by decide) dX3_takeRead_288 ?_
      refine n_stk (st' := [.int (nI (mB M 31 k)), .int (nI k), .ref (N0 + (mb + 8))]) (by first | rfl | simp [mA_A, mB_B]) ?_
      refine n_iast hC (f := fun j => nI (mB (mSetB (mSetB M 8 k (mB M 29 k)) 9 k (mB M 30 k)) 10 j)) (mc_a (p := 8) (by decide) (by decide)) (by omega) k rfl (by omega) (by decide) dX3_takeRead_289 (mu_B (M := (mSetB (mSetB M 8 k (mB M 29 k)) 9 k (mB M 30 k))) (k := 10) (len := 8) rfl rfl (by decide) (by decide)) ?_
      refine n_aload_n hC dX3_takeRead_290 rfl ?_
      refine n_get hC cl3 (k := 11) (v := .ref (N0 + (mb + 9))) mc_o (by omega) (by decide) q691 (mf_get N0 mb (mSetB (mSetB (mSetB M 8 k (mB M 29 k)) 9 k (mB M 30 k)) 10 k (mB M 31 k)) (by decide)) dX3_takeRead_291 ?_
      refine n_iload_n hC dX3_takeRead_294 rfl ?_
      refine n_aload_n hC dX3_takeRead_295 rfl ?_
      refine n_get hC cl3 (k := 32) (v := .ref (N0 + (mb + 21))) mc_o (by omega) (by decide) q712 (mf_get N0 mb (mSetB (mSetB (mSetB M 8 k (mB M 29 k)) 9 k (mB M 30 k)) 10 k (mB M 31 k)) (by decide)) dX3_takeRead_296 ?_
      refine n_iload_n hC dX3_takeRead_299 rfl ?_
      refine n_iald hC (f := fun j => nI (mB (mSetB (mSetB (mSetB M 8 k (mB M 29 k)) 9 k (mB M 30 k)) 10 k (mB M 31 k)) 32 j)) (mc_a (p := 21) (by decide) (by decide)) (by omega) k rfl (by omega) (by decide) dX3_takeRead_300 ?_
      refine n_stk (st' := [.int (nI (mB M 32 k)), .int (nI k), .ref (N0 + (mb + 9))]) (by first | rfl | simp [mA_A, mB_B]) ?_
      refine n_iast hC (f := fun j => nI (mB (mSetB (mSetB (mSetB M 8 k (mB M 29 k)) 9 k (mB M 30 k)) 10 k (mB M 31 k)) 11 j)) (mc_a (p := 9) (by decide) (by decide)) (by omega) k rfl (by omega) (by decide) dX3_takeRead_301 (mu_B (M := (mSetB (mSetB (mSetB M 8 k (mB M 29 k)) 9 k (mB M 30 k)) 10 k (mB M 31 k))) (k := 11) (len := 8) rfl rfl (by decide) (by decide)) ?_
      refine n_iincN (a := k) (L' := [(0, .ref (N0 + mb)), (1, .int (nI (k + 1)))]) hC dX3_takeRead_302 rfl (by decide) rfl ?_
      refine n_goto (tgt := 246) hC dX3_takeRead_305 (by decide) ?_
      rw [m_takeRead_L246, if_neg (Nat.not_le.mpr c251)] at hK
      exact ih (mSetB (mSetB (mSetB (mSetB M 8 k (mB M 29 k)) 9 k (mB M 30 k)) 10 k (mB M 31 k)) 11 k (mB M 32 k)) (k + 1) (by first | omega | (simp [mN_A, mN_B, mN_I, mN_N] <;> omega)) (by first | omega | (simp [mN_A, mN_B, mN_I, mN_N] <;> omega)) (by first | omega | (simp [mN_A, mN_B, mN_I, mN_N] <;> omega)) hK
set_option maxRecDepth 100000 in
set_option maxHeartbeats 4000000 in
theorem t_m_takeRead (l : Launch) (D : va_G) (N0 : Nat) (kA : Nat → ClassId) (mb : Nat) (hs : hT) (M : MS) (n : Nat) (hn : mb + 28 < n)  (hz : szs M) : nE l yX3_takeRead cX3_takeRead 2 none D N0 kA 0 0 0 [.ref (N0 + mb)] (mH N0 mb kA hs M) n (nX none (mH N0 mb kA hs (m_takeRead M)) n) := by
  refine nE_of (by decide) (Nat.le_of_ble_eq_true rfl) ?_
  intro p e s m args below meth c hC hnm
  refine n_loc (L' := [(0, .ref (N0 + mb))]) rfl ?_
  obtain ⟨z20, z24, z28, z15⟩ := id hz
  refine n_aload_n hC dX3_takeRead_0 rfl ?_
  refine n_aload_n hC dX3_takeRead_1 rfl ?_
  refine n_get hC cl3 (k := 20) (v := .int (nI (mN M 20))) mc_o (by omega) (by decide) q700 (mf_get N0 mb M (by decide)) dX3_takeRead_2 ?_
  refine n_put hC cl3 (k := 0) mc_o (by omega) (by decide) q680 rfl rfl rfl (by rw [mf_len]; decide) dX3_takeRead_5 (mu_N (M := M) (k := 0) (by decide) rfl rfl) ?_
  refine n_aload_n hC dX3_takeRead_8 rfl ?_
  refine n_aload_n hC dX3_takeRead_9 rfl ?_
  refine n_get hC cl3 (k := 24) (v := .int (nI (mN M 24))) mc_o (by omega) (by decide) q704 (mf_get N0 mb (mSetN M 0 (mN M 20)) (by decide)) dX3_takeRead_10 ?_
  refine n_put hC cl3 (k := 3) mc_o (by omega) (by decide) q683 rfl rfl rfl (by rw [mf_len]; decide) dX3_takeRead_13 (mu_N (M := (mSetN M 0 (mN M 20))) (k := 3) (by decide) rfl rfl) ?_
  refine n_aload_n hC dX3_takeRead_16 rfl ?_
  refine n_aload_n hC dX3_takeRead_17 rfl ?_
  refine n_get hC cl3 (k := 28) (v := .int (nI (mN M 28))) mc_o (by omega) (by decide) q708 (mf_get N0 mb (mSetN (mSetN M 0 (mN M 20)) 3 (mN M 24)) (by decide)) dX3_takeRead_18 ?_
  refine n_put hC cl3 (k := 7) mc_o (by omega) (by decide) q687 rfl rfl rfl (by rw [mf_len]; decide) dX3_takeRead_21 (mu_N (M := (mSetN (mSetN M 0 (mN M 20)) 3 (mN M 24))) (k := 7) (by decide) rfl rfl) ?_
  refine n_iconst (v := (nI 0)) hC dX3_takeRead_24 (by decide) ?_
  refine n_istore_n (L' := [(0, .ref (N0 + mb)), (1, .int (nI 0))]) hC dX3_takeRead_25 (by decide) rfl ?_
  refine t_m_takeRead_L26 hn hC  13 (mSetN (mSetN (mSetN M 0 (mN M 20)) 3 (mN M 24)) 7 (mN M 28)) 0 (by first | omega | (simp [tr26_N, tr74_N, tr122_N, tr194_N, mN_A, mN_B, mN_I, mN_N] <;> omega)) (by first | omega | (simp [tr26_N, tr74_N, tr122_N, tr194_N, mN_A, mN_B, mN_I, mN_N] <;> omega)) (by first | omega | (simp [tr26_N, tr74_N, tr122_N, tr194_N, mN_A, mN_B, mN_I, mN_N] <;> omega)) ?_
  refine n_iconst (v := (nI 0)) hC dX3_takeRead_72 (by decide) ?_
  refine n_istore_n (L' := [(0, .ref (N0 + mb)), (1, .int (nI 0))]) hC dX3_takeRead_73 (by decide) rfl ?_
  refine t_m_takeRead_L74 hn hC  7 (m_takeRead_L26 13 (mSetN (mSetN (mSetN M 0 (mN M 20)) 3 (mN M 24)) 7 (mN M 28)) 0) 0 (by first | omega | (simp [tr26_N, tr74_N, tr122_N, tr194_N, mN_A, mN_B, mN_I, mN_N] <;> omega)) (by first | omega | (simp [tr26_N, tr74_N, tr122_N, tr194_N, mN_A, mN_B, mN_I, mN_N] <;> omega)) (by first | omega | (simp [tr26_N, tr74_N, tr122_N, tr194_N, mN_A, mN_B, mN_I, mN_N] <;> omega)) ?_
  refine n_iconst (v := (nI 0)) hC dX3_takeRead_120 (by decide) ?_
  refine n_istore_n (L' := [(0, .ref (N0 + mb)), (1, .int (nI 0))]) hC dX3_takeRead_121 (by decide) rfl ?_
  refine t_m_takeRead_L122 hn hC  25 (m_takeRead_L74 7 (m_takeRead_L26 13 (mSetN (mSetN (mSetN M 0 (mN M 20)) 3 (mN M 24)) 7 (mN M 28)) 0) 0) 0 (by first | omega | (simp [tr26_N, tr74_N, tr122_N, tr194_N, mN_A, mN_B, mN_I, mN_N] <;> omega)) (by first | omega | (simp [tr26_N, tr74_N, tr122_N, tr194_N, mN_A, mN_B, mN_I, mN_N] <;> omega)) (by first | omega | (simp [tr26_N, tr74_N, tr122_N, tr194_N, mN_A, mN_B, mN_I, mN_N] <;> omega)) ?_
  refine n_aload_n hC dX3_takeRead_153 rfl ?_
  refine n_get hC cl3 (k := 12) (v := .ref (N0 + (mb + 10))) mc_o (by omega) (by decide) q692 (mf_get N0 mb (m_takeRead_L122 25 (m_takeRead_L74 7 (m_takeRead_L26 13 (mSetN (mSetN (mSetN M 0 (mN M 20)) 3 (mN M 24)) 7 (mN M 28)) 0) 0) 0) (by decide)) dX3_takeRead_154 ?_
  refine n_bipush (v := (nI 18)) hC dX3_takeRead_157 (by decide) ?_
  refine n_iconst (v := (nI 1)) hC dX3_takeRead_159 (by decide) ?_
  refine n_aload_n hC dX3_takeRead_160 rfl ?_
  refine n_get hC cl3 (k := 0) (v := .int (nI (mN (m_takeRead_L122 25 (m_takeRead_L74 7 (m_takeRead_L26 13 (mSetN (mSetN (mSetN M 0 (mN M 20)) 3 (mN M 24)) 7 (mN M 28)) 0) 0) 0) 0))) mc_o (by omega) (by decide) q680 (mf_get N0 mb (m_takeRead_L122 25 (m_takeRead_L74 7 (m_takeRead_L26 13 (mSetN (mSetN (mSetN M 0 (mN M 20)) 3 (mN M 24)) 7 (mN M 28)) 0) 0) 0) (by decide)) dX3_takeRead_161 ?_
  refine n_ishl hC dX3_takeRead_164 ?_
  refine n_iconst (v := (nI 1)) hC dX3_takeRead_165 (by decide) ?_
  refine n_isub hC dX3_takeRead_166 ?_
  refine n_iast hC (f := mA (m_takeRead_L122 25 (m_takeRead_L74 7 (m_takeRead_L26 13 (mSetN (mSetN (mSetN M 0 (mN M 20)) 3 (mN M 24)) 7 (mN M 28)) 0) 0) 0) 12) (mc_a (p := 10) (by decide) (by decide)) (by omega) 18 rfl (by omega) (by decide) dX3_takeRead_167 (mu_A (M := (m_takeRead_L122 25 (m_takeRead_L74 7 (m_takeRead_L26 13 (mSetN (mSetN (mSetN M 0 (mN M 20)) 3 (mN M 24)) 7 (mN M 28)) 0) 0) 0)) (k := 12) (len := 22) (kd := 0) rfl rfl rfl (by decide) (by decide)) ?_
  refine n_aload_n hC dX3_takeRead_168 rfl ?_
  refine n_get hC cl3 (k := 12) (v := .ref (N0 + (mb + 10))) mc_o (by omega) (by decide) q692 (mf_get N0 mb (mSetA (m_takeRead_L122 25 (m_takeRead_L74 7 (m_takeRead_L26 13 (mSetN (mSetN (mSetN M 0 (mN M 20)) 3 (mN M 24)) 7 (mN M 28)) 0) 0) 0) 12 18 (((nI 1) <<< ((nI (mN (m_takeRead_L122 25 (m_takeRead_L74 7 (m_takeRead_L26 13 (mSetN (mSetN (mSetN M 0 (mN M 20)) 3 (mN M 24)) 7 (mN M 28)) 0) 0) 0) 0)) &&& 31)) - (nI 1))) (by decide)) dX3_takeRead_169 ?_
  refine n_bipush (v := (nI 19)) hC dX3_takeRead_172 (by decide) ?_
  refine n_iconst (v := (nI 0)) hC dX3_takeRead_174 (by decide) ?_
  refine n_iast hC (f := mA (mSetA (m_takeRead_L122 25 (m_takeRead_L74 7 (m_takeRead_L26 13 (mSetN (mSetN (mSetN M 0 (mN M 20)) 3 (mN M 24)) 7 (mN M 28)) 0) 0) 0) 12 18 (((nI 1) <<< ((nI (mN (m_takeRead_L122 25 (m_takeRead_L74 7 (m_takeRead_L26 13 (mSetN (mSetN (mSetN M 0 (mN M 20)) 3 (mN M 24)) 7 (mN M 28)) 0) 0) 0) 0)) &&& 31)) - (nI 1))) 12) (mc_a (p := 10) (by decide) (by decide)) (by omega) 19 rfl (by omega) (by decide) dX3_takeRead_175 (mu_A (M := (mSetA (m_takeRead_L122 25 (m_takeRead_L74 7 (m_takeRead_L26 13 (mSetN (mSetN (mSetN M 0 (mN M 20)) 3 (mN M 24)) 7 (mN M 28)) 0) 0) 0) 12 18 (((nI 1) <<< ((nI (mN (m_takeRead_L122 25 (m_takeRead_L74 7 (m_takeRead_L26 13 (mSetN (mSetN (mSetN M 0 (mN M 20)) 3 (mN M 24)) 7 (mN M 28)) 0) 0) 0) 0)) &&& 31)) - (nI 1)))) (k := 12) (len := 22) (kd := 0) rfl rfl rfl (by decide) (by decide)) ?_
  refine n_aload_n hC dX3_takeRead_176 rfl ?_
  refine n_get hC cl3 (k := 12) (v := .ref (N0 + (mb + 10))) mc_o (by omega) (by decide) q692 (mf_get N0 mb (mSetA (mSetA (m_takeRead_L122 25 (m_takeRead_L74 7 (m_takeRead_L26 13 (mSetN (mSetN (mSetN M 0 (mN M 20)) 3 (mN M 24)) 7 (mN M 28)) 0) 0) 0) 12 18 (((nI 1) <<< ((nI (mN (m_takeRead_L122 25 (m_takeRead_L74 7 (m_takeRead_L26 13 (mSetN (mSetN (mSetN M 0 (mN M 20)) 3 (mN M 24)) 7 (mN M 28)) 0) 0) 0) 0)) &&& 31)) - (nI 1))) 12 19 (nI 0)) (by decide)) dX3_takeRead_177 ?_
  refine n_bipush (v := (nI 20)) hC dX3_takeRead_180 (by decide) ?_
  refine n_iconst (v := (nI 0)) hC dX3_takeRead_182 (by decide) ?_
  refine n_iast hC (f := mA (mSetA (mSetA (m_takeRead_L122 25 (m_takeRead_L74 7 (m_takeRead_L26 13 (mSetN (mSetN (mSetN M 0 (mN M 20)) 3 (mN M 24)) 7 (mN M 28)) 0) 0) 0) 12 18 (((nI 1) <<< ((nI (mN (m_takeRead_L122 25 (m_takeRead_L74 7 (m_takeRead_L26 13 (mSetN (mSetN (mSetN M 0 (mN M 20)) 3 (mN M 24)) 7 (mN M 28)) 0) 0) 0) 0)) &&& 31)) - (nI 1))) 12 19 (nI 0)) 12) (mc_a (p := 10) (by decide) (by decide)) (by omega) 20 rfl (by omega) (by decide) dX3_takeRead_183 (mu_A (M := (mSetA (mSetA (m_takeRead_L122 25 (m_takeRead_L74 7 (m_takeRead_L26 13 (mSetN (mSetN (mSetN M 0 (mN M 20)) 3 (mN M 24)) 7 (mN M 28)) 0) 0) 0) 12 18 (((nI 1) <<< ((nI (mN (m_takeRead_L122 25 (m_takeRead_L74 7 (m_takeRead_L26 13 (mSetN (mSetN (mSetN M 0 (mN M 20)) 3 (mN M 24)) 7 (mN M 28)) 0) 0) 0) 0)) &&& 31)) - (nI 1))) 12 19 (nI 0))) (k := 12) (len := 22) (kd := 0) rfl rfl rfl (by decide) (by decide)) ?_
  refine n_aload_n hC dX3_takeRead_184 rfl ?_
  refine n_get hC cl3 (k := 12) (v := .ref (N0 + (mb + 10))) mc_o (by omega) (by decide) q692 (mf_get N0 mb (mSetA (mSetA (mSetA (m_takeRead_L122 25 (m_takeRead_L74 7 (m_takeRead_L26 13 (mSetN (mSetN (mSetN M 0 (mN M 20)) 3 (mN M 24)) 7 (mN M 28)) 0) 0) 0) 12 18 (((nI 1) <<< ((nI (mN (m_takeRead_L122 25 (m_takeRead_L74 7 (m_takeRead_L26 13 (mSetN (mSetN (mSetN M 0 (mN M 20)) 3 (mN M 24)) 7 (mN M 28)) 0) 0) 0) 0)) &&& 31)) - (nI 1))) 12 19 (nI 0)) 12 20 (nI 0)) (by decide)) dX3_takeRead_185 ?_
  refine n_bipush (v := (nI 21)) hC dX3_takeRead_188 (by decide) ?_
  refine n_iconst (v := (nI 0)) hC dX3_takeRead_190 (by decide) ?_
  refine n_iast hC (f := mA (mSetA (mSetA (mSetA (m_takeRead_L122 25 (m_takeRead_L74 7 (m_takeRead_L26 13 (mSetN (mSetN (mSetN M 0 (mN M 20)) 3 (mN M 24)) 7 (mN M 28)) 0) 0) 0) 12 18 (((nI 1) <<< ((nI (mN (m_takeRead_L122 25 (m_takeRead_L74 7 (m_takeRead_L26 13 (mSetN (mSetN (mSetN M 0 (mN M 20)) 3 (mN M 24)) 7 (mN M 28)) 0) 0) 0) 0)) &&& 31)) - (nI 1))) 12 19 (nI 0)) 12 20 (nI 0)) 12) (mc_a (p := 10) (by decide) (by decide)) (by omega) 21 rfl (by omega) (by decide) dX3_takeRead_191 (mu_A (M := (mSetA (mSetA (mSetA (m_takeRead_L122 25 (m_takeRead_L74 7 (m_takeRead_L26 13 (mSetN (mSetN (mSetN M 0 (mN M 20)) 3 (mN M 24)) 7 (mN M 28)) 0) 0) 0) 12 18 (((nI 1) <<< ((nI (mN (m_takeRead_L122 25 (m_takeRead_L74 7 (m_takeRead_L26 13 (mSetN (mSetN (mSetN M 0 (mN M 20)) 3 (mN M 24)) 7 (mN M 28)) 0) 0) 0) 0)) &&& 31)) - (nI 1))) 12 19 (nI 0)) 12 20 (nI 0))) (k := 12) (len := 22) (kd := 0) rfl rfl rfl (by decide) (by decide)) ?_
  refine n_iconst (v := (nI 0)) hC dX3_takeRead_192 (by decide) ?_
  refine n_istore_n (L' := [(0, .ref (N0 + mb)), (1, .int (nI 0))]) hC dX3_takeRead_193 (by decide) rfl ?_
  refine t_m_takeRead_L194 hn hC  7 (mSetA (mSetA (mSetA (mSetA (m_takeRead_L122 25 (m_takeRead_L74 7 (m_takeRead_L26 13 (mSetN (mSetN (mSetN M 0 (mN M 20)) 3 (mN M 24)) 7 (mN M 28)) 0) 0) 0) 12 18 (((nI 1) <<< ((nI (mN (m_takeRead_L122 25 (m_takeRead_L74 7 (m_takeRead_L26 13 (mSetN (mSetN (mSetN M 0 (mN M 20)) 3 (mN M 24)) 7 (mN M 28)) 0) 0) 0) 0)) &&& 31)) - (nI 1))) 12 19 (nI 0)) 12 20 (nI 0)) 12 21 (nI 0)) 0 (by first | omega | (simp [tr26_N, tr74_N, tr122_N, tr194_N, mN_A, mN_B, mN_I, mN_N] <;> omega)) (by first | omega | (simp [tr26_N, tr74_N, tr122_N, tr194_N, mN_A, mN_B, mN_I, mN_N] <;> omega)) (by first | omega | (simp [tr26_N, tr74_N, tr122_N, tr194_N, mN_A, mN_B, mN_I, mN_N] <;> omega)) ?_
  refine n_iconst (v := (nI 0)) hC dX3_takeRead_244 (by decide) ?_
  refine n_istore_n (L' := [(0, .ref (N0 + mb)), (1, .int (nI 0))]) hC dX3_takeRead_245 (by decide) rfl ?_
  refine t_m_takeRead_L246 hn hC  9 (m_takeRead_L194 7 (mSetA (mSetA (mSetA (mSetA (m_takeRead_L122 25 (m_takeRead_L74 7 (m_takeRead_L26 13 (mSetN (mSetN (mSetN M 0 (mN M 20)) 3 (mN M 24)) 7 (mN M 28)) 0) 0) 0) 12 18 (((nI 1) <<< ((nI (mN (m_takeRead_L122 25 (m_takeRead_L74 7 (m_takeRead_L26 13 (mSetN (mSetN (mSetN M 0 (mN M 20)) 3 (mN M 24)) 7 (mN M 28)) 0) 0) 0) 0)) &&& 31)) - (nI 1))) 12 19 (nI 0)) 12 20 (nI 0)) 12 21 (nI 0)) 0) 0 (by first | omega | (simp [tr26_N, tr74_N, tr122_N, tr194_N, mN_A, mN_B, mN_I, mN_N] <;> omega)) (by first | omega | (simp [tr26_N, tr74_N, tr122_N, tr194_N, mN_A, mN_B, mN_I, mN_N] <;> omega)) (by first | omega | (simp [tr26_N, tr74_N, tr122_N, tr194_N, mN_A, mN_B, mN_I, mN_N] <;> omega)) ?_
  have eq_ : m_takeRead M = (m_takeRead_L246 9 (m_takeRead_L194 7 (mSetA (mSetA (mSetA (mSetA (m_takeRead_L122 25 (m_takeRead_L74 7 (m_takeRead_L26 13 (mSetN (mSetN (mSetN M 0 (mN M 20)) 3 (mN M 24)) 7 (mN M 28)) 0) 0) 0) 12 18 (((nI 1) <<< ((nI (mN (m_takeRead_L122 25 (m_takeRead_L74 7 (m_takeRead_L26 13 (mSetN (mSetN (mSetN M 0 (mN M 20)) 3 (mN M 24)) 7 (mN M 28)) 0) 0) 0) 0)) &&& 31)) - (nI 1))) 12 19 (nI 0)) 12 20 (nI 0)) 12 21 (nI 0)) 0) 0) := by rw [m_takeRead_d]
  refine n_vret hC dX3_takeRead_308 (Nat.le_of_ble_eq_true rfl) (Nat.le_of_ble_eq_true rfl) ?_
  rw [eq_]
  exact ⟨rfl, rfl, rfl⟩
noncomputable def m_port_L27 : Nat → MS → Nat → Int32 × MS
  | 0, M, _ => (0, M)
  | fu + 1, M, f => (if f = 0 then (if ((m_here M).1) < 0 then ((nI (mN (m_takeRead (mSetN ((m_here M).2) 15 0)) 0)), mSetA (mSetA (mSetN (mSetN (mSetN (m_takeRead (mSetN ((m_here M).2) 15 0)) 37 0) 40 0) 33 0) 44 0 (nI 0)) 44 1 (nI 0)) else m_port_L27 fu ((m_takeClause ((m_here M).2)).2) ((m_takeClause ((m_here M).2)).1)) else (((-10) - (nI f)), mSetN M 15 0))
noncomputable def m_port_b (M : MS) : Int32 × MS := m_port_L27 (251 + mN (mSetN (mSetN (mSetN (mSetN (mSetI M 16 (-1)) 17 0) 20 0) 24 0) 28 0) 15) (mSetN (mSetN (mSetN (mSetN (mSetI M 16 (-1)) 17 0) 20 0) 24 0) 28 0) 0
theorem m_port_x : ∃ f : MS → Int32 × MS, ∀ (M : MS) , f M = m_port_b M := ⟨m_port_b, fun M => rfl⟩
noncomputable def m_port : MS → Int32 × MS := Classical.choose m_port_x
theorem m_port_d (M : MS)  : m_port M = m_port_L27 (251 + mN (mSetN (mSetN (mSetN (mSetN (mSetI M 16 (-1)) 17 0) 20 0) 24 0) 28 0) 15) (mSetN (mSetN (mSetN (mSetN (mSetI M 16 (-1)) 17 0) 20 0) 24 0) 28 0) 0 := Classical.choose_spec m_port_x M
theorem bX3_port : nBV RX3 yX3_port cX3_port 2 (some .int) 0 := ⟨q828, q829, q55, q830, by decide, by decide +kernel⟩
set_option maxRecDepth 100000 in
set_option maxHeartbeats 4000000 in
theorem t_m_port_L27 {p : Program} {l : Launch} {e : Env} {s : State} {m : MethodId} {args : Array Value} {below : List Frame} {meth : Method} {c : Code} {D : va_G} {N0 : Nat} {kA : Nat → ClassId} {mb : Nat} {hs : hT} {n : Nat} (hn : mb + 28 < n)  (hC : nC p s m args meth c RX3 cX3_port 2 (some .int) true D N0 kA)  : ∀ (fu : Nat) (M : MS) (f : Nat) (hx : f = 0 → mTx M) (hz : szs M) (hF : f ≤ 4) (h0f : 0 < fu) (hf : f = 0 → 250 < mN M 17 + fu), nW p l e (nRm 5 0 0) s m args below meth c (nQ below (nX (some (.int ((m_port_L27 fu M f).1))) (mH N0 mb kA hs ((m_port_L27 fu M f).2)) n) D N0 s 0 0) D N0 2 27 [(0, .ref (N0 + mb)), (1, .int (nI f))] [] (mH N0 mb kA hs M) n 0 0 := by
  intro fu
  induction fu with
  | zero =>
    intro M f hx hz hF h0f hf
    exfalso; omega
  | succ fu ih =>
    intro M f hx hz hF h0f hf
    refine n_iload_n hC dX3_port_27 rfl ?_
    refine n_if_neN (tgt := 46) hC (by omega) dX3_port_28 (by decide) (fun c28 => ?_) (fun c28 => ?_)
    · refine n_aload_n hC dX3_port_46 rfl ?_
      refine n_iconst (v := (nI 0)) hC dX3_port_47 (by decide) ?_
      refine n_put hC cl3 (k := 15) mc_o (by omega) (by decide) q695 rfl rfl rfl (by rw [mf_len]; decide) dX3_port_48 (mu_N (M := M) (k := 15) (by decide) rfl rfl) ?_
      have hF4 := hF
      refine n_iload_n hC dX3_port_51 rfl ?_
      refine n_if_leN (tgt := 60) hC (by omega) dX3_port_52 (by decide) (fun c_ => False.elim (by omega)) (fun _ => ?_)
      refine n_bipush (v := (-10)) hC dX3_port_55 (by decide) ?_
      refine n_iload_n hC dX3_port_57 rfl ?_
      refine n_isub hC dX3_port_58 ?_
      have eq_ : m_port_L27 (fu + 1) M f = (((-10) - (nI f)), mSetN M 15 0) := by rw [m_port_L27, if_neg c28]
      refine n_iret hC dX3_port_59 (Nat.le_of_ble_eq_true rfl) (Nat.le_of_ble_eq_true rfl) ?_
      rw [eq_]
      dsimp only
      exact ⟨rfl, rfl, rfl⟩
    · have hxx := hx c28
      have hff := hf c28
      refine n_aload_n hC dX3_port_31 rfl ?_
      refine n_callV1 hC (As := []) (rest := []) mc_o (by omega) rfl bX3_here (t_m_here l D N0 kA mb hs M n hn  hxx) (by decide) (by decide) q831 rfl (Nat.le_of_ble_eq_true rfl) dX3_port_32 (Nat.le_of_ble_eq_true rfl) (Nat.le_of_ble_eq_true rfl) ?_
      refine n_stk (st' := [.int ((m_here M).1)]) rfl ?_
      refine n_if_lt (tgt := 46) hC dX3_port_35 (by decide) (fun c35 => ?_) (fun c35 => ?_)
      · refine n_aload_n hC dX3_port_46 rfl ?_
        refine n_iconst (v := (nI 0)) hC dX3_port_47 (by decide) ?_
        refine n_put hC cl3 (k := 15) mc_o (by omega) (by decide) q695 rfl rfl rfl (by rw [mf_len]; decide) dX3_port_48 (mu_N (M := ((m_here M).2)) (k := 15) (by decide) rfl rfl) ?_
        have hF4 := hF
        refine n_iload_n hC dX3_port_51 rfl ?_
        refine n_if_leN (tgt := 60) hC (by omega) dX3_port_52 (by decide) (fun _ => ?_) (fun c_ => False.elim (by omega))
        refine n_aload_n hC dX3_port_60 rfl ?_
        refine n_callV1 hC (As := []) (rest := []) mc_o (by omega) rfl bX3_takeRead (t_m_takeRead l D N0 kA mb hs (mSetN ((m_here M).2) 15 0) n hn  (by first | exact szs_15 hz | exact szs_15 (szs_h hxx hz))) (by decide) (by decide) q869 rfl (Nat.le_of_ble_eq_true rfl) dX3_port_61 (Nat.le_of_ble_eq_true rfl) (Nat.le_of_ble_eq_true rfl) ?_
        refine n_stk (st' := []) rfl ?_
        refine n_aload_n hC dX3_port_64 rfl ?_
        refine n_iconst (v := (nI 0)) hC dX3_port_65 (by decide) ?_
        refine n_put hC cl3 (k := 37) mc_o (by omega) (by decide) q717 rfl rfl rfl (by rw [mf_len]; decide) dX3_port_66 (mu_N (M := (m_takeRead (mSetN ((m_here M).2) 15 0))) (k := 37) (by decide) rfl rfl) ?_
        refine n_aload_n hC dX3_port_69 rfl ?_
        refine n_iconst (v := (nI 0)) hC dX3_port_70 (by decide) ?_
        refine n_put hC cl3 (k := 40) mc_o (by omega) (by decide) q720 rfl rfl rfl (by rw [mf_len]; decide) dX3_port_71 (mu_N (M := (mSetN (m_takeRead (mSetN ((m_here M).2) 15 0)) 37 0)) (k := 40) (by decide) rfl rfl) ?_
        refine n_aload_n hC dX3_port_74 rfl ?_
        refine n_iconst (v := (nI 0)) hC dX3_port_75 (by decide) ?_
        refine n_put hC cl3 (k := 33) mc_o (by omega) (by decide) q713 rfl rfl rfl (by rw [mf_len]; decide) dX3_port_76 (mu_N (M := (mSetN (mSetN (m_takeRead (mSetN ((m_here M).2) 15 0)) 37 0) 40 0)) (k := 33) (by decide) rfl rfl) ?_
        refine n_aload_n hC dX3_port_79 rfl ?_
        refine n_get hC cl3 (k := 44) (v := .ref (N0 + (mb + 28))) mc_o (by omega) (by decide) q724 (mf_get N0 mb (mSetN (mSetN (mSetN (m_takeRead (mSetN ((m_here M).2) 15 0)) 37 0) 40 0) 33 0) (by decide)) dX3_port_80 ?_
        refine n_iconst (v := (nI 0)) hC dX3_port_83 (by decide) ?_
        refine n_iconst (v := (nI 0)) hC dX3_port_84 (by decide) ?_
        refine n_zastE hC (f := mA (mSetN (mSetN (mSetN (m_takeRead (mSetN ((m_here M).2) 15 0)) 37 0) 40 0) 33 0) 44) (mc_a (p := 28) (by decide) (by decide)) (by omega) 0 rfl (by omega) (by decide) dX3_port_85 (by decide) (mu_A (M := (mSetN (mSetN (mSetN (m_takeRead (mSetN ((m_here M).2) 15 0)) 37 0) 40 0) 33 0)) (k := 44) (len := 2) (kd := 2) rfl rfl rfl (by decide) (by decide)) ?_
        refine n_aload_n hC dX3_port_86 rfl ?_
        refine n_get hC cl3 (k := 44) (v := .ref (N0 + (mb + 28))) mc_o (by omega) (by decide) q724 (mf_get N0 mb (mSetA (mSetN (mSetN (mSetN (m_takeRead (mSetN ((m_here M).2) 15 0)) 37 0) 40 0) 33 0) 44 0 (nI 0)) (by decide)) dX3_port_87 ?_
        refine n_iconst (v := (nI 1)) hC dX3_port_90 (by decide) ?_
        refine n_iconst (v := (nI 0)) hC dX3_port_91 (by decide) ?_
        refine n_zastE hC (f := mA (mSetA (mSetN (mSetN (mSetN (m_takeRead (mSetN ((m_here M).2) 15 0)) 37 0) 40 0) 33 0) 44 0 (nI 0)) 44) (mc_a (p := 28) (by decide) (by decide)) (by omega) 1 rfl (by omega) (by decide) dX3_port_92 (by decide) (mu_A (M := (mSetA (mSetN (mSetN (mSetN (m_takeRead (mSetN ((m_here M).2) 15 0)) 37 0) 40 0) 33 0) 44 0 (nI 0))) (k := 44) (len := 2) (kd := 2) rfl rfl rfl (by decide) (by decide)) ?_
        refine n_aload_n hC dX3_port_93 rfl ?_
        refine n_get hC cl3 (k := 0) (v := .int (nI (mN (m_takeRead (mSetN ((m_here M).2) 15 0)) 0))) mc_o (by omega) (by decide) q680 (mf_get N0 mb (mSetA (mSetA (mSetN (mSetN (mSetN (m_takeRead (mSetN ((m_here M).2) 15 0)) 37 0) 40 0) 33 0) 44 0 (nI 0)) 44 1 (nI 0)) (by decide)) dX3_port_94 ?_
        have eq_ : m_port_L27 (fu + 1) M f = ((nI (mN (m_takeRead (mSetN ((m_here M).2) 15 0)) 0)), mSetA (mSetA (mSetN (mSetN (mSetN (m_takeRead (mSetN ((m_here M).2) 15 0)) 37 0) 40 0) 33 0) 44 0 (nI 0)) 44 1 (nI 0)) := by rw [m_port_L27, if_pos c28, if_pos c35]
        refine n_iret hC dX3_port_97 (Nat.le_of_ble_eq_true rfl) (Nat.le_of_ble_eq_true rfl) ?_
        rw [eq_]
        dsimp only
        exact ⟨rfl, rfl, rfl⟩
      · have hk := here_K hxx
        have hx1 := hk.2.2.2.2.1
        have hle := hk.2.2.2.2.2.1
        have hps := hk.2.2.2.2.2.2 (Int32.not_lt.mp c35)
        have k2 := clause_K hx1 (szs_h hxx hz)
        refine n_aload_n hC dX3_port_38 rfl ?_
        refine n_callV1 hC (As := []) (rest := []) mc_o (by omega) rfl bX3_takeClause (t_m_takeClause l D N0 kA mb hs ((m_here M).2) n hn  hx1 (szs_h hxx hz).1 (szs_h hxx hz).2.1 (szs_h hxx hz).2.2.1) (by decide) (by decide) q835 rfl (Nat.le_of_ble_eq_true rfl) dX3_port_39 (Nat.le_of_ble_eq_true rfl) (Nat.le_of_ble_eq_true rfl) ?_
        refine n_stk (st' := [.int (nI ((m_takeClause ((m_here M).2)).1))]) rfl ?_
        refine n_istore_n (L' := [(0, .ref (N0 + mb)), (1, .int (nI ((m_takeClause ((m_here M).2)).1)))]) hC dX3_port_42 (by decide) rfl ?_
        refine n_goto (tgt := 27) hC dX3_port_43 (by decide) ?_
        rw [show m_port_L27 (fu + 1) M f = m_port_L27 fu ((m_takeClause ((m_here M).2)).2) ((m_takeClause ((m_here M).2)).1) from by rw [m_port_L27, if_pos c28, if_neg c35]]
        exact ih ((m_takeClause ((m_here M).2)).2) ((m_takeClause ((m_here M).2)).1) (fun z => (k2.1 z).1) k2.2.1 k2.2.2 (by have := hxx.1; have := hxx.2.1; omega) (fun z => by have := (k2.1 z).2; omega)
set_option maxRecDepth 100000 in
set_option maxHeartbeats 4000000 in
theorem t_m_port (l : Launch) (D : va_G) (N0 : Nat) (kA : Nat → ClassId) (mb : Nat) (hs : hT) (M : MS) (n : Nat) (hn : mb + 28 < n)  (hx : mTx (mSetN M 17 0)) : nE l yX3_port cX3_port 2 (some .int) D N0 kA 5 0 0 [.ref (N0 + mb)] (mH N0 mb kA hs M) n (nX (some (.int ((m_port M).1))) (mH N0 mb kA hs ((m_port M).2)) n) := by
  refine nE_of (by decide) (Nat.le_of_ble_eq_true rfl) ?_
  intro p e s m args below meth c hC hnm
  refine n_loc (L' := [(0, .ref (N0 + mb))]) rfl ?_
  refine n_aload_n hC dX3_port_0 rfl ?_
  refine n_iconst (v := (-1)) hC dX3_port_1 (by decide) ?_
  refine n_put hC cl3 (k := 16) mc_o (by omega) (by decide) q696 rfl rfl rfl (by rw [mf_len]; decide) dX3_port_2 (mu_I (M := M) (k := 16) (by decide) rfl rfl) ?_
  refine n_aload_n hC dX3_port_5 rfl ?_
  refine n_iconst (v := (nI 0)) hC dX3_port_6 (by decide) ?_
  refine n_put hC cl3 (k := 17) mc_o (by omega) (by decide) q697 rfl rfl rfl (by rw [mf_len]; decide) dX3_port_7 (mu_N (M := (mSetI M 16 (-1))) (k := 17) (by decide) rfl rfl) ?_
  refine n_aload_n hC dX3_port_10 rfl ?_
  refine n_iconst (v := (nI 0)) hC dX3_port_11 (by decide) ?_
  refine n_put hC cl3 (k := 20) mc_o (by omega) (by decide) q700 rfl rfl rfl (by rw [mf_len]; decide) dX3_port_12 (mu_N (M := (mSetN (mSetI M 16 (-1)) 17 0)) (k := 20) (by decide) rfl rfl) ?_
  refine n_aload_n hC dX3_port_15 rfl ?_
  refine n_iconst (v := (nI 0)) hC dX3_port_16 (by decide) ?_
  refine n_put hC cl3 (k := 24) mc_o (by omega) (by decide) q704 rfl rfl rfl (by rw [mf_len]; decide) dX3_port_17 (mu_N (M := (mSetN (mSetN (mSetI M 16 (-1)) 17 0) 20 0)) (k := 24) (by decide) rfl rfl) ?_
  refine n_aload_n hC dX3_port_20 rfl ?_
  refine n_iconst (v := (nI 0)) hC dX3_port_21 (by decide) ?_
  refine n_put hC cl3 (k := 28) mc_o (by omega) (by decide) q708 rfl rfl rfl (by rw [mf_len]; decide) dX3_port_22 (mu_N (M := (mSetN (mSetN (mSetN (mSetI M 16 (-1)) 17 0) 20 0) 24 0)) (k := 28) (by decide) rfl rfl) ?_
  refine n_iconst (v := (nI 0)) hC dX3_port_25 (by decide) ?_
  refine n_istore_n (L' := [(0, .ref (N0 + mb)), (1, .int (nI 0))]) hC dX3_port_26 (by decide) rfl ?_
  rw [show m_port M = m_port_L27 (251 + mN (mSetN (mSetN (mSetN (mSetN (mSetI M 16 (-1)) 17 0) 20 0) 24 0) 28 0) 15) (mSetN (mSetN (mSetN (mSetN (mSetI M 16 (-1)) 17 0) 20 0) 24 0) 28 0) 0 from by rw [m_port_d]]
  exact t_m_port_L27 hn hC  (251 + mN (mSetN (mSetN (mSetN (mSetN (mSetI M 16 (-1)) 17 0) 20 0) 24 0) 28 0) 15) (mSetN (mSetN (mSetN (mSetN (mSetI M 16 (-1)) 17 0) 20 0) 24 0) 28 0) 0 (fun _ => tx_o (by decide) (by decide) (tx_o (by decide) (by decide) (tx_o (by decide) (by decide) (tx_I hx)))) ⟨by simp [mN_N], by simp [mN_N], by simp [mN_N], hx.2.1⟩ (by decide) (by omega) (fun _ => by omega)
