/-! ===== WORKS ===== -/
set_option maxHeartbeats 4000000 in
theorem k1_works {G : xG} {ad : Nat → Nat} {κ : xKp} {σ : xSg} {m t : xK} (ht : t 61 0 = none) {L : Nat} {f : Nat → Int32} (hL : L < 1000) (ha : t 60 0 = some (.inl (G.2.2.1 1001, L, .inl f))) (nd : Int32) : xM G yX1_works (ws_ yX1_works cX1_works 7 none) 8 200 1 6 [.ref (ad (ro 0 0)), .int nd, .ref (ad (ro 60 0))] ad (xj (xkC G.2.2.1 ad κ σ) m t) (fun v ad' ct' => v = none ∧ ad' = ad ∧ ((∀ i, i < L → ¬ f i = 0) ∧ ¬ σ 22 0 0 < nd) ∧ ct' = xj (xkC G.2.2.1 ad κ (xup σ 22 0 0 (σ 22 0 0 - nd))) m t) (fun E ad' ct' => E = "SelectoRoute$VanException" ∧ ad' = ad ∧ ct' = xj (xkC G.2.2.1 ad κ σ) m t ∧ ¬ ((∀ i, i < L → ¬ f i = 0) ∧ ¬ σ 22 0 0 < nd)) := by
  refine xM_of (cc := cX1_works) (by decide) rfl (fun F hF C => ?_)
  subst hF
  show xX F _ _ _ 0 0 0 [(0, .ref (ad (ro 0 0))), (1, .int nd), (2, .ref (ad (ro 60 0)))] []
  refine x_aload_n C dX1_works_0 rfl 2 rfl ?_
  refine x_astore_n (lv' := [(3, .ref (ad (ro 60 0))), (0, .ref (ad (ro 0 0))), (1, .int nd), (2, .ref (ad (ro 60 0)))]) C dX1_works_1 rfl (by decide) rfl ?_
  refine x_aload_n C dX1_works_2 rfl 0 rfl ?_
  refine x_alen C 1 rfl rfl (xj_t (by decide) (by decide) ha) rfl dX1_works_3 ?_
  show xX F _ _ _ _ _ _ _ [.int (nI L)]
  refine x_istore (lv' := [(4, .int (nI L)), (3, .ref (ad (ro 60 0))), (0, .ref (ad (ro 0 0))), (1, .int nd), (2, .ref (ad (ro 60 0)))]) C dX1_works_4 (by decide) rfl ?_
  refine x_iconst (v := 0) C dX1_works_6 (by decide) ?_
  refine x_istore (lv' := [(5, .int 0), (4, .int (nI L)), (3, .ref (ad (ro 60 0))), (0, .ref (ad (ro 0 0))), (1, .int nd), (2, .ref (ad (ro 60 0)))]) C dX1_works_7 (by decide) rfl ?_
  have loop : ∀ n k : Nat, k + n = L → (∀ i, i < k → ¬ f i = 0) → xX F (xQ F (fun v ad' ct' => v = none ∧ ad' = ad ∧ ((∀ i, i < L → ¬ f i = 0) ∧ ¬ σ 22 0 0 < nd) ∧ ct' = xj (xkC F.1.2.2.1 ad κ (xup σ 22 0 0 (σ 22 0 0 - nd))) m t) (fun E ad' ct' => E = "SelectoRoute$VanException" ∧ ad' = ad ∧ ct' = xj (xkC F.1.2.2.1 ad κ σ) m t ∧ ¬ ((∀ i, i < L → ¬ f i = 0) ∧ ¬ σ 22 0 0 < nd)) 1 6) ad (xj (xkC F.1.2.2.1 ad κ σ) m t) 0 0 9 [(5, .int (nI k)), (4, .int (nI L)), (3, .ref (ad (ro 60 0))), (0, .ref (ad (ro 0 0))), (1, .int nd), (2, .ref (ad (ro 60 0)))] [] := by
    intro n
    induction n with
    | zero =>
      intro k hk hall
      obtain rfl : k = L := by omega
      refine x_iload C dX1_works_9 0 rfl ?_
      refine x_iload C dX1_works_11 1 rfl ?_
      refine x_icmp_ge (tgt := 43) C dX1_works_13 (by decide) (fun _ => ?_) (fun h => absurd (Int32.le_refl _) h)
      refine x_iload_n C dX1_works_43 rfl 4 rfl ?_
      refine x_aload_n C dX1_works_44 rfl 3 rfl ?_
      refine x_get C fl_X1_37 (r := ro 0 0) rfl (xj_c (by decide) xkC_sr) (v := .int (σ 22 0 0)) rfl dX1_works_45 ?_
      refine x_icmp_le (tgt := 61) C dX1_works_48 (by decide) (fun c2 => ?_) (fun c2 => ?_)
      · refine x_aload_n C dX1_works_61 rfl 3 rfl ?_
        refine x_dup C dX1_works_62 rfl ?_
        refine x_get C fl_X1_37 (r := ro 0 0) rfl (xj_c (by decide) xkC_sr) (v := .int (σ 22 0 0)) rfl dX1_works_63 ?_
        refine x_iload_n C dX1_works_66 rfl 4 rfl ?_
        refine x_isub C dX1_works_67 ?_
        refine x_put C fl_X1_37 (r := ro 0 0) rfl (xj_c (by decide) xkC_sr) rfl rfl (Nat.le_of_ble_eq_true rfl) dX1_works_68 ?_
        refine x_pc (k := 0) (by decide) (pc_sr22) ?_
        exact x_vret C dX1_works_71 (Nat.le_of_ble_eq_true rfl) (Nat.le_of_ble_eq_true rfl) ⟨rfl, rfl, ⟨hall, Int32.not_lt.mpr c2⟩, rfl⟩
      · exact x_throwVan C (r := ro 61 0) C.S.1.2.2.2.2.2.2.2.2.2.2.2 (xj_t (by decide) (by decide) ht) ⟨Nat.le_of_ble_eq_true rfl, Nat.le_of_ble_eq_true rfl⟩ ⟨Nat.le_of_ble_eq_true rfl, Nat.le_of_ble_eq_true rfl⟩ dX1_works_51 dX1_works_54 dX1_works_55 dX1_works_57 dX1_works_60 (x_out C (fun _ h => nomatch h) (Nat.le_of_ble_eq_true rfl) (Nat.le_of_ble_eq_true rfl) ⟨rfl, rfl, rfl, fun z => z.2 (Int32.not_le.mp c2)⟩)
    | succ n ih =>
      intro k hk hall
      refine x_iload C dX1_works_9 0 rfl ?_
      refine x_iload C dX1_works_11 1 rfl ?_
      refine x_icmp_ge (tgt := 43) C dX1_works_13 (by decide) (fun h => absurd ((nI_le_iff (by omega) (by omega)).mp h) (by omega)) (fun _ => ?_)
      refine x_aload_n C dX1_works_16 rfl 2 rfl ?_
      refine x_iload C dX1_works_17 0 rfl ?_
      refine xi_zld C k rfl (xj_t (by decide) (by decide) ha) rfl (show k < L by omega) (Nat.ble_eq_true_of_le (by omega)) dX1_works_19 ?_
      refine x_istore (lv' := [(6, .int (f k)), (5, .int (nI k)), (4, .int (nI L)), (3, .ref (ad (ro 60 0))), (0, .ref (ad (ro 0 0))), (1, .int nd), (2, .ref (ad (ro 60 0)))]) C dX1_works_20 (by decide) rfl ?_
      refine x_iload C dX1_works_22 0 rfl ?_
      refine x_if_ne (tgt := 37) C dX1_works_24 (by decide) (fun c1 => ?_) (fun c1 => ?_)
      · refine x_iinc (k := 1) (v := nI (k + 1)) (lv' := [(5, .int (nI (k + 1))), (6, .int (f k)), (4, .int (nI L)), (3, .ref (ad (ro 60 0))), (0, .ref (ad (ro 0 0))), (1, .int nd), (2, .ref (ad (ro 60 0)))]) C dX1_works_37 rfl (nI_1 k) (by decide) rfl ?_
        refine x_goto (tgt := 9) C dX1_works_40 (by decide) ?_
        refine x_lv (lv' := [(5, .int (nI (k + 1))), (4, .int (nI L)), (3, .ref (ad (ro 60 0))), (0, .ref (ad (ro 0 0))), (1, .int nd), (2, .ref (ad (ro 60 0)))]) [0, 2, 3, 4, 5, 6] rfl ?_
        refine ih (k + 1) (by omega) (fun i hi => ?_)
        by_cases e : i = k
        · rw [e]; exact c1
        · exact hall i (by omega)
      · exact x_throwVan C (r := ro 61 0) C.S.1.2.2.2.2.2.2.2.2.2.2.1 (xj_t (by decide) (by decide) ht) ⟨Nat.le_of_ble_eq_true rfl, Nat.le_of_ble_eq_true rfl⟩ ⟨Nat.le_of_ble_eq_true rfl, Nat.le_of_ble_eq_true rfl⟩ dX1_works_27 dX1_works_30 dX1_works_31 dX1_works_33 dX1_works_36 (x_out C (fun _ h => nomatch h) (Nat.le_of_ble_eq_true rfl) (Nat.le_of_ble_eq_true rfl) ⟨rfl, rfl, rfl, fun z => z.1 k (by omega) c1⟩)
  refine x_lv (lv' := [(5, .int 0), (4, .int (nI L)), (3, .ref (ad (ro 60 0))), (0, .ref (ad (ro 0 0))), (1, .int nd), (2, .ref (ad (ro 60 0)))]) [0, 1, 2, 3, 4, 5] rfl ?_
  exact loop L 0 (by omega) (fun i hi => absurd hi (by omega))
