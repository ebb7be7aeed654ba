/-! ===== THE REFERENCE: pulls, wears, change ===== -/
theorem sPull_ref {x0 x1 x2 x3 x4 now ta A B : Int32} (h1 : ¬ (x4 = -2 ∨ now < x2)) (hA : (x1 / 5 ≤ x1 - 2 * (now - x2) ∧ A = x1 - 2 * (now - x2)) ∨ (¬ x1 / 5 ≤ x1 - 2 * (now - x2) ∧ A = x1 / 5)) (hB : (x0 - x0 / 10 * 10 = ta ∧ B = A + A / 2) ∨ (¬ x0 - x0 / 10 * 10 = ta ∧ B = A)) : sPull x0 x1 x2 x3 x4 now ta = if 0 ≤ B - x3 / 10 then B - x3 / 10 else 0 := by
  have ea : (if x1 / 5 < x1 - 2 * (now - x2) then x1 - 2 * (now - x2) else x1 / 5) = A := by
    rcases hA with ⟨h, rfl⟩ | ⟨h, rfl⟩
    · by_cases c : x1 / 5 < x1 - 2 * (now - x2)
      · rw [if_pos c]
      · rw [if_neg c]; exact Int32.le_antisymm h (Int32.not_lt.mp c)
    · rw [if_neg (fun c => h (Int32.le_of_lt c))]
  have eb : A + (if x0 - x0 / 10 * 10 = ta then A / 2 else 0) = B := by
    rcases hB with ⟨h, rfl⟩ | ⟨h, rfl⟩
    · rw [if_pos h]
    · rw [if_neg h, Int32.add_zero]
  simp only [sPull, if_neg h1]
  rw [ea, eb]
  by_cases c : 0 < B - x3 / 10
  · rw [if_pos c, if_pos (Int32.le_of_lt c)]
  · rw [if_neg c]
    by_cases d : 0 ≤ B - x3 / 10
    · rw [if_pos d]; exact Int32.le_antisymm d (Int32.not_lt.mp c)
    · rw [if_neg d]
/-- slots: nothing, or a disc in a box that is there -/
def xIw (κ : xKp) (σ : xSg) : Prop := ∀ j s, s < 10 → σ 17 j s = -1 ∨ (j < κ 1 ∧ ∃ d, d < κ 0 ∧ σ 17 j s = nI d)
theorem xIw.s {κ : xKp} {σ : xSg} (h : xIw κ σ) : xIs κ σ := fun j _ s hs => (h j s hs).imp id (fun z => z.2)
theorem nI_rem {q : Nat} (hq : q < 100) : ¬ nI q - nI q / 10 * 10 = -1 := by
  have h : ∀ q, q < 100 → ¬ nI q - nI q / 10 * 10 = -1 := by decide +kernel
  exact h q hq
set_option maxHeartbeats 4000000 in
theorem k2_pullAt {G : xG} {ad : Nat → Nat} {κ : xKp} {σ μ : xSg} {c t : xK} (hI : xIk κ) (R : xRl κ σ μ) {j d : Nat} (hj : j < κ 1) (hd : d < κ 0) : xM G yX2_pullAt (ws_ yX2_pullAt cX2_pullAt 5 (some Jvm.ClassFile.FieldType.int)) 1 0 0 0 [.ref (ad (ro 16 0)), .int (nI j), .int (nI d)] ad (xj c (xkM G.2.2.1 ad μ) t) (xPv (some (.int (sDp σ d (σ 6 j 0)))) ad (xj c (xkM G.2.2.1 ad μ) t)) xN := by
  refine xM_of (cc := cX2_pullAt) (by decide) rfl (fun F hF C => ?_)
  subst hF
  have h30 := hI.2.2.2.2.1
  have h14 := hI.2.2.2.2.2
  have T : μ 29 0 0 = μ 29 0 0 := rfl
  show xX F _ _ _ 0 0 0 [(0, .ref (ad (ro 16 0))), (1, .int (nI j)), (2, .int (nI d))] []
  refine x_aload_n C dX2_pullAt_0 rfl 0 rfl ?_
  refine x_get C fl_X2_22 (r := ro 16 0) rfl (xj_m (by decide) (by decide) rfl) (v := .ref (ad (ro 17 4))) rfl dX2_pullAt_1 ?_
  refine x_iload_n C dX2_pullAt_4 rfl 2 rfl ?_
  refine m_ld C R (f := 4) (f' := 4) (i := d) (by decide) rfl rfl rfl (show d < 30 by omega) (by decide) dX2_pullAt_5 ?_
  refine x_bipush (v := -2) C dX2_pullAt_6 (by decide) ?_
  refine x_icmp_eq (tgt := 24) C dX2_pullAt_8 (by decide) (fun c1 => ?_) (fun c1 => ?_)
  · refine x_iconst (v := 0) C dX2_pullAt_24 (by decide) ?_
    exact x_iret C dX2_pullAt_25 (Nat.le_of_ble_eq_true rfl) (Nat.le_of_ble_eq_true rfl) ⟨by unfold sDp sPull; rw [if_pos (Or.inl c1)], rfl, rfl⟩
  · refine x_aload_n C dX2_pullAt_11 rfl 0 rfl ?_
    refine x_get C fl_X2_109 (r := ro 16 0) rfl (xj_m (by decide) (by decide) rfl) (v := .int (μ 26 0 0)) rfl dX2_pullAt_12 ?_
    refine x_top (y := σ 21 0 0) (R.1 (26, 21) (by decide) 0) ?_
    refine x_aload_n C dX2_pullAt_15 rfl 0 rfl ?_
    refine x_get C fl_X2_16 (r := ro 16 0) rfl (xj_m (by decide) (by decide) rfl) (v := .ref (ad (ro 17 2))) rfl dX2_pullAt_16 ?_
    refine x_iload_n C dX2_pullAt_19 rfl 2 rfl ?_
    refine m_ld C R (f := 2) (f' := 2) (i := d) (by decide) rfl rfl rfl (show d < 30 by omega) (by decide) dX2_pullAt_20 ?_
    refine x_icmp_ge (tgt := 26) C dX2_pullAt_21 (by decide) (fun c2 => ?_) (fun c2 => ?_)
    · have h0 : ¬ (σ 4 d 0 = -2 ∨ σ 21 0 0 < σ 2 d 0) := fun z => z.elim c1 (Int32.not_lt.mpr c2)
      refine x_aload_n C dX2_pullAt_26 rfl 0 rfl ?_
      refine x_get C fl_X2_13 (r := ro 16 0) rfl (xj_m (by decide) (by decide) rfl) (v := .ref (ad (ro 17 1))) rfl dX2_pullAt_27 ?_
      refine x_iload_n C dX2_pullAt_30 rfl 2 rfl ?_
      refine m_ld C R (f := 1) (f' := 1) (i := d) (by decide) rfl rfl rfl (show d < 30 by omega) (by decide) dX2_pullAt_31 ?_
      refine x_iconst (v := 5) C dX2_pullAt_32 (by decide) ?_
      refine x_idiv C dX2_pullAt_33 (by decide) ?_
      refine x_istore_n (lv' := [(3, .int ((σ 1 d 0) / 5)), (0, .ref (ad (ro 16 0))), (1, .int (nI j)), (2, .int (nI d))]) C dX2_pullAt_34 rfl (by decide) rfl ?_
      refine x_aload_n C dX2_pullAt_35 rfl 1 rfl ?_
      refine x_get C fl_X2_13 (r := ro 16 0) rfl (xj_m (by decide) (by decide) rfl) (v := .ref (ad (ro 17 1))) rfl dX2_pullAt_36 ?_
      refine x_iload_n C dX2_pullAt_39 rfl 3 rfl ?_
      refine m_ld C R (f := 1) (f' := 1) (i := d) (by decide) rfl rfl rfl (show d < 30 by omega) (by decide) dX2_pullAt_40 ?_
      refine x_iconst (v := 2) C dX2_pullAt_41 (by decide) ?_
      refine x_aload_n C dX2_pullAt_42 rfl 1 rfl ?_
      refine x_get C fl_X2_109 (r := ro 16 0) rfl (xj_m (by decide) (by decide) rfl) (v := .int (μ 26 0 0)) rfl dX2_pullAt_43 ?_
      refine x_top (y := σ 21 0 0) (R.1 (26, 21) (by decide) 0) ?_
      refine x_aload_n C dX2_pullAt_46 rfl 1 rfl ?_
      refine x_get C fl_X2_16 (r := ro 16 0) rfl (xj_m (by decide) (by decide) rfl) (v := .ref (ad (ro 17 2))) rfl dX2_pullAt_47 ?_
      refine x_iload_n C dX2_pullAt_50 rfl 3 rfl ?_
      refine m_ld C R (f := 2) (f' := 2) (i := d) (by decide) rfl rfl rfl (show d < 30 by omega) (by decide) dX2_pullAt_51 ?_
      refine x_isub C dX2_pullAt_52 ?_
      refine x_imul C dX2_pullAt_53 ?_
      refine x_isub C dX2_pullAt_54 ?_
      refine x_istore (lv' := [(4, .int ((σ 1 d 0) - (2 * ((σ 21 0 0) - (σ 2 d 0))))), (3, .int ((σ 1 d 0) / 5)), (0, .ref (ad (ro 16 0))), (1, .int (nI j)), (2, .int (nI d))]) C dX2_pullAt_55 (by decide) rfl ?_
      refine x_iload C dX2_pullAt_57 0 rfl ?_
      refine x_iload_n C dX2_pullAt_59 rfl 1 rfl ?_
      refine x_icmp_ge (tgt := 67) C dX2_pullAt_60 (by decide) (fun c3 => ?_) (fun c3 => ?_)
      · refine x_iload C dX2_pullAt_67 0 rfl ?_
        refine x_istore (lv' := [(4, .int ((σ 1 d 0) - (2 * ((σ 21 0 0) - (σ 2 d 0))))), (3, .int ((σ 1 d 0) / 5)), (0, .ref (ad (ro 16 0))), (1, .int (nI j)), (2, .int (nI d))]) C dX2_pullAt_69 (by decide) rfl ?_
        refine x_iload_n C dX2_pullAt_71 rfl 3 rfl ?_
        refine x_if_lt (tgt := 102) C dX2_pullAt_72 (by decide) (fun h => absurd h (nI_not_neg (by omega))) (fun _ => ?_)
        refine x_aload_n C dX2_pullAt_75 rfl 2 rfl ?_
        refine x_get C fl_X2_7 (r := ro 16 0) rfl (xj_m (by decide) (by decide) rfl) (v := .ref (ad (ro 17 0))) rfl dX2_pullAt_76 ?_
        refine x_iload_n C dX2_pullAt_79 rfl 4 rfl ?_
        refine m_ld C R (f := 0) (f' := 0) (i := d) (by decide) rfl rfl rfl (show d < 30 by omega) (by decide) dX2_pullAt_80 ?_
        refine x_bipush (v := 10) C dX2_pullAt_81 (by decide) ?_
        refine x_irem C dX2_pullAt_83 (by decide) ?_
        refine x_aload_n C dX2_pullAt_84 rfl 2 rfl ?_
        refine x_get C fl_X2_28 (r := ro 16 0) rfl (xj_m (by decide) (by decide) rfl) (v := .ref (ad (ro 17 7))) rfl dX2_pullAt_85 ?_
        refine x_iload_n C dX2_pullAt_88 rfl 3 rfl ?_
        refine m_ld C R (f := 7) (f' := 6) (i := j) (by decide) rfl rfl rfl (show j < 4 by omega) (by decide) dX2_pullAt_89 ?_
        refine x_icmp_ne (tgt := 102) C dX2_pullAt_90 (by decide) (fun c4 => ?_) (fun c4 => ?_)
        · refine x_iload C dX2_pullAt_102 0 rfl ?_
          refine x_aload_n C dX2_pullAt_104 rfl 2 rfl ?_
          refine x_get C fl_X2_19 (r := ro 16 0) rfl (xj_m (by decide) (by decide) rfl) (v := .ref (ad (ro 17 3))) rfl dX2_pullAt_105 ?_
          refine x_iload_n C dX2_pullAt_108 rfl 4 rfl ?_
          refine m_ld C R (f := 3) (f' := 3) (i := d) (by decide) rfl rfl rfl (show d < 30 by omega) (by decide) dX2_pullAt_109 ?_
          refine x_bipush (v := 10) C dX2_pullAt_110 (by decide) ?_
          refine x_idiv C dX2_pullAt_112 (by decide) ?_
          refine x_isub C dX2_pullAt_113 ?_
          refine x_istore (lv' := [(4, .int (((σ 1 d 0) - (2 * ((σ 21 0 0) - (σ 2 d 0)))) - ((σ 3 d 0) / 10))), (3, .int ((σ 1 d 0) / 5)), (0, .ref (ad (ro 16 0))), (1, .int (nI j)), (2, .int (nI d))]) C dX2_pullAt_114 (by decide) rfl ?_
          refine x_iload C dX2_pullAt_116 0 rfl ?_
          refine x_if_ge (tgt := 125) C dX2_pullAt_118 (by decide) (fun c5 => ?_) (fun c5 => ?_)
          · refine x_iload C dX2_pullAt_125 0 rfl ?_
            exact x_iret C dX2_pullAt_127 (Nat.le_of_ble_eq_true rfl) (Nat.le_of_ble_eq_true rfl) ⟨by unfold sDp; rw [sPull_ref h0 (Or.inl ⟨c3, rfl⟩) (Or.inr ⟨c4, rfl⟩)]; rw [if_pos c5], rfl, rfl⟩
          · refine x_iconst (v := 0) C dX2_pullAt_121 (by decide) ?_
            refine x_goto (tgt := 127) C dX2_pullAt_122 (by decide) ?_
            exact x_iret C dX2_pullAt_127 (Nat.le_of_ble_eq_true rfl) (Nat.le_of_ble_eq_true rfl) ⟨by unfold sDp; rw [sPull_ref h0 (Or.inl ⟨c3, rfl⟩) (Or.inr ⟨c4, rfl⟩)]; rw [if_neg c5], rfl, rfl⟩
        · refine x_iload C dX2_pullAt_93 0 rfl ?_
          refine x_iload C dX2_pullAt_95 0 rfl ?_
          refine x_iconst (v := 2) C dX2_pullAt_97 (by decide) ?_
          refine x_idiv C dX2_pullAt_98 (by decide) ?_
          refine x_iadd C dX2_pullAt_99 ?_
          refine x_istore (lv' := [(4, .int (((σ 1 d 0) - (2 * ((σ 21 0 0) - (σ 2 d 0)))) + (((σ 1 d 0) - (2 * ((σ 21 0 0) - (σ 2 d 0)))) / 2))), (3, .int ((σ 1 d 0) / 5)), (0, .ref (ad (ro 16 0))), (1, .int (nI j)), (2, .int (nI d))]) C dX2_pullAt_100 (by decide) rfl ?_
          refine x_iload C dX2_pullAt_102 0 rfl ?_
          refine x_aload_n C dX2_pullAt_104 rfl 2 rfl ?_
          refine x_get C fl_X2_19 (r := ro 16 0) rfl (xj_m (by decide) (by decide) rfl) (v := .ref (ad (ro 17 3))) rfl dX2_pullAt_105 ?_
          refine x_iload_n C dX2_pullAt_108 rfl 4 rfl ?_
          refine m_ld C R (f := 3) (f' := 3) (i := d) (by decide) rfl rfl rfl (show d < 30 by omega) (by decide) dX2_pullAt_109 ?_
          refine x_bipush (v := 10) C dX2_pullAt_110 (by decide) ?_
          refine x_idiv C dX2_pullAt_112 (by decide) ?_
          refine x_isub C dX2_pullAt_113 ?_
          refine x_istore (lv' := [(4, .int ((((σ 1 d 0) - (2 * ((σ 21 0 0) - (σ 2 d 0)))) + (((σ 1 d 0) - (2 * ((σ 21 0 0) - (σ 2 d 0)))) / 2)) - ((σ 3 d 0) / 10))), (3, .int ((σ 1 d 0) / 5)), (0, .ref (ad (ro 16 0))), (1, .int (nI j)), (2, .int (nI d))]) C dX2_pullAt_114 (by decide) rfl ?_
          refine x_iload C dX2_pullAt_116 0 rfl ?_
          refine x_if_ge (tgt := 125) C dX2_pullAt_118 (by decide) (fun c5 => ?_) (fun c5 => ?_)
          · refine x_iload C dX2_pullAt_125 0 rfl ?_
            exact x_iret C dX2_pullAt_127 (Nat.le_of_ble_eq_true rfl) (Nat.le_of_ble_eq_true rfl) ⟨by unfold sDp; rw [sPull_ref h0 (Or.inl ⟨c3, rfl⟩) (Or.inl ⟨c4, rfl⟩)]; rw [if_pos c5], rfl, rfl⟩
          · refine x_iconst (v := 0) C dX2_pullAt_121 (by decide) ?_
            refine x_goto (tgt := 127) C dX2_pullAt_122 (by decide) ?_
            exact x_iret C dX2_pullAt_127 (Nat.le_of_ble_eq_true rfl) (Nat.le_of_ble_eq_true rfl) ⟨by unfold sDp; rw [sPull_ref h0 (Or.inl ⟨c3, rfl⟩) (Or.inl ⟨c4, rfl⟩)]; rw [if_neg c5], rfl, rfl⟩
      · refine x_iload_n C dX2_pullAt_63 rfl 1 rfl ?_
        refine x_goto (tgt := 69) C dX2_pullAt_64 (by decide) ?_
        refine x_istore (lv' := [(4, .int ((σ 1 d 0) / 5)), (3, .int ((σ 1 d 0) / 5)), (0, .ref (ad (ro 16 0))), (1, .int (nI j)), (2, .int (nI d))]) C dX2_pullAt_69 (by decide) rfl ?_
        refine x_iload_n C dX2_pullAt_71 rfl 3 rfl ?_
        refine x_if_lt (tgt := 102) C dX2_pullAt_72 (by decide) (fun h => absurd h (nI_not_neg (by omega))) (fun _ => ?_)
        refine x_aload_n C dX2_pullAt_75 rfl 2 rfl ?_
        refine x_get C fl_X2_7 (r := ro 16 0) rfl (xj_m (by decide) (by decide) rfl) (v := .ref (ad (ro 17 0))) rfl dX2_pullAt_76 ?_
        refine x_iload_n C dX2_pullAt_79 rfl 4 rfl ?_
        refine m_ld C R (f := 0) (f' := 0) (i := d) (by decide) rfl rfl rfl (show d < 30 by omega) (by decide) dX2_pullAt_80 ?_
        refine x_bipush (v := 10) C dX2_pullAt_81 (by decide) ?_
        refine x_irem C dX2_pullAt_83 (by decide) ?_
        refine x_aload_n C dX2_pullAt_84 rfl 2 rfl ?_
        refine x_get C fl_X2_28 (r := ro 16 0) rfl (xj_m (by decide) (by decide) rfl) (v := .ref (ad (ro 17 7))) rfl dX2_pullAt_85 ?_
        refine x_iload_n C dX2_pullAt_88 rfl 3 rfl ?_
        refine m_ld C R (f := 7) (f' := 6) (i := j) (by decide) rfl rfl rfl (show j < 4 by omega) (by decide) dX2_pullAt_89 ?_
        refine x_icmp_ne (tgt := 102) C dX2_pullAt_90 (by decide) (fun c4 => ?_) (fun c4 => ?_)
        · refine x_iload C dX2_pullAt_102 0 rfl ?_
          refine x_aload_n C dX2_pullAt_104 rfl 2 rfl ?_
          refine x_get C fl_X2_19 (r := ro 16 0) rfl (xj_m (by decide) (by decide) rfl) (v := .ref (ad (ro 17 3))) rfl dX2_pullAt_105 ?_
          refine x_iload_n C dX2_pullAt_108 rfl 4 rfl ?_
          refine m_ld C R (f := 3) (f' := 3) (i := d) (by decide) rfl rfl rfl (show d < 30 by omega) (by decide) dX2_pullAt_109 ?_
          refine x_bipush (v := 10) C dX2_pullAt_110 (by decide) ?_
          refine x_idiv C dX2_pullAt_112 (by decide) ?_
          refine x_isub C dX2_pullAt_113 ?_
          refine x_istore (lv' := [(4, .int (((σ 1 d 0) / 5) - ((σ 3 d 0) / 10))), (3, .int ((σ 1 d 0) / 5)), (0, .ref (ad (ro 16 0))), (1, .int (nI j)), (2, .int (nI d))]) C dX2_pullAt_114 (by decide) rfl ?_
          refine x_iload C dX2_pullAt_116 0 rfl ?_
          refine x_if_ge (tgt := 125) C dX2_pullAt_118 (by decide) (fun c5 => ?_) (fun c5 => ?_)
          · refine x_iload C dX2_pullAt_125 0 rfl ?_
            exact x_iret C dX2_pullAt_127 (Nat.le_of_ble_eq_true rfl) (Nat.le_of_ble_eq_true rfl) ⟨by unfold sDp; rw [sPull_ref h0 (Or.inr ⟨c3, rfl⟩) (Or.inr ⟨c4, rfl⟩)]; rw [if_pos c5], rfl, rfl⟩
          · refine x_iconst (v := 0) C dX2_pullAt_121 (by decide) ?_
            refine x_goto (tgt := 127) C dX2_pullAt_122 (by decide) ?_
            exact x_iret C dX2_pullAt_127 (Nat.le_of_ble_eq_true rfl) (Nat.le_of_ble_eq_true rfl) ⟨by unfold sDp; rw [sPull_ref h0 (Or.inr ⟨c3, rfl⟩) (Or.inr ⟨c4, rfl⟩)]; rw [if_neg c5], rfl, rfl⟩
        · refine x_iload C dX2_pullAt_93 0 rfl ?_
          refine x_iload C dX2_pullAt_95 0 rfl ?_
          refine x_iconst (v := 2) C dX2_pullAt_97 (by decide) ?_
          refine x_idiv C dX2_pullAt_98 (by decide) ?_
          refine x_iadd C dX2_pullAt_99 ?_
          refine x_istore (lv' := [(4, .int (((σ 1 d 0) / 5) + (((σ 1 d 0) / 5) / 2))), (3, .int ((σ 1 d 0) / 5)), (0, .ref (ad (ro 16 0))), (1, .int (nI j)), (2, .int (nI d))]) C dX2_pullAt_100 (by decide) rfl ?_
          refine x_iload C dX2_pullAt_102 0 rfl ?_
          refine x_aload_n C dX2_pullAt_104 rfl 2 rfl ?_
          refine x_get C fl_X2_19 (r := ro 16 0) rfl (xj_m (by decide) (by decide) rfl) (v := .ref (ad (ro 17 3))) rfl dX2_pullAt_105 ?_
          refine x_iload_n C dX2_pullAt_108 rfl 4 rfl ?_
          refine m_ld C R (f := 3) (f' := 3) (i := d) (by decide) rfl rfl rfl (show d < 30 by omega) (by decide) dX2_pullAt_109 ?_
          refine x_bipush (v := 10) C dX2_pullAt_110 (by decide) ?_
          refine x_idiv C dX2_pullAt_112 (by decide) ?_
          refine x_isub C dX2_pullAt_113 ?_
          refine x_istore (lv' := [(4, .int ((((σ 1 d 0) / 5) + (((σ 1 d 0) / 5) / 2)) - ((σ 3 d 0) / 10))), (3, .int ((σ 1 d 0) / 5)), (0, .ref (ad (ro 16 0))), (1, .int (nI j)), (2, .int (nI d))]) C dX2_pullAt_114 (by decide) rfl ?_
          refine x_iload C dX2_pullAt_116 0 rfl ?_
          refine x_if_ge (tgt := 125) C dX2_pullAt_118 (by decide) (fun c5 => ?_) (fun c5 => ?_)
          · refine x_iload C dX2_pullAt_125 0 rfl ?_
            exact x_iret C dX2_pullAt_127 (Nat.le_of_ble_eq_true rfl) (Nat.le_of_ble_eq_true rfl) ⟨by unfold sDp; rw [sPull_ref h0 (Or.inr ⟨c3, rfl⟩) (Or.inl ⟨c4, rfl⟩)]; rw [if_pos c5], rfl, rfl⟩
          · refine x_iconst (v := 0) C dX2_pullAt_121 (by decide) ?_
            refine x_goto (tgt := 127) C dX2_pullAt_122 (by decide) ?_
            exact x_iret C dX2_pullAt_127 (Nat.le_of_ble_eq_true rfl) (Nat.le_of_ble_eq_true rfl) ⟨by unfold sDp; rw [sPull_ref h0 (Or.inr ⟨c3, rfl⟩) (Or.inl ⟨c4, rfl⟩)]; rw [if_neg c5], rfl, rfl⟩
    · refine x_iconst (v := 0) C dX2_pullAt_24 (by decide) ?_
      exact x_iret C dX2_pullAt_25 (Nat.le_of_ble_eq_true rfl) (Nat.le_of_ble_eq_true rfl) ⟨by unfold sDp sPull; rw [if_pos (Or.inr (Int32.not_le.mp c2))], rfl, rfl⟩
set_option maxHeartbeats 4000000 in
theorem k2_pullAtN {G : xG} {ad : Nat → Nat} {κ : xKp} {σ μ : xSg} {c t : xK} (hI : xIk κ) (R : xRl κ σ μ) (hG : xIg κ σ) {d : Nat} (hd : d < κ 0) : xM G yX2_pullAt (ws_ yX2_pullAt cX2_pullAt 5 (some Jvm.ClassFile.FieldType.int)) 1 0 0 0 [.ref (ad (ro 16 0)), .int ((-1)), .int (nI d)] ad (xj c (xkM G.2.2.1 ad μ) t) (xPv (some (.int (sDp σ d (-1)))) ad (xj c (xkM G.2.2.1 ad μ) t)) xN := by
  refine xM_of (cc := cX2_pullAt) (by decide) rfl (fun F hF C => ?_)
  subst hF
  have h30 := hI.2.2.2.2.1
  have h14 := hI.2.2.2.2.2
  have hne : ¬ σ 0 d 0 - σ 0 d 0 / 10 * 10 = -1 := by obtain ⟨q, hq, e⟩ := hG d hd; rw [e]; exact nI_rem hq
  have T : μ 29 0 0 = μ 29 0 0 := rfl
  show xX F _ _ _ 0 0 0 [(0, .ref (ad (ro 16 0))), (1, .int ((-1))), (2, .int (nI d))] []
  refine x_aload_n C dX2_pullAt_0 rfl 0 rfl ?_
  refine x_get C fl_X2_22 (r := ro 16 0) rfl (xj_m (by decide) (by decide) rfl) (v := .ref (ad (ro 17 4))) rfl dX2_pullAt_1 ?_
  refine x_iload_n C dX2_pullAt_4 rfl 2 rfl ?_
  refine m_ld C R (f := 4) (f' := 4) (i := d) (by decide) rfl rfl rfl (show d < 30 by omega) (by decide) dX2_pullAt_5 ?_
  refine x_bipush (v := -2) C dX2_pullAt_6 (by decide) ?_
  refine x_icmp_eq (tgt := 24) C dX2_pullAt_8 (by decide) (fun c1 => ?_) (fun c1 => ?_)
  · refine x_iconst (v := 0) C dX2_pullAt_24 (by decide) ?_
    exact x_iret C dX2_pullAt_25 (Nat.le_of_ble_eq_true rfl) (Nat.le_of_ble_eq_true rfl) ⟨by unfold sDp sPull; rw [if_pos (Or.inl c1)], rfl, rfl⟩
  · refine x_aload_n C dX2_pullAt_11 rfl 0 rfl ?_
    refine x_get C fl_X2_109 (r := ro 16 0) rfl (xj_m (by decide) (by decide) rfl) (v := .int (μ 26 0 0)) rfl dX2_pullAt_12 ?_
    refine x_top (y := σ 21 0 0) (R.1 (26, 21) (by decide) 0) ?_
    refine x_aload_n C dX2_pullAt_15 rfl 0 rfl ?_
    refine x_get C fl_X2_16 (r := ro 16 0) rfl (xj_m (by decide) (by decide) rfl) (v := .ref (ad (ro 17 2))) rfl dX2_pullAt_16 ?_
    refine x_iload_n C dX2_pullAt_19 rfl 2 rfl ?_
    refine m_ld C R (f := 2) (f' := 2) (i := d) (by decide) rfl rfl rfl (show d < 30 by omega) (by decide) dX2_pullAt_20 ?_
    refine x_icmp_ge (tgt := 26) C dX2_pullAt_21 (by decide) (fun c2 => ?_) (fun c2 => ?_)
    · have h0 : ¬ (σ 4 d 0 = -2 ∨ σ 21 0 0 < σ 2 d 0) := fun z => z.elim c1 (Int32.not_lt.mpr c2)
      refine x_aload_n C dX2_pullAt_26 rfl 0 rfl ?_
      refine x_get C fl_X2_13 (r := ro 16 0) rfl (xj_m (by decide) (by decide) rfl) (v := .ref (ad (ro 17 1))) rfl dX2_pullAt_27 ?_
      refine x_iload_n C dX2_pullAt_30 rfl 2 rfl ?_
      refine m_ld C R (f := 1) (f' := 1) (i := d) (by decide) rfl rfl rfl (show d < 30 by omega) (by decide) dX2_pullAt_31 ?_
      refine x_iconst (v := 5) C dX2_pullAt_32 (by decide) ?_
      refine x_idiv C dX2_pullAt_33 (by decide) ?_
      refine x_istore_n (lv' := [(3, .int ((σ 1 d 0) / 5)), (0, .ref (ad (ro 16 0))), (1, .int ((-1))), (2, .int (nI d))]) C dX2_pullAt_34 rfl (by decide) rfl ?_
      refine x_aload_n C dX2_pullAt_35 rfl 1 rfl ?_
      refine x_get C fl_X2_13 (r := ro 16 0) rfl (xj_m (by decide) (by decide) rfl) (v := .ref (ad (ro 17 1))) rfl dX2_pullAt_36 ?_
      refine x_iload_n C dX2_pullAt_39 rfl 3 rfl ?_
      refine m_ld C R (f := 1) (f' := 1) (i := d) (by decide) rfl rfl rfl (show d < 30 by omega) (by decide) dX2_pullAt_40 ?_
      refine x_iconst (v := 2) C dX2_pullAt_41 (by decide) ?_
      refine x_aload_n C dX2_pullAt_42 rfl 1 rfl ?_
      refine x_get C fl_X2_109 (r := ro 16 0) rfl (xj_m (by decide) (by decide) rfl) (v := .int (μ 26 0 0)) rfl dX2_pullAt_43 ?_
      refine x_top (y := σ 21 0 0) (R.1 (26, 21) (by decide) 0) ?_
      refine x_aload_n C dX2_pullAt_46 rfl 1 rfl ?_
      refine x_get C fl_X2_16 (r := ro 16 0) rfl (xj_m (by decide) (by decide) rfl) (v := .ref (ad (ro 17 2))) rfl dX2_pullAt_47 ?_
      refine x_iload_n C dX2_pullAt_50 rfl 3 rfl ?_
      refine m_ld C R (f := 2) (f' := 2) (i := d) (by decide) rfl rfl rfl (show d < 30 by omega) (by decide) dX2_pullAt_51 ?_
      refine x_isub C dX2_pullAt_52 ?_
      refine x_imul C dX2_pullAt_53 ?_
      refine x_isub C dX2_pullAt_54 ?_
      refine x_istore (lv' := [(4, .int ((σ 1 d 0) - (2 * ((σ 21 0 0) - (σ 2 d 0))))), (3, .int ((σ 1 d 0) / 5)), (0, .ref (ad (ro 16 0))), (1, .int ((-1))), (2, .int (nI d))]) C dX2_pullAt_55 (by decide) rfl ?_
      refine x_iload C dX2_pullAt_57 0 rfl ?_
      refine x_iload_n C dX2_pullAt_59 rfl 1 rfl ?_
      refine x_icmp_ge (tgt := 67) C dX2_pullAt_60 (by decide) (fun c3 => ?_) (fun c3 => ?_)
      · refine x_iload C dX2_pullAt_67 0 rfl ?_
        refine x_istore (lv' := [(4, .int ((σ 1 d 0) - (2 * ((σ 21 0 0) - (σ 2 d 0))))), (3, .int ((σ 1 d 0) / 5)), (0, .ref (ad (ro 16 0))), (1, .int ((-1))), (2, .int (nI d))]) C dX2_pullAt_69 (by decide) rfl ?_
        refine x_iload_n C dX2_pullAt_71 rfl 3 rfl ?_
        refine x_if_lt (tgt := 102) C dX2_pullAt_72 (by decide) (fun _ => ?_) (fun h => absurd (by decide) h)
        refine x_iload C dX2_pullAt_102 0 rfl ?_
        refine x_aload_n C dX2_pullAt_104 rfl 2 rfl ?_
        refine x_get C fl_X2_19 (r := ro 16 0) rfl (xj_m (by decide) (by decide) rfl) (v := .ref (ad (ro 17 3))) rfl dX2_pullAt_105 ?_
        refine x_iload_n C dX2_pullAt_108 rfl 4 rfl ?_
        refine m_ld C R (f := 3) (f' := 3) (i := d) (by decide) rfl rfl rfl (show d < 30 by omega) (by decide) dX2_pullAt_109 ?_
        refine x_bipush (v := 10) C dX2_pullAt_110 (by decide) ?_
        refine x_idiv C dX2_pullAt_112 (by decide) ?_
        refine x_isub C dX2_pullAt_113 ?_
        refine x_istore (lv' := [(4, .int (((σ 1 d 0) - (2 * ((σ 21 0 0) - (σ 2 d 0)))) - ((σ 3 d 0) / 10))), (3, .int ((σ 1 d 0) / 5)), (0, .ref (ad (ro 16 0))), (1, .int ((-1))), (2, .int (nI d))]) C dX2_pullAt_114 (by decide) rfl ?_
        refine x_iload C dX2_pullAt_116 0 rfl ?_
        refine x_if_ge (tgt := 125) C dX2_pullAt_118 (by decide) (fun c5 => ?_) (fun c5 => ?_)
        · refine x_iload C dX2_pullAt_125 0 rfl ?_
          exact x_iret C dX2_pullAt_127 (Nat.le_of_ble_eq_true rfl) (Nat.le_of_ble_eq_true rfl) ⟨by unfold sDp; rw [sPull_ref h0 (Or.inl ⟨c3, rfl⟩) (Or.inr ⟨hne, rfl⟩)]; rw [if_pos c5], rfl, rfl⟩
        · refine x_iconst (v := 0) C dX2_pullAt_121 (by decide) ?_
          refine x_goto (tgt := 127) C dX2_pullAt_122 (by decide) ?_
          exact x_iret C dX2_pullAt_127 (Nat.le_of_ble_eq_true rfl) (Nat.le_of_ble_eq_true rfl) ⟨by unfold sDp; rw [sPull_ref h0 (Or.inl ⟨c3, rfl⟩) (Or.inr ⟨hne, rfl⟩)]; rw [if_neg c5], rfl, rfl⟩
      · refine x_iload_n C dX2_pullAt_63 rfl 1 rfl ?_
        refine x_goto (tgt := 69) C dX2_pullAt_64 (by decide) ?_
        refine x_istore (lv' := [(4, .int ((σ 1 d 0) / 5)), (3, .int ((σ 1 d 0) / 5)), (0, .ref (ad (ro 16 0))), (1, .int ((-1))), (2, .int (nI d))]) C dX2_pullAt_69 (by decide) rfl ?_
        refine x_iload_n C dX2_pullAt_71 rfl 3 rfl ?_
        refine x_if_lt (tgt := 102) C dX2_pullAt_72 (by decide) (fun _ => ?_) (fun h => absurd (by decide) h)
        refine x_iload C dX2_pullAt_102 0 rfl ?_
        refine x_aload_n C dX2_pullAt_104 rfl 2 rfl ?_
        refine x_get C fl_X2_19 (r := ro 16 0) rfl (xj_m (by decide) (by decide) rfl) (v := .ref (ad (ro 17 3))) rfl dX2_pullAt_105 ?_
        refine x_iload_n C dX2_pullAt_108 rfl 4 rfl ?_
        refine m_ld C R (f := 3) (f' := 3) (i := d) (by decide) rfl rfl rfl (show d < 30 by omega) (by decide) dX2_pullAt_109 ?_
        refine x_bipush (v := 10) C dX2_pullAt_110 (by decide) ?_
        refine x_idiv C dX2_pullAt_112 (by decide) ?_
        refine x_isub C dX2_pullAt_113 ?_
        refine x_istore (lv' := [(4, .int (((σ 1 d 0) / 5) - ((σ 3 d 0) / 10))), (3, .int ((σ 1 d 0) / 5)), (0, .ref (ad (ro 16 0))), (1, .int ((-1))), (2, .int (nI d))]) C dX2_pullAt_114 (by decide) rfl ?_
        refine x_iload C dX2_pullAt_116 0 rfl ?_
        refine x_if_ge (tgt := 125) C dX2_pullAt_118 (by decide) (fun c5 => ?_) (fun c5 => ?_)
        · refine x_iload C dX2_pullAt_125 0 rfl ?_
          exact x_iret C dX2_pullAt_127 (Nat.le_of_ble_eq_true rfl) (Nat.le_of_ble_eq_true rfl) ⟨by unfold sDp; rw [sPull_ref h0 (Or.inr ⟨c3, rfl⟩) (Or.inr ⟨hne, rfl⟩)]; rw [if_pos c5], rfl, rfl⟩
        · refine x_iconst (v := 0) C dX2_pullAt_121 (by decide) ?_
          refine x_goto (tgt := 127) C dX2_pullAt_122 (by decide) ?_
          exact x_iret C dX2_pullAt_127 (Nat.le_of_ble_eq_true rfl) (Nat.le_of_ble_eq_true rfl) ⟨by unfold sDp; rw [sPull_ref h0 (Or.inr ⟨c3, rfl⟩) (Or.inr ⟨hne, rfl⟩)]; rw [if_neg c5], rfl, rfl⟩
    · refine x_iconst (v := 0) C dX2_pullAt_24 (by decide) ?_
      exact x_iret C dX2_pullAt_25 (Nat.le_of_ble_eq_true rfl) (Nat.le_of_ble_eq_true rfl) ⟨by unfold sDp sPull; rw [if_pos (Or.inr (Int32.not_le.mp c2))], rfl, rfl⟩
set_option maxHeartbeats 4000000 in
theorem k2_pullOfSlot {G : xG} {ad : Nat → Nat} {κ : xKp} {σ μ : xSg} {c t : xK} (hI : xIk κ) (R : xRl κ σ μ) (hW : xIw κ σ) {j s : Nat} (hj : j < 4) (hs : s < 10) : xM G yX2_pullOfSlot (ws_ yX2_pullOfSlot cX2_pullOfSlot 2 (some Jvm.ClassFile.FieldType.int)) 3 60 0 0 [.ref (ad (ro 16 0)), .int (nI (10 * j + s))] ad (xj c (xkM G.2.2.1 ad μ) t) (xPv (some (.int (sPo σ j s))) ad (xj c (xkM G.2.2.1 ad μ) t)) xN := by
  refine xM_of (cc := cX2_pullOfSlot) (by decide) rfl (fun F hF C => ?_)
  subst hF
  have h30 := hI.2.2.2.2.1
  have h14 := hI.2.2.2.2.2
  have T : μ 29 0 0 = μ 29 0 0 := rfl
  show xX F _ _ _ 0 0 0 [(0, .ref (ad (ro 16 0))), (1, .int (nI (10 * j + s)))] []
  refine x_aload_n C dX2_pullOfSlot_0 rfl 0 rfl ?_
  refine x_get C fl_X2_65 (r := ro 16 0) rfl (xj_m (by decide) (by decide) rfl) (v := .ref (ad (ro 17 20))) rfl dX2_pullOfSlot_1 ?_
  refine x_iload_n C dX2_pullOfSlot_4 rfl 1 rfl ?_
  refine m_ld20 C R (j := j) (s := s) rfl (by omega) (by omega) dX2_pullOfSlot_5 ?_
  refine x_if_ne (tgt := 13) C dX2_pullOfSlot_6 (by decide) (fun c1 => ?_) (fun c1 => ?_)
  · obtain ⟨hj1, d, hd, e⟩ := (hW j s hs).resolve_left (fun e => c1 (by rw [e]; rfl))
    refine x_aload_n C dX2_pullOfSlot_13 rfl 0 rfl ?_
    refine x_iload_n C dX2_pullOfSlot_14 rfl 1 rfl ?_
    refine x_bipush (v := 10) C dX2_pullOfSlot_15 (by decide) ?_
    refine x_idiv C dX2_pullOfSlot_17 (by decide) ?_
    refine x_top (y := nI j) (nI_div10 (by omega) hs) ?_
    refine x_aload_n C dX2_pullOfSlot_18 rfl 0 rfl ?_
    refine x_get C fl_X2_65 (r := ro 16 0) rfl (xj_m (by decide) (by decide) rfl) (v := .ref (ad (ro 17 20))) rfl dX2_pullOfSlot_19 ?_
    refine x_iload_n C dX2_pullOfSlot_22 rfl 1 rfl ?_
    refine m_ld20 C R (j := j) (s := s) rfl (by omega) (by omega) dX2_pullOfSlot_23 ?_
    refine x_iconst (v := 1) C dX2_pullOfSlot_24 (by decide) ?_
    refine x_isub C dX2_pullOfSlot_25 ?_
    refine x_top (y := nI d) (i_asc.trans e) ?_
    refine x_callV (rest := []) C (k2_pullAt hI R (j := j) (d := d) hj1 hd) cf_X2_112 ⟨rfl, hd_X2_pullAt⟩ ⟨Nat.le_of_ble_eq_true rfl, Nat.le_of_ble_eq_true rfl⟩ (xR_o xci4 rfl (xj_m (by decide) (by decide) rfl)) rfl (Nat.le_of_ble_eq_true rfl) ⟨Nat.le_of_ble_eq_true rfl, Nat.le_of_ble_eq_true rfl⟩ dX2_pullOfSlot_26 (xPv_i ?_) xN_e
    exact x_iret C dX2_pullOfSlot_29 (Nat.le_of_ble_eq_true rfl) (Nat.le_of_ble_eq_true rfl) ⟨by unfold sPo; rw [e, if_neg (nI_ne1 (by omega)), nI_clamp (by omega)], rfl, rfl⟩
  · refine x_iconst (v := 0) C dX2_pullOfSlot_9 (by decide) ?_
    refine x_goto (tgt := 29) C dX2_pullOfSlot_10 (by decide) ?_
    have e : σ 17 j s = -1 := by rw [← i_asc (a := σ 17 j s), c1]; rfl
    exact x_iret C dX2_pullOfSlot_29 (Nat.le_of_ble_eq_true rfl) (Nat.le_of_ble_eq_true rfl) ⟨by unfold sPo; rw [if_pos e], rfl, rfl⟩
set_option maxHeartbeats 4000000 in
theorem k2_wears {G : xG} {ad : Nat → Nat} {κ : xKp} {σ μ : xSg} {c t : xK} (hI : xIk κ) (R : xRl κ σ μ) {j s d : Nat} (hj : j < κ 1) (hs : s < 10) (hd : d < κ 0) (e17 : σ 17 j s = nI d) (ti : Int32) : xM G yX2_wears (ws_ yX2_wears cX2_wears 5 none) 1 0 0 0 [.ref (ad (ro 16 0)), .int (nI (10 * j + s)), .int ti] ad (xj c (xkM G.2.2.1 ad μ) t) (fun v ad' ct' => v = none ∧ ad' = ad ∧ ∃ μ', ct' = xj c (xkM G.2.2.1 ad μ') t ∧ xRl κ (sPlays σ j s d ti) μ' ∧ μ' 29 0 0 = μ 29 0 0) xN := by
  refine xM_of (cc := cX2_wears) (by decide) rfl (fun F hF C => ?_)
  subst hF
  have h30 := hI.2.2.2.2.1
  have h14 := hI.2.2.2.2.2
  have T : μ 29 0 0 = μ 29 0 0 := rfl
  show xX F _ _ _ 0 0 0 [(0, .ref (ad (ro 16 0))), (1, .int (nI (10 * j + s))), (2, .int ti)] []
  refine x_iload_n C dX2_wears_0 rfl 1 rfl ?_
  refine x_bipush (v := 10) C dX2_wears_1 (by decide) ?_
  refine x_idiv C dX2_wears_3 (by decide) ?_
  refine x_top (y := nI j) (nI_div10 (by omega) hs) ?_
  refine x_istore_n (lv' := [(3, .int (nI j)), (0, .ref (ad (ro 16 0))), (1, .int (nI (10 * j + s))), (2, .int ti)]) C dX2_wears_4 rfl (by decide) rfl ?_
  refine x_aload_n C dX2_wears_5 rfl 1 rfl ?_
  refine x_get C fl_X2_65 (r := ro 16 0) rfl (xj_m (by decide) (by decide) rfl) (v := .ref (ad (ro 17 20))) rfl dX2_wears_6 ?_
  refine x_iload_n C dX2_wears_9 rfl 2 rfl ?_
  refine m_ld20 C R (j := j) (s := s) rfl (by omega) (by omega) dX2_wears_10 ?_
  refine x_iconst (v := 1) C dX2_wears_11 (by decide) ?_
  refine x_isub C dX2_wears_12 ?_
  refine x_top (y := nI d) (i_asc.trans e17) ?_
  refine x_istore (lv' := [(4, .int (nI d)), (3, .int (nI j)), (0, .ref (ad (ro 16 0))), (1, .int (nI (10 * j + s))), (2, .int ti)]) C dX2_wears_13 (by decide) rfl ?_
  refine x_aload_n C dX2_wears_15 rfl 2 rfl ?_
  refine x_get C fl_X2_68 (r := ro 16 0) rfl (xj_m (by decide) (by decide) rfl) (v := .ref (ad (ro 17 21))) rfl dX2_wears_16 ?_
  refine x_iload_n C dX2_wears_19 rfl 3 rfl ?_
  refine x_dup2_11 C dX2_wears_20 rfl rfl ?_
  refine m_ld21 C R (j := j) (s := s) rfl (by omega) (by omega) dX2_wears_21 ?_
  refine x_iload_n C dX2_wears_22 rfl 4 rfl ?_
  refine x_iadd C dX2_wears_23 ?_
  refine m_st21 C R T (j := j) (s := s) (w := (σ 18 j s) + ti) rfl (by omega) (by omega) rfl dX2_wears_24 (fun μ1 R1 T1 => ?_)
  refine x_aload_n C dX2_wears_25 rfl 2 rfl ?_
  refine x_get C fl_X2_49 (r := ro 16 0) rfl (xj_m (by decide) (by decide) rfl) (v := .ref (ad (ro 17 14))) rfl dX2_wears_26 ?_
  refine x_iload_n C dX2_wears_29 rfl 1 rfl ?_
  refine x_dup2_11 C dX2_wears_30 rfl rfl ?_
  refine m_ld C R1 (f := 14) (f' := 11) (i := j) (by decide) rfl rfl rfl (show j < 4 by omega) (by decide) dX2_wears_31 ?_
  refine x_top (y := σ 11 j 0) (by first | exact xup_s | simp [xup]) ?_
  refine x_iload_n C dX2_wears_32 rfl 4 rfl ?_
  refine x_iadd C dX2_wears_33 ?_
  refine m_st C R1 T1 (f := 14) (f' := 11) (i := j) (by decide) rfl rfl rfl (show j < 4 by omega) (by decide) dX2_wears_34 (fun μ2 R2 T2 => ?_)
  refine x_aload_n C dX2_wears_35 rfl 2 rfl ?_
  refine x_get C fl_X2_19 (r := ro 16 0) rfl (xj_m (by decide) (by decide) rfl) (v := .ref (ad (ro 17 3))) rfl dX2_wears_36 ?_
  refine x_iload C dX2_wears_39 0 rfl ?_
  refine x_dup2_11 C dX2_wears_41 rfl rfl ?_
  refine m_ld C R2 (f := 3) (f' := 3) (i := d) (by decide) rfl rfl rfl (show d < 30 by omega) (by decide) dX2_wears_42 ?_
  refine x_top (y := σ 3 d 0) (by first | exact xup_s | simp [xup]) ?_
  refine x_iload_n C dX2_wears_43 rfl 4 rfl ?_
  refine x_iconst (v := 1) C dX2_wears_44 (by decide) ?_
  refine x_aload_n C dX2_wears_45 rfl 2 rfl ?_
  refine x_get C fl_X2_40 (r := ro 16 0) rfl (xj_m (by decide) (by decide) rfl) (v := .ref (ad (ro 17 11))) rfl dX2_wears_46 ?_
  refine x_iload_n C dX2_wears_49 rfl 1 rfl ?_
  refine m_ld C R2 (f := 11) (f' := 10) (i := j) (by decide) rfl rfl rfl (show j < 4 by omega) (by decide) dX2_wears_50 ?_
  refine x_top (y := σ 10 j 0) (by first | exact xup_s | simp [xup]) ?_
  refine x_bipush (v := 40) C dX2_wears_51 (by decide) ?_
  refine x_idiv C dX2_wears_53 (by decide) ?_
  refine x_iadd C dX2_wears_54 ?_
  refine x_imul C dX2_wears_55 ?_
  refine x_iadd C dX2_wears_56 ?_
  refine m_st C R2 T2 (f := 3) (f' := 3) (i := d) (by decide) rfl rfl rfl (show d < 30 by omega) (by decide) dX2_wears_57 (fun μ3 R3 T3 => ?_)
  refine x_aload_n C dX2_wears_58 rfl 2 rfl ?_
  refine x_get C fl_X2_40 (r := ro 16 0) rfl (xj_m (by decide) (by decide) rfl) (v := .ref (ad (ro 17 11))) rfl dX2_wears_59 ?_
  refine x_iload_n C dX2_wears_62 rfl 1 rfl ?_
  refine x_dup2_11 C dX2_wears_63 rfl rfl ?_
  refine m_ld C R3 (f := 11) (f' := 10) (i := j) (by decide) rfl rfl rfl (show j < 4 by omega) (by decide) dX2_wears_64 ?_
  refine x_top (y := σ 10 j 0) (by first | exact xup_s | simp [xup]) ?_
  refine x_iload_n C dX2_wears_65 rfl 4 rfl ?_
  refine x_iadd C dX2_wears_66 ?_
  refine m_st C R3 T3 (f := 11) (f' := 10) (i := j) (by decide) rfl rfl rfl (show j < 4 by omega) (by decide) dX2_wears_67 (fun μ4 R4 T4 => ?_)
  exact x_vret C dX2_wears_68 (Nat.le_of_ble_eq_true rfl) (Nat.le_of_ble_eq_true rfl) ⟨rfl, rfl, μ4, rfl, R4, T4⟩
def oPull (κ : xKp) (σ : xSg) (b : Int32) : xO := if xIx b (κ 0) then (0, sDp σ b.toNatClampNeg (sTa σ b.toNatClampNeg), κ, σ) else (1, 0, κ, σ)
def oPullIn (κ : xKp) (σ : xSg) (b c : Int32) : xO := if xIx b (κ 1) ∧ xIx c (κ 0) then (0, sDp σ c.toNatClampNeg (σ 6 b.toNatClampNeg 0), κ, σ) else (1, 0, κ, σ)
def oWorth (κ : xKp) (σ : xSg) (b sl c : Int32) : xO := if (xIx b (κ 1) ∧ xIx sl 10) ∧ xIx c (κ 0) then (if σ 4 c.toNatClampNeg 0 = -1 then (0, sDp σ c.toNatClampNeg (σ 6 b.toNatClampNeg 0) - sPo σ b.toNatClampNeg sl.toNatClampNeg, κ, σ) else (2, 0, κ, σ)) else (1, 0, κ, σ)
def oChange (κ : xKp) (σ : xSg) (b sl c : Int32) : xO := if (xIx b (κ 1) ∧ xIx sl 10) ∧ (c = -1 ∨ xIx c (κ 0)) then (if (¬ σ 15 b.toNatClampNeg 0 = 0 ∧ (c = -1 ∨ σ 4 c.toNatClampNeg 0 = -1)) ∧ ¬ σ 22 0 0 < 10 then (0, σ 17 b.toNatClampNeg sl.toNatClampNeg, κ, sCh σ b.toNatClampNeg sl.toNatClampNeg c) else (2, 0, κ, σ)) else (1, 0, κ, σ)
set_option maxHeartbeats 4000000 in
theorem k2_pull {G : xG} {ad : Nat → Nat} {κ : xKp} {σ μ : xSg} {c t : xK} (hI : xIk κ) (R : xRl κ σ μ) (hG : xIg κ σ) (hP : xIp κ σ) (b : Int32) : xM G yX2_pull (ws_ yX2_pull cX2_pull 2 (some Jvm.ClassFile.FieldType.int)) 8 300 0 0 [.ref (ad (ro 16 0)), .int b] ad (xj c (xkM G.2.2.1 ad μ) t) (rP G ad c t (oPull κ σ b)) xN := by
  refine xM_of (cc := cX2_pull) (by decide) rfl (fun F hF C => ?_)
  subst hF
  have h30 := hI.2.2.2.2.1
  have h14 := hI.2.2.2.2.2
  have T : μ 29 0 0 = μ 29 0 0 := rfl
  show xX F _ _ _ 0 0 0 [(0, .ref (ad (ro 16 0))), (1, .int b)] []
  refine x_aload_n C dX2_pull_0 rfl 0 rfl ?_
  refine x_aload_n C dX2_pull_1 rfl 0 rfl ?_
  refine x_iload_n C dX2_pull_2 rfl 1 rfl ?_
  refine x_callV (rest := [.ref (ad (ro 16 0))]) C (k2_isDisc hI R b) cf_X2_128 ⟨rfl, hd_X2_isDisc⟩ ⟨Nat.le_of_ble_eq_true rfl, Nat.le_of_ble_eq_true rfl⟩ (xR_o xci4 rfl (xj_m (by decide) (by decide) rfl)) rfl (Nat.le_of_ble_eq_true rfl) ⟨Nat.le_of_ble_eq_true rfl, Nat.le_of_ble_eq_true rfl⟩ dX2_pull_3 (xPv_i ?_) xN_e
  refine x_case (fun c1 => ?_) (fun c1 => ?_)
  · obtain ⟨d, hd, rfl⟩ := xIx_nI (by omega) c1
    have td : (nI d).toNatClampNeg = d := nI_clamp (by omega)
    refine x_iconst (v := 1) C dX2_pull_6 (by decide) ?_
    refine m_no1 (p := 1) C R (Nat.le_of_ble_eq_true rfl) ⟨Nat.le_of_ble_eq_true rfl, Nat.le_of_ble_eq_true rfl⟩ ⟨Nat.le_of_ble_eq_true rfl, Nat.le_of_ble_eq_true rfl⟩ dX2_pull_7 (fun μ1 R1 T1 => ?_)
    refine x_if_eq (tgt := 15) C dX2_pull_10 (by decide) (fun _ => ?_) (fun h => absurd (by decide) h)
    refine x_aload_n C dX2_pull_15 rfl 0 rfl ?_
    refine x_aload_n C dX2_pull_16 rfl 0 rfl ?_
    refine x_get C fl_X2_22 (r := ro 16 0) rfl (xj_m (by decide) (by decide) rfl) (v := .ref (ad (ro 17 4))) rfl dX2_pull_17 ?_
    refine x_iload_n C dX2_pull_20 rfl 1 rfl ?_
    refine m_ld C R1 (f := 4) (f' := 4) (i := d) (by decide) rfl rfl rfl (show d < 30 by omega) (by decide) dX2_pull_21 ?_
    refine x_if_lt (tgt := 37) C dX2_pull_22 (by decide) (fun c2 => ?_) (fun c2 => ?_)
    · refine x_iconst (v := -1) C dX2_pull_37 (by decide) ?_
      refine x_iload_n C dX2_pull_38 rfl 1 rfl ?_
      refine x_callV (rest := []) C (k2_pullAtN hI R1 hG hd) cf_X2_112 ⟨rfl, hd_X2_pullAt⟩ ⟨Nat.le_of_ble_eq_true rfl, Nat.le_of_ble_eq_true rfl⟩ (xR_o xci4 rfl (xj_m (by decide) (by decide) rfl)) rfl (Nat.le_of_ble_eq_true rfl) ⟨Nat.le_of_ble_eq_true rfl, Nat.le_of_ble_eq_true rfl⟩ dX2_pull_39 (xPv_i ?_) xN_e
      exact x_iret C dX2_pull_42 (Nat.le_of_ble_eq_true rfl) (Nat.le_of_ble_eq_true rfl) (rP_of (by unfold oPull; rw [if_pos c1, td]; unfold sTa; rw [if_pos c2]) R1 T1 (fun _ => rfl))
    · obtain ⟨j, hj, s, hs, e4⟩ : ∃ j, j < κ 1 ∧ ∃ s, s < 10 ∧ σ 4 d 0 = nI (10 * j + s) := by rcases hP d hd with e | e | h; exact absurd (by rw [e]; decide) c2; exact absurd (by rw [e]; decide) c2; exact h
      refine x_aload_n C dX2_pull_25 rfl 0 rfl ?_
      refine x_get C fl_X2_22 (r := ro 16 0) rfl (xj_m (by decide) (by decide) rfl) (v := .ref (ad (ro 17 4))) rfl dX2_pull_26 ?_
      refine x_iload_n C dX2_pull_29 rfl 1 rfl ?_
      refine m_ld C R1 (f := 4) (f' := 4) (i := d) (by decide) rfl rfl rfl (show d < 30 by omega) (by decide) dX2_pull_30 ?_
      refine x_top (y := nI (10 * j + s)) (e4) ?_
      refine x_bipush (v := 10) C dX2_pull_31 (by decide) ?_
      refine x_idiv C dX2_pull_33 (by decide) ?_
      refine x_top (y := nI j) (nI_div10 (by omega) hs) ?_
      refine x_goto (tgt := 38) C dX2_pull_34 (by decide) ?_
      refine x_iload_n C dX2_pull_38 rfl 1 rfl ?_
      refine x_callV (rest := []) C (k2_pullAt hI R1 (j := j) (d := d) hj hd) cf_X2_112 ⟨rfl, hd_X2_pullAt⟩ ⟨Nat.le_of_ble_eq_true rfl, Nat.le_of_ble_eq_true rfl⟩ (xR_o xci4 rfl (xj_m (by decide) (by decide) rfl)) rfl (Nat.le_of_ble_eq_true rfl) ⟨Nat.le_of_ble_eq_true rfl, Nat.le_of_ble_eq_true rfl⟩ dX2_pull_39 (xPv_i ?_) xN_e
      exact x_iret C dX2_pull_42 (Nat.le_of_ble_eq_true rfl) (Nat.le_of_ble_eq_true rfl) (rP_of (by unfold oPull; rw [if_pos c1, td]; unfold sTa; rw [if_neg c2, e4, nI_clamp (by omega), show (10 * j + s) / 10 = j by omega]) R1 T1 (fun _ => rfl))
  · refine x_iconst (v := 1) C dX2_pull_6 (by decide) ?_
    refine m_no0 (p := 1) C R (Nat.le_of_ble_eq_true rfl) ⟨Nat.le_of_ble_eq_true rfl, Nat.le_of_ble_eq_true rfl⟩ ⟨Nat.le_of_ble_eq_true rfl, Nat.le_of_ble_eq_true rfl⟩ dX2_pull_7 (fun μ1 R1 T1 => ?_)
    refine x_if_eq (tgt := 15) C dX2_pull_10 (by decide) (fun h => absurd h (by decide)) (fun _ => ?_)
    refine x_iconst (v := 0) C dX2_pull_13 (by decide) ?_
    exact x_iret C dX2_pull_14 (Nat.le_of_ble_eq_true rfl) (Nat.le_of_ble_eq_true rfl) (rP_of (if_neg c1) R1 T1 (fun _ => rfl))
set_option maxHeartbeats 4000000 in
theorem k2_pullIn {G : xG} {ad : Nat → Nat} {κ : xKp} {σ μ : xSg} {c t : xK} (hI : xIk κ) (R : xRl κ σ μ) (b c9 : Int32) : xM G yX2_pullIn (ws_ yX2_pullIn cX2_pullIn 3 (some Jvm.ClassFile.FieldType.int)) 8 300 0 0 [.ref (ad (ro 16 0)), .int b, .int c9] ad (xj c (xkM G.2.2.1 ad μ) t) (rP G ad c t (oPullIn κ σ b c9)) xN := by
  refine xM_of (cc := cX2_pullIn) (by decide) rfl (fun F hF C => ?_)
  subst hF
  have h30 := hI.2.2.2.2.1
  have h14 := hI.2.2.2.2.2
  have T : μ 29 0 0 = μ 29 0 0 := rfl
  show xX F _ _ _ 0 0 0 [(0, .ref (ad (ro 16 0))), (1, .int b), (2, .int c9)] []
  refine x_aload_n C dX2_pullIn_0 rfl 0 rfl ?_
  refine x_aload_n C dX2_pullIn_1 rfl 0 rfl ?_
  refine x_iload_n C dX2_pullIn_2 rfl 1 rfl ?_
  refine x_callV (rest := [.ref (ad (ro 16 0))]) C (k2_isBox hI R b) cf_X2_100 ⟨rfl, hd_X2_isBox⟩ ⟨Nat.le_of_ble_eq_true rfl, Nat.le_of_ble_eq_true rfl⟩ (xR_o xci4 rfl (xj_m (by decide) (by decide) rfl)) rfl (Nat.le_of_ble_eq_true rfl) ⟨Nat.le_of_ble_eq_true rfl, Nat.le_of_ble_eq_true rfl⟩ dX2_pullIn_3 (xPv_i ?_) xN_e
  refine x_case (fun c1 => ?_) (fun c1 => ?_)
  · refine x_if_eq (tgt := 21) C dX2_pullIn_6 (by decide) (fun h => absurd h (by decide)) (fun _ => ?_)
    refine x_aload_n C dX2_pullIn_9 rfl 0 rfl ?_
    refine x_iload_n C dX2_pullIn_10 rfl 2 rfl ?_
    refine x_callV (rest := [.ref (ad (ro 16 0))]) C (k2_isDisc hI R c9) cf_X2_128 ⟨rfl, hd_X2_isDisc⟩ ⟨Nat.le_of_ble_eq_true rfl, Nat.le_of_ble_eq_true rfl⟩ (xR_o xci4 rfl (xj_m (by decide) (by decide) rfl)) rfl (Nat.le_of_ble_eq_true rfl) ⟨Nat.le_of_ble_eq_true rfl, Nat.le_of_ble_eq_true rfl⟩ dX2_pullIn_11 (xPv_i ?_) xN_e
    refine x_case (fun c2 => ?_) (fun c2 => ?_)
    · obtain ⟨j, hj, rfl⟩ := xIx_nI (by omega) c1
      have tj : (nI j).toNatClampNeg = j := nI_clamp (by omega)
      obtain ⟨d, hd, rfl⟩ := xIx_nI (by omega) c2
      have td : (nI d).toNatClampNeg = d := nI_clamp (by omega)
      refine x_if_eq (tgt := 21) C dX2_pullIn_14 (by decide) (fun h => absurd h (by decide)) (fun _ => ?_)
      refine x_iconst (v := 1) C dX2_pullIn_17 (by decide) ?_
      refine x_goto (tgt := 22) C dX2_pullIn_18 (by decide) ?_
      refine x_iconst (v := 1) C dX2_pullIn_22 (by decide) ?_
      refine m_no1 (p := 1) C R (Nat.le_of_ble_eq_true rfl) ⟨Nat.le_of_ble_eq_true rfl, Nat.le_of_ble_eq_true rfl⟩ ⟨Nat.le_of_ble_eq_true rfl, Nat.le_of_ble_eq_true rfl⟩ dX2_pullIn_23 (fun μ1 R1 T1 => ?_)
      refine x_if_eq (tgt := 33) C dX2_pullIn_26 (by decide) (fun _ => ?_) (fun h => absurd (by decide) h)
      refine x_aload_n C dX2_pullIn_33 rfl 0 rfl ?_
      refine x_iload_n C dX2_pullIn_34 rfl 1 rfl ?_
      refine x_iload_n C dX2_pullIn_35 rfl 2 rfl ?_
      refine x_callV (rest := []) C (k2_pullAt hI R1 (j := j) (d := d) hj hd) cf_X2_112 ⟨rfl, hd_X2_pullAt⟩ ⟨Nat.le_of_ble_eq_true rfl, Nat.le_of_ble_eq_true rfl⟩ (xR_o xci4 rfl (xj_m (by decide) (by decide) rfl)) rfl (Nat.le_of_ble_eq_true rfl) ⟨Nat.le_of_ble_eq_true rfl, Nat.le_of_ble_eq_true rfl⟩ dX2_pullIn_36 (xPv_i ?_) xN_e
      exact x_iret C dX2_pullIn_39 (Nat.le_of_ble_eq_true rfl) (Nat.le_of_ble_eq_true rfl) (rP_of (by unfold oPullIn; rw [if_pos ⟨c1, c2⟩, tj, td]) R1 T1 (fun _ => rfl))
    · refine x_if_eq (tgt := 21) C dX2_pullIn_14 (by decide) (fun _ => ?_) (fun h => absurd (by decide) h)
      refine x_iconst (v := 0) C dX2_pullIn_21 (by decide) ?_
      refine x_iconst (v := 1) C dX2_pullIn_22 (by decide) ?_
      refine m_no0 (p := 1) C R (Nat.le_of_ble_eq_true rfl) ⟨Nat.le_of_ble_eq_true rfl, Nat.le_of_ble_eq_true rfl⟩ ⟨Nat.le_of_ble_eq_true rfl, Nat.le_of_ble_eq_true rfl⟩ dX2_pullIn_23 (fun μ1 R1 T1 => ?_)
      refine x_if_eq (tgt := 33) C dX2_pullIn_26 (by decide) (fun h => absurd h (by decide)) (fun _ => ?_)
      refine x_iconst (v := 0) C dX2_pullIn_29 (by decide) ?_
      refine x_goto (tgt := 39) C dX2_pullIn_30 (by decide) ?_
      exact x_iret C dX2_pullIn_39 (Nat.le_of_ble_eq_true rfl) (Nat.le_of_ble_eq_true rfl) (rP_of (if_neg (fun z => c2 z.2)) R1 T1 (fun _ => rfl))
  · refine x_if_eq (tgt := 21) C dX2_pullIn_6 (by decide) (fun _ => ?_) (fun h => absurd (by decide) h)
    refine x_iconst (v := 0) C dX2_pullIn_21 (by decide) ?_
    refine x_iconst (v := 1) C dX2_pullIn_22 (by decide) ?_
    refine m_no0 (p := 1) C R (Nat.le_of_ble_eq_true rfl) ⟨Nat.le_of_ble_eq_true rfl, Nat.le_of_ble_eq_true rfl⟩ ⟨Nat.le_of_ble_eq_true rfl, Nat.le_of_ble_eq_true rfl⟩ dX2_pullIn_23 (fun μ1 R1 T1 => ?_)
    refine x_if_eq (tgt := 33) C dX2_pullIn_26 (by decide) (fun h => absurd h (by decide)) (fun _ => ?_)
    refine x_iconst (v := 0) C dX2_pullIn_29 (by decide) ?_
    refine x_goto (tgt := 39) C dX2_pullIn_30 (by decide) ?_
    exact x_iret C dX2_pullIn_39 (Nat.le_of_ble_eq_true rfl) (Nat.le_of_ble_eq_true rfl) (rP_of (if_neg (fun z => c1 z.1)) R1 T1 (fun _ => rfl))
set_option maxHeartbeats 4000000 in
theorem k2_worth {G : xG} {ad : Nat → Nat} {κ : xKp} {σ μ : xSg} {c t : xK} (hI : xIk κ) (R : xRl κ σ μ) (hW : xIw κ σ) (b sl c9 : Int32) : xM G yX2_worth (ws_ yX2_worth cX2_worth 4 (some Jvm.ClassFile.FieldType.int)) 8 300 0 0 [.ref (ad (ro 16 0)), .int b, .int sl, .int c9] ad (xj c (xkM G.2.2.1 ad μ) t) (rP G ad c t (oWorth κ σ b sl c9)) xN := by
  refine xM_of (cc := cX2_worth) (by decide) rfl (fun F hF C => ?_)
  subst hF
  have h30 := hI.2.2.2.2.1
  have h14 := hI.2.2.2.2.2
  have T : μ 29 0 0 = μ 29 0 0 := rfl
  show xX F _ _ _ 0 0 0 [(0, .ref (ad (ro 16 0))), (1, .int b), (2, .int sl), (3, .int c9)] []
  refine x_aload_n C dX2_worth_0 rfl 0 rfl ?_
  refine x_aload_n C dX2_worth_1 rfl 0 rfl ?_
  refine x_iload_n C dX2_worth_2 rfl 1 rfl ?_
  refine x_iload_n C dX2_worth_3 rfl 2 rfl ?_
  refine x_callV (rest := [.ref (ad (ro 16 0))]) C (k2_isSlot hI R b sl) cf_X2_116 ⟨rfl, hd_X2_isSlot⟩ ⟨Nat.le_of_ble_eq_true rfl, Nat.le_of_ble_eq_true rfl⟩ (xR_o xci4 rfl (xj_m (by decide) (by decide) rfl)) rfl (Nat.le_of_ble_eq_true rfl) ⟨Nat.le_of_ble_eq_true rfl, Nat.le_of_ble_eq_true rfl⟩ dX2_worth_4 (xPv_i ?_) xN_e
  refine x_case (fun c1 => ?_) (fun c1 => ?_)
  · refine x_if_eq (tgt := 22) C dX2_worth_7 (by decide) (fun h => absurd h (by decide)) (fun _ => ?_)
    refine x_aload_n C dX2_worth_10 rfl 0 rfl ?_
    refine x_iload_n C dX2_worth_11 rfl 3 rfl ?_
    refine x_callV (rest := [.ref (ad (ro 16 0))]) C (k2_isDisc hI R c9) cf_X2_128 ⟨rfl, hd_X2_isDisc⟩ ⟨Nat.le_of_ble_eq_true rfl, Nat.le_of_ble_eq_true rfl⟩ (xR_o xci4 rfl (xj_m (by decide) (by decide) rfl)) rfl (Nat.le_of_ble_eq_true rfl) ⟨Nat.le_of_ble_eq_true rfl, Nat.le_of_ble_eq_true rfl⟩ dX2_worth_12 (xPv_i ?_) xN_e
    refine x_case (fun c2 => ?_) (fun c2 => ?_)
    · obtain ⟨c1b, c1s⟩ := id c1
      obtain ⟨j, hj, rfl⟩ := xIx_nI (by omega) c1b
      have tj : (nI j).toNatClampNeg = j := nI_clamp (by omega)
      obtain ⟨s, hs, rfl⟩ := xIx_nI (by omega) c1s
      have ts : (nI s).toNatClampNeg = s := nI_clamp (by omega)
      obtain ⟨d, hd, rfl⟩ := xIx_nI (by omega) c2
      have td : (nI d).toNatClampNeg = d := nI_clamp (by omega)
      refine x_if_eq (tgt := 22) C dX2_worth_15 (by decide) (fun h => absurd h (by decide)) (fun _ => ?_)
      refine x_iconst (v := 1) C dX2_worth_18 (by decide) ?_
      refine x_goto (tgt := 23) C dX2_worth_19 (by decide) ?_
      refine x_iconst (v := 1) C dX2_worth_23 (by decide) ?_
      refine m_no1 (p := 1) C R (Nat.le_of_ble_eq_true rfl) ⟨Nat.le_of_ble_eq_true rfl, Nat.le_of_ble_eq_true rfl⟩ ⟨Nat.le_of_ble_eq_true rfl, Nat.le_of_ble_eq_true rfl⟩ dX2_worth_24 (fun μ1 R1 T1 => ?_)
      refine x_if_ne (tgt := 43) C dX2_worth_27 (by decide) (fun h => absurd rfl h) (fun _ => ?_)
      refine x_aload_n C dX2_worth_30 rfl 0 rfl ?_
      refine x_aload_n C dX2_worth_31 rfl 0 rfl ?_
      refine x_iload_n C dX2_worth_32 rfl 3 rfl ?_
      refine x_callV (rest := [.ref (ad (ro 16 0))]) C (k2_isInVan hI R1 (d := d) (by omega)) cf_X2_138 ⟨rfl, hd_X2_isInVan⟩ ⟨Nat.le_of_ble_eq_true rfl, Nat.le_of_ble_eq_true rfl⟩ (xR_o xci4 rfl (xj_m (by decide) (by decide) rfl)) rfl (Nat.le_of_ble_eq_true rfl) ⟨Nat.le_of_ble_eq_true rfl, Nat.le_of_ble_eq_true rfl⟩ dX2_worth_33 (xPv_i ?_) xN_e
      refine x_case (fun c3 => ?_) (fun c3 => ?_)
      · refine x_iconst (v := 2) C dX2_worth_36 (by decide) ?_
        refine m_no1 (p := 2) C R1 (Nat.le_of_ble_eq_true rfl) ⟨Nat.le_of_ble_eq_true rfl, Nat.le_of_ble_eq_true rfl⟩ ⟨Nat.le_of_ble_eq_true rfl, Nat.le_of_ble_eq_true rfl⟩ dX2_worth_37 (fun μ2 R2 T2 => ?_)
        refine x_if_eq (tgt := 45) C dX2_worth_40 (by decide) (fun _ => ?_) (fun h => absurd (by decide) h)
        refine x_aload_n C dX2_worth_45 rfl 0 rfl ?_
        refine x_iload_n C dX2_worth_46 rfl 1 rfl ?_
        refine x_iload_n C dX2_worth_47 rfl 3 rfl ?_
        refine x_callV (rest := []) C (k2_pullAt hI R2 (j := j) (d := d) hj hd) cf_X2_112 ⟨rfl, hd_X2_pullAt⟩ ⟨Nat.le_of_ble_eq_true rfl, Nat.le_of_ble_eq_true rfl⟩ (xR_o xci4 rfl (xj_m (by decide) (by decide) rfl)) rfl (Nat.le_of_ble_eq_true rfl) ⟨Nat.le_of_ble_eq_true rfl, Nat.le_of_ble_eq_true rfl⟩ dX2_worth_48 (xPv_i ?_) xN_e
        refine x_aload_n C dX2_worth_51 rfl 0 rfl ?_
        refine x_bipush (v := 10) C dX2_worth_52 (by decide) ?_
        refine x_iload_n C dX2_worth_54 rfl 1 rfl ?_
        refine x_imul C dX2_worth_55 ?_
        refine x_iload_n C dX2_worth_56 rfl 2 rfl ?_
        refine x_iadd C dX2_worth_57 ?_
        refine x_top (y := nI (10 * j + s)) (nI_at) ?_
        refine x_callV (rest := [.int (sDp σ d (σ 6 j 0))]) C (k2_pullOfSlot hI R2 hW (j := j) (s := s) (by omega) hs) cf_X2_131 ⟨rfl, hd_X2_pullOfSlot⟩ ⟨Nat.le_of_ble_eq_true rfl, Nat.le_of_ble_eq_true rfl⟩ (xR_o xci4 rfl (xj_m (by decide) (by decide) rfl)) rfl (Nat.le_of_ble_eq_true rfl) ⟨Nat.le_of_ble_eq_true rfl, Nat.le_of_ble_eq_true rfl⟩ dX2_worth_58 (xPv_i ?_) xN_e
        refine x_isub C dX2_worth_61 ?_
        exact x_iret C dX2_worth_62 (Nat.le_of_ble_eq_true rfl) (Nat.le_of_ble_eq_true rfl) (rP_of (by unfold oWorth; rw [if_pos ⟨c1, c2⟩, tj, ts, td]; exact if_pos c3) R2 T2 (fun _ => rfl))
      · refine x_iconst (v := 2) C dX2_worth_36 (by decide) ?_
        refine m_no0 (p := 2) C R1 (Nat.le_of_ble_eq_true rfl) ⟨Nat.le_of_ble_eq_true rfl, Nat.le_of_ble_eq_true rfl⟩ ⟨Nat.le_of_ble_eq_true rfl, Nat.le_of_ble_eq_true rfl⟩ dX2_worth_37 (fun μ2 R2 T2 => ?_)
        refine x_if_eq (tgt := 45) C dX2_worth_40 (by decide) (fun h => absurd h (by decide)) (fun _ => ?_)
        refine x_iconst (v := 0) C dX2_worth_43 (by decide) ?_
        exact x_iret C dX2_worth_44 (Nat.le_of_ble_eq_true rfl) (Nat.le_of_ble_eq_true rfl) (rP_of (by unfold oWorth; rw [if_pos ⟨c1, c2⟩, tj, ts, td]; exact if_neg c3) R2 T2 (fun _ => rfl))
    · refine x_if_eq (tgt := 22) C dX2_worth_15 (by decide) (fun _ => ?_) (fun h => absurd (by decide) h)
      refine x_iconst (v := 0) C dX2_worth_22 (by decide) ?_
      refine x_iconst (v := 1) C dX2_worth_23 (by decide) ?_
      refine m_no0 (p := 1) C R (Nat.le_of_ble_eq_true rfl) ⟨Nat.le_of_ble_eq_true rfl, Nat.le_of_ble_eq_true rfl⟩ ⟨Nat.le_of_ble_eq_true rfl, Nat.le_of_ble_eq_true rfl⟩ dX2_worth_24 (fun μ1 R1 T1 => ?_)
      refine x_if_ne (tgt := 43) C dX2_worth_27 (by decide) (fun _ => ?_) (fun h => absurd h (by decide))
      refine x_iconst (v := 0) C dX2_worth_43 (by decide) ?_
      exact x_iret C dX2_worth_44 (Nat.le_of_ble_eq_true rfl) (Nat.le_of_ble_eq_true rfl) (rP_of (if_neg (fun z => c2 z.2)) R1 T1 (fun _ => rfl))
  · refine x_if_eq (tgt := 22) C dX2_worth_7 (by decide) (fun _ => ?_) (fun h => absurd (by decide) h)
    refine x_iconst (v := 0) C dX2_worth_22 (by decide) ?_
    refine x_iconst (v := 1) C dX2_worth_23 (by decide) ?_
    refine m_no0 (p := 1) C R (Nat.le_of_ble_eq_true rfl) ⟨Nat.le_of_ble_eq_true rfl, Nat.le_of_ble_eq_true rfl⟩ ⟨Nat.le_of_ble_eq_true rfl, Nat.le_of_ble_eq_true rfl⟩ dX2_worth_24 (fun μ1 R1 T1 => ?_)
    refine x_if_ne (tgt := 43) C dX2_worth_27 (by decide) (fun _ => ?_) (fun h => absurd h (by decide))
    refine x_iconst (v := 0) C dX2_worth_43 (by decide) ?_
    exact x_iret C dX2_worth_44 (Nat.le_of_ble_eq_true rfl) (Nat.le_of_ble_eq_true rfl) (rP_of (if_neg (fun z => c1 z.1)) R1 T1 (fun _ => rfl))
set_option maxHeartbeats 4000000 in
theorem k2_change {G : xG} {ad : Nat → Nat} {κ : xKp} {σ μ : xSg} {c t : xK} (hI : xIk κ) (R : xRl κ σ μ) (hS : xIs κ σ) (hG : xIg κ σ) (b sl c9 : Int32) : xM G yX2_change (ws_ yX2_change cX2_change 6 (some Jvm.ClassFile.FieldType.int)) 8 300 0 0 [.ref (ad (ro 16 0)), .int b, .int sl, .int c9] ad (xj c (xkM G.2.2.1 ad μ) t) (rP G ad c t (oChange κ σ b sl c9)) xN := by
  refine xM_of (cc := cX2_change) (by decide) rfl (fun F hF C => ?_)
  subst hF
  have h30 := hI.2.2.2.2.1
  have h14 := hI.2.2.2.2.2
  have T : μ 29 0 0 = μ 29 0 0 := rfl
  show xX F _ _ _ 0 0 0 [(0, .ref (ad (ro 16 0))), (1, .int b), (2, .int sl), (3, .int c9)] []
  refine x_aload_n C dX2_change_0 rfl 0 rfl ?_
  refine x_aload_n C dX2_change_1 rfl 0 rfl ?_
  refine x_iload_n C dX2_change_2 rfl 1 rfl ?_
  refine x_iload_n C dX2_change_3 rfl 2 rfl ?_
  refine x_callV (rest := [.ref (ad (ro 16 0))]) C (k2_isSlot hI R b sl) cf_X2_116 ⟨rfl, hd_X2_isSlot⟩ ⟨Nat.le_of_ble_eq_true rfl, Nat.le_of_ble_eq_true rfl⟩ (xR_o xci4 rfl (xj_m (by decide) (by decide) rfl)) rfl (Nat.le_of_ble_eq_true rfl) ⟨Nat.le_of_ble_eq_true rfl, Nat.le_of_ble_eq_true rfl⟩ dX2_change_4 (xPv_i ?_) xN_e
  refine x_case (fun c1 => ?_) (fun c1 => ?_)
  · refine x_if_eq (tgt := 27) C dX2_change_7 (by decide) (fun h => absurd h (by decide)) (fun _ => ?_)
    refine x_iload_n C dX2_change_10 rfl 3 rfl ?_
    refine x_iconst (v := -1) C dX2_change_11 (by decide) ?_
    refine x_icmp_eq (tgt := 23) C dX2_change_12 (by decide) (fun c2 => ?_) (fun c2 => ?_)
    · obtain rfl := c2
      obtain ⟨c1b, c1s⟩ := id c1
      obtain ⟨j, hj, rfl⟩ := xIx_nI (by omega) c1b
      have tj : (nI j).toNatClampNeg = j := nI_clamp (by omega)
      obtain ⟨s, hs, rfl⟩ := xIx_nI (by omega) c1s
      have ts : (nI s).toNatClampNeg = s := nI_clamp (by omega)
      refine x_iconst (v := 1) C dX2_change_23 (by decide) ?_
      refine x_goto (tgt := 28) C dX2_change_24 (by decide) ?_
      refine x_iconst (v := 1) C dX2_change_28 (by decide) ?_
      refine m_no1 (p := 1) C R (Nat.le_of_ble_eq_true rfl) ⟨Nat.le_of_ble_eq_true rfl, Nat.le_of_ble_eq_true rfl⟩ ⟨Nat.le_of_ble_eq_true rfl, Nat.le_of_ble_eq_true rfl⟩ dX2_change_29 (fun μ1 R1 T1 => ?_)
      refine x_if_eq (tgt := 37) C dX2_change_32 (by decide) (fun _ => ?_) (fun h => absurd (by decide) h)
      refine x_aload_n C dX2_change_37 rfl 0 rfl ?_
      refine x_aload_n C dX2_change_38 rfl 0 rfl ?_
      refine x_get C fl_X2_62 (r := ro 16 0) rfl (xj_m (by decide) (by decide) rfl) (v := .ref (ad (ro 17 18))) rfl dX2_change_39 ?_
      refine x_iload_n C dX2_change_42 rfl 1 rfl ?_
      refine m_zld C R1 (f := 18) (f' := 15) (i := j) (by decide) rfl rfl rfl (show j < 4 by omega) (by decide) dX2_change_43 ?_
      refine x_if_eq (tgt := 73) C dX2_change_44 (by decide) (fun c4 => ?_) (fun c4 => ?_)
      · refine x_iconst (v := 0) C dX2_change_73 (by decide) ?_
        refine x_iconst (v := 2) C dX2_change_74 (by decide) ?_
        refine m_no0 (p := 2) C R1 (Nat.le_of_ble_eq_true rfl) ⟨Nat.le_of_ble_eq_true rfl, Nat.le_of_ble_eq_true rfl⟩ ⟨Nat.le_of_ble_eq_true rfl, Nat.le_of_ble_eq_true rfl⟩ dX2_change_75 (fun μ2 R2 T2 => ?_)
        refine x_if_eq (tgt := 83) C dX2_change_78 (by decide) (fun h => absurd h (by decide)) (fun _ => ?_)
        refine x_iconst (v := 0) C dX2_change_81 (by decide) ?_
        exact x_iret C dX2_change_82 (Nat.le_of_ble_eq_true rfl) (Nat.le_of_ble_eq_true rfl) (rP_of (by unfold oChange; rw [if_pos ⟨c1, Or.inl rfl⟩, tj, ts]; exact if_neg (fun z => z.1.1 c4)) R2 T2 (fun _ => rfl))
      · refine x_iload_n C dX2_change_47 rfl 3 rfl ?_
        refine x_iconst (v := -1) C dX2_change_48 (by decide) ?_
        refine x_icmp_eq (tgt := 60) C dX2_change_49 (by decide) (fun _ => ?_) (fun h => absurd (by decide) h)
        refine x_aload_n C dX2_change_60 rfl 0 rfl ?_
        refine x_get C fl_X2_84 (r := ro 16 0) rfl (xj_m (by decide) (by decide) rfl) (v := .int (μ1 27 0 0)) rfl dX2_change_61 ?_
        refine x_top (y := σ 22 0 0) (R1.1 (27, 22) (by decide) 0) ?_
        refine x_bipush (v := 10) C dX2_change_64 (by decide) ?_
        refine x_icmp_lt (tgt := 73) C dX2_change_66 (by decide) (fun c6 => ?_) (fun c6 => ?_)
        · refine x_iconst (v := 0) C dX2_change_73 (by decide) ?_
          refine x_iconst (v := 2) C dX2_change_74 (by decide) ?_
          refine m_no0 (p := 2) C R1 (Nat.le_of_ble_eq_true rfl) ⟨Nat.le_of_ble_eq_true rfl, Nat.le_of_ble_eq_true rfl⟩ ⟨Nat.le_of_ble_eq_true rfl, Nat.le_of_ble_eq_true rfl⟩ dX2_change_75 (fun μ2 R2 T2 => ?_)
          refine x_if_eq (tgt := 83) C dX2_change_78 (by decide) (fun h => absurd h (by decide)) (fun _ => ?_)
          refine x_iconst (v := 0) C dX2_change_81 (by decide) ?_
          exact x_iret C dX2_change_82 (Nat.le_of_ble_eq_true rfl) (Nat.le_of_ble_eq_true rfl) (rP_of (by unfold oChange; rw [if_pos ⟨c1, Or.inl rfl⟩, tj, ts]; exact if_neg (fun z => z.2 c6)) R2 T2 (fun _ => rfl))
        · refine x_iconst (v := 1) C dX2_change_69 (by decide) ?_
          refine x_goto (tgt := 74) C dX2_change_70 (by decide) ?_
          refine x_iconst (v := 2) C dX2_change_74 (by decide) ?_
          refine m_no1 (p := 2) C R1 (Nat.le_of_ble_eq_true rfl) ⟨Nat.le_of_ble_eq_true rfl, Nat.le_of_ble_eq_true rfl⟩ ⟨Nat.le_of_ble_eq_true rfl, Nat.le_of_ble_eq_true rfl⟩ dX2_change_75 (fun μ2 R2 T2 => ?_)
          refine x_if_eq (tgt := 83) C dX2_change_78 (by decide) (fun _ => ?_) (fun h => absurd (by decide) h)
          refine x_bipush (v := 10) C dX2_change_83 (by decide) ?_
          refine x_iload_n C dX2_change_85 rfl 1 rfl ?_
          refine x_imul C dX2_change_86 ?_
          refine x_iload_n C dX2_change_87 rfl 2 rfl ?_
          refine x_iadd C dX2_change_88 ?_
          refine x_top (y := nI (10 * j + s)) (nI_at) ?_
          refine x_istore (lv' := [(4, .int (nI (10 * j + s))), (0, .ref (ad (ro 16 0))), (1, .int (nI j)), (2, .int (nI s)), (3, .int ((-1)))]) C dX2_change_89 (by decide) rfl ?_
          refine x_aload_n C dX2_change_91 rfl 1 rfl ?_
          refine x_get C fl_X2_65 (r := ro 16 0) rfl (xj_m (by decide) (by decide) rfl) (v := .ref (ad (ro 17 20))) rfl dX2_change_92 ?_
          refine x_iload C dX2_change_95 0 rfl ?_
          refine m_ld20 C R2 (j := j) (s := s) rfl (by omega) (by omega) dX2_change_97 ?_
          refine x_iconst (v := 1) C dX2_change_98 (by decide) ?_
          refine x_isub C dX2_change_99 ?_
          refine x_top (y := σ 17 j s) (i_asc) ?_
          refine x_istore (lv' := [(5, .int (σ 17 j s)), (4, .int (nI (10 * j + s))), (0, .ref (ad (ro 16 0))), (1, .int (nI j)), (2, .int (nI s)), (3, .int ((-1)))]) C dX2_change_100 (by decide) rfl ?_
          refine x_aload_n C dX2_change_102 rfl 2 rfl ?_
          refine x_dup C dX2_change_103 rfl ?_
          refine x_get C fl_X2_84 (r := ro 16 0) rfl (xj_m (by decide) (by decide) rfl) (v := .int (μ2 27 0 0)) rfl dX2_change_104 ?_
          refine x_top (y := σ 22 0 0) (R2.1 (27, 22) (by decide) 0) ?_
          refine x_bipush (v := 10) C dX2_change_107 (by decide) ?_
          refine x_isub C dX2_change_109 ?_
          refine x_put C fl_X2_84 (r := ro 16 0) rfl (xj_m (by decide) (by decide) rfl) rfl rfl (Nat.le_of_ble_eq_true rfl) dX2_change_110 ?_
          refine m_put (f := 27) (f' := 22) (by decide) (by decide) pm_27 R2 T2 (fun μ3 R3 T3 => ?_)
          refine x_iload C dX2_change_113 0 rfl ?_
          refine x_if_lt (tgt := 126) C dX2_change_115 (by decide) (fun c7 => ?_) (fun c7 => ?_)
          · have e17 : σ 17 j s = -1 := (hS j hj s hs).resolve_right (fun ⟨d9, hd9, e9⟩ => absurd c7 (by rw [e9]; exact nI_not_neg (by omega)))
            have e8 : sC1 σ j s = xup σ 22 0 0 (σ 22 0 0 - 10) := by unfold sC1; rw [if_pos e17]
            refine x_aload_n C dX2_change_126 rfl 2 rfl ?_
            refine x_get C fl_X2_65 (r := ro 16 0) rfl (xj_m (by decide) (by decide) rfl) (v := .ref (ad (ro 17 20))) rfl dX2_change_127 ?_
            refine x_iload C dX2_change_130 1 rfl ?_
            refine x_iload_n C dX2_change_132 rfl 5 rfl ?_
            refine x_iconst (v := 1) C dX2_change_133 (by decide) ?_
            refine x_iadd C dX2_change_134 ?_
            refine m_st20 C R3 T3 (j := j) (s := s) (w := (-1)) rfl (by omega) (by omega) rfl dX2_change_135 (fun μ4 R4 T4 => ?_)
            refine x_aload_n C dX2_change_136 rfl 2 rfl ?_
            refine x_get C fl_X2_68 (r := ro 16 0) rfl (xj_m (by decide) (by decide) rfl) (v := .ref (ad (ro 17 21))) rfl dX2_change_137 ?_
            refine x_iload C dX2_change_140 1 rfl ?_
            refine x_iconst (v := 0) C dX2_change_142 (by decide) ?_
            refine m_st21 C R4 T4 (j := j) (s := s) (w := 0) rfl (by omega) (by omega) rfl dX2_change_143 (fun μ5 R5 T5 => ?_)
            refine x_iload_n C dX2_change_144 rfl 5 rfl ?_
            refine x_if_lt (tgt := 173) C dX2_change_145 (by decide) (fun _ => ?_) (fun h => absurd (by decide) h)
            refine x_iload C dX2_change_173 0 rfl ?_
            have eC : sCh σ j s (-1) = (xup (xup (xup σ 22 0 0 ((σ 22 0 0) - 10)) 17 j s ((-1))) 18 j s 0) := by unfold sCh sC2; rw [if_pos rfl, e8]
            exact x_iret C dX2_change_175 (Nat.le_of_ble_eq_true rfl) (Nat.le_of_ble_eq_true rfl) (rP_of (by unfold oChange; rw [if_pos ⟨c1, Or.inl rfl⟩, tj, ts]; rw [if_pos ⟨⟨c4, Or.inl rfl⟩, c6⟩, eC]) R5 T5 (fun _ => rfl))
          · obtain ⟨d9, hd9, e17⟩ := (hS j hj s hs).resolve_left (fun e9 => c7 (by rw [e9]; decide))
            refine x_aload_n C dX2_change_118 rfl 2 rfl ?_
            refine x_get C fl_X2_22 (r := ro 16 0) rfl (xj_m (by decide) (by decide) rfl) (v := .ref (ad (ro 17 4))) rfl dX2_change_119 ?_
            refine x_iload C dX2_change_122 0 rfl ?_
            refine x_top (y := nI d9) (e17) ?_
            have e8 : sC1 σ j s = xup (xup σ 22 0 0 (σ 22 0 0 - 10)) 4 d9 0 (-1) := by unfold sC1; rw [if_neg (by rw [e17]; exact nI_ne1 (by omega)), e17, nI_clamp (by omega)]
            refine x_iconst (v := -1) C dX2_change_124 (by decide) ?_
            refine m_st C R3 T3 (f := 4) (f' := 4) (i := d9) (by decide) rfl rfl rfl (show d9 < 30 by omega) (by decide) dX2_change_125 (fun μ4 R4 T4 => ?_)
            refine x_aload_n C dX2_change_126 rfl 2 rfl ?_
            refine x_get C fl_X2_65 (r := ro 16 0) rfl (xj_m (by decide) (by decide) rfl) (v := .ref (ad (ro 17 20))) rfl dX2_change_127 ?_
            refine x_iload C dX2_change_130 1 rfl ?_
            refine x_iload_n C dX2_change_132 rfl 5 rfl ?_
            refine x_iconst (v := 1) C dX2_change_133 (by decide) ?_
            refine x_iadd C dX2_change_134 ?_
            refine m_st20 C R4 T4 (j := j) (s := s) (w := (-1)) rfl (by omega) (by omega) rfl dX2_change_135 (fun μ5 R5 T5 => ?_)
            refine x_aload_n C dX2_change_136 rfl 2 rfl ?_
            refine x_get C fl_X2_68 (r := ro 16 0) rfl (xj_m (by decide) (by decide) rfl) (v := .ref (ad (ro 17 21))) rfl dX2_change_137 ?_
            refine x_iload C dX2_change_140 1 rfl ?_
            refine x_iconst (v := 0) C dX2_change_142 (by decide) ?_
            refine m_st21 C R5 T5 (j := j) (s := s) (w := 0) rfl (by omega) (by omega) rfl dX2_change_143 (fun μ6 R6 T6 => ?_)
            refine x_iload_n C dX2_change_144 rfl 5 rfl ?_
            refine x_if_lt (tgt := 173) C dX2_change_145 (by decide) (fun _ => ?_) (fun h => absurd (by decide) h)
            refine x_iload C dX2_change_173 0 rfl ?_
            have eC : sCh σ j s (-1) = (xup (xup (xup (xup σ 22 0 0 ((σ 22 0 0) - 10)) 4 d9 0 ((-1))) 17 j s ((-1))) 18 j s 0) := by unfold sCh sC2; rw [if_pos rfl, e8]
            exact x_iret C dX2_change_175 (Nat.le_of_ble_eq_true rfl) (Nat.le_of_ble_eq_true rfl) (rP_of (by unfold oChange; rw [if_pos ⟨c1, Or.inl rfl⟩, tj, ts]; rw [if_pos ⟨⟨c4, Or.inl rfl⟩, c6⟩, eC]) R6 T6 (fun _ => rfl))
    · refine x_aload_n C dX2_change_15 rfl 0 rfl ?_
      refine x_iload_n C dX2_change_16 rfl 3 rfl ?_
      refine x_callV (rest := [.ref (ad (ro 16 0))]) C (k2_isDisc hI R c9) cf_X2_128 ⟨rfl, hd_X2_isDisc⟩ ⟨Nat.le_of_ble_eq_true rfl, Nat.le_of_ble_eq_true rfl⟩ (xR_o xci4 rfl (xj_m (by decide) (by decide) rfl)) rfl (Nat.le_of_ble_eq_true rfl) ⟨Nat.le_of_ble_eq_true rfl, Nat.le_of_ble_eq_true rfl⟩ dX2_change_17 (xPv_i ?_) xN_e
      refine x_case (fun c3 => ?_) (fun c3 => ?_)
      · obtain ⟨c1b, c1s⟩ := id c1
        obtain ⟨j, hj, rfl⟩ := xIx_nI (by omega) c1b
        have tj : (nI j).toNatClampNeg = j := nI_clamp (by omega)
        obtain ⟨s, hs, rfl⟩ := xIx_nI (by omega) c1s
        have ts : (nI s).toNatClampNeg = s := nI_clamp (by omega)
        obtain ⟨d, hd, rfl⟩ := xIx_nI (by omega) c3
        have td : (nI d).toNatClampNeg = d := nI_clamp (by omega)
        refine x_if_eq (tgt := 27) C dX2_change_20 (by decide) (fun h => absurd h (by decide)) (fun _ => ?_)
        refine x_iconst (v := 1) C dX2_change_23 (by decide) ?_
        refine x_goto (tgt := 28) C dX2_change_24 (by decide) ?_
        refine x_iconst (v := 1) C dX2_change_28 (by decide) ?_
        refine m_no1 (p := 1) C R (Nat.le_of_ble_eq_true rfl) ⟨Nat.le_of_ble_eq_true rfl, Nat.le_of_ble_eq_true rfl⟩ ⟨Nat.le_of_ble_eq_true rfl, Nat.le_of_ble_eq_true rfl⟩ dX2_change_29 (fun μ1 R1 T1 => ?_)
        refine x_if_eq (tgt := 37) C dX2_change_32 (by decide) (fun _ => ?_) (fun h => absurd (by decide) h)
        refine x_aload_n C dX2_change_37 rfl 0 rfl ?_
        refine x_aload_n C dX2_change_38 rfl 0 rfl ?_
        refine x_get C fl_X2_62 (r := ro 16 0) rfl (xj_m (by decide) (by decide) rfl) (v := .ref (ad (ro 17 18))) rfl dX2_change_39 ?_
        refine x_iload_n C dX2_change_42 rfl 1 rfl ?_
        refine m_zld C R1 (f := 18) (f' := 15) (i := j) (by decide) rfl rfl rfl (show j < 4 by omega) (by decide) dX2_change_43 ?_
        refine x_if_eq (tgt := 73) C dX2_change_44 (by decide) (fun c4 => ?_) (fun c4 => ?_)
        · refine x_iconst (v := 0) C dX2_change_73 (by decide) ?_
          refine x_iconst (v := 2) C dX2_change_74 (by decide) ?_
          refine m_no0 (p := 2) C R1 (Nat.le_of_ble_eq_true rfl) ⟨Nat.le_of_ble_eq_true rfl, Nat.le_of_ble_eq_true rfl⟩ ⟨Nat.le_of_ble_eq_true rfl, Nat.le_of_ble_eq_true rfl⟩ dX2_change_75 (fun μ2 R2 T2 => ?_)
          refine x_if_eq (tgt := 83) C dX2_change_78 (by decide) (fun h => absurd h (by decide)) (fun _ => ?_)
          refine x_iconst (v := 0) C dX2_change_81 (by decide) ?_
          exact x_iret C dX2_change_82 (Nat.le_of_ble_eq_true rfl) (Nat.le_of_ble_eq_true rfl) (rP_of (by unfold oChange; rw [if_pos ⟨c1, Or.inr c3⟩, tj, ts, td]; exact if_neg (fun z => z.1.1 c4)) R2 T2 (fun _ => rfl))
        · refine x_iload_n C dX2_change_47 rfl 3 rfl ?_
          refine x_iconst (v := -1) C dX2_change_48 (by decide) ?_
          refine x_icmp_eq (tgt := 60) C dX2_change_49 (by decide) (fun h => absurd h (nI_ne1 (by omega))) (fun _ => ?_)
          refine x_aload_n C dX2_change_52 rfl 0 rfl ?_
          refine x_iload_n C dX2_change_53 rfl 3 rfl ?_
          refine x_callV (rest := [.ref (ad (ro 16 0))]) C (k2_isInVan hI R1 (d := d) (by omega)) cf_X2_138 ⟨rfl, hd_X2_isInVan⟩ ⟨Nat.le_of_ble_eq_true rfl, Nat.le_of_ble_eq_true rfl⟩ (xR_o xci4 rfl (xj_m (by decide) (by decide) rfl)) rfl (Nat.le_of_ble_eq_true rfl) ⟨Nat.le_of_ble_eq_true rfl, Nat.le_of_ble_eq_true rfl⟩ dX2_change_54 (xPv_i ?_) xN_e
          refine x_case (fun c5 => ?_) (fun c5 => ?_)
          · refine x_if_eq (tgt := 73) C dX2_change_57 (by decide) (fun h => absurd h (by decide)) (fun _ => ?_)
            refine x_aload_n C dX2_change_60 rfl 0 rfl ?_
            refine x_get C fl_X2_84 (r := ro 16 0) rfl (xj_m (by decide) (by decide) rfl) (v := .int (μ1 27 0 0)) rfl dX2_change_61 ?_
            refine x_top (y := σ 22 0 0) (R1.1 (27, 22) (by decide) 0) ?_
            refine x_bipush (v := 10) C dX2_change_64 (by decide) ?_
            refine x_icmp_lt (tgt := 73) C dX2_change_66 (by decide) (fun c6 => ?_) (fun c6 => ?_)
            · refine x_iconst (v := 0) C dX2_change_73 (by decide) ?_
              refine x_iconst (v := 2) C dX2_change_74 (by decide) ?_
              refine m_no0 (p := 2) C R1 (Nat.le_of_ble_eq_true rfl) ⟨Nat.le_of_ble_eq_true rfl, Nat.le_of_ble_eq_true rfl⟩ ⟨Nat.le_of_ble_eq_true rfl, Nat.le_of_ble_eq_true rfl⟩ dX2_change_75 (fun μ2 R2 T2 => ?_)
              refine x_if_eq (tgt := 83) C dX2_change_78 (by decide) (fun h => absurd h (by decide)) (fun _ => ?_)
              refine x_iconst (v := 0) C dX2_change_81 (by decide) ?_
              exact x_iret C dX2_change_82 (Nat.le_of_ble_eq_true rfl) (Nat.le_of_ble_eq_true rfl) (rP_of (by unfold oChange; rw [if_pos ⟨c1, Or.inr c3⟩, tj, ts, td]; exact if_neg (fun z => z.2 c6)) R2 T2 (fun _ => rfl))
            · refine x_iconst (v := 1) C dX2_change_69 (by decide) ?_
              refine x_goto (tgt := 74) C dX2_change_70 (by decide) ?_
              refine x_iconst (v := 2) C dX2_change_74 (by decide) ?_
              refine m_no1 (p := 2) C R1 (Nat.le_of_ble_eq_true rfl) ⟨Nat.le_of_ble_eq_true rfl, Nat.le_of_ble_eq_true rfl⟩ ⟨Nat.le_of_ble_eq_true rfl, Nat.le_of_ble_eq_true rfl⟩ dX2_change_75 (fun μ2 R2 T2 => ?_)
              refine x_if_eq (tgt := 83) C dX2_change_78 (by decide) (fun _ => ?_) (fun h => absurd (by decide) h)
              refine x_bipush (v := 10) C dX2_change_83 (by decide) ?_
              refine x_iload_n C dX2_change_85 rfl 1 rfl ?_
              refine x_imul C dX2_change_86 ?_
              refine x_iload_n C dX2_change_87 rfl 2 rfl ?_
              refine x_iadd C dX2_change_88 ?_
              refine x_top (y := nI (10 * j + s)) (nI_at) ?_
              refine x_istore (lv' := [(4, .int (nI (10 * j + s))), (0, .ref (ad (ro 16 0))), (1, .int (nI j)), (2, .int (nI s)), (3, .int (nI d))]) C dX2_change_89 (by decide) rfl ?_
              refine x_aload_n C dX2_change_91 rfl 1 rfl ?_
              refine x_get C fl_X2_65 (r := ro 16 0) rfl (xj_m (by decide) (by decide) rfl) (v := .ref (ad (ro 17 20))) rfl dX2_change_92 ?_
              refine x_iload C dX2_change_95 0 rfl ?_
              refine m_ld20 C R2 (j := j) (s := s) rfl (by omega) (by omega) dX2_change_97 ?_
              refine x_iconst (v := 1) C dX2_change_98 (by decide) ?_
              refine x_isub C dX2_change_99 ?_
              refine x_top (y := σ 17 j s) (i_asc) ?_
              refine x_istore (lv' := [(5, .int (σ 17 j s)), (4, .int (nI (10 * j + s))), (0, .ref (ad (ro 16 0))), (1, .int (nI j)), (2, .int (nI s)), (3, .int (nI d))]) C dX2_change_100 (by decide) rfl ?_
              refine x_aload_n C dX2_change_102 rfl 2 rfl ?_
              refine x_dup C dX2_change_103 rfl ?_
              refine x_get C fl_X2_84 (r := ro 16 0) rfl (xj_m (by decide) (by decide) rfl) (v := .int (μ2 27 0 0)) rfl dX2_change_104 ?_
              refine x_top (y := σ 22 0 0) (R2.1 (27, 22) (by decide) 0) ?_
              refine x_bipush (v := 10) C dX2_change_107 (by decide) ?_
              refine x_isub C dX2_change_109 ?_
              refine x_put C fl_X2_84 (r := ro 16 0) rfl (xj_m (by decide) (by decide) rfl) rfl rfl (Nat.le_of_ble_eq_true rfl) dX2_change_110 ?_
              refine m_put (f := 27) (f' := 22) (by decide) (by decide) pm_27 R2 T2 (fun μ3 R3 T3 => ?_)
              refine x_iload C dX2_change_113 0 rfl ?_
              refine x_if_lt (tgt := 126) C dX2_change_115 (by decide) (fun c7 => ?_) (fun c7 => ?_)
              · have e17 : σ 17 j s = -1 := (hS j hj s hs).resolve_right (fun ⟨d9, hd9, e9⟩ => absurd c7 (by rw [e9]; exact nI_not_neg (by omega)))
                have e8 : sC1 σ j s = xup σ 22 0 0 (σ 22 0 0 - 10) := by unfold sC1; rw [if_pos e17]
                refine x_aload_n C dX2_change_126 rfl 2 rfl ?_
                refine x_get C fl_X2_65 (r := ro 16 0) rfl (xj_m (by decide) (by decide) rfl) (v := .ref (ad (ro 17 20))) rfl dX2_change_127 ?_
                refine x_iload C dX2_change_130 1 rfl ?_
                refine x_iload_n C dX2_change_132 rfl 5 rfl ?_
                refine x_iconst (v := 1) C dX2_change_133 (by decide) ?_
                refine x_iadd C dX2_change_134 ?_
                refine m_st20 C R3 T3 (j := j) (s := s) (w := nI d) rfl (by omega) (by omega) rfl dX2_change_135 (fun μ4 R4 T4 => ?_)
                refine x_aload_n C dX2_change_136 rfl 2 rfl ?_
                refine x_get C fl_X2_68 (r := ro 16 0) rfl (xj_m (by decide) (by decide) rfl) (v := .ref (ad (ro 17 21))) rfl dX2_change_137 ?_
                refine x_iload C dX2_change_140 1 rfl ?_
                refine x_iconst (v := 0) C dX2_change_142 (by decide) ?_
                refine m_st21 C R4 T4 (j := j) (s := s) (w := 0) rfl (by omega) (by omega) rfl dX2_change_143 (fun μ5 R5 T5 => ?_)
                refine x_iload_n C dX2_change_144 rfl 5 rfl ?_
                refine x_if_lt (tgt := 173) C dX2_change_145 (by decide) (fun h => absurd h (nI_not_neg (by omega))) (fun _ => ?_)
                obtain ⟨q9, hq9, e0⟩ := hG d hd
                refine x_aload_n C dX2_change_148 rfl 2 rfl ?_
                refine x_get C fl_X2_22 (r := ro 16 0) rfl (xj_m (by decide) (by decide) rfl) (v := .ref (ad (ro 17 4))) rfl dX2_change_149 ?_
                refine x_iload_n C dX2_change_152 rfl 5 rfl ?_
                refine x_iload C dX2_change_153 1 rfl ?_
                refine m_st C R5 T5 (f := 4) (f' := 4) (i := d) (by decide) rfl rfl rfl (show d < 30 by omega) (by decide) dX2_change_155 (fun μ6 R6 T6 => ?_)
                refine x_aload_n C dX2_change_156 rfl 2 rfl ?_
                refine x_get C fl_X2_71 (r := ro 16 0) rfl (xj_m (by decide) (by decide) rfl) (v := .ref (ad (ro 17 22))) rfl dX2_change_157 ?_
                refine x_bipush (v := 100) C dX2_change_160 (by decide) ?_
                refine x_iload_n C dX2_change_162 rfl 3 rfl ?_
                refine x_imul C dX2_change_163 ?_
                refine x_aload_n C dX2_change_164 rfl 2 rfl ?_
                refine x_get C fl_X2_7 (r := ro 16 0) rfl (xj_m (by decide) (by decide) rfl) (v := .ref (ad (ro 17 0))) rfl dX2_change_165 ?_
                refine x_iload_n C dX2_change_168 rfl 5 rfl ?_
                refine m_ld C R6 (f := 0) (f' := 0) (i := d) (by decide) rfl rfl rfl (show d < 30 by omega) (by decide) dX2_change_169 ?_
                refine x_top (y := σ 0 d 0) (by first | exact xup_s | simp [xup]) ?_
                refine x_top (y := nI q9) (e0) ?_
                refine x_iadd C dX2_change_170 ?_
                refine x_top (y := nI (100 * j + q9)) (nI_at100) ?_
                refine x_iconst (v := 0) C dX2_change_171 (by decide) ?_
                refine m_st22 C R6 T6 (j := j) (s := q9) (w := 0) rfl (by omega) hq9 rfl dX2_change_172 (fun μ7 R7 T7 => ?_)
                refine x_iload C dX2_change_173 0 rfl ?_
                have eC : sCh σ j s (nI d) = (xup (xup (xup (xup (xup σ 22 0 0 ((σ 22 0 0) - 10)) 17 j s (nI d)) 18 j s 0) 4 d 0 (nI (10 * j + s))) 19 j q9 0) := by unfold sCh sC2; rw [if_neg (nI_ne1 (by omega)), nI_clamp (by omega), e0, nI_clamp (by omega), e8]
                exact x_iret C dX2_change_175 (Nat.le_of_ble_eq_true rfl) (Nat.le_of_ble_eq_true rfl) (rP_of (by unfold oChange; rw [if_pos ⟨c1, Or.inr c3⟩, tj, ts, td]; rw [if_pos ⟨⟨c4, Or.inr c5⟩, c6⟩, eC]) R7 T7 (fun _ => rfl))
              · obtain ⟨d9, hd9, e17⟩ := (hS j hj s hs).resolve_left (fun e9 => c7 (by rw [e9]; decide))
                refine x_aload_n C dX2_change_118 rfl 2 rfl ?_
                refine x_get C fl_X2_22 (r := ro 16 0) rfl (xj_m (by decide) (by decide) rfl) (v := .ref (ad (ro 17 4))) rfl dX2_change_119 ?_
                refine x_iload C dX2_change_122 0 rfl ?_
                refine x_top (y := nI d9) (e17) ?_
                have e8 : sC1 σ j s = xup (xup σ 22 0 0 (σ 22 0 0 - 10)) 4 d9 0 (-1) := by unfold sC1; rw [if_neg (by rw [e17]; exact nI_ne1 (by omega)), e17, nI_clamp (by omega)]
                refine x_iconst (v := -1) C dX2_change_124 (by decide) ?_
                refine m_st C R3 T3 (f := 4) (f' := 4) (i := d9) (by decide) rfl rfl rfl (show d9 < 30 by omega) (by decide) dX2_change_125 (fun μ4 R4 T4 => ?_)
                refine x_aload_n C dX2_change_126 rfl 2 rfl ?_
                refine x_get C fl_X2_65 (r := ro 16 0) rfl (xj_m (by decide) (by decide) rfl) (v := .ref (ad (ro 17 20))) rfl dX2_change_127 ?_
                refine x_iload C dX2_change_130 1 rfl ?_
                refine x_iload_n C dX2_change_132 rfl 5 rfl ?_
                refine x_iconst (v := 1) C dX2_change_133 (by decide) ?_
                refine x_iadd C dX2_change_134 ?_
                refine m_st20 C R4 T4 (j := j) (s := s) (w := nI d) rfl (by omega) (by omega) rfl dX2_change_135 (fun μ5 R5 T5 => ?_)
                refine x_aload_n C dX2_change_136 rfl 2 rfl ?_
                refine x_get C fl_X2_68 (r := ro 16 0) rfl (xj_m (by decide) (by decide) rfl) (v := .ref (ad (ro 17 21))) rfl dX2_change_137 ?_
                refine x_iload C dX2_change_140 1 rfl ?_
                refine x_iconst (v := 0) C dX2_change_142 (by decide) ?_
                refine m_st21 C R5 T5 (j := j) (s := s) (w := 0) rfl (by omega) (by omega) rfl dX2_change_143 (fun μ6 R6 T6 => ?_)
                refine x_iload_n C dX2_change_144 rfl 5 rfl ?_
                refine x_if_lt (tgt := 173) C dX2_change_145 (by decide) (fun h => absurd h (nI_not_neg (by omega))) (fun _ => ?_)
                obtain ⟨q9, hq9, e0⟩ := hG d hd
                refine x_aload_n C dX2_change_148 rfl 2 rfl ?_
                refine x_get C fl_X2_22 (r := ro 16 0) rfl (xj_m (by decide) (by decide) rfl) (v := .ref (ad (ro 17 4))) rfl dX2_change_149 ?_
                refine x_iload_n C dX2_change_152 rfl 5 rfl ?_
                refine x_iload C dX2_change_153 1 rfl ?_
                refine m_st C R6 T6 (f := 4) (f' := 4) (i := d) (by decide) rfl rfl rfl (show d < 30 by omega) (by decide) dX2_change_155 (fun μ7 R7 T7 => ?_)
                refine x_aload_n C dX2_change_156 rfl 2 rfl ?_
                refine x_get C fl_X2_71 (r := ro 16 0) rfl (xj_m (by decide) (by decide) rfl) (v := .ref (ad (ro 17 22))) rfl dX2_change_157 ?_
                refine x_bipush (v := 100) C dX2_change_160 (by decide) ?_
                refine x_iload_n C dX2_change_162 rfl 3 rfl ?_
                refine x_imul C dX2_change_163 ?_
                refine x_aload_n C dX2_change_164 rfl 2 rfl ?_
                refine x_get C fl_X2_7 (r := ro 16 0) rfl (xj_m (by decide) (by decide) rfl) (v := .ref (ad (ro 17 0))) rfl dX2_change_165 ?_
                refine x_iload_n C dX2_change_168 rfl 5 rfl ?_
                refine m_ld C R7 (f := 0) (f' := 0) (i := d) (by decide) rfl rfl rfl (show d < 30 by omega) (by decide) dX2_change_169 ?_
                refine x_top (y := σ 0 d 0) (by first | exact xup_s | simp [xup]) ?_
                refine x_top (y := nI q9) (e0) ?_
                refine x_iadd C dX2_change_170 ?_
                refine x_top (y := nI (100 * j + q9)) (nI_at100) ?_
                refine x_iconst (v := 0) C dX2_change_171 (by decide) ?_
                refine m_st22 C R7 T7 (j := j) (s := q9) (w := 0) rfl (by omega) hq9 rfl dX2_change_172 (fun μ8 R8 T8 => ?_)
                refine x_iload C dX2_change_173 0 rfl ?_
                have eC : sCh σ j s (nI d) = (xup (xup (xup (xup (xup (xup σ 22 0 0 ((σ 22 0 0) - 10)) 4 d9 0 ((-1))) 17 j s (nI d)) 18 j s 0) 4 d 0 (nI (10 * j + s))) 19 j q9 0) := by unfold sCh sC2; rw [if_neg (nI_ne1 (by omega)), nI_clamp (by omega), e0, nI_clamp (by omega), e8]
                exact x_iret C dX2_change_175 (Nat.le_of_ble_eq_true rfl) (Nat.le_of_ble_eq_true rfl) (rP_of (by unfold oChange; rw [if_pos ⟨c1, Or.inr c3⟩, tj, ts, td]; rw [if_pos ⟨⟨c4, Or.inr c5⟩, c6⟩, eC]) R8 T8 (fun _ => rfl))
          · refine x_if_eq (tgt := 73) C dX2_change_57 (by decide) (fun _ => ?_) (fun h => absurd (by decide) h)
            refine x_iconst (v := 0) C dX2_change_73 (by decide) ?_
            refine x_iconst (v := 2) C dX2_change_74 (by decide) ?_
            refine m_no0 (p := 2) C R1 (Nat.le_of_ble_eq_true rfl) ⟨Nat.le_of_ble_eq_true rfl, Nat.le_of_ble_eq_true rfl⟩ ⟨Nat.le_of_ble_eq_true rfl, Nat.le_of_ble_eq_true rfl⟩ dX2_change_75 (fun μ2 R2 T2 => ?_)
            refine x_if_eq (tgt := 83) C dX2_change_78 (by decide) (fun h => absurd h (by decide)) (fun _ => ?_)
            refine x_iconst (v := 0) C dX2_change_81 (by decide) ?_
            exact x_iret C dX2_change_82 (Nat.le_of_ble_eq_true rfl) (Nat.le_of_ble_eq_true rfl) (rP_of (by unfold oChange; rw [if_pos ⟨c1, Or.inr c3⟩, tj, ts, td]; exact if_neg (fun z => z.1.2.elim (nI_ne1 (by omega)) c5)) R2 T2 (fun _ => rfl))
      · refine x_if_eq (tgt := 27) C dX2_change_20 (by decide) (fun _ => ?_) (fun h => absurd (by decide) h)
        refine x_iconst (v := 0) C dX2_change_27 (by decide) ?_
        refine x_iconst (v := 1) C dX2_change_28 (by decide) ?_
        refine m_no0 (p := 1) C R (Nat.le_of_ble_eq_true rfl) ⟨Nat.le_of_ble_eq_true rfl, Nat.le_of_ble_eq_true rfl⟩ ⟨Nat.le_of_ble_eq_true rfl, Nat.le_of_ble_eq_true rfl⟩ dX2_change_29 (fun μ1 R1 T1 => ?_)
        refine x_if_eq (tgt := 37) C dX2_change_32 (by decide) (fun h => absurd h (by decide)) (fun _ => ?_)
        refine x_iconst (v := 0) C dX2_change_35 (by decide) ?_
        exact x_iret C dX2_change_36 (Nat.le_of_ble_eq_true rfl) (Nat.le_of_ble_eq_true rfl) (rP_of (if_neg (fun z => z.2.elim c2 c3)) R1 T1 (fun _ => rfl))
  · refine x_if_eq (tgt := 27) C dX2_change_7 (by decide) (fun _ => ?_) (fun h => absurd (by decide) h)
    refine x_iconst (v := 0) C dX2_change_27 (by decide) ?_
    refine x_iconst (v := 1) C dX2_change_28 (by decide) ?_
    refine m_no0 (p := 1) C R (Nat.le_of_ble_eq_true rfl) ⟨Nat.le_of_ble_eq_true rfl, Nat.le_of_ble_eq_true rfl⟩ ⟨Nat.le_of_ble_eq_true rfl, Nat.le_of_ble_eq_true rfl⟩ dX2_change_29 (fun μ1 R1 T1 => ?_)
    refine x_if_eq (tgt := 37) C dX2_change_32 (by decide) (fun h => absurd h (by decide)) (fun _ => ?_)
    refine x_iconst (v := 0) C dX2_change_35 (by decide) ?_
    exact x_iret C dX2_change_36 (Nat.le_of_ble_eq_true rfl) (Nat.le_of_ble_eq_true rfl) (rP_of (if_neg (fun z => c1 z.1)) R1 T1 (fun _ => rfl))
