/-! ===== THE REFERENCE: mostAsked, least, figures ===== -/
theorem nI_slW {κ : xKp} {σ : xSg} (hW : xIw κ σ) (h30 : κ 0 ≤ 30) {j s : Nat} (hs : s < 10) : σ 17 j s + 1 ≤ 0 ↔ σ 17 j s = -1 := by
  rcases hW j s hs with e | ⟨-, d, hd, e⟩
  · rw [e]; decide
  · rw [e, show nI d + 1 = nI (d + 1) from nI_add d 1]
    refine ⟨fun h => ?_, fun h => absurd h (nI_ne1 (by omega))⟩
    rw [Int32.le_iff_toInt_le, nI_toInt (by omega)] at h
    have h0 : (0 : Int32).toInt = 0 := rfl
    omega
set_option maxHeartbeats 4000000 in
theorem k2_mostAsked {G : xG} {ad : Nat → Nat} {κ : xKp} {σ μ : xSg} {c t : xK} (hI : xIk κ) (R : xRl κ σ μ) (b : Int32) : xM G yX2_mostAsked (ws_ yX2_mostAsked cX2_mostAsked 4 (some Jvm.ClassFile.FieldType.int)) 8 300 0 0 [.ref (ad (ro 16 0)), .int b] ad (xj c (xkM G.2.2.1 ad μ) t) (rP G ad c t (oMost κ σ b)) xN := by
  refine xM_of (cc := cX2_mostAsked) (by decide) rfl (fun F hF C => ?_)
  subst hF
  have h30 := hI.2.2.2.2.1
  have h14 := hI.2.2.2.2.2
  have T : μ 29 0 0 = μ 29 0 0 := rfl
  show xX F _ _ _ 0 0 0 [(0, .ref (ad (ro 16 0))), (1, .int b)] []
  refine x_aload_n C dX2_mostAsked_0 rfl 0 rfl ?_
  refine x_aload_n C dX2_mostAsked_1 rfl 0 rfl ?_
  refine x_iload_n C dX2_mostAsked_2 rfl 1 rfl ?_
  refine x_callV (rest := [.ref (ad (ro 16 0))]) C (k2_isBox hI R b) cf_X2_100 ⟨rfl, hd_X2_isBox⟩ ⟨Nat.le_of_ble_eq_true rfl, Nat.le_of_ble_eq_true rfl⟩ (xR_o xci4 rfl (xj_m (by decide) (by decide) rfl)) rfl (Nat.le_of_ble_eq_true rfl) ⟨Nat.le_of_ble_eq_true rfl, Nat.le_of_ble_eq_true rfl⟩ dX2_mostAsked_3 (xPv_i ?_) xN_e
  refine x_case (fun c1 => ?_) (fun c1 => ?_)
  · obtain ⟨j, hj, rfl⟩ := xIx_nI (by omega) c1
    have tj : (nI j).toNatClampNeg = j := nI_clamp (by omega)
    refine x_iconst (v := 1) C dX2_mostAsked_6 (by decide) ?_
    refine m_no1 (p := 1) C R (Nat.le_of_ble_eq_true rfl) ⟨Nat.le_of_ble_eq_true rfl, Nat.le_of_ble_eq_true rfl⟩ ⟨Nat.le_of_ble_eq_true rfl, Nat.le_of_ble_eq_true rfl⟩ dX2_mostAsked_7 (fun μ1 R1 T1 => ?_)
    refine x_if_eq (tgt := 15) C dX2_mostAsked_10 (by decide) (fun _ => ?_) (fun h => absurd (by decide) h)
    refine x_iconst (v := 0) C dX2_mostAsked_15 (by decide) ?_
    refine x_istore_n (lv' := [(2, .int 0), (0, .ref (ad (ro 16 0))), (1, .int (nI j))]) C dX2_mostAsked_16 rfl (by decide) rfl ?_
    refine x_bipush (v := 99) C dX2_mostAsked_17 (by decide) ?_
    refine x_istore_n (lv' := [(3, .int 99), (2, .int 0), (0, .ref (ad (ro 16 0))), (1, .int (nI j))]) C dX2_mostAsked_19 rfl (by decide) rfl ?_
    have loop : ∀ (r i : Nat), r + i = 100 → xX F (xQ F (rP F.1 ad c t (oMost κ σ (nI j))) xN 0 0) ad (xj c (xkM F.1.2.2.1 ad μ1) t) 0 0 20 [(3, .int (nI r + (-1))), (2, .int (nI (sMr (fun q => σ 19 j q) i))), (0, .ref (ad (ro 16 0))), (1, .int (nI j))] [] := by
      intro r
      induction r with
      | zero =>
        intro i hi
        obtain rfl : i = 100 := by omega
        rw [sMr_eq]
        have hb := sMo_lt (σ := σ) (j := j) 100 (Nat.le_refl _)
        generalize eb : sMo σ j 100 = b at *
        refine x_iload_n C dX2_mostAsked_20 rfl 0 rfl ?_
        refine x_if_lt (tgt := 61) C dX2_mostAsked_21 (by decide) (fun _ => ?_) (fun h => absurd (by decide) h)
        refine x_aload_n C dX2_mostAsked_61 rfl 2 rfl ?_
        refine x_aload_n C dX2_mostAsked_62 rfl 2 rfl ?_
        refine x_get C fl_X2_71 (r := ro 16 0) rfl (xj_m (by decide) (by decide) rfl) (v := .ref (ad (ro 17 22))) rfl dX2_mostAsked_63 ?_
        refine x_bipush (v := 100) C dX2_mostAsked_66 (by decide) ?_
        refine x_iload_n C dX2_mostAsked_68 rfl 3 rfl ?_
        refine x_imul C dX2_mostAsked_69 ?_
        refine x_iload_n C dX2_mostAsked_70 rfl 1 rfl ?_
        refine x_iadd C dX2_mostAsked_71 ?_
        refine x_top (y := nI (100 * j + b)) (nI_at100) ?_
        refine m_ld22 C R1 (j := j) (q := b) rfl (by omega) hb dX2_mostAsked_72 ?_
        refine x_if_le (tgt := 80) C dX2_mostAsked_73 (by decide) (fun c2 => ?_) (fun c2 => ?_)
        · refine x_iconst (v := 0) C dX2_mostAsked_80 (by decide) ?_
          refine x_iconst (v := 2) C dX2_mostAsked_81 (by decide) ?_
          refine m_no0 (p := 2) C R1 (Nat.le_of_ble_eq_true rfl) ⟨Nat.le_of_ble_eq_true rfl, Nat.le_of_ble_eq_true rfl⟩ ⟨Nat.le_of_ble_eq_true rfl, Nat.le_of_ble_eq_true rfl⟩ dX2_mostAsked_82 (fun μ2 R2 T2 => ?_)
          refine x_if_eq (tgt := 92) C dX2_mostAsked_85 (by decide) (fun h => absurd h (by decide)) (fun _ => ?_)
          refine x_iconst (v := 0) C dX2_mostAsked_88 (by decide) ?_
          refine x_goto (tgt := 93) C dX2_mostAsked_89 (by decide) ?_
          exact x_iret C dX2_mostAsked_93 (Nat.le_of_ble_eq_true rfl) (Nat.le_of_ble_eq_true rfl) (rP_of (by unfold oMost; rw [if_pos c1, tj, eb]; exact if_neg (Int32.not_lt.mpr c2)) R2 T2 (fun _ => rfl))
        · refine x_iconst (v := 1) C dX2_mostAsked_76 (by decide) ?_
          refine x_goto (tgt := 81) C dX2_mostAsked_77 (by decide) ?_
          refine x_iconst (v := 2) C dX2_mostAsked_81 (by decide) ?_
          refine m_no1 (p := 2) C R1 (Nat.le_of_ble_eq_true rfl) ⟨Nat.le_of_ble_eq_true rfl, Nat.le_of_ble_eq_true rfl⟩ ⟨Nat.le_of_ble_eq_true rfl, Nat.le_of_ble_eq_true rfl⟩ dX2_mostAsked_82 (fun μ2 R2 T2 => ?_)
          refine x_if_eq (tgt := 92) C dX2_mostAsked_85 (by decide) (fun _ => ?_) (fun h => absurd (by decide) h)
          refine x_iload_n C dX2_mostAsked_92 rfl 1 rfl ?_
          exact x_iret C dX2_mostAsked_93 (Nat.le_of_ble_eq_true rfl) (Nat.le_of_ble_eq_true rfl) (rP_of (by unfold oMost; rw [if_pos c1, tj, eb]; exact if_pos (Int32.not_le.mp c2)) R2 T2 (fun _ => rfl))
      | succ r ih =>
        intro i hi
        rw [show nI (r + 1) + (-1) = nI r from nI_neg1]
        have hb : sMr (fun q => σ 19 j q) i < 100 := sMr_lt (by omega)
        have ed : sMr (fun q => σ 19 j q) (i + 1) = if σ 19 j (sMr (fun q => σ 19 j q) i) ≤ σ 19 j (99 - i) then 99 - i else sMr (fun q => σ 19 j q) i := rfl
        rw [show 99 - i = r by omega] at ed
        have IH := ih (i + 1) (by omega)
        rw [ed] at IH
        generalize sMr (fun q => σ 19 j q) i = b at *
        refine x_iload_n C dX2_mostAsked_20 rfl 0 rfl ?_
        refine x_if_lt (tgt := 61) C dX2_mostAsked_21 (by decide) (fun h => absurd h (nI_not_neg (by omega))) (fun _ => ?_)
        refine x_aload_n C dX2_mostAsked_24 rfl 2 rfl ?_
        refine x_get C fl_X2_71 (r := ro 16 0) rfl (xj_m (by decide) (by decide) rfl) (v := .ref (ad (ro 17 22))) rfl dX2_mostAsked_25 ?_
        refine x_bipush (v := 100) C dX2_mostAsked_28 (by decide) ?_
        refine x_iload_n C dX2_mostAsked_30 rfl 3 rfl ?_
        refine x_imul C dX2_mostAsked_31 ?_
        refine x_iload_n C dX2_mostAsked_32 rfl 0 rfl ?_
        refine x_iadd C dX2_mostAsked_33 ?_
        refine x_top (y := nI (100 * j + r)) (nI_at100) ?_
        refine m_ld22 C R1 (j := j) (q := r) rfl (by omega) (by omega) dX2_mostAsked_34 ?_
        refine x_aload_n C dX2_mostAsked_35 rfl 2 rfl ?_
        refine x_get C fl_X2_71 (r := ro 16 0) rfl (xj_m (by decide) (by decide) rfl) (v := .ref (ad (ro 17 22))) rfl dX2_mostAsked_36 ?_
        refine x_bipush (v := 100) C dX2_mostAsked_39 (by decide) ?_
        refine x_iload_n C dX2_mostAsked_41 rfl 3 rfl ?_
        refine x_imul C dX2_mostAsked_42 ?_
        refine x_iload_n C dX2_mostAsked_43 rfl 1 rfl ?_
        refine x_iadd C dX2_mostAsked_44 ?_
        refine x_top (y := nI (100 * j + b)) (nI_at100) ?_
        refine m_ld22 C R1 (j := j) (q := b) rfl (by omega) hb dX2_mostAsked_45 ?_
        refine x_icmp_lt (tgt := 53) C dX2_mostAsked_46 (by decide) (fun c2 => ?_) (fun c2 => ?_)
        · refine x_iload_n C dX2_mostAsked_53 rfl 1 rfl ?_
          refine x_istore_n (lv' := [(2, .int (nI b)), (3, .int (nI r)), (0, .ref (ad (ro 16 0))), (1, .int (nI j))]) C dX2_mostAsked_54 rfl (by decide) rfl ?_
          refine x_iinc (k := 1) (v := nI r + (-1)) (lv' := [(3, .int (nI r + (-1))), (2, .int (nI b)), (0, .ref (ad (ro 16 0))), (1, .int (nI j))]) C dX2_mostAsked_55 rfl rfl (by decide) rfl ?_
          refine x_goto (tgt := 20) C dX2_mostAsked_58 (by decide) ?_
          refine x_lv (lv' := [(3, .int (nI r + (-1))), (2, .int (nI b)), (0, .ref (ad (ro 16 0))), (1, .int (nI j))]) [0, 1, 2, 3] rfl ?_
          rw [if_neg (Int32.not_le.mpr c2)] at IH
          exact IH
        · refine x_iload_n C dX2_mostAsked_49 rfl 0 rfl ?_
          refine x_goto (tgt := 54) C dX2_mostAsked_50 (by decide) ?_
          refine x_istore_n (lv' := [(2, .int (nI r)), (3, .int (nI r)), (0, .ref (ad (ro 16 0))), (1, .int (nI j))]) C dX2_mostAsked_54 rfl (by decide) rfl ?_
          refine x_iinc (k := 1) (v := nI r + (-1)) (lv' := [(3, .int (nI r + (-1))), (2, .int (nI r)), (0, .ref (ad (ro 16 0))), (1, .int (nI j))]) C dX2_mostAsked_55 rfl rfl (by decide) rfl ?_
          refine x_goto (tgt := 20) C dX2_mostAsked_58 (by decide) ?_
          refine x_lv (lv' := [(3, .int (nI r + (-1))), (2, .int (nI r)), (0, .ref (ad (ro 16 0))), (1, .int (nI j))]) [0, 1, 2, 3] rfl ?_
          rw [if_pos (Int32.not_lt.mp c2)] at IH
          exact IH
    refine x_lv (lv' := [(3, .int 99), (2, .int 0), (0, .ref (ad (ro 16 0))), (1, .int (nI j))]) [0, 1, 2, 3] rfl ?_
    exact loop 100 0 (by omega)
  · refine x_iconst (v := 1) C dX2_mostAsked_6 (by decide) ?_
    refine m_no0 (p := 1) C R (Nat.le_of_ble_eq_true rfl) ⟨Nat.le_of_ble_eq_true rfl, Nat.le_of_ble_eq_true rfl⟩ ⟨Nat.le_of_ble_eq_true rfl, Nat.le_of_ble_eq_true rfl⟩ dX2_mostAsked_7 (fun μ1 R1 T1 => ?_)
    refine x_if_eq (tgt := 15) C dX2_mostAsked_10 (by decide) (fun h => absurd h (by decide)) (fun _ => ?_)
    refine x_iconst (v := 0) C dX2_mostAsked_13 (by decide) ?_
    exact x_iret C dX2_mostAsked_14 (Nat.le_of_ble_eq_true rfl) (Nat.le_of_ble_eq_true rfl) (rP_of (if_neg c1) R1 T1 (fun _ => rfl))
set_option maxHeartbeats 4000000 in
theorem k2_least {G : xG} {ad : Nat → Nat} {κ : xKp} {σ μ : xSg} {c t : xK} (hI : xIk κ) (R : xRl κ σ μ) (hS : xIs κ σ) (b : Int32) : xM G yX2_least (ws_ yX2_least cX2_least 5 (some Jvm.ClassFile.FieldType.int)) 8 300 0 0 [.ref (ad (ro 16 0)), .int b] ad (xj c (xkM G.2.2.1 ad μ) t) (rP G ad c t (oLeast κ σ b)) xN := by
  refine xM_of (cc := cX2_least) (by decide) rfl (fun F hF C => ?_)
  subst hF
  have h30 := hI.2.2.2.2.1
  have h14 := hI.2.2.2.2.2
  have T : μ 29 0 0 = μ 29 0 0 := rfl
  show xX F _ _ _ 0 0 0 [(0, .ref (ad (ro 16 0))), (1, .int b)] []
  refine x_aload_n C dX2_least_0 rfl 0 rfl ?_
  refine x_aload_n C dX2_least_1 rfl 0 rfl ?_
  refine x_iload_n C dX2_least_2 rfl 1 rfl ?_
  refine x_callV (rest := [.ref (ad (ro 16 0))]) C (k2_isBox hI R b) cf_X2_100 ⟨rfl, hd_X2_isBox⟩ ⟨Nat.le_of_ble_eq_true rfl, Nat.le_of_ble_eq_true rfl⟩ (xR_o xci4 rfl (xj_m (by decide) (by decide) rfl)) rfl (Nat.le_of_ble_eq_true rfl) ⟨Nat.le_of_ble_eq_true rfl, Nat.le_of_ble_eq_true rfl⟩ dX2_least_3 (xPv_i ?_) xN_e
  refine x_case (fun c1 => ?_) (fun c1 => ?_)
  · obtain ⟨j, hj, rfl⟩ := xIx_nI (by omega) c1
    have tj : (nI j).toNatClampNeg = j := nI_clamp (by omega)
    refine x_iconst (v := 1) C dX2_least_6 (by decide) ?_
    refine m_no1 (p := 1) C R (Nat.le_of_ble_eq_true rfl) ⟨Nat.le_of_ble_eq_true rfl, Nat.le_of_ble_eq_true rfl⟩ ⟨Nat.le_of_ble_eq_true rfl, Nat.le_of_ble_eq_true rfl⟩ dX2_least_7 (fun μ1 R1 T1 => ?_)
    refine x_if_eq (tgt := 15) C dX2_least_10 (by decide) (fun _ => ?_) (fun h => absurd (by decide) h)
    refine x_iconst (v := -1) C dX2_least_15 (by decide) ?_
    refine x_istore_n (lv' := [(2, .int ((-1))), (0, .ref (ad (ro 16 0))), (1, .int (nI j))]) C dX2_least_16 rfl (by decide) rfl ?_
    refine x_bipush (v := 9) C dX2_least_17 (by decide) ?_
    refine x_istore_n (lv' := [(3, .int 9), (2, .int ((-1))), (0, .ref (ad (ro 16 0))), (1, .int (nI j))]) C dX2_least_19 rfl (by decide) rfl ?_
    have loop : ∀ (r i : Nat), r + i = 10 → xX F (xQ F (rP F.1 ad c t (oLeast κ σ (nI j))) xN 0 0) ad (xj c (xkM F.1.2.2.1 ad μ1) t) 0 0 20 [(3, .int (nI r + (-1))), (2, .int (oI (sLr σ j i))), (0, .ref (ad (ro 16 0))), (1, .int (nI j))] [] := by
      intro r
      induction r with
      | zero =>
        intro i hi
        obtain rfl : i = 10 := by omega
        rw [sLr_eq]
        refine x_iload_n C dX2_least_20 rfl 0 rfl ?_
        refine x_if_lt (tgt := 91) C dX2_least_21 (by decide) (fun _ => ?_) (fun h => absurd (by decide) h)
        cases eL : sLe σ j 10 with
        | none =>
          show xX F _ _ _ _ _ _ [(3, .int (nI 0 + (-1))), (2, .int ((-1))), (0, .ref (ad (ro 16 0))), (1, .int (nI j))] []
          refine x_aload_n C dX2_least_91 rfl 2 rfl ?_
          refine x_iload_n C dX2_least_92 rfl 1 rfl ?_
          refine x_if_lt (tgt := 100) C dX2_least_93 (by decide) (fun _ => ?_) (fun h => absurd (by decide) h)
          refine x_iconst (v := 0) C dX2_least_100 (by decide) ?_
          refine x_iconst (v := 2) C dX2_least_101 (by decide) ?_
          refine m_no0 (p := 2) C R1 (Nat.le_of_ble_eq_true rfl) ⟨Nat.le_of_ble_eq_true rfl, Nat.le_of_ble_eq_true rfl⟩ ⟨Nat.le_of_ble_eq_true rfl, Nat.le_of_ble_eq_true rfl⟩ dX2_least_102 (fun μ2 R2 T2 => ?_)
          refine x_if_eq (tgt := 112) C dX2_least_105 (by decide) (fun h => absurd h (by decide)) (fun _ => ?_)
          refine x_iconst (v := 0) C dX2_least_108 (by decide) ?_
          refine x_goto (tgt := 113) C dX2_least_109 (by decide) ?_
          exact x_iret C dX2_least_113 (Nat.le_of_ble_eq_true rfl) (Nat.le_of_ble_eq_true rfl) (rP_of (by unfold oLeast; rw [if_pos c1, tj, eL]) R2 T2 (fun _ => rfl))
        | some b =>
          have hb := sLe_lt eL
          show xX F _ _ _ _ _ _ [(3, .int (nI 0 + (-1))), (2, .int (nI b)), (0, .ref (ad (ro 16 0))), (1, .int (nI j))] []
          refine x_aload_n C dX2_least_91 rfl 2 rfl ?_
          refine x_iload_n C dX2_least_92 rfl 1 rfl ?_
          refine x_if_lt (tgt := 100) C dX2_least_93 (by decide) (fun h => absurd h (nI_not_neg (by omega))) (fun _ => ?_)
          refine x_iconst (v := 1) C dX2_least_96 (by decide) ?_
          refine x_goto (tgt := 101) C dX2_least_97 (by decide) ?_
          refine x_iconst (v := 2) C dX2_least_101 (by decide) ?_
          refine m_no1 (p := 2) C R1 (Nat.le_of_ble_eq_true rfl) ⟨Nat.le_of_ble_eq_true rfl, Nat.le_of_ble_eq_true rfl⟩ ⟨Nat.le_of_ble_eq_true rfl, Nat.le_of_ble_eq_true rfl⟩ dX2_least_102 (fun μ2 R2 T2 => ?_)
          refine x_if_eq (tgt := 112) C dX2_least_105 (by decide) (fun _ => ?_) (fun h => absurd (by decide) h)
          refine x_iload_n C dX2_least_112 rfl 1 rfl ?_
          exact x_iret C dX2_least_113 (Nat.le_of_ble_eq_true rfl) (Nat.le_of_ble_eq_true rfl) (rP_of (by unfold oLeast; rw [if_pos c1, tj, eL]) R2 T2 (fun _ => rfl))
      | succ r ih =>
        intro i hi
        rw [show nI (r + 1) + (-1) = nI r from nI_neg1]
        have ed : sLr σ j (i + 1) = if ¬ σ 17 j (9 - i) = -1 ∧ (∀ b, sLr σ j i = some b → σ 18 j (9 - i) ≤ σ 18 j b) then some (9 - i) else sLr σ j i := rfl
        rw [show 9 - i = r by omega] at ed
        have IH := ih (i + 1) (by omega)
        rw [ed] at IH
        have hsl := nI_sl hS h30 hj (show r < 10 by omega)
        have hinv := sLr_inv (σ := σ) (j := j) i (by omega)
        refine x_iload_n C dX2_least_20 rfl 0 rfl ?_
        refine x_if_lt (tgt := 91) C dX2_least_21 (by decide) (fun h => absurd h (nI_not_neg (by omega))) (fun _ => ?_)
        refine x_aload_n C dX2_least_24 rfl 2 rfl ?_
        refine x_get C fl_X2_65 (r := ro 16 0) rfl (xj_m (by decide) (by decide) rfl) (v := .ref (ad (ro 17 20))) rfl dX2_least_25 ?_
        refine x_bipush (v := 10) C dX2_least_28 (by decide) ?_
        refine x_iload_n C dX2_least_30 rfl 3 rfl ?_
        refine x_imul C dX2_least_31 ?_
        refine x_iload_n C dX2_least_32 rfl 0 rfl ?_
        refine x_iadd C dX2_least_33 ?_
        refine x_top (y := nI (10 * j + r)) (nI_at) ?_
        refine m_ld20 C R1 (j := j) (s := r) rfl (by omega) (by omega) dX2_least_34 ?_
        refine x_if_le (tgt := 42) C dX2_least_35 (by decide) (fun c2 => ?_) (fun c2 => ?_)
        · refine x_iconst (v := 0) C dX2_least_42 (by decide) ?_
          refine x_istore (lv' := [(4, .int 0), (3, .int (nI r)), (2, .int (oI (sLr σ j i))), (0, .ref (ad (ro 16 0))), (1, .int (nI j))]) C dX2_least_43 (by decide) rfl ?_
          refine x_iload C dX2_least_45 0 rfl ?_
          refine x_if_eq (tgt := 83) C dX2_least_47 (by decide) (fun _ => ?_) (fun h => absurd (by decide) h)
          refine x_iload_n C dX2_least_83 rfl 2 rfl ?_
          refine x_istore_n (lv' := [(2, .int (oI (sLr σ j i))), (4, .int 0), (3, .int (nI r)), (0, .ref (ad (ro 16 0))), (1, .int (nI j))]) C dX2_least_84 rfl (by decide) rfl ?_
          refine x_iinc (k := 2) (v := nI r + (-1)) (lv' := [(3, .int (nI r + (-1))), (2, .int (oI (sLr σ j i))), (4, .int 0), (0, .ref (ad (ro 16 0))), (1, .int (nI j))]) C dX2_least_85 rfl rfl (by decide) rfl ?_
          refine x_goto (tgt := 20) C dX2_least_88 (by decide) ?_
          refine x_lv (lv' := [(3, .int (nI r + (-1))), (2, .int (oI (sLr σ j i))), (0, .ref (ad (ro 16 0))), (1, .int (nI j))]) [0, 1, 3, 4] rfl ?_
          rw [if_neg (fun z => z.1 (hsl.mp c2))] at IH
          exact IH
        · have n17 : ¬ σ 17 j r = -1 := fun e => c2 (hsl.mpr e)
          refine x_iconst (v := 1) C dX2_least_38 (by decide) ?_
          refine x_goto (tgt := 43) C dX2_least_39 (by decide) ?_
          refine x_istore (lv' := [(4, .int 1), (3, .int (nI r)), (2, .int (oI (sLr σ j i))), (0, .ref (ad (ro 16 0))), (1, .int (nI j))]) C dX2_least_43 (by decide) rfl ?_
          refine x_iload C dX2_least_45 0 rfl ?_
          refine x_if_eq (tgt := 83) C dX2_least_47 (by decide) (fun h => absurd h (by decide)) (fun _ => ?_)
          cases eL : sLr σ j i with
          | none =>
            rw [eL] at IH
            show xX F _ _ _ _ _ _ [(4, .int 1), (3, .int (nI r)), (2, .int ((-1))), (0, .ref (ad (ro 16 0))), (1, .int (nI j))] []
            refine x_iload_n C dX2_least_50 rfl 2 rfl ?_
            refine x_if_lt (tgt := 79) C dX2_least_51 (by decide) (fun _ => ?_) (fun h => absurd (by decide) h)
            refine x_iload_n C dX2_least_79 rfl 1 rfl ?_
            refine x_goto (tgt := 84) C dX2_least_80 (by decide) ?_
            refine x_istore_n (lv' := [(2, .int (nI r)), (4, .int 1), (3, .int (nI r)), (0, .ref (ad (ro 16 0))), (1, .int (nI j))]) C dX2_least_84 rfl (by decide) rfl ?_
            refine x_iinc (k := 2) (v := nI r + (-1)) (lv' := [(3, .int (nI r + (-1))), (2, .int (nI r)), (4, .int 1), (0, .ref (ad (ro 16 0))), (1, .int (nI j))]) C dX2_least_85 rfl rfl (by decide) rfl ?_
            refine x_goto (tgt := 20) C dX2_least_88 (by decide) ?_
            refine x_lv (lv' := [(3, .int (nI r + (-1))), (2, .int (nI r)), (0, .ref (ad (ro 16 0))), (1, .int (nI j))]) [0, 1, 3, 4] rfl ?_
            rw [if_pos ⟨n17, fun b hb => by cases hb⟩] at IH
            exact IH
          | some b =>
            rw [eL] at IH hinv
            have hb : b < 10 := hinv.2.1
            show xX F _ _ _ _ _ _ [(4, .int 1), (3, .int (nI r)), (2, .int (nI b)), (0, .ref (ad (ro 16 0))), (1, .int (nI j))] []
            refine x_iload_n C dX2_least_50 rfl 2 rfl ?_
            refine x_if_lt (tgt := 79) C dX2_least_51 (by decide) (fun h => absurd h (nI_not_neg (by omega))) (fun _ => ?_)
            refine x_aload_n C dX2_least_54 rfl 3 rfl ?_
            refine x_get C fl_X2_68 (r := ro 16 0) rfl (xj_m (by decide) (by decide) rfl) (v := .ref (ad (ro 17 21))) rfl dX2_least_55 ?_
            refine x_bipush (v := 10) C dX2_least_58 (by decide) ?_
            refine x_iload_n C dX2_least_60 rfl 4 rfl ?_
            refine x_imul C dX2_least_61 ?_
            refine x_iload_n C dX2_least_62 rfl 1 rfl ?_
            refine x_iadd C dX2_least_63 ?_
            refine x_top (y := nI (10 * j + r)) (nI_at) ?_
            refine m_ld21 C R1 (j := j) (s := r) rfl (by omega) (by omega) dX2_least_64 ?_
            refine x_aload_n C dX2_least_65 rfl 3 rfl ?_
            refine x_get C fl_X2_68 (r := ro 16 0) rfl (xj_m (by decide) (by decide) rfl) (v := .ref (ad (ro 17 21))) rfl dX2_least_66 ?_
            refine x_bipush (v := 10) C dX2_least_69 (by decide) ?_
            refine x_iload_n C dX2_least_71 rfl 4 rfl ?_
            refine x_imul C dX2_least_72 ?_
            refine x_iload_n C dX2_least_73 rfl 2 rfl ?_
            refine x_iadd C dX2_least_74 ?_
            refine x_top (y := nI (10 * j + b)) (nI_at) ?_
            refine m_ld21 C R1 (j := j) (s := b) rfl (by omega) (by omega) dX2_least_75 ?_
            refine x_icmp_gt (tgt := 83) C dX2_least_76 (by decide) (fun c3 => ?_) (fun c3 => ?_)
            · refine x_iload_n C dX2_least_83 rfl 2 rfl ?_
              refine x_istore_n (lv' := [(2, .int (nI b)), (4, .int 1), (3, .int (nI r)), (0, .ref (ad (ro 16 0))), (1, .int (nI j))]) C dX2_least_84 rfl (by decide) rfl ?_
              refine x_iinc (k := 2) (v := nI r + (-1)) (lv' := [(3, .int (nI r + (-1))), (2, .int (nI b)), (4, .int 1), (0, .ref (ad (ro 16 0))), (1, .int (nI j))]) C dX2_least_85 rfl rfl (by decide) rfl ?_
              refine x_goto (tgt := 20) C dX2_least_88 (by decide) ?_
              refine x_lv (lv' := [(3, .int (nI r + (-1))), (2, .int (nI b)), (0, .ref (ad (ro 16 0))), (1, .int (nI j))]) [0, 1, 3, 4] rfl ?_
              rw [if_neg (fun z => absurd (z.2 b rfl) (Int32.not_le.mpr c3))] at IH
              exact IH
            · refine x_iload_n C dX2_least_79 rfl 1 rfl ?_
              refine x_goto (tgt := 84) C dX2_least_80 (by decide) ?_
              refine x_istore_n (lv' := [(2, .int (nI r)), (4, .int 1), (3, .int (nI r)), (0, .ref (ad (ro 16 0))), (1, .int (nI j))]) C dX2_least_84 rfl (by decide) rfl ?_
              refine x_iinc (k := 2) (v := nI r + (-1)) (lv' := [(3, .int (nI r + (-1))), (2, .int (nI r)), (4, .int 1), (0, .ref (ad (ro 16 0))), (1, .int (nI j))]) C dX2_least_85 rfl rfl (by decide) rfl ?_
              refine x_goto (tgt := 20) C dX2_least_88 (by decide) ?_
              refine x_lv (lv' := [(3, .int (nI r + (-1))), (2, .int (nI r)), (0, .ref (ad (ro 16 0))), (1, .int (nI j))]) [0, 1, 3, 4] rfl ?_
              rw [if_pos ⟨n17, fun b9 hb9 => by cases hb9; exact Int32.not_lt.mp c3⟩] at IH
              exact IH
    refine x_lv (lv' := [(3, .int 9), (2, .int ((-1))), (0, .ref (ad (ro 16 0))), (1, .int (nI j))]) [0, 1, 2, 3] rfl ?_
    exact loop 10 0 (by omega)
  · refine x_iconst (v := 1) C dX2_least_6 (by decide) ?_
    refine m_no0 (p := 1) C R (Nat.le_of_ble_eq_true rfl) ⟨Nat.le_of_ble_eq_true rfl, Nat.le_of_ble_eq_true rfl⟩ ⟨Nat.le_of_ble_eq_true rfl, Nat.le_of_ble_eq_true rfl⟩ dX2_least_7 (fun μ1 R1 T1 => ?_)
    refine x_if_eq (tgt := 15) C dX2_least_10 (by decide) (fun h => absurd h (by decide)) (fun _ => ?_)
    refine x_iconst (v := 0) C dX2_least_13 (by decide) ?_
    exact x_iret C dX2_least_14 (Nat.le_of_ble_eq_true rfl) (Nat.le_of_ble_eq_true rfl) (rP_of (if_neg c1) R1 T1 (fun _ => rfl))
theorem sMp_all {κ : xKp} {σ : xSg} (hW : xIw κ σ) : ∀ n, sMp σ (10 * κ 1 + n) = sMp σ (10 * κ 1) ∧ sMa σ (10 * κ 1 + n) = sMa σ (10 * κ 1)
  | 0 => ⟨rfl, rfl⟩
  | n + 1 => by
    obtain ⟨h1, h2⟩ := sMp_all hW n
    have e : σ 17 ((10 * κ 1 + n) / 10) ((10 * κ 1 + n) % 10) = -1 := by
      rcases hW ((10 * κ 1 + n) / 10) ((10 * κ 1 + n) % 10) (by omega) with e | ⟨h, -⟩
      · exact e
      · omega
    refine ⟨?_, ?_⟩
    · show sMp σ (10 * κ 1 + n) + sPo σ ((10 * κ 1 + n) / 10) ((10 * κ 1 + n) % 10) = _
      unfold sPo
      rw [if_pos e, Int32.add_zero, h1]
    · show sMa σ (10 * κ 1 + n) + (if σ 17 ((10 * κ 1 + n) / 10) ((10 * κ 1 + n) % 10) = -1 then 0 else 1) = _
      rw [if_pos e, Int32.add_zero, h2]
def rPx (G : xG) (ad : Nat → Nat) (c t : xK) (κ : xKp) (σ : xSg) (P : Prop) [Decidable P] (V : Value → Prop) : Option Value → (Nat → Nat) → xCt → Prop := fun v ad' ct' => ad' = ad ∧ ∃ μ', ct' = xj c (xkM G.2.2.1 ad μ') t ∧ xRl κ σ μ' ∧ μ' 29 0 0 = (if P then 0 else 1) ∧ ∃ b, v = some b ∧ (P → V b)
set_option maxHeartbeats 4000000 in
theorem k2_wornShare {G : xG} {ad : Nat → Nat} {κ : xKp} {σ μ : xSg} {c t : xK} (hI : xIk κ) (R : xRl κ σ μ)  : xM G yX2_wornShare (ws_ yX2_wornShare cX2_wornShare 4 (some Jvm.ClassFile.FieldType.float)) 8 300 0 0 [.ref (ad (ro 16 0))] ad (xj c (xkM G.2.2.1 ad μ) t) (rPx G ad c t κ σ (0 < sAl σ (κ 0)) (fun b => b = .float (FP.fdiv (FP.i2f (sWo σ (κ 0))) (FP.i2f (sAl σ (κ 0)))))) xN := by
  refine xM_of (cc := cX2_wornShare) (by decide) rfl (fun F hF C => ?_)
  subst hF
  have h30 := hI.2.2.2.2.1
  have h14 := hI.2.2.2.2.2
  have T : μ 29 0 0 = μ 29 0 0 := rfl
  show xX F _ _ _ 0 0 0 [(0, .ref (ad (ro 16 0)))] []
  refine x_iconst (v := 0) C dX2_wornShare_0 (by decide) ?_
  refine x_istore_n (lv' := [(1, .int 0), (0, .ref (ad (ro 16 0)))]) C dX2_wornShare_1 rfl (by decide) rfl ?_
  refine x_iconst (v := 0) C dX2_wornShare_2 (by decide) ?_
  refine x_istore_n (lv' := [(2, .int 0), (1, .int 0), (0, .ref (ad (ro 16 0)))]) C dX2_wornShare_3 rfl (by decide) rfl ?_
  refine x_iconst (v := 0) C dX2_wornShare_4 (by decide) ?_
  refine x_istore_n (lv' := [(3, .int 0), (2, .int 0), (1, .int 0), (0, .ref (ad (ro 16 0)))]) C dX2_wornShare_5 rfl (by decide) rfl ?_
  have loop : ∀ (n2 k : Nat), k + n2 = κ 0 → xX F (xQ F (rPx F.1 ad c t κ σ (0 < sAl σ (κ 0)) (fun b => b = .float (FP.fdiv (FP.i2f (sWo σ (κ 0))) (FP.i2f (sAl σ (κ 0)))))) xN 0 0) ad (xj c (xkM F.1.2.2.1 ad μ) t) 0 0 6 [(3, .int (nI k)), (2, .int (sWo σ k)), (1, .int (sAl σ k)), (0, .ref (ad (ro 16 0)))] [] := by
    intro n2
    induction n2 with
    | zero =>
      intro k hk
      obtain rfl : k = κ 0 := by omega
      refine x_iload_n C dX2_wornShare_6 rfl 0 rfl ?_
      refine x_aload_n C dX2_wornShare_7 rfl 3 rfl ?_
      refine x_get C fl_X2_90 (r := ro 16 0) rfl (xj_m (by decide) (by decide) rfl) (v := .int (μ 5 0 0)) rfl dX2_wornShare_8 ?_
      refine x_top (y := nI (κ 0)) R.2.1.1 ?_
      refine x_icmp_ge (tgt := 69) C dX2_wornShare_11 (by decide) (fun _ => ?_) (fun h => absurd (Int32.le_refl _) h)
      refine x_aload_n C dX2_wornShare_69 rfl 3 rfl ?_
      refine x_iload_n C dX2_wornShare_70 rfl 2 rfl ?_
      refine x_if_le (tgt := 78) C dX2_wornShare_71 (by decide) (fun c2 => ?_) (fun c2 => ?_)
      · refine x_iconst (v := 0) C dX2_wornShare_78 (by decide) ?_
        refine x_iconst (v := 1) C dX2_wornShare_79 (by decide) ?_
        refine m_no0 (p := 1) C R (Nat.le_of_ble_eq_true rfl) ⟨Nat.le_of_ble_eq_true rfl, Nat.le_of_ble_eq_true rfl⟩ ⟨Nat.le_of_ble_eq_true rfl, Nat.le_of_ble_eq_true rfl⟩ dX2_wornShare_80 (fun μ1 R1 T1 => ?_)
        refine x_if_eq (tgt := 90) C dX2_wornShare_83 (by decide) (fun h => absurd h (by decide)) (fun _ => ?_)
        refine x_fconst0 C dX2_wornShare_86 ?_
        refine x_goto (tgt := 95) C dX2_wornShare_87 (by decide) ?_
        exact x_fret C dX2_wornShare_95 (Nat.le_of_ble_eq_true rfl) (Nat.le_of_ble_eq_true rfl) ⟨rfl, _, rfl, R1, by rw [if_neg (Int32.not_lt.mpr c2)]; exact T1, _, rfl, fun h => absurd h (Int32.not_lt.mpr c2)⟩
      · obtain ⟨n9, hn9, e9⟩ := sAl_nI (σ := σ) (κ 0)
        have hp9 : 0 < n9 := Nat.pos_of_ne_zero (fun h => c2 (by rw [e9, h]; decide))
        refine x_iconst (v := 1) C dX2_wornShare_74 (by decide) ?_
        refine x_goto (tgt := 79) C dX2_wornShare_75 (by decide) ?_
        refine x_iconst (v := 1) C dX2_wornShare_79 (by decide) ?_
        refine m_no1 (p := 1) C R (Nat.le_of_ble_eq_true rfl) ⟨Nat.le_of_ble_eq_true rfl, Nat.le_of_ble_eq_true rfl⟩ ⟨Nat.le_of_ble_eq_true rfl, Nat.le_of_ble_eq_true rfl⟩ dX2_wornShare_80 (fun μ1 R1 T1 => ?_)
        refine x_if_eq (tgt := 90) C dX2_wornShare_83 (by decide) (fun _ => ?_) (fun h => absurd (by decide) h)
        refine x_iload_n C dX2_wornShare_90 rfl 1 rfl ?_
        refine x_i2f C dX2_wornShare_91 ?_
        refine x_iload_n C dX2_wornShare_92 rfl 2 rfl ?_
        refine x_i2f C dX2_wornShare_93 ?_
        refine x_fdiv C dX2_wornShare_94 (vf_f e9 hp9 (by omega)) ?_
        exact x_fret C dX2_wornShare_95 (Nat.le_of_ble_eq_true rfl) (Nat.le_of_ble_eq_true rfl) ⟨rfl, _, rfl, R1, by rw [if_pos (Int32.not_le.mp c2)]; exact T1, _, rfl, fun _ => rfl⟩
    | succ n2 ih =>
      intro k hk
      have hd : k < κ 0 := by omega
      refine x_iload_n C dX2_wornShare_6 rfl 0 rfl ?_
      refine x_aload_n C dX2_wornShare_7 rfl 3 rfl ?_
      refine x_get C fl_X2_90 (r := ro 16 0) rfl (xj_m (by decide) (by decide) rfl) (v := .int (μ 5 0 0)) rfl dX2_wornShare_8 ?_
      refine x_top (y := nI (κ 0)) R.2.1.1 ?_
      refine x_icmp_ge (tgt := 69) C dX2_wornShare_11 (by decide) (fun h => absurd ((nI_le_iff (by omega) (by omega)).mp h) (by omega)) (fun _ => ?_)
      refine x_iload_n C dX2_wornShare_14 rfl 2 rfl ?_
      refine x_aload_n C dX2_wornShare_15 rfl 3 rfl ?_
      refine x_get C fl_X2_22 (r := ro 16 0) rfl (xj_m (by decide) (by decide) rfl) (v := .ref (ad (ro 17 4))) rfl dX2_wornShare_16 ?_
      refine x_iload_n C dX2_wornShare_19 rfl 0 rfl ?_
      refine m_ld C R (f := 4) (f' := 4) (i := k) (by decide) rfl rfl rfl (show k < 30 by omega) (by decide) dX2_wornShare_20 ?_
      refine x_bipush (v := -2) C dX2_wornShare_21 (by decide) ?_
      refine x_icmp_eq (tgt := 30) C dX2_wornShare_23 (by decide) (fun c1 => ?_) (fun c1 => ?_)
      · refine x_iconst (v := 0) C dX2_wornShare_30 (by decide) ?_
        refine x_iadd C dX2_wornShare_31 ?_
        refine x_istore_n (lv' := [(1, .int ((sAl σ k) + 0)), (3, .int (nI k)), (2, .int (sWo σ k)), (0, .ref (ad (ro 16 0)))]) C dX2_wornShare_32 rfl (by decide) rfl ?_
        refine x_iload_n C dX2_wornShare_33 rfl 2 rfl ?_
        refine x_aload_n C dX2_wornShare_34 rfl 3 rfl ?_
        refine x_get C fl_X2_22 (r := ro 16 0) rfl (xj_m (by decide) (by decide) rfl) (v := .ref (ad (ro 17 4))) rfl dX2_wornShare_35 ?_
        refine x_iload_n C dX2_wornShare_38 rfl 1 rfl ?_
        refine m_ld C R (f := 4) (f' := 4) (i := k) (by decide) rfl rfl rfl (show k < 30 by omega) (by decide) dX2_wornShare_39 ?_
        refine x_bipush (v := -2) C dX2_wornShare_40 (by decide) ?_
        refine x_icmp_eq (tgt := 60) C dX2_wornShare_42 (by decide) (fun _ => ?_) (fun h => absurd c1 h)
        refine x_iconst (v := 0) C dX2_wornShare_60 (by decide) ?_
        refine x_iadd C dX2_wornShare_61 ?_
        refine x_istore_n (lv' := [(2, .int ((sWo σ k) + 0)), (1, .int ((sAl σ k) + 0)), (3, .int (nI k)), (0, .ref (ad (ro 16 0)))]) C dX2_wornShare_62 rfl (by decide) rfl ?_
        refine x_iinc (k := 2) (v := nI (k + 1)) (lv' := [(3, .int (nI (k + 1))), (2, .int ((sWo σ k) + 0)), (1, .int ((sAl σ k) + 0)), (0, .ref (ad (ro 16 0)))]) C dX2_wornShare_63 rfl (nI_1 k) (by decide) rfl ?_
        refine x_goto (tgt := 6) C dX2_wornShare_66 (by decide) ?_
        refine x_lv (lv' := [(3, .int (nI (k + 1))), (2, .int ((sWo σ k) + 0)), (1, .int ((sAl σ k) + 0)), (0, .ref (ad (ro 16 0)))]) [0, 1, 2, 3] rfl ?_
        have e1 : sAl σ (k + 1) = (sAl σ k) + 0 := by show sAl σ k + _ = _; rw [if_pos c1]
        have e2 : sWo σ (k + 1) = (sWo σ k) + 0 := by show sWo σ k + _ = _; rw [if_pos c1]
        have h9 := ih (k + 1) (by omega)
        rw [e1, e2] at h9
        exact h9
      · refine x_iconst (v := 1) C dX2_wornShare_26 (by decide) ?_
        refine x_goto (tgt := 31) C dX2_wornShare_27 (by decide) ?_
        refine x_iadd C dX2_wornShare_31 ?_
        refine x_istore_n (lv' := [(1, .int ((sAl σ k) + 1)), (3, .int (nI k)), (2, .int (sWo σ k)), (0, .ref (ad (ro 16 0)))]) C dX2_wornShare_32 rfl (by decide) rfl ?_
        refine x_iload_n C dX2_wornShare_33 rfl 2 rfl ?_
        refine x_aload_n C dX2_wornShare_34 rfl 3 rfl ?_
        refine x_get C fl_X2_22 (r := ro 16 0) rfl (xj_m (by decide) (by decide) rfl) (v := .ref (ad (ro 17 4))) rfl dX2_wornShare_35 ?_
        refine x_iload_n C dX2_wornShare_38 rfl 1 rfl ?_
        refine m_ld C R (f := 4) (f' := 4) (i := k) (by decide) rfl rfl rfl (show k < 30 by omega) (by decide) dX2_wornShare_39 ?_
        refine x_bipush (v := -2) C dX2_wornShare_40 (by decide) ?_
        refine x_icmp_eq (tgt := 60) C dX2_wornShare_42 (by decide) (fun h => absurd h c1) (fun _ => ?_)
        refine x_aload_n C dX2_wornShare_45 rfl 3 rfl ?_
        refine x_get C fl_X2_19 (r := ro 16 0) rfl (xj_m (by decide) (by decide) rfl) (v := .ref (ad (ro 17 3))) rfl dX2_wornShare_46 ?_
        refine x_iload_n C dX2_wornShare_49 rfl 1 rfl ?_
        refine m_ld C R (f := 3) (f' := 3) (i := k) (by decide) rfl rfl rfl (show k < 30 by omega) (by decide) dX2_wornShare_50 ?_
        refine x_bipush (v := 60) C dX2_wornShare_51 (by decide) ?_
        refine x_icmp_lt (tgt := 60) C dX2_wornShare_53 (by decide) (fun c2 => ?_) (fun c2 => ?_)
        · refine x_iconst (v := 0) C dX2_wornShare_60 (by decide) ?_
          refine x_iadd C dX2_wornShare_61 ?_
          refine x_istore_n (lv' := [(2, .int ((sWo σ k) + 0)), (1, .int ((sAl σ k) + 1)), (3, .int (nI k)), (0, .ref (ad (ro 16 0)))]) C dX2_wornShare_62 rfl (by decide) rfl ?_
          refine x_iinc (k := 2) (v := nI (k + 1)) (lv' := [(3, .int (nI (k + 1))), (2, .int ((sWo σ k) + 0)), (1, .int ((sAl σ k) + 1)), (0, .ref (ad (ro 16 0)))]) C dX2_wornShare_63 rfl (nI_1 k) (by decide) rfl ?_
          refine x_goto (tgt := 6) C dX2_wornShare_66 (by decide) ?_
          refine x_lv (lv' := [(3, .int (nI (k + 1))), (2, .int ((sWo σ k) + 0)), (1, .int ((sAl σ k) + 1)), (0, .ref (ad (ro 16 0)))]) [0, 1, 2, 3] rfl ?_
          have e1 : sAl σ (k + 1) = (sAl σ k) + 1 := by show sAl σ k + _ = _; rw [if_neg c1]
          have e2 : sWo σ (k + 1) = (sWo σ k) + 0 := by show sWo σ k + _ = _; rw [if_neg c1, if_pos c2]
          have h9 := ih (k + 1) (by omega)
          rw [e1, e2] at h9
          exact h9
        · refine x_iconst (v := 1) C dX2_wornShare_56 (by decide) ?_
          refine x_goto (tgt := 61) C dX2_wornShare_57 (by decide) ?_
          refine x_iadd C dX2_wornShare_61 ?_
          refine x_istore_n (lv' := [(2, .int ((sWo σ k) + 1)), (1, .int ((sAl σ k) + 1)), (3, .int (nI k)), (0, .ref (ad (ro 16 0)))]) C dX2_wornShare_62 rfl (by decide) rfl ?_
          refine x_iinc (k := 2) (v := nI (k + 1)) (lv' := [(3, .int (nI (k + 1))), (2, .int ((sWo σ k) + 1)), (1, .int ((sAl σ k) + 1)), (0, .ref (ad (ro 16 0)))]) C dX2_wornShare_63 rfl (nI_1 k) (by decide) rfl ?_
          refine x_goto (tgt := 6) C dX2_wornShare_66 (by decide) ?_
          refine x_lv (lv' := [(3, .int (nI (k + 1))), (2, .int ((sWo σ k) + 1)), (1, .int ((sAl σ k) + 1)), (0, .ref (ad (ro 16 0)))]) [0, 1, 2, 3] rfl ?_
          have e1 : sAl σ (k + 1) = (sAl σ k) + 1 := by show sAl σ k + _ = _; rw [if_neg c1]
          have e2 : sWo σ (k + 1) = (sWo σ k) + 1 := by show sWo σ k + _ = _; rw [if_neg c1, if_neg c2]
          have h9 := ih (k + 1) (by omega)
          rw [e1, e2] at h9
          exact h9
  refine x_lv (lv' := [(3, .int 0), (2, .int 0), (1, .int 0), (0, .ref (ad (ro 16 0)))]) [0, 1, 2, 3] rfl ?_
  exact loop (κ 0) 0 (by omega)
set_option maxHeartbeats 4000000 in
theorem k2_meanPull {G : xG} {ad : Nat → Nat} {κ : xKp} {σ μ : xSg} {c t : xK} (hI : xIk κ) (R : xRl κ σ μ) (hW : xIw κ σ) : xM G yX2_meanPull (ws_ yX2_meanPull cX2_meanPull 4 (some Jvm.ClassFile.FieldType.double)) 8 300 0 0 [.ref (ad (ro 16 0))] ad (xj c (xkM G.2.2.1 ad μ) t) (rPx G ad c t κ σ (0 < sMa σ (10 * κ 1)) (fun b => b = .double (FP.ddiv (FP.i2d (sMp σ (10 * κ 1))) (FP.i2d (sMa σ (10 * κ 1)))))) xN := by
  refine xM_of (cc := cX2_meanPull) (by decide) rfl (fun F hF C => ?_)
  subst hF
  have h30 := hI.2.2.2.2.1
  have h14 := hI.2.2.2.2.2
  have T : μ 29 0 0 = μ 29 0 0 := rfl
  show xX F _ _ _ 0 0 0 [(0, .ref (ad (ro 16 0)))] []
  refine x_iconst (v := 0) C dX2_meanPull_0 (by decide) ?_
  refine x_istore_n (lv' := [(1, .int 0), (0, .ref (ad (ro 16 0)))]) C dX2_meanPull_1 rfl (by decide) rfl ?_
  refine x_iconst (v := 0) C dX2_meanPull_2 (by decide) ?_
  refine x_istore_n (lv' := [(2, .int 0), (1, .int 0), (0, .ref (ad (ro 16 0)))]) C dX2_meanPull_3 rfl (by decide) rfl ?_
  refine x_iconst (v := 0) C dX2_meanPull_4 (by decide) ?_
  refine x_istore_n (lv' := [(3, .int 0), (2, .int 0), (1, .int 0), (0, .ref (ad (ro 16 0)))]) C dX2_meanPull_5 rfl (by decide) rfl ?_
  have loop : ∀ (n2 k : Nat), k + n2 = 40 → xX F (xQ F (rPx F.1 ad c t κ σ (0 < sMa σ (10 * κ 1)) (fun b => b = .double (FP.ddiv (FP.i2d (sMp σ (10 * κ 1))) (FP.i2d (sMa σ (10 * κ 1)))))) xN 0 0) ad (xj c (xkM F.1.2.2.1 ad μ) t) 0 0 6 [(3, .int (nI k)), (2, .int (sMp σ k)), (1, .int (sMa σ k)), (0, .ref (ad (ro 16 0)))] [] := by
    intro n2
    induction n2 with
    | zero =>
      intro k hk
      obtain rfl : k = 10 * κ 1 + (40 - 10 * κ 1) := by omega
      obtain ⟨eA, eB⟩ := sMp_all hW (40 - 10 * κ 1)
      rw [eA, eB, show 10 * κ 1 + (40 - 10 * κ 1) = 40 by omega]
      refine x_iload_n C dX2_meanPull_6 rfl 0 rfl ?_
      refine x_bipush (v := 40) C dX2_meanPull_7 (by decide) ?_
      refine x_icmp_ge (tgt := 43) C dX2_meanPull_9 (by decide) (fun _ => ?_) (fun h => absurd (by decide) h)
      refine x_aload_n C dX2_meanPull_43 rfl 3 rfl ?_
      refine x_iload_n C dX2_meanPull_44 rfl 2 rfl ?_
      refine x_if_le (tgt := 52) C dX2_meanPull_45 (by decide) (fun c2 => ?_) (fun c2 => ?_)
      · refine x_iconst (v := 0) C dX2_meanPull_52 (by decide) ?_
        refine x_iconst (v := 1) C dX2_meanPull_53 (by decide) ?_
        refine m_no0 (p := 1) C R (Nat.le_of_ble_eq_true rfl) ⟨Nat.le_of_ble_eq_true rfl, Nat.le_of_ble_eq_true rfl⟩ ⟨Nat.le_of_ble_eq_true rfl, Nat.le_of_ble_eq_true rfl⟩ dX2_meanPull_54 (fun μ1 R1 T1 => ?_)
        refine x_if_eq (tgt := 64) C dX2_meanPull_57 (by decide) (fun h => absurd h (by decide)) (fun _ => ?_)
        refine x_dconst0 C dX2_meanPull_60 ?_
        refine x_goto (tgt := 69) C dX2_meanPull_61 (by decide) ?_
        exact x_dret C dX2_meanPull_69 (Nat.le_of_ble_eq_true rfl) (Nat.le_of_ble_eq_true rfl) ⟨rfl, _, rfl, R1, by rw [if_neg (Int32.not_lt.mpr c2)]; exact T1, _, rfl, fun h => absurd h (Int32.not_lt.mpr c2)⟩
      · obtain ⟨n9, hn9, e9⟩ := sMa_nI (σ := σ) (10 * κ 1)
        have hp9 : 0 < n9 := Nat.pos_of_ne_zero (fun h => c2 (by rw [e9, h]; decide))
        refine x_iconst (v := 1) C dX2_meanPull_48 (by decide) ?_
        refine x_goto (tgt := 53) C dX2_meanPull_49 (by decide) ?_
        refine x_iconst (v := 1) C dX2_meanPull_53 (by decide) ?_
        refine m_no1 (p := 1) C R (Nat.le_of_ble_eq_true rfl) ⟨Nat.le_of_ble_eq_true rfl, Nat.le_of_ble_eq_true rfl⟩ ⟨Nat.le_of_ble_eq_true rfl, Nat.le_of_ble_eq_true rfl⟩ dX2_meanPull_54 (fun μ1 R1 T1 => ?_)
        refine x_if_eq (tgt := 64) C dX2_meanPull_57 (by decide) (fun _ => ?_) (fun h => absurd (by decide) h)
        refine x_iload_n C dX2_meanPull_64 rfl 1 rfl ?_
        refine x_i2d C dX2_meanPull_65 ?_
        refine x_iload_n C dX2_meanPull_66 rfl 2 rfl ?_
        refine x_i2d C dX2_meanPull_67 ?_
        refine x_ddiv C dX2_meanPull_68 (vf_d e9 hp9 (by omega)) ?_
        exact x_dret C dX2_meanPull_69 (Nat.le_of_ble_eq_true rfl) (Nat.le_of_ble_eq_true rfl) ⟨rfl, _, rfl, R1, by rw [if_pos (Int32.not_le.mp c2)]; exact T1, _, rfl, fun _ => rfl⟩
    | succ n2 ih =>
      intro k hk
      obtain ⟨j, s, hs, rfl⟩ : ∃ j s, s < 10 ∧ k = 10 * j + s := ⟨k / 10, k % 10, by omega, by omega⟩
      have hj : j < 4 := by omega
      have hsl := nI_slW hW h30 (j := j) hs
      refine x_iload_n C dX2_meanPull_6 rfl 0 rfl ?_
      refine x_bipush (v := 40) C dX2_meanPull_7 (by decide) ?_
      refine x_icmp_ge (tgt := 43) C dX2_meanPull_9 (by decide) (fun h => absurd ((nI_le_iff (a := 40) (by omega) (by omega)).mp h) (by omega)) (fun _ => ?_)
      refine x_iload_n C dX2_meanPull_12 rfl 2 rfl ?_
      refine x_aload_n C dX2_meanPull_13 rfl 3 rfl ?_
      refine x_get C fl_X2_65 (r := ro 16 0) rfl (xj_m (by decide) (by decide) rfl) (v := .ref (ad (ro 17 20))) rfl dX2_meanPull_14 ?_
      refine x_iload_n C dX2_meanPull_17 rfl 0 rfl ?_
      refine m_ld20 C R (j := j) (s := s) rfl (by omega) (by omega) dX2_meanPull_18 ?_
      refine x_if_le (tgt := 26) C dX2_meanPull_19 (by decide) (fun c1 => ?_) (fun c1 => ?_)
      · refine x_iconst (v := 0) C dX2_meanPull_26 (by decide) ?_
        refine x_iadd C dX2_meanPull_27 ?_
        refine x_istore_n (lv' := [(1, .int ((sMa σ (10 * j + s)) + 0)), (3, .int (nI (10 * j + s))), (2, .int (sMp σ (10 * j + s))), (0, .ref (ad (ro 16 0)))]) C dX2_meanPull_28 rfl (by decide) rfl ?_
        refine x_iload_n C dX2_meanPull_29 rfl 2 rfl ?_
        refine x_aload_n C dX2_meanPull_30 rfl 3 rfl ?_
        refine x_iload_n C dX2_meanPull_31 rfl 1 rfl ?_
        refine x_callV (rest := [.int (sMp σ (10 * j + s))]) C (k2_pullOfSlot hI R hW (j := j) (s := s) hj hs) cf_X2_131 ⟨rfl, hd_X2_pullOfSlot⟩ ⟨Nat.le_of_ble_eq_true rfl, Nat.le_of_ble_eq_true rfl⟩ (xR_o xci4 rfl (xj_m (by decide) (by decide) rfl)) rfl (Nat.le_of_ble_eq_true rfl) ⟨Nat.le_of_ble_eq_true rfl, Nat.le_of_ble_eq_true rfl⟩ dX2_meanPull_32 (xPv_i ?_) xN_e
        refine x_iadd C dX2_meanPull_35 ?_
        refine x_istore_n (lv' := [(2, .int ((sMp σ (10 * j + s)) + (sPo σ j s))), (1, .int ((sMa σ (10 * j + s)) + 0)), (3, .int (nI (10 * j + s))), (0, .ref (ad (ro 16 0)))]) C dX2_meanPull_36 rfl (by decide) rfl ?_
        refine x_iinc (k := 2) (v := nI (10 * j + s + 1)) (lv' := [(3, .int (nI (10 * j + s + 1))), (2, .int ((sMp σ (10 * j + s)) + (sPo σ j s))), (1, .int ((sMa σ (10 * j + s)) + 0)), (0, .ref (ad (ro 16 0)))]) C dX2_meanPull_37 rfl (nI_1 _) (by decide) rfl ?_
        refine x_goto (tgt := 6) C dX2_meanPull_40 (by decide) ?_
        refine x_lv (lv' := [(3, .int (nI (10 * j + s + 1))), (2, .int ((sMp σ (10 * j + s)) + (sPo σ j s))), (1, .int ((sMa σ (10 * j + s)) + 0)), (0, .ref (ad (ro 16 0)))]) [0, 1, 2, 3] rfl ?_
        have e1 : sMa σ (10 * j + s + 1) = (sMa σ (10 * j + s)) + 0 := (sMa_s hs).trans (by rw [if_pos (hsl.mp c1)])
        have e2 : sMp σ (10 * j + s + 1) = (sMp σ (10 * j + s)) + (sPo σ j s) := sMp_s hs
        have h9 := ih (10 * j + s + 1) (by omega)
        rw [e1, e2] at h9
        exact h9
      · refine x_iconst (v := 1) C dX2_meanPull_22 (by decide) ?_
        refine x_goto (tgt := 27) C dX2_meanPull_23 (by decide) ?_
        refine x_iadd C dX2_meanPull_27 ?_
        refine x_istore_n (lv' := [(1, .int ((sMa σ (10 * j + s)) + 1)), (3, .int (nI (10 * j + s))), (2, .int (sMp σ (10 * j + s))), (0, .ref (ad (ro 16 0)))]) C dX2_meanPull_28 rfl (by decide) rfl ?_
        refine x_iload_n C dX2_meanPull_29 rfl 2 rfl ?_
        refine x_aload_n C dX2_meanPull_30 rfl 3 rfl ?_
        refine x_iload_n C dX2_meanPull_31 rfl 1 rfl ?_
        refine x_callV (rest := [.int (sMp σ (10 * j + s))]) C (k2_pullOfSlot hI R hW (j := j) (s := s) hj hs) cf_X2_131 ⟨rfl, hd_X2_pullOfSlot⟩ ⟨Nat.le_of_ble_eq_true rfl, Nat.le_of_ble_eq_true rfl⟩ (xR_o xci4 rfl (xj_m (by decide) (by decide) rfl)) rfl (Nat.le_of_ble_eq_true rfl) ⟨Nat.le_of_ble_eq_true rfl, Nat.le_of_ble_eq_true rfl⟩ dX2_meanPull_32 (xPv_i ?_) xN_e
        refine x_iadd C dX2_meanPull_35 ?_
        refine x_istore_n (lv' := [(2, .int ((sMp σ (10 * j + s)) + (sPo σ j s))), (1, .int ((sMa σ (10 * j + s)) + 1)), (3, .int (nI (10 * j + s))), (0, .ref (ad (ro 16 0)))]) C dX2_meanPull_36 rfl (by decide) rfl ?_
        refine x_iinc (k := 2) (v := nI (10 * j + s + 1)) (lv' := [(3, .int (nI (10 * j + s + 1))), (2, .int ((sMp σ (10 * j + s)) + (sPo σ j s))), (1, .int ((sMa σ (10 * j + s)) + 1)), (0, .ref (ad (ro 16 0)))]) C dX2_meanPull_37 rfl (nI_1 _) (by decide) rfl ?_
        refine x_goto (tgt := 6) C dX2_meanPull_40 (by decide) ?_
        refine x_lv (lv' := [(3, .int (nI (10 * j + s + 1))), (2, .int ((sMp σ (10 * j + s)) + (sPo σ j s))), (1, .int ((sMa σ (10 * j + s)) + 1)), (0, .ref (ad (ro 16 0)))]) [0, 1, 2, 3] rfl ?_
        have e1 : sMa σ (10 * j + s + 1) = (sMa σ (10 * j + s)) + 1 := (sMa_s hs).trans (by rw [if_neg (fun e => c1 (hsl.mpr e))])
        have e2 : sMp σ (10 * j + s + 1) = (sMp σ (10 * j + s)) + (sPo σ j s) := sMp_s hs
        have h9 := ih (10 * j + s + 1) (by omega)
        rw [e1, e2] at h9
        exact h9
  refine x_lv (lv' := [(3, .int 0), (2, .int 0), (1, .int 0), (0, .ref (ad (ro 16 0)))]) [0, 1, 2, 3] rfl ?_
  exact loop 40 0 (by omega)
set_option maxHeartbeats 4000000 in
theorem k2_checksum {G : xG} {ad : Nat → Nat} {κ : xKp} {σ μ : xSg} {c t : xK} (hI : xIk κ) (R : xRl κ σ μ)  : xM G yX2_checksum (ws_ yX2_checksum cX2_checksum 4 (some Jvm.ClassFile.FieldType.long)) 8 300 0 0 [.ref (ad (ro 16 0))] ad (xj c (xkM G.2.2.1 ad μ) t) (xPv (some (.long (sCk κ σ))) ad (xj c (xkM G.2.2.1 ad μ) t)) xN := by
  refine xM_of (cc := cX2_checksum) (by decide) rfl (fun F hF C => ?_)
  subst hF
  have h30 := hI.2.2.2.2.1
  have h14 := hI.2.2.2.2.2
  have T : μ 29 0 0 = μ 29 0 0 := rfl
  show xX F _ _ _ 0 0 0 [(0, .ref (ad (ro 16 0)))] []
  refine x_ldc2 (v := 7) C q1258 dX2_checksum_0 ?_
  refine x_lstore_n (lv' := [(1, .long 7), (0, .ref (ad (ro 16 0)))]) C dX2_checksum_3 rfl (by decide) rfl ?_
  refine x_iconst (v := 0) C dX2_checksum_4 (by decide) ?_
  refine x_istore_n (lv' := [(3, .int 0), (1, .long 7), (0, .ref (ad (ro 16 0)))]) C dX2_checksum_5 rfl (by decide) rfl ?_
  have loop2 : ∀ (n2 k : Nat), k + n2 = κ 1 → xX F (xQ F (xPv (some (.long (sCk κ σ))) ad (xj c (xkM F.1.2.2.1 ad μ) t)) xN 0 0) ad (xj c (xkM F.1.2.2.1 ad μ) t) 0 0 36 [(3, .int (nI k)), (1, .long (sCb σ (sCd σ (κ 0)) k)), (0, .ref (ad (ro 16 0)))] [] := by
    intro n2
    induction n2 with
    | zero =>
      intro k hk
      obtain rfl : k = κ 1 := by omega
      refine x_iload_n C dX2_checksum_36 rfl 0 rfl ?_
      refine x_aload_n C dX2_checksum_37 rfl 2 rfl ?_
      refine x_get C fl_X2_97 (r := ro 16 0) rfl (xj_m (by decide) (by decide) rfl) (v := .int (μ 19 0 0)) rfl dX2_checksum_38 ?_
      refine x_top (y := nI (κ 1)) R.2.1.2 ?_
      refine x_icmp_ge (tgt := 92) C dX2_checksum_41 (by decide) (fun _ => ?_) (fun h => absurd (Int32.le_refl _) h)
      refine x_ldc2 (v := 31) C q1259 dX2_checksum_92 ?_
      refine x_lload_n C dX2_checksum_95 rfl 1 rfl ?_
      refine x_lmul C dX2_checksum_96 ?_
      refine x_aload_n C dX2_checksum_97 rfl 2 rfl ?_
      refine x_get C fl_X2_135 (r := ro 16 0) rfl (xj_m (by decide) (by decide) rfl) (v := .int (μ 28 0 0)) rfl dX2_checksum_98 ?_
      refine x_top (y := σ 23 0 0) (R.1 (28, 23) (by decide) 0) ?_
      refine x_i2l C dX2_checksum_101 rfl ?_
      refine x_ladd C dX2_checksum_102 ?_
      refine x_lstore_n (lv' := [(1, .long ((31 * (sCb σ (sCd σ (κ 0)) (κ 1))) + ((σ 23 0 0).toInt64))), (3, .int (nI (κ 1))), (0, .ref (ad (ro 16 0)))]) C dX2_checksum_103 rfl (by decide) rfl ?_
      refine x_ldc2 (v := 31) C q1259 dX2_checksum_104 ?_
      refine x_lload_n C dX2_checksum_107 rfl 0 rfl ?_
      refine x_lmul C dX2_checksum_108 ?_
      refine x_aload_n C dX2_checksum_109 rfl 2 rfl ?_
      refine x_get C fl_X2_80 (r := ro 16 0) rfl (xj_m (by decide) (by decide) rfl) (v := .int (μ 25 0 0)) rfl dX2_checksum_110 ?_
      refine x_top (y := σ 24 0 0) (R.1 (25, 24) (by decide) 0) ?_
      refine x_i2l C dX2_checksum_113 rfl ?_
      refine x_ladd C dX2_checksum_114 ?_
      exact x_lret C dX2_checksum_115 (Nat.le_of_ble_eq_true rfl) (Nat.le_of_ble_eq_true rfl) ⟨rfl, rfl, rfl⟩
    | succ n2 ih =>
      intro k hk
      have hd : k < κ 1 := by omega
      refine x_iload_n C dX2_checksum_36 rfl 0 rfl ?_
      refine x_aload_n C dX2_checksum_37 rfl 2 rfl ?_
      refine x_get C fl_X2_97 (r := ro 16 0) rfl (xj_m (by decide) (by decide) rfl) (v := .int (μ 19 0 0)) rfl dX2_checksum_38 ?_
      refine x_top (y := nI (κ 1)) R.2.1.2 ?_
      refine x_icmp_ge (tgt := 92) C dX2_checksum_41 (by decide) (fun h => absurd ((nI_le_iff (by omega) (by omega)).mp h) (by omega)) (fun _ => ?_)
      refine x_ldc2 (v := 31) C q1259 dX2_checksum_44 ?_
      refine x_lload_n C dX2_checksum_47 rfl 1 rfl ?_
      refine x_lmul C dX2_checksum_48 ?_
      refine x_aload_n C dX2_checksum_49 rfl 2 rfl ?_
      refine x_get C fl_X2_37 (r := ro 16 0) rfl (xj_m (by decide) (by decide) rfl) (v := .ref (ad (ro 17 10))) rfl dX2_checksum_50 ?_
      refine x_iload_n C dX2_checksum_53 rfl 0 rfl ?_
      refine m_ld C R (f := 10) (f' := 9) (i := k) (by decide) rfl rfl rfl (show k < 4 by omega) (by decide) dX2_checksum_54 ?_
      refine x_i2l C dX2_checksum_55 rfl ?_
      refine x_ladd C dX2_checksum_56 ?_
      refine x_lstore_n (lv' := [(1, .long ((31 * (sCb σ (sCd σ (κ 0)) k)) + ((σ 9 k 0).toInt64))), (3, .int (nI k)), (0, .ref (ad (ro 16 0)))]) C dX2_checksum_57 rfl (by decide) rfl ?_
      refine x_ldc2 (v := 31) C q1259 dX2_checksum_58 ?_
      refine x_lload_n C dX2_checksum_61 rfl 0 rfl ?_
      refine x_lmul C dX2_checksum_62 ?_
      refine x_aload_n C dX2_checksum_63 rfl 2 rfl ?_
      refine x_get C fl_X2_34 (r := ro 16 0) rfl (xj_m (by decide) (by decide) rfl) (v := .ref (ad (ro 17 9))) rfl dX2_checksum_64 ?_
      refine x_iload_n C dX2_checksum_67 rfl 1 rfl ?_
      refine m_ld C R (f := 9) (f' := 8) (i := k) (by decide) rfl rfl rfl (show k < 4 by omega) (by decide) dX2_checksum_68 ?_
      refine x_i2l C dX2_checksum_69 rfl ?_
      refine x_ladd C dX2_checksum_70 ?_
      refine x_lstore_n (lv' := [(1, .long ((31 * ((31 * (sCb σ (sCd σ (κ 0)) k)) + ((σ 9 k 0).toInt64))) + ((σ 8 k 0).toInt64))), (3, .int (nI k)), (0, .ref (ad (ro 16 0)))]) C dX2_checksum_71 rfl (by decide) rfl ?_
      refine x_ldc2 (v := 31) C q1259 dX2_checksum_72 ?_
      refine x_lload_n C dX2_checksum_75 rfl 0 rfl ?_
      refine x_lmul C dX2_checksum_76 ?_
      refine x_aload_n C dX2_checksum_77 rfl 2 rfl ?_
      refine x_get C fl_X2_40 (r := ro 16 0) rfl (xj_m (by decide) (by decide) rfl) (v := .ref (ad (ro 17 11))) rfl dX2_checksum_78 ?_
      refine x_iload_n C dX2_checksum_81 rfl 1 rfl ?_
      refine m_ld C R (f := 11) (f' := 10) (i := k) (by decide) rfl rfl rfl (show k < 4 by omega) (by decide) dX2_checksum_82 ?_
      refine x_i2l C dX2_checksum_83 rfl ?_
      refine x_ladd C dX2_checksum_84 ?_
      refine x_lstore_n (lv' := [(1, .long ((31 * ((31 * ((31 * (sCb σ (sCd σ (κ 0)) k)) + ((σ 9 k 0).toInt64))) + ((σ 8 k 0).toInt64))) + ((σ 10 k 0).toInt64))), (3, .int (nI k)), (0, .ref (ad (ro 16 0)))]) C dX2_checksum_85 rfl (by decide) rfl ?_
      refine x_iinc (k := 1) (v := nI (k + 1)) (lv' := [(3, .int (nI (k + 1))), (1, .long ((31 * ((31 * ((31 * (sCb σ (sCd σ (κ 0)) k)) + ((σ 9 k 0).toInt64))) + ((σ 8 k 0).toInt64))) + ((σ 10 k 0).toInt64))), (0, .ref (ad (ro 16 0)))]) C dX2_checksum_86 rfl (nI_1 k) (by decide) rfl ?_
      refine x_goto (tgt := 36) C dX2_checksum_89 (by decide) ?_
      refine x_lv (lv' := [(3, .int (nI (k + 1))), (1, .long ((31 * ((31 * ((31 * (sCb σ (sCd σ (κ 0)) k)) + ((σ 9 k 0).toInt64))) + ((σ 8 k 0).toInt64))) + ((σ 10 k 0).toInt64))), (0, .ref (ad (ro 16 0)))]) [0, 1, 2] rfl ?_
      exact ih (k + 1) (by omega)
  have loop1 : ∀ (n2 k : Nat), k + n2 = κ 0 → xX F (xQ F (xPv (some (.long (sCk κ σ))) ad (xj c (xkM F.1.2.2.1 ad μ) t)) xN 0 0) ad (xj c (xkM F.1.2.2.1 ad μ) t) 0 0 6 [(3, .int (nI k)), (1, .long (sCd σ k)), (0, .ref (ad (ro 16 0)))] [] := by
    intro n2
    induction n2 with
    | zero =>
      intro k hk
      obtain rfl : k = κ 0 := by omega
      refine x_iload_n C dX2_checksum_6 rfl 0 rfl ?_
      refine x_aload_n C dX2_checksum_7 rfl 2 rfl ?_
      refine x_get C fl_X2_90 (r := ro 16 0) rfl (xj_m (by decide) (by decide) rfl) (v := .int (μ 5 0 0)) rfl dX2_checksum_8 ?_
      refine x_top (y := nI (κ 0)) R.2.1.1 ?_
      refine x_icmp_ge (tgt := 34) C dX2_checksum_11 (by decide) (fun _ => ?_) (fun h => absurd (Int32.le_refl _) h)
      refine x_iconst (v := 0) C dX2_checksum_34 (by decide) ?_
      refine x_istore_n (lv' := [(3, .int 0), (1, .long (sCd σ (κ 0))), (0, .ref (ad (ro 16 0)))]) C dX2_checksum_35 rfl (by decide) rfl ?_
      refine x_lv (lv' := [(3, .int 0), (1, .long (sCd σ (κ 0))), (0, .ref (ad (ro 16 0)))]) [0, 1, 2] rfl ?_
      exact loop2 (κ 1) 0 (by omega)
    | succ n2 ih =>
      intro k hk
      have hd : k < κ 0 := by omega
      refine x_iload_n C dX2_checksum_6 rfl 0 rfl ?_
      refine x_aload_n C dX2_checksum_7 rfl 2 rfl ?_
      refine x_get C fl_X2_90 (r := ro 16 0) rfl (xj_m (by decide) (by decide) rfl) (v := .int (μ 5 0 0)) rfl dX2_checksum_8 ?_
      refine x_top (y := nI (κ 0)) R.2.1.1 ?_
      refine x_icmp_ge (tgt := 34) C dX2_checksum_11 (by decide) (fun h => absurd ((nI_le_iff (by omega) (by omega)).mp h) (by omega)) (fun _ => ?_)
      refine x_ldc2 (v := 31) C q1259 dX2_checksum_14 ?_
      refine x_lload_n C dX2_checksum_17 rfl 1 rfl ?_
      refine x_lmul C dX2_checksum_18 ?_
      refine x_aload_n C dX2_checksum_19 rfl 2 rfl ?_
      refine x_get C fl_X2_19 (r := ro 16 0) rfl (xj_m (by decide) (by decide) rfl) (v := .ref (ad (ro 17 3))) rfl dX2_checksum_20 ?_
      refine x_iload_n C dX2_checksum_23 rfl 0 rfl ?_
      refine m_ld C R (f := 3) (f' := 3) (i := k) (by decide) rfl rfl rfl (show k < 30 by omega) (by decide) dX2_checksum_24 ?_
      refine x_i2l C dX2_checksum_25 rfl ?_
      refine x_ladd C dX2_checksum_26 ?_
      refine x_lstore_n (lv' := [(1, .long ((31 * (sCd σ k)) + ((σ 3 k 0).toInt64))), (3, .int (nI k)), (0, .ref (ad (ro 16 0)))]) C dX2_checksum_27 rfl (by decide) rfl ?_
      refine x_iinc (k := 1) (v := nI (k + 1)) (lv' := [(3, .int (nI (k + 1))), (1, .long ((31 * (sCd σ k)) + ((σ 3 k 0).toInt64))), (0, .ref (ad (ro 16 0)))]) C dX2_checksum_28 rfl (nI_1 k) (by decide) rfl ?_
      refine x_goto (tgt := 6) C dX2_checksum_31 (by decide) ?_
      refine x_lv (lv' := [(3, .int (nI (k + 1))), (1, .long ((31 * (sCd σ k)) + ((σ 3 k 0).toInt64))), (0, .ref (ad (ro 16 0)))]) [0, 1, 2] rfl ?_
      exact ih (k + 1) (by omega)
  refine x_lv (lv' := [(3, .int 0), (1, .long 7), (0, .ref (ad (ro 16 0)))]) [0, 1, 2] rfl ?_
  exact loop1 (κ 0) 0 (by omega)
