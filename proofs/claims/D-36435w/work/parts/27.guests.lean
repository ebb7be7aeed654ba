/-! ===== GUESTS ===== -/
/-- the guests at one slot; at the first k slots -/
def sG1 (σ : xSg) (j k : Nat) : xSg := if σ 17 j k = -1 then σ else if σ 3 (σ 17 j k).toNatClampNeg 0 < 60 then sPlays (xup σ 9 j 0 (σ 9 j 0 + 5 * (sDp σ (σ 17 j k).toNatClampNeg (σ 6 j 0) / 8))) j k (σ 17 j k).toNatClampNeg (sDp σ (σ 17 j k).toNatClampNeg (σ 6 j 0) / 8) else σ
def sGn (σ : xSg) (j : Nat) : Nat → xSg
  | 0 => σ
  | k + 1 => sG1 (sGn σ j k) j k
theorem sPlays_n {σ : xSg} {j s d f i k : Nat} {ti : Int32} (h : f ≠ 3 ∧ f ≠ 10 ∧ f ≠ 11 ∧ f ≠ 18) : sPlays σ j s d ti f i k = σ f i k := by
  unfold sPlays
  rw [xup_n (by omega), xup_n (by omega), xup_n (by omega), xup_n (by omega)]
theorem sG1_n {σ : xSg} {j k f i s : Nat} (h : f ≠ 3 ∧ f ≠ 9 ∧ f ≠ 10 ∧ f ≠ 11 ∧ f ≠ 18) : sG1 σ j k f i s = σ f i s := by
  unfold sG1
  split
  · rfl
  · split
    · rw [sPlays_n (by omega), xup_n (by omega)]
    · rfl
theorem sGn_n {σ : xSg} {j f i s : Nat} (h : f ≠ 3 ∧ f ≠ 9 ∧ f ≠ 10 ∧ f ≠ 11 ∧ f ≠ 18) : ∀ k, sGn σ j k f i s = σ f i s
  | 0 => rfl
  | k + 1 => (sG1_n h).trans (sGn_n h k)
set_option maxHeartbeats 4000000 in
theorem k1_guests {G : xG} {ad : Nat → Nat} {κ : xKp} {σ : xSg} {m t : xK} (hI : xIk κ) (hS : xIs κ σ) {j : Nat} (hj : j < κ 1) : xM G yX1_guests (ws_ yX1_guests cX1_guests 5 none) 7 160 0 0 [.ref (ad (ro 0 0)), .ref (ad (ro 5 j))] ad (xj (xkC G.2.2.1 ad κ σ) m t) (xPv none ad (xj (xkC G.2.2.1 ad κ (sGn σ j 10)) m t)) xN := by
  refine xM_of (cc := cX1_guests) (by decide) rfl (fun F hF C => ?_)
  subst hF
  show xX F _ _ _ 0 0 0 [(0, .ref (ad (ro 0 0))), (1, .ref (ad (ro 5 j)))] []
  refine x_iconst (v := 0) C dX1_guests_0 (by decide) ?_
  refine x_istore_n (lv' := [(2, .int 0), (0, .ref (ad (ro 0 0))), (1, .ref (ad (ro 5 j)))]) C dX1_guests_1 rfl (by decide) rfl ?_
  have loop : ∀ n k : Nat, k + n = 10 → xX F (xQ F (xPv none ad (xj (xkC F.1.2.2.1 ad κ (sGn σ j 10)) m t)) (xN) 0 0) ad (xj (xkC F.1.2.2.1 ad κ (sGn σ j k)) m t) 0 0 2 [(2, .int (nI k)), (0, .ref (ad (ro 0 0))), (1, .ref (ad (ro 5 j)))] [] := by
    intro n
    induction n with
    | zero =>
      intro k hk
      obtain rfl : k = 10 := by omega
      refine x_iload_n C dX1_guests_2 rfl 0 rfl ?_
      refine x_bipush (v := 10) C dX1_guests_3 (by decide) ?_
      refine x_icmp_ge (tgt := 94) C dX1_guests_5 (by decide) (fun _ => ?_) (fun h => absurd (by decide) h)
      exact x_vret C dX1_guests_94 (Nat.le_of_ble_eq_true rfl) (Nat.le_of_ble_eq_true rfl) ⟨rfl, rfl, rfl⟩
    | succ n ih =>
      intro k hk
      refine x_iload_n C dX1_guests_2 rfl 0 rfl ?_
      refine x_bipush (v := 10) C dX1_guests_3 (by decide) ?_
      refine x_icmp_ge (tgt := 94) C dX1_guests_5 (by decide) (fun h => absurd ((nI_le_iff (a := 10) (by omega) (by omega)).mp h) (by omega)) (fun _ => ?_)
      refine x_aload_n C dX1_guests_8 rfl 2 rfl ?_
      refine x_getR C fl_X1_117 (r := ro 5 j) rfl (xj_c (by decide) (xkC_box hj)) (v := .ref (ad (ro 6 j))) rfl dX1_guests_9 ?_
      refine x_iload_n C dX1_guests_12 rfl 0 rfl ?_
      refine xi_ald C k rfl (xj_c (by decide) (xkC_slots hj)) rfl (show k < 10 by omega) rfl dX1_guests_13 ?_
      refine x_top (y := (sGn σ j k) 17 j k) rfl ?_
      refine x_iconst (v := -1) C dX1_guests_14 (by decide) ?_
      refine x_icmp_ne (tgt := 22) C dX1_guests_15 (by decide) (fun c1 => ?_) (fun c1 => ?_)
      · obtain ⟨d, hd, e17⟩ : ∃ d, d < κ 0 ∧ sGn σ j k 17 j k = nI d := by
          rw [sGn_n (by decide) k] at c1 ⊢
          exact (hS j hj k (by omega)).resolve_left c1
        have hdc : (sGn σ j k 17 j k).toNatClampNeg = d := by rw [e17]; exact nI_clamp (by have := hI.2.2.2.2.1; omega)
        refine x_aload_n C dX1_guests_22 rfl 1 rfl ?_
        refine x_get C fl_X1_28 (r := ro 0 0) rfl (xj_c (by decide) xkC_sr) (v := .ref (ad (ro 1 0))) rfl dX1_guests_23 ?_
        refine x_aload_n C dX1_guests_26 rfl 2 rfl ?_
        refine x_getR C fl_X1_117 (r := ro 5 j) rfl (xj_c (by decide) (xkC_box hj)) (v := .ref (ad (ro 6 j))) rfl dX1_guests_27 ?_
        refine x_iload_n C dX1_guests_30 rfl 0 rfl ?_
        refine xi_ald C k rfl (xj_c (by decide) (xkC_slots hj)) rfl (show k < 10 by omega) rfl dX1_guests_31 ?_
        refine x_top (y := (sGn σ j k) 17 j k) rfl ?_
        refine x_top (y := nI d) (e17) ?_
        refine x_callV (rest := []) C (k_getD hI hd) cf_X1_80 ⟨rfl, hd_J2_get⟩ ⟨Nat.le_of_ble_eq_true rfl, Nat.le_of_ble_eq_true rfl⟩ (xR_o xci1 rfl (xj_c (by decide) xkC_L1)) rfl (Nat.le_of_ble_eq_true rfl) ⟨Nat.le_of_ble_eq_true rfl, Nat.le_of_ble_eq_true rfl⟩ dX1_guests_32 (xPv_i ?_) xN_e
        refine x_cast C (xR_o xci2 rfl (xj_c (by decide) (xkC_disc hd))) q247 dX1_guests_35 ?_
        refine x_astore_n (lv' := [(3, .ref (ad (ro 11 d))), (2, .int (nI k)), (0, .ref (ad (ro 0 0))), (1, .ref (ad (ro 5 j)))]) C dX1_guests_38 rfl (by decide) rfl ?_
        refine x_aload_n C dX1_guests_39 rfl 0 rfl ?_
        refine x_ifnull C dX1_guests_40 ?_
        refine x_aload_n C dX1_guests_43 rfl 0 rfl ?_
        refine x_callV (rest := []) C (k_isWornOut (xj_c (by decide) (xkC_disc hd))) cf_X1_149 ⟨rfl, hd_X3_isWornOut⟩ ⟨Nat.le_of_ble_eq_true rfl, Nat.le_of_ble_eq_true rfl⟩ (xR_o xci2 rfl (xj_c (by decide) (xkC_disc hd))) rfl (Nat.le_of_ble_eq_true rfl) ⟨Nat.le_of_ble_eq_true rfl, Nat.le_of_ble_eq_true rfl⟩ dX1_guests_44 (xPv_i ?_) xN_e
        refine x_if_ne (tgt := 88) C dX1_guests_47 (by decide) (fun c2 => ?_) (fun c2 => ?_)
        · have c3 : ¬ sGn σ j k 3 d 0 < 60 := fun h => c2 (if_pos h)
          refine x_iinc (k := 1) (v := nI (k + 1)) (lv' := [(2, .int (nI (k + 1))), (3, .ref (ad (ro 11 d))), (0, .ref (ad (ro 0 0))), (1, .ref (ad (ro 5 j)))]) C dX1_guests_88 rfl (nI_1 k) (by decide) rfl ?_
          refine x_goto (tgt := 2) C dX1_guests_91 (by decide) ?_
          refine x_lv (lv' := [(2, .int (nI (k + 1))), (0, .ref (ad (ro 0 0))), (1, .ref (ad (ro 5 j)))]) [0, 2, 3] rfl ?_
          have e9 : sGn σ j (k + 1) = sGn σ j k := by show sG1 _ _ _ = _; unfold sG1; rw [if_neg c1, hdc, if_neg c3]
          have h9 := ih (k + 1) (by omega)
          rw [e9] at h9
          exact h9
        · have c3 : sGn σ j k 3 d 0 < 60 := by
            by_cases h : sGn σ j k 3 d 0 < 60
            · exact h
            · exact absurd ((if_neg h).symm.trans c2) (by decide)
          refine x_aload_n C dX1_guests_50 rfl 0 rfl ?_
          refine x_aload_n C dX1_guests_51 rfl 2 rfl ?_
          refine x_get C fl_X1_172 (r := ro 0 0) rfl (xj_c (by decide) xkC_sr) (v := .int ((sGn σ j k) 21 0 0)) rfl dX1_guests_52 ?_
          refine x_aload_n C dX1_guests_55 rfl 3 rfl ?_
          refine x_getR C fl_X1_175 (r := ro 5 j) rfl (xj_c (by decide) (xkC_box hj)) (v := .int ((sGn σ j k) 6 j 0)) rfl dX1_guests_56 ?_
          refine x_callV (rest := []) C (k_dpull (xj_c (by decide) (xkC_disc hd)) ((sGn σ j k) 21 0 0) ((sGn σ j k) 6 j 0)) cf_X1_178 ⟨rfl, hd_X3_pull⟩ ⟨Nat.le_of_ble_eq_true rfl, Nat.le_of_ble_eq_true rfl⟩ (xR_o xci2 rfl (xj_c (by decide) (xkC_disc hd))) rfl (Nat.le_of_ble_eq_true rfl) ⟨Nat.le_of_ble_eq_true rfl, Nat.le_of_ble_eq_true rfl⟩ dX1_guests_59 (xPv_i ?_) xN_e
          refine x_bipush (v := 8) C dX1_guests_62 (by decide) ?_
          refine x_idiv C dX1_guests_64 (by decide) ?_
          refine x_istore (lv' := [(4, .int ((sPull ((sGn σ j k) 0 d 0) ((sGn σ j k) 1 d 0) ((sGn σ j k) 2 d 0) ((sGn σ j k) 3 d 0) ((sGn σ j k) 4 d 0) ((sGn σ j k) 21 0 0) ((sGn σ j k) 6 j 0)) / 8)), (3, .ref (ad (ro 11 d))), (2, .int (nI k)), (0, .ref (ad (ro 0 0))), (1, .ref (ad (ro 5 j)))]) C dX1_guests_65 (by decide) rfl ?_
          refine x_aload_n C dX1_guests_67 rfl 4 rfl ?_
          refine x_dup C dX1_guests_68 rfl ?_
          refine x_get C fl_X1_110 (r := ro 5 j) rfl (xj_c (by decide) (xkC_box hj)) (v := .int ((sGn σ j k) 9 j 0)) rfl dX1_guests_69 ?_
          refine x_iconst (v := 5) C dX1_guests_72 (by decide) ?_
          refine x_iload C dX1_guests_73 0 rfl ?_
          refine x_imul C dX1_guests_75 ?_
          refine x_iadd C dX1_guests_76 ?_
          refine x_put C fl_X1_110 (r := ro 5 j) rfl (xj_c (by decide) (xkC_box hj)) rfl rfl (Nat.le_of_ble_eq_true rfl) dX1_guests_77 ?_
          refine x_pc (k := 5) (by decide) (pc_box9 hj) ?_
          refine x_aload_n C dX1_guests_80 rfl 4 rfl ?_
          refine x_iload_n C dX1_guests_81 rfl 2 rfl ?_
          refine x_aload_n C dX1_guests_82 rfl 1 rfl ?_
          refine x_iload C dX1_guests_83 0 rfl ?_
          refine x_callV (rest := []) C (k4_plays hj (show k < 10 by omega) hd (sDp (sGn σ j k) d (sGn σ j k 6 j 0) / 8)) cf_X1_152 ⟨rfl, hd_X4_plays⟩ ⟨Nat.le_of_ble_eq_true rfl, Nat.le_of_ble_eq_true rfl⟩ (xR_o xci3 rfl (xj_c (by decide) (xkC_box hj))) rfl (Nat.le_of_ble_eq_true rfl) ⟨Nat.le_of_ble_eq_true rfl, Nat.le_of_ble_eq_true rfl⟩ dX1_guests_85 (xPv_i ?_) xN_e
          refine x_iinc (k := 2) (v := nI (k + 1)) (lv' := [(2, .int (nI (k + 1))), (4, .int ((sPull ((sGn σ j k) 0 d 0) ((sGn σ j k) 1 d 0) ((sGn σ j k) 2 d 0) ((sGn σ j k) 3 d 0) ((sGn σ j k) 4 d 0) ((sGn σ j k) 21 0 0) ((sGn σ j k) 6 j 0)) / 8)), (3, .ref (ad (ro 11 d))), (0, .ref (ad (ro 0 0))), (1, .ref (ad (ro 5 j)))]) C dX1_guests_88 rfl (nI_1 k) (by decide) rfl ?_
          refine x_goto (tgt := 2) C dX1_guests_91 (by decide) ?_
          refine x_lv (lv' := [(2, .int (nI (k + 1))), (0, .ref (ad (ro 0 0))), (1, .ref (ad (ro 5 j)))]) [0, 3, 4] rfl ?_
          have e9 : sGn σ j (k + 1) = sPlays (xup (sGn σ j k) 9 j 0 (sGn σ j k 9 j 0 + 5 * (sDp (sGn σ j k) d (sGn σ j k 6 j 0) / 8))) j k d (sDp (sGn σ j k) d (sGn σ j k 6 j 0) / 8) := by show sG1 _ _ _ = _; unfold sG1; rw [if_neg c1, hdc, if_pos c3]
          have h9 := ih (k + 1) (by omega)
          rw [e9] at h9
          exact h9
      · refine x_null C dX1_guests_18 ?_
        refine x_goto (tgt := 38) C dX1_guests_19 (by decide) ?_
        refine x_astore_nN (lv' := [(3, .null), (2, .int (nI k)), (0, .ref (ad (ro 0 0))), (1, .ref (ad (ro 5 j)))]) C dX1_guests_38 rfl (by decide) rfl ?_
        refine x_aload_nN C dX1_guests_39 rfl 0 rfl ?_
        refine x_ifnullN (tgt := 88) C dX1_guests_40 (by decide) ?_
        refine x_iinc (k := 1) (v := nI (k + 1)) (lv' := [(2, .int (nI (k + 1))), (3, .null), (0, .ref (ad (ro 0 0))), (1, .ref (ad (ro 5 j)))]) C dX1_guests_88 rfl (nI_1 k) (by decide) rfl ?_
        refine x_goto (tgt := 2) C dX1_guests_91 (by decide) ?_
        refine x_lv (lv' := [(2, .int (nI (k + 1))), (0, .ref (ad (ro 0 0))), (1, .ref (ad (ro 5 j)))]) [0, 2, 3] rfl ?_
        have e9 : sGn σ j (k + 1) = sGn σ j k := by show sG1 _ _ _ = _; unfold sG1; rw [if_pos c1]
        have h9 := ih (k + 1) (by omega)
        rw [e9] at h9
        exact h9
  refine x_lv (lv' := [(2, .int 0), (0, .ref (ad (ro 0 0))), (1, .ref (ad (ro 5 j)))]) [0, 1, 2] rfl ?_
  exact loop 10 0 (by omega)
