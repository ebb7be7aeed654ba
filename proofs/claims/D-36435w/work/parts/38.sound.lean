/-! ===== bestWorth, isBoxSound, isSound ===== -/
theorem sOg_max {p : Nat → Nat} : ∀ (n k : Nat), k < n → p k ≤ p (sOg p n)
  | 0, k, h => absurd h (Nat.not_lt_zero _)
  | n + 1, k, h => by
    have ih := sOg_max (p := p) n
    show p k ≤ p (if p (sOg p n) < p n then n else sOg p n)
    by_cases c : p (sOg p n) < p n
    · rw [if_pos c]
      rcases Nat.lt_or_ge k n with h1 | h1
      · have := ih k h1; omega
      · have : k = n := by omega
        subst this; exact Nat.le_refl _
    · rw [if_neg c]
      rcases Nat.lt_or_ge k n with h1 | h1
      · exact ih k h1
      · have : k = n := by omega
        subst this; omega
theorem sOl_min {p : Nat → Nat} : ∀ (n k : Nat), k < n → p (sOl p n) ≤ p k
  | 0, k, h => absurd h (Nat.not_lt_zero _)
  | n + 1, k, h => by
    have ih := sOl_min (p := p) n
    show p (if p n < p (sOl p n) then n else sOl p n) ≤ p k
    by_cases c : p n < p (sOl p n)
    · rw [if_pos c]
      rcases Nat.lt_or_ge k n with h1 | h1
      · have := ih k h1; omega
      · have : k = n := by omega
        subst this; exact Nat.le_refl _
    · rw [if_neg c]
      rcases Nat.lt_or_ge k n with h1 | h1
      · exact ih k h1
      · have : k = n := by omega
        subst this; omega
theorem sTh_mem {σ : xSg} {ta : Int32} {d : Nat} (hv : σ 4 d 0 = -1) : ∀ c, d < c → ∃ k, k < (sTh σ ta c).1 ∧ (sTh σ ta c).2 k = (sDp σ d ta).toNatClampNeg
  | 0, h => absurd h (Nat.not_lt_zero _)
  | c + 1, h => by
    have ih := sTh_mem (ta := ta) hv c
    rcases Nat.lt_or_ge d c with h1 | h1
    · obtain ⟨k, hk, e⟩ := ih h1
      by_cases c1 : σ 4 c 0 = -1
      · rw [show sTh σ ta (c + 1) = _ from if_pos c1]
        exact ⟨k, Nat.lt_succ_of_lt hk, (if_neg (Nat.ne_of_lt hk)).trans e⟩
      · rw [show sTh σ ta (c + 1) = _ from if_neg c1]
        exact ⟨k, hk, e⟩
    · have e9 : d = c := by omega
      subst e9
      rw [show sTh σ ta (d + 1) = _ from if_pos hv]
      exact ⟨_, Nat.lt_succ_self _, if_pos rfl⟩
theorem sTh_b {κ : xKp} {σ : xSg} {ta : Int32} (hB : xPb κ σ) : ∀ c, c ≤ κ 0 → ∀ k, k < (sTh σ ta c).1 → (sTh σ ta c).2 k < 128
  | 0, _, k, h => absurd h (Nat.not_lt_zero _)
  | c + 1, hc, k, h => by
    have ih := sTh_b hB (ta := ta) c (by omega)
    by_cases c1 : σ 4 c 0 = -1
    · rw [show sTh σ ta (c + 1) = _ from if_pos c1] at h ⊢
      show (if k = (sTh σ ta c).1 then (sDp σ c ta).toNatClampNeg else (sTh σ ta c).2 k) < 128
      by_cases c2 : k = (sTh σ ta c).1
      · rw [if_pos c2]
        obtain ⟨p, hp, e⟩ := hB c (by omega) ta
        rw [e, nI_clamp (by omega)]; exact hp
      · rw [if_neg c2]
        refine ih k ?_
        have h2 : k < (sTh σ ta c).1 + 1 := h
        omega
    · rw [show sTh σ ta (c + 1) = _ from if_neg c1] at h ⊢
      exact ih k h
theorem nI_sub_toInt {a b : Nat} (ha : a < 1000) (hb : b < 1000) : (nI a - nI b).toInt = (a : Int) - b := by
  rw [Int32.toInt_sub, nI_toInt (by omega), nI_toInt (by omega)]
  rw [Int.bmod_eq_of_le (by omega) (by omega)]
theorem sBo_ge {κ : xKp} {σ : xSg} (hB : xPb κ σ) (hS : xIs κ σ) (h30 : κ 0 ≤ 30) {j d s : Nat} (hj : j < κ 1) (hs : s < 10) (hd : d < κ 0) (hv : σ 4 d 0 = -1) : ¬ sBo κ σ j 1 < sDp σ d (σ 6 j 0) - sPo σ j s := by
  obtain ⟨k, hk, ek⟩ := sTh_mem (ta := σ 6 j 0) hv (κ 0) hd
  obtain ⟨p, hp, ep⟩ := hB d hd (σ 6 j 0)
  obtain ⟨r, hr, er, er2⟩ := sPo_b hB hS h30 hj hs
  rw [ep, nI_clamp (by omega)] at ek
  have hM : p ≤ (sTh σ (σ 6 j 0) (κ 0)).2 (sOg (sTh σ (σ 6 j 0) (κ 0)).2 (sTh σ (σ 6 j 0) (κ 0)).1) := by rw [← ek]; exact sOg_max _ k hk
  have hm : sPh σ j (sOl (sPh σ j) 10) ≤ r := by rw [← er2]; exact sOl_min _ s hs
  have hMb : (sTh σ (σ 6 j 0) (κ 0)).2 (sOg (sTh σ (σ 6 j 0) (κ 0)).2 (sTh σ (σ 6 j 0) (κ 0)).1) < 128 := sTh_b hB (κ 0) (Nat.le_refl _) _ (sOg_n (by omega))
  intro h
  rw [Int32.lt_iff_toInt_lt, ep, er, nI_sub_toInt (by omega) (by omega)] at h
  have e1 : sBo κ σ j 1 = 0 + (if 0 < nI ((sTh σ (σ 6 j 0) (κ 0)).2 (sOg (sTh σ (σ 6 j 0) (κ 0)).2 (sTh σ (σ 6 j 0) (κ 0)).1)) - nI (sPh σ j (sOl (sPh σ j) 10)) then nI ((sTh σ (σ 6 j 0) (κ 0)).2 (sOg (sTh σ (σ 6 j 0) (κ 0)).2 (sTh σ (σ 6 j 0) (κ 0)).1)) - nI (sPh σ j (sOl (sPh σ j) 10)) else 0) := if_neg (by omega)
  rw [e1, Int32.zero_add] at h
  generalize (sTh σ (σ 6 j 0) (κ 0)).2 (sOg (sTh σ (σ 6 j 0) (κ 0)).2 (sTh σ (σ 6 j 0) (κ 0)).1) = M at *
  generalize sPh σ j (sOl (sPh σ j) 10) = mm at *
  have hsub := nI_sub_toInt (a := M) (b := mm) (by omega) (by omega)
  by_cases c : 0 < nI M - nI mm
  · rw [if_pos c, hsub] at h; omega
  · rw [if_neg c] at h
    rw [Int32.lt_iff_toInt_lt, hsub] at c
    have h0 : (0 : Int32).toInt = 0 := rfl
    rw [h0] at c h
    omega
/-- places and slots agree -/
def xIc (κ : xKp) (σ : xSg) : Prop := ∀ j, j < κ 1 → ∀ s, s < 10 → ∀ d, d < κ 0 → σ 17 j s = nI d → σ 4 d 0 = nI (10 * j + s)
set_option maxHeartbeats 4000000 in
theorem k1_bestWorth {G : xG} {ad : Nat → Nat} {κ : xKp} {σ : xSg} {m t : xK} (hI : xIk κ) (hS : xIs κ σ) (hB : xPb κ σ) (ht : ∀ k, 50 ≤ k → k ≤ 58 → t k 0 = none) (b c : Int32) : xM G yX1_bestWorth (ws_ yX1_bestWorth cX1_bestWorth 4 (some Jvm.ClassFile.FieldType.int)) 20 600 70 2600 [.ref (ad (ro 0 0)), .int b, .int c] ad (xj (xkC G.2.2.1 ad κ σ) m t) (fun v ad' ct' => ad' = ad ∧ ct' = xj (xkC G.2.2.1 ad κ σ) m t ∧ ∃ j0, j0 < κ 1 ∧ b = nI j0 ∧ ∃ M, M ≤ 3 ∧ c = nI M ∧ v = some (.int (sBo κ σ j0 M))) (fun E ad' ct' => ad' = ad ∧ ct' = xj (xkC G.2.2.1 ad κ σ) m t ∧ (E = xIOB ∧ ¬ xIx b (κ 1) ∨ E = xIAE ∧ xIx b (κ 1) ∧ ¬ (0 ≤ c ∧ c ≤ 3))) := by
  refine xM_of (cc := cX1_bestWorth) (by decide) rfl (fun F hF C => ?_)
  subst hF
  show xX F _ _ _ 0 0 0 [(0, .ref (ad (ro 0 0))), (1, .int b), (2, .int c)] []
  refine x_aload_n C dX1_bestWorth_0 rfl 0 rfl ?_
  refine x_iload_n C dX1_bestWorth_1 rfl 1 rfl ?_
  refine x_callV (rest := []) C (k1_boxAt hI b) cf_X1_84 ⟨rfl, hd_X1_boxAt⟩ ⟨Nat.le_of_ble_eq_true rfl, Nat.le_of_ble_eq_true rfl⟩ (xR_o xci0 rfl (xj_c (by decide) xkC_sr)) rfl (Nat.le_of_ble_eq_true rfl) ⟨Nat.le_of_ble_eq_true rfl, Nat.le_of_ble_eq_true rfl⟩ dX1_bestWorth_2 (fun v ad' ct' q => ?_) (fun E ad' ct' q => ?_)
  rotate_left
  · obtain ⟨rfl, e9, rfl, hx⟩ := q; obtain rfl := e9.symm
    exact x_out C (fun _ h => nomatch h) (Nat.le_of_ble_eq_true rfl) (Nat.le_of_ble_eq_true rfl) ⟨rfl, rfl, Or.inl ⟨rfl, hx⟩⟩
  obtain ⟨e9, rfl, j, hj, rfl, rfl⟩ := q; obtain rfl := e9.symm
  refine x_astore_n (lv' := [(3, .ref (ad (ro 5 j))), (0, .ref (ad (ro 0 0))), (1, .int (nI j)), (2, .int c)]) C dX1_bestWorth_5 rfl (by decide) rfl ?_
  refine x_iload_n C dX1_bestWorth_6 rfl 3 rfl ?_
  refine x_iconst (v := 0) C dX1_bestWorth_7 (by decide) ?_
  refine x_iconst (v := 3) C dX1_bestWorth_8 (by decide) ?_
  refine x_callS (rest := []) C (k_isBetween c 0 3) cf_X1_45 hd_X1_isBetween ⟨Nat.le_of_ble_eq_true rfl, Nat.le_of_ble_eq_true rfl⟩ rfl (Nat.le_of_ble_eq_true rfl) ⟨Nat.le_of_ble_eq_true rfl, Nat.le_of_ble_eq_true rfl⟩ dX1_bestWorth_9 (xPv_i ?_) xN_e
  refine x_callS (rest := []) C (k_require (if 0 ≤ c ∧ c ≤ 3 then 1 else 0)) cf_X1_49 hd_X1_require ⟨Nat.le_of_ble_eq_true rfl, Nat.le_of_ble_eq_true rfl⟩ rfl (Nat.le_of_ble_eq_true rfl) ⟨Nat.le_of_ble_eq_true rfl, Nat.le_of_ble_eq_true rfl⟩ dX1_bestWorth_12 (fun v ad' ct' q => ?_) (fun E ad' ct' q => ?_)
  rotate_left
  · obtain ⟨hc, rfl, e9, rfl⟩ := q; obtain rfl := e9.symm
    exact x_out C (fun _ h => nomatch h) (Nat.le_of_ble_eq_true rfl) (Nat.le_of_ble_eq_true rfl) ⟨rfl, rfl, Or.inr ⟨rfl, xIx_of (by have := hI.2.2.2.2.2; omega) hj, i00 hc⟩⟩
  obtain ⟨hc, rfl, e9, rfl⟩ := q; obtain rfl := e9.symm
  have hc3 := i01 hc
  obtain ⟨M, hM, rfl⟩ := xIx_nI (n := 4) (by decide) hc3
  refine x_aload_n C dX1_bestWorth_15 rfl 1 rfl ?_
  refine x_aload_n C dX1_bestWorth_16 rfl 0 rfl ?_
  refine x_iload_n C dX1_bestWorth_17 rfl 3 rfl ?_
  refine x_callV (rest := []) C (k1_bestOf hI hS hB ht hj (show M ≤ 9 by omega)) cf_X1_259 ⟨rfl, hd_X1_bestOf⟩ ⟨Nat.le_of_ble_eq_true rfl, Nat.le_of_ble_eq_true rfl⟩ (xR_o xci0 rfl (xj_c (by decide) xkC_sr)) rfl (Nat.le_of_ble_eq_true rfl) ⟨Nat.le_of_ble_eq_true rfl, Nat.le_of_ble_eq_true rfl⟩ dX1_bestWorth_18 (fun v ad9 ct9 q => ?_) xN_e
  obtain ⟨rfl, rfl, rfl⟩ := q
  exact x_iret C dX1_bestWorth_21 (Nat.le_of_ble_eq_true rfl) (Nat.le_of_ble_eq_true rfl) ⟨rfl, rfl, j, hj, rfl, M, by omega, rfl, rfl⟩
set_option maxHeartbeats 4000000 in
theorem k1_isBoxSound {G : xG} {ad : Nat → Nat} {κ : xKp} {σ : xSg} {m t : xK} (hI : xIk κ) (hS : xIs κ σ) (hB : xPb κ σ) (hQ : xIq κ σ) (hC : xIc κ σ) (ht : ∀ k, 50 ≤ k → k ≤ 58 → t k 0 = none) {j : Nat} (hj : j < κ 1) : xM G yX1_isBoxSound (ws_ yX1_isBoxSound cX1_isBoxSound 8 (some Jvm.ClassFile.FieldType.boolean)) 18 480 60 2540 [.ref (ad (ro 0 0)), .ref (ad (ro 5 j)), .int (nI j)] ad (xj (xkC G.2.2.1 ad κ σ) m t) (xPv (some (.int 1)) ad (xj (xkC G.2.2.1 ad κ σ) m t)) xN := by
  refine xM_of (cc := cX1_isBoxSound) (by decide) rfl (fun F hF C => ?_)
  subst hF
  show xX F _ _ _ 0 0 0 [(0, .ref (ad (ro 0 0))), (1, .ref (ad (ro 5 j))), (2, .int (nI j))] []
  have h30 := hI.2.2.2.2.1
  have h14 := hI.2.2.2.2.2
  refine x_aload_n C dX1_isBoxSound_0 rfl 1 rfl ?_
  refine x_getR C fl_X1_121 (r := ro 5 j) rfl (xj_c (by decide) (xkC_box hj)) (v := .ref (ad (ro 9 j))) rfl dX1_isBoxSound_1 ?_
  refine x_callV (rest := []) C (k_size (xj_c (by decide) (xkC_q hj))) cf_X1_53 ⟨rfl, hd_J2_size⟩ ⟨Nat.le_of_ble_eq_true rfl, Nat.le_of_ble_eq_true rfl⟩ (xR_o xci1 rfl (xj_c (by decide) (xkC_q hj))) rfl (Nat.le_of_ble_eq_true rfl) ⟨Nat.le_of_ble_eq_true rfl, Nat.le_of_ble_eq_true rfl⟩ dX1_isBoxSound_4 (xPv_i ?_) xN_e
  refine x_bipush (v := 8) C dX1_isBoxSound_7 (by decide) ?_
  refine x_icmp_gt (tgt := 16) C dX1_isBoxSound_9 (by decide) (fun h => absurd ((nI_lt_iff (a := 8) (by decide) (by have := (hQ j hj).1; omega)).mp h) (by have := (hQ j hj).1; omega)) (fun _ => ?_)
  refine x_iconst (v := 1) C dX1_isBoxSound_12 (by decide) ?_
  refine x_goto (tgt := 17) C dX1_isBoxSound_13 (by decide) ?_
  refine x_istore_n (lv' := [(3, .int 1), (0, .ref (ad (ro 0 0))), (1, .ref (ad (ro 5 j))), (2, .int (nI j))]) C dX1_isBoxSound_17 rfl (by decide) rfl ?_
  refine x_aload_n C dX1_isBoxSound_18 rfl 1 rfl ?_
  refine x_aload_n C dX1_isBoxSound_19 rfl 2 rfl ?_
  refine x_iconst (v := 1) C dX1_isBoxSound_20 (by decide) ?_
  refine x_callV (rest := []) C (k1_bestOf hI hS hB ht hj (show 1 ≤ 9 by decide)) cf_X1_259 ⟨rfl, hd_X1_bestOf⟩ ⟨Nat.le_of_ble_eq_true rfl, Nat.le_of_ble_eq_true rfl⟩ (xR_o xci0 rfl (xj_c (by decide) xkC_sr)) rfl (Nat.le_of_ble_eq_true rfl) ⟨Nat.le_of_ble_eq_true rfl, Nat.le_of_ble_eq_true rfl⟩ dX1_isBoxSound_21 (fun v ad9 ct9 q => ?_) xN_e
  obtain ⟨e9, rfl, rfl⟩ := q
  obtain rfl := e9.symm
  refine x_istore (lv' := [(4, .int (sBo κ σ j 1)), (3, .int 1), (0, .ref (ad (ro 0 0))), (1, .ref (ad (ro 5 j))), (2, .int (nI j))]) C dX1_isBoxSound_24 (by decide) rfl ?_
  refine x_iconst (v := 0) C dX1_isBoxSound_26 (by decide) ?_
  refine x_istore (lv' := [(5, .int 0), (4, .int (sBo κ σ j 1)), (3, .int 1), (0, .ref (ad (ro 0 0))), (1, .ref (ad (ro 5 j))), (2, .int (nI j))]) C dX1_isBoxSound_27 (by decide) rfl ?_
  have inner : ∀ s : Nat, s < 10 → xX F (xQ F (xPv (some (.int 1)) ad (xj (xkC F.1.2.2.1 ad κ σ) m t)) xN 60 2540) ad (xj (xkC F.1.2.2.1 ad κ σ) m t) (50 + (s + 1)) (2500 + 4 * (s + 1)) 29 [(5, .int (nI (s + 1))), (4, .int (sBo κ σ j 1)), (3, .int 1), (0, .ref (ad (ro 0 0))), (1, .ref (ad (ro 5 j))), (2, .int (nI j))] [] → xX F (xQ F (xPv (some (.int 1)) ad (xj (xkC F.1.2.2.1 ad κ σ) m t)) xN 60 2540) ad (xj (xkC F.1.2.2.1 ad κ σ) m t) (50 + s) (2500 + 4 * s) 89 [(5, .int (nI s)), (4, .int (sBo κ σ j 1)), (3, .int 1), (0, .ref (ad (ro 0 0))), (1, .ref (ad (ro 5 j))), (2, .int (nI j))] [.ref (ad (ro 1 0))] := by
    intro s hs9 kk
    refine x_iter C (kL := 1) (by decide) xkC_L1 (ht 58 (by decide) (by decide)) ⟨Nat.le_of_ble_eq_true rfl, Nat.le_of_ble_eq_true rfl⟩ (Nat.le_of_ble_eq_true rfl) ⟨show _ ≤ 60 by omega, show _ ≤ 2540 by omega⟩ dX1_isBoxSound_89 (fun ad2 had => ?_)
    rw [← had (ro 0 0) (ro_ne (by decide) (by decide) (by omega))]
    rw [← had (ro 5 j) (ro_ne (by decide) (by decide) (by omega))]
    refine x_astore (lv' := [(6, .ref (ad2 (ro 58 0))), (5, .int (nI s)), (4, .int (sBo κ σ j 1)), (3, .int 1), (0, .ref (ad2 (ro 0 0))), (1, .ref (ad2 (ro 5 j))), (2, .int (nI j))]) C dX1_isBoxSound_92 (by decide) rfl ?_
    have l2 : ∀ (n c : Nat) (l : Int32), c + n = κ 0 → xX F (xQ F (xPv (some (.int 1)) ad (xj (xkC F.1.2.2.1 ad κ σ) m t)) xN 60 2540) ad2 (xj (xkC F.1.2.2.1 ad2 κ σ) m (cu t 58 0 (xIt c l (σ 26 0 0) (ad2 (ro 1 0))))) (50 + s + 1) (2500 + 4 * s + 4) 94 [(6, .ref (ad2 (ro 58 0))), (5, .int (nI s)), (4, .int (sBo κ σ j 1)), (3, .int 1), (0, .ref (ad2 (ro 0 0))), (1, .ref (ad2 (ro 5 j))), (2, .int (nI j))] [] := by
      intro n
      induction n with
      | zero =>
        intro c l hk
        have hL9 : xkC F.1.2.2.1 ad2 κ σ 1 0 = some (xAl (σ 26 0 0) (if κ 2 = 0 then F.1.2.2.1 301 else ad2 (ro 2 0)) (κ 0)) := rfl
        refine x_aload C dX1_isBoxSound_94 0 rfl ?_
        refine x_hasNext C (kL := 1) (by decide) hL9 (by omega) (by omega) ⟨Nat.le_of_ble_eq_true rfl, Nat.le_of_ble_eq_true rfl⟩ (Nat.le_of_ble_eq_true rfl) ⟨show _ ≤ 60 by omega, show _ ≤ 2540 by omega⟩ dX1_isBoxSound_96 ?_
        refine x_top (y := 0) (if_neg (by omega)) ?_
        refine x_if_eq (tgt := 162) C dX1_isBoxSound_101 (by decide) (fun _ => ?_) (fun h => absurd rfl h)
        refine x_backAd had (ht 58 (by decide) (by decide)) ?_
        rw [had (ro 0 0) (ro_ne (by decide) (by decide) (by omega))]
        rw [had (ro 5 j) (ro_ne (by decide) (by decide) (by omega))]
        refine x_iinc (k := 1) (v := nI (s + 1)) (lv' := [(5, .int (nI (s + 1))), (6, .ref (ad2 (ro 58 0))), (4, .int (sBo κ σ j 1)), (3, .int 1), (0, .ref (ad (ro 0 0))), (1, .ref (ad (ro 5 j))), (2, .int (nI j))]) C dX1_isBoxSound_162 rfl (nI_1 s) (by decide) rfl ?_
        refine x_goto (tgt := 29) C dX1_isBoxSound_165 (by decide) ?_
        refine x_lv (lv' := [(5, .int (nI (s + 1))), (4, .int (sBo κ σ j 1)), (3, .int 1), (0, .ref (ad (ro 0 0))), (1, .ref (ad (ro 5 j))), (2, .int (nI j))]) [0, 2, 3, 4, 5, 6] rfl ?_
        exact kk
      | succ n ih2 =>
        intro c l hk
        have hL9 : xkC F.1.2.2.1 ad2 κ σ 1 0 = some (xAl (σ 26 0 0) (if κ 2 = 0 then F.1.2.2.1 301 else ad2 (ro 2 0)) (κ 0)) := rfl
        refine x_aload C dX1_isBoxSound_94 0 rfl ?_
        refine x_hasNext C (kL := 1) (by decide) hL9 (by omega) (by omega) ⟨Nat.le_of_ble_eq_true rfl, Nat.le_of_ble_eq_true rfl⟩ (Nat.le_of_ble_eq_true rfl) ⟨show _ ≤ 60 by omega, show _ ≤ 2540 by omega⟩ dX1_isBoxSound_96 ?_
        refine x_top (y := 1) (if_pos (by omega)) ?_
        refine x_if_eq (tgt := 162) C dX1_isBoxSound_101 (by decide) (fun h => absurd h (by decide)) (fun _ => ?_)
        have hc1 : c < κ 0 := by omega
        have h13 := hI.1
        have h33 := hI.2.1
        have hne : κ 2 ≠ 0 := by omega
        refine x_aload C dX1_isBoxSound_104 0 rfl ?_
        refine x_next C (kL := 1) (kA := 2) (by decide) (by decide) (hL9.trans (by rw [if_neg hne])) (xkC_da hne) hc1 h13 (by omega) (if_pos hc1) ⟨Nat.le_of_ble_eq_true rfl, Nat.le_of_ble_eq_true rfl⟩ (Nat.le_of_ble_eq_true rfl) ⟨show _ ≤ 60 by omega, show _ ≤ 2540 by omega⟩ dX1_isBoxSound_106 ?_
        refine x_cast C (xR_o xci2 rfl (xj_c (by decide) (xkC_disc hc1))) q247 dX1_isBoxSound_111 ?_
        refine x_astore (lv' := [(7, .ref (ad2 (ro 11 c))), (6, .ref (ad2 (ro 58 0))), (5, .int (nI s)), (4, .int (sBo κ σ j 1)), (3, .int 1), (0, .ref (ad2 (ro 0 0))), (1, .ref (ad2 (ro 5 j))), (2, .int (nI j))]) C dX1_isBoxSound_114 (by decide) rfl ?_
        refine x_iload_n C dX1_isBoxSound_116 rfl 4 rfl ?_
        refine x_aload C dX1_isBoxSound_117 0 rfl ?_
        refine x_get C fl_X1_169 (r := ro 11 c) rfl (xj_c (by decide) (xkC_disc hc1)) (v := .int (σ 4 c 0)) rfl dX1_isBoxSound_119 ?_
        refine x_iconst (v := -1) C dX1_isBoxSound_122 (by decide) ?_
        refine x_icmp_ne (tgt := 152) C dX1_isBoxSound_123 (by decide) (fun c1 => ?_) (fun c1 => ?_)
        · refine x_iconst (v := 1) C dX1_isBoxSound_152 (by decide) ?_
          refine x_goto (tgt := 157) C dX1_isBoxSound_153 (by decide) ?_
          refine x_iand C dX1_isBoxSound_157 ?_
          refine x_top (y := 1) (rfl) ?_
          refine x_istore_n (lv' := [(3, .int 1), (7, .ref (ad2 (ro 11 c))), (6, .ref (ad2 (ro 58 0))), (5, .int (nI s)), (4, .int (sBo κ σ j 1)), (0, .ref (ad2 (ro 0 0))), (1, .ref (ad2 (ro 5 j))), (2, .int (nI j))]) C dX1_isBoxSound_158 rfl (by decide) rfl ?_
          refine x_goto (tgt := 94) C dX1_isBoxSound_159 (by decide) ?_
          refine x_lv (lv' := [(6, .ref (ad2 (ro 58 0))), (5, .int (nI s)), (4, .int (sBo κ σ j 1)), (3, .int 1), (0, .ref (ad2 (ro 0 0))), (1, .ref (ad2 (ro 5 j))), (2, .int (nI j))]) [2, 3, 4, 0, 5, 6, 7] rfl ?_
          exact ih2 (c + 1) (nI c) (by omega)
        · refine x_aload C dX1_isBoxSound_126 0 rfl ?_
          refine x_aload_n C dX1_isBoxSound_128 rfl 5 rfl ?_
          refine x_get C fl_X1_172 (r := ro 0 0) rfl (xj_c (by decide) xkC_sr) (v := .int (σ 21 0 0)) rfl dX1_isBoxSound_129 ?_
          refine x_aload_n C dX1_isBoxSound_132 rfl 6 rfl ?_
          refine x_getR C fl_X1_175 (r := ro 5 j) rfl (xj_c (by decide) (xkC_box hj)) (v := .int (σ 6 j 0)) rfl dX1_isBoxSound_133 ?_
          refine x_callV (rest := [.int 1]) C (k_dpull (xj_c (by decide) (xkC_disc hc1)) (σ 21 0 0) (σ 6 j 0)) cf_X1_178 ⟨rfl, hd_X3_pull⟩ ⟨Nat.le_of_ble_eq_true rfl, Nat.le_of_ble_eq_true rfl⟩ (xR_o xci2 rfl (xj_c (by decide) (xkC_disc hc1))) rfl (Nat.le_of_ble_eq_true rfl) ⟨(show _ ≤ 60 by omega), (show _ ≤ 2540 by omega)⟩ dX1_isBoxSound_136 (xPv_i ?_) xN_e
          refine x_aload_n C dX1_isBoxSound_139 rfl 5 rfl ?_
          refine x_aload_n C dX1_isBoxSound_140 rfl 6 rfl ?_
          refine x_iload C dX1_isBoxSound_141 2 rfl ?_
          refine x_callV (rest := [.int (sPull (σ 0 c 0) (σ 1 c 0) (σ 2 c 0) (σ 3 c 0) (σ 4 c 0) (σ 21 0 0) (σ 6 j 0)), .int 1]) C (k1_pullOf hI hS hj hs9) cf_X1_241 ⟨rfl, hd_X1_pullOf⟩ ⟨Nat.le_of_ble_eq_true rfl, Nat.le_of_ble_eq_true rfl⟩ (xR_o xci0 rfl (xj_c (by decide) xkC_sr)) rfl (Nat.le_of_ble_eq_true rfl) ⟨show _ ≤ 60 by omega, show _ ≤ 2540 by omega⟩ dX1_isBoxSound_143 (xPv_i ?_) xN_e
          refine x_isub C dX1_isBoxSound_146 ?_
          refine x_iload C dX1_isBoxSound_147 3 rfl ?_
          refine x_icmp_gt (tgt := 156) C dX1_isBoxSound_149 (by decide) (fun h => absurd h (sBo_ge hB hS h30 hj hs9 hc1 c1)) (fun _ => ?_)
          refine x_iconst (v := 1) C dX1_isBoxSound_152 (by decide) ?_
          refine x_goto (tgt := 157) C dX1_isBoxSound_153 (by decide) ?_
          refine x_iand C dX1_isBoxSound_157 ?_
          refine x_top (y := 1) (rfl) ?_
          refine x_istore_n (lv' := [(3, .int 1), (7, .ref (ad2 (ro 11 c))), (6, .ref (ad2 (ro 58 0))), (5, .int (nI s)), (4, .int (sBo κ σ j 1)), (0, .ref (ad2 (ro 0 0))), (1, .ref (ad2 (ro 5 j))), (2, .int (nI j))]) C dX1_isBoxSound_158 rfl (by decide) rfl ?_
          refine x_goto (tgt := 94) C dX1_isBoxSound_159 (by decide) ?_
          refine x_lv (lv' := [(6, .ref (ad2 (ro 58 0))), (5, .int (nI s)), (4, .int (sBo κ σ j 1)), (3, .int 1), (0, .ref (ad2 (ro 0 0))), (1, .ref (ad2 (ro 5 j))), (2, .int (nI j))]) [2, 3, 4, 0, 5, 6, 7] rfl ?_
          exact ih2 (c + 1) (nI c) (by omega)
    refine x_lv (lv' := [(6, .ref (ad2 (ro 58 0))), (5, .int (nI s)), (4, .int (sBo κ σ j 1)), (3, .int 1), (0, .ref (ad2 (ro 0 0))), (1, .ref (ad2 (ro 5 j))), (2, .int (nI j))]) [0, 1, 2, 3, 4, 5, 6] rfl ?_
    exact l2 (κ 0) 0 (-1) (by omega)
  have loop : ∀ n s : Nat, s + n = 10 → xX F (xQ F (xPv (some (.int 1)) ad (xj (xkC F.1.2.2.1 ad κ σ) m t)) xN 60 2540) ad (xj (xkC F.1.2.2.1 ad κ σ) m t) (50 + s) (2500 + 4 * s) 29 [(5, .int (nI s)), (4, .int (sBo κ σ j 1)), (3, .int 1), (0, .ref (ad (ro 0 0))), (1, .ref (ad (ro 5 j))), (2, .int (nI j))] [] := by
    intro n
    induction n with
    | zero =>
      intro s hs
      obtain rfl : s = 10 := by omega
      refine x_iload C dX1_isBoxSound_29 0 rfl ?_
      refine x_bipush (v := 10) C dX1_isBoxSound_31 (by decide) ?_
      refine x_icmp_ge (tgt := 168) C dX1_isBoxSound_33 (by decide) (fun _ => ?_) (fun h => absurd (by decide) h)
      refine x_iload_n C dX1_isBoxSound_168 rfl 2 rfl ?_
      exact x_zret C rfl dX1_isBoxSound_169 (Nat.le_of_ble_eq_true rfl) (Nat.le_of_ble_eq_true rfl) ⟨rfl, rfl, rfl⟩
    | succ n ih =>
      intro s hs
      have hs9 : s < 10 := by omega
      refine x_iload C dX1_isBoxSound_29 0 rfl ?_
      refine x_bipush (v := 10) C dX1_isBoxSound_31 (by decide) ?_
      refine x_icmp_ge (tgt := 168) C dX1_isBoxSound_33 (by decide) (fun h => absurd ((nI_le_iff (a := 10) (by omega) (by omega)).mp h) (by omega)) (fun _ => ?_)
      refine x_iload_n C dX1_isBoxSound_36 rfl 2 rfl ?_
      refine x_aload_n C dX1_isBoxSound_37 rfl 4 rfl ?_
      refine x_getR C fl_X1_117 (r := ro 5 j) rfl (xj_c (by decide) (xkC_box hj)) (v := .ref (ad (ro 6 j))) rfl dX1_isBoxSound_38 ?_
      refine x_iload C dX1_isBoxSound_41 0 rfl ?_
      refine xi_ald C s rfl (xj_c (by decide) (xkC_slots hj)) rfl hs9 rfl dX1_isBoxSound_43 ?_
      refine x_top (y := σ 17 j s) rfl ?_
      refine x_iconst (v := -1) C dX1_isBoxSound_44 (by decide) ?_
      refine x_icmp_eq (tgt := 78) C dX1_isBoxSound_45 (by decide) (fun c1 => ?_) (fun c1 => ?_)
      · refine x_iconst (v := 1) C dX1_isBoxSound_78 (by decide) ?_
        refine x_goto (tgt := 83) C dX1_isBoxSound_79 (by decide) ?_
        refine x_iand C dX1_isBoxSound_83 ?_
        refine x_top (y := 1) (rfl) ?_
        refine x_istore_n (lv' := [(3, .int 1), (5, .int (nI s)), (4, .int (sBo κ σ j 1)), (0, .ref (ad (ro 0 0))), (1, .ref (ad (ro 5 j))), (2, .int (nI j))]) C dX1_isBoxSound_84 rfl (by decide) rfl ?_
        refine x_aload_n C dX1_isBoxSound_85 rfl 3 rfl ?_
        refine x_get C fl_X1_28 (r := ro 0 0) rfl (xj_c (by decide) xkC_sr) (v := .ref (ad (ro 1 0))) rfl dX1_isBoxSound_86 ?_
        refine x_lv (lv' := [(5, .int (nI s)), (4, .int (sBo κ σ j 1)), (3, .int 1), (0, .ref (ad (ro 0 0))), (1, .ref (ad (ro 5 j))), (2, .int (nI j))]) [1, 2, 0, 3, 4, 5] rfl ?_
        exact inner s hs9 (ih (s + 1) (by omega))
      · obtain ⟨d, hd, e17⟩ := (hS j hj s hs9).resolve_left c1
        refine x_aload_n C dX1_isBoxSound_48 rfl 3 rfl ?_
        refine x_get C fl_X1_28 (r := ro 0 0) rfl (xj_c (by decide) xkC_sr) (v := .ref (ad (ro 1 0))) rfl dX1_isBoxSound_49 ?_
        refine x_aload_n C dX1_isBoxSound_52 rfl 4 rfl ?_
        refine x_getR C fl_X1_117 (r := ro 5 j) rfl (xj_c (by decide) (xkC_box hj)) (v := .ref (ad (ro 6 j))) rfl dX1_isBoxSound_53 ?_
        refine x_iload C dX1_isBoxSound_56 0 rfl ?_
        refine xi_ald C s rfl (xj_c (by decide) (xkC_slots hj)) rfl hs9 rfl dX1_isBoxSound_58 ?_
        refine x_top (y := σ 17 j s) rfl ?_
        refine x_top (y := nI d) (e17) ?_
        refine x_callV (rest := [.int 1]) C (k_getD hI hd) cf_X1_80 ⟨rfl, hd_J2_get⟩ ⟨Nat.le_of_ble_eq_true rfl, Nat.le_of_ble_eq_true rfl⟩ (xR_o xci1 rfl (xj_c (by decide) xkC_L1)) rfl (Nat.le_of_ble_eq_true rfl) ⟨(show _ ≤ 60 by omega), (show _ ≤ 2540 by omega)⟩ dX1_isBoxSound_59 (xPv_i ?_) xN_e
        refine x_cast C (xR_o xci2 rfl (xj_c (by decide) (xkC_disc hd))) q247 dX1_isBoxSound_62 ?_
        refine x_get C fl_X1_169 (r := ro 11 d) rfl (xj_c (by decide) (xkC_disc hd)) (v := .int (σ 4 d 0)) rfl dX1_isBoxSound_65 ?_
        refine x_bipush (v := 10) C dX1_isBoxSound_68 (by decide) ?_
        refine x_iload_n C dX1_isBoxSound_70 rfl 5 rfl ?_
        refine x_imul C dX1_isBoxSound_71 ?_
        refine x_iload C dX1_isBoxSound_72 0 rfl ?_
        refine x_iadd C dX1_isBoxSound_74 ?_
        refine x_top (y := nI (10 * j + s)) (nI_at) ?_
        refine x_icmp_ne (tgt := 82) C dX1_isBoxSound_75 (by decide) (fun h => absurd (hC j hj s hs9 d hd e17) h) (fun _ => ?_)
        refine x_iconst (v := 1) C dX1_isBoxSound_78 (by decide) ?_
        refine x_goto (tgt := 83) C dX1_isBoxSound_79 (by decide) ?_
        refine x_iand C dX1_isBoxSound_83 ?_
        refine x_top (y := 1) (rfl) ?_
        refine x_istore_n (lv' := [(3, .int 1), (5, .int (nI s)), (4, .int (sBo κ σ j 1)), (0, .ref (ad (ro 0 0))), (1, .ref (ad (ro 5 j))), (2, .int (nI j))]) C dX1_isBoxSound_84 rfl (by decide) rfl ?_
        refine x_aload_n C dX1_isBoxSound_85 rfl 3 rfl ?_
        refine x_get C fl_X1_28 (r := ro 0 0) rfl (xj_c (by decide) xkC_sr) (v := .ref (ad (ro 1 0))) rfl dX1_isBoxSound_86 ?_
        refine x_lv (lv' := [(5, .int (nI s)), (4, .int (sBo κ σ j 1)), (3, .int 1), (0, .ref (ad (ro 0 0))), (1, .ref (ad (ro 5 j))), (2, .int (nI j))]) [1, 2, 0, 3, 4, 5] rfl ?_
        exact inner s hs9 (ih (s + 1) (by omega))
  refine x_lv (lv' := [(5, .int 0), (4, .int (sBo κ σ j 1)), (3, .int 1), (0, .ref (ad (ro 0 0))), (1, .ref (ad (ro 5 j))), (2, .int (nI j))]) [0, 1, 2, 3, 4, 5] rfl ?_
  exact loop 10 0 (by omega)
/-- what was paid, of the first k boxes -/
def sPd (σ : xSg) : Nat → Int32
  | 0 => σ 23 0 0
  | k + 1 => sPd σ k + σ 13 k 0
set_option maxHeartbeats 4000000 in
theorem k1_isSound {G : xG} {ad : Nat → Nat} {κ : xKp} {σ : xSg} {m t : xK} (hI : xIk κ) (hS : xIs κ σ) (hB : xPb κ σ) (hQ : xIq κ σ) (hC : xIc κ σ) (hT : sPd σ (κ 1) = σ 25 0 0) (ht : ∀ k, 50 ≤ k → k ≤ 58 → t k 0 = none) : xM G yX1_isSound (ws_ yX1_isSound cX1_isSound 4 (some Jvm.ClassFile.FieldType.boolean)) 20 600 250 11000 [.ref (ad (ro 0 0))] ad (xj (xkC G.2.2.1 ad κ σ) m t) (xPv (some (.int 1)) ad (xj (xkC G.2.2.1 ad κ σ) m t)) xN := by
  refine xM_of (cc := cX1_isSound) (by decide) rfl (fun F hF C => ?_)
  subst hF
  show xX F _ _ _ 0 0 0 [(0, .ref (ad (ro 0 0)))] []
  have h14 := hI.2.2.2.2.2
  refine x_iconst (v := 1) C dX1_isSound_0 (by decide) ?_
  refine x_istore_n (lv' := [(1, .int 1), (0, .ref (ad (ro 0 0)))]) C dX1_isSound_1 rfl (by decide) rfl ?_
  refine x_aload_n C dX1_isSound_2 rfl 1 rfl ?_
  refine x_get C fl_X1_229 (r := ro 0 0) rfl (xj_c (by decide) xkC_sr) (v := .int (σ 23 0 0)) rfl dX1_isSound_3 ?_
  refine x_istore_n (lv' := [(2, .int (σ 23 0 0)), (1, .int 1), (0, .ref (ad (ro 0 0)))]) C dX1_isSound_6 rfl (by decide) rfl ?_
  refine x_iconst (v := 0) C dX1_isSound_7 (by decide) ?_
  refine x_istore_n (lv' := [(3, .int 0), (2, .int (σ 23 0 0)), (1, .int 1), (0, .ref (ad (ro 0 0)))]) C dX1_isSound_8 rfl (by decide) rfl ?_
  have loop : ∀ n c : Nat, c + n = κ 1 → xX F (xQ F (xPv (some (.int 1)) ad (xj (xkC F.1.2.2.1 ad κ σ) m t)) xN 250 11000) ad (xj (xkC F.1.2.2.1 ad κ σ) m t) (60 * c) (2540 * c) 9 [(3, .int (nI c)), (2, .int (sPd σ c)), (1, .int 1), (0, .ref (ad (ro 0 0)))] [] := by
    intro n
    induction n with
    | zero =>
      intro c hk
      refine x_iload_n C dX1_isSound_9 rfl 0 rfl ?_
      refine x_aload_n C dX1_isSound_10 rfl 3 rfl ?_
      refine x_get C fl_X1_34 (r := ro 0 0) rfl (xj_c (by decide) xkC_sr) (v := .ref (ad (ro 3 0))) rfl dX1_isSound_11 ?_
      refine x_callV (rest := [.int (nI c)]) C (k_size (xj_c (by decide) xkC_L3)) cf_X1_53 ⟨rfl, hd_J2_size⟩ ⟨Nat.le_of_ble_eq_true rfl, Nat.le_of_ble_eq_true rfl⟩ (xR_o xci1 rfl (xj_c (by decide) xkC_L3)) rfl (Nat.le_of_ble_eq_true rfl) ⟨(show _ ≤ 250 by omega), (show _ ≤ 11000 by omega)⟩ dX1_isSound_14 (xPv_i ?_) xN_e
      refine x_icmp_ge (tgt := 62) C dX1_isSound_17 (by decide) (fun _ => ?_) (fun h => absurd ((nI_le_iff (by omega) (by omega)).mpr (by omega)) h)
      obtain rfl : c = κ 1 := by omega
      refine x_iload_n C dX1_isSound_62 rfl 2 rfl ?_
      refine x_if_eq (tgt := 78) C dX1_isSound_63 (by decide) (fun h => absurd h (by decide)) (fun _ => ?_)
      refine x_iload_n C dX1_isSound_66 rfl 1 rfl ?_
      refine x_aload_n C dX1_isSound_67 rfl 3 rfl ?_
      refine x_get C fl_X1_232 (r := ro 0 0) rfl (xj_c (by decide) xkC_sr) (v := .int (σ 25 0 0)) rfl dX1_isSound_68 ?_
      refine x_icmp_ne (tgt := 78) C dX1_isSound_71 (by decide) (fun h => absurd hT h) (fun _ => ?_)
      refine x_iconst (v := 1) C dX1_isSound_74 (by decide) ?_
      refine x_goto (tgt := 79) C dX1_isSound_75 (by decide) ?_
      exact x_zret C rfl dX1_isSound_79 ((show _ ≤ 250 by omega)) ((show _ ≤ 11000 by omega)) ⟨rfl, rfl, rfl⟩
    | succ n ih =>
      intro c hk
      have hc1 : c < κ 1 := by omega
      refine x_iload_n C dX1_isSound_9 rfl 0 rfl ?_
      refine x_aload_n C dX1_isSound_10 rfl 3 rfl ?_
      refine x_get C fl_X1_34 (r := ro 0 0) rfl (xj_c (by decide) xkC_sr) (v := .ref (ad (ro 3 0))) rfl dX1_isSound_11 ?_
      refine x_callV (rest := [.int (nI c)]) C (k_size (xj_c (by decide) xkC_L3)) cf_X1_53 ⟨rfl, hd_J2_size⟩ ⟨Nat.le_of_ble_eq_true rfl, Nat.le_of_ble_eq_true rfl⟩ (xR_o xci1 rfl (xj_c (by decide) xkC_L3)) rfl (Nat.le_of_ble_eq_true rfl) ⟨(show _ ≤ 250 by omega), (show _ ≤ 11000 by omega)⟩ dX1_isSound_14 (xPv_i ?_) xN_e
      refine x_icmp_ge (tgt := 62) C dX1_isSound_17 (by decide) (fun h => absurd ((nI_le_iff (by omega) (by omega)).mp h) (by omega)) (fun _ => ?_)
      refine x_iload_n C dX1_isSound_20 rfl 2 rfl ?_
      refine x_aload_n C dX1_isSound_21 rfl 3 rfl ?_
      refine x_aload_n C dX1_isSound_22 rfl 3 rfl ?_
      refine x_get C fl_X1_34 (r := ro 0 0) rfl (xj_c (by decide) xkC_sr) (v := .ref (ad (ro 3 0))) rfl dX1_isSound_23 ?_
      refine x_iload_n C dX1_isSound_26 rfl 0 rfl ?_
      refine x_callV (rest := [.ref (ad (ro 0 0)), .int 1]) C (k_getB hI hc1) cf_X1_80 ⟨rfl, hd_J2_get⟩ ⟨Nat.le_of_ble_eq_true rfl, Nat.le_of_ble_eq_true rfl⟩ (xR_o xci1 rfl (xj_c (by decide) xkC_L3)) rfl (Nat.le_of_ble_eq_true rfl) ⟨(show _ ≤ 250 by omega), (show _ ≤ 11000 by omega)⟩ dX1_isSound_27 (xPv_i ?_) xN_e
      refine x_cast C (xR_o xci3 rfl (xj_c (by decide) (xkC_box hc1))) q249 dX1_isSound_30 ?_
      refine x_iload_n C dX1_isSound_33 rfl 0 rfl ?_
      refine x_callV (rest := [.int 1]) C (k1_isBoxSound hI hS hB hQ hC ht hc1) cf_X1_269 ⟨rfl, hd_X1_isBoxSound⟩ ⟨Nat.le_of_ble_eq_true rfl, Nat.le_of_ble_eq_true rfl⟩ (xR_o xci0 rfl (xj_c (by decide) xkC_sr)) rfl (Nat.le_of_ble_eq_true rfl) ⟨show _ ≤ 250 by omega, show _ ≤ 11000 by omega⟩ dX1_isSound_34 (xPv_i ?_) xN_e
      refine x_iand C dX1_isSound_37 ?_
      refine x_top (y := 1) (rfl) ?_
      refine x_istore_n (lv' := [(1, .int 1), (3, .int (nI c)), (2, .int (sPd σ c)), (0, .ref (ad (ro 0 0)))]) C dX1_isSound_38 rfl (by decide) rfl ?_
      refine x_iload_n C dX1_isSound_39 rfl 2 rfl ?_
      refine x_aload_n C dX1_isSound_40 rfl 3 rfl ?_
      refine x_get C fl_X1_34 (r := ro 0 0) rfl (xj_c (by decide) xkC_sr) (v := .ref (ad (ro 3 0))) rfl dX1_isSound_41 ?_
      refine x_iload_n C dX1_isSound_44 rfl 1 rfl ?_
      refine x_callV (rest := [.int (sPd σ c)]) C (k_getB hI hc1) cf_X1_80 ⟨rfl, hd_J2_get⟩ ⟨Nat.le_of_ble_eq_true rfl, Nat.le_of_ble_eq_true rfl⟩ (xR_o xci1 rfl (xj_c (by decide) xkC_L3)) rfl (Nat.le_of_ble_eq_true rfl) ⟨(show _ ≤ 250 by omega), (show _ ≤ 11000 by omega)⟩ dX1_isSound_45 (xPv_i ?_) xN_e
      refine x_cast C (xR_o xci3 rfl (xj_c (by decide) (xkC_box hc1))) q249 dX1_isSound_48 ?_
      refine x_get C fl_X1_226 (r := ro 5 c) rfl (xj_c (by decide) (xkC_box hc1)) (v := .int (σ 13 c 0)) rfl dX1_isSound_51 ?_
      refine x_iadd C dX1_isSound_54 ?_
      refine x_istore_n (lv' := [(2, .int ((sPd σ c) + (σ 13 c 0))), (1, .int 1), (3, .int (nI c)), (0, .ref (ad (ro 0 0)))]) C dX1_isSound_55 rfl (by decide) rfl ?_
      refine x_iinc (k := 2) (v := nI (c + 1)) (lv' := [(3, .int (nI (c + 1))), (2, .int ((sPd σ c) + (σ 13 c 0))), (1, .int 1), (0, .ref (ad (ro 0 0)))]) C dX1_isSound_56 rfl (nI_1 c) (by decide) rfl ?_
      refine x_goto (tgt := 9) C dX1_isSound_59 (by decide) ?_
      refine x_lv (lv' := [(3, .int (nI (c + 1))), (2, .int ((sPd σ c) + (σ 13 c 0))), (1, .int 1), (0, .ref (ad (ro 0 0)))]) [0, 1, 2, 3] rfl ?_
      exact ih (c + 1) (by omega)
  refine x_lv (lv' := [(3, .int 0), (2, .int (σ 23 0 0)), (1, .int 1), (0, .ref (ad (ro 0 0)))]) [0, 1, 2, 3] rfl ?_
  exact loop (κ 1) 0 (by omega)
