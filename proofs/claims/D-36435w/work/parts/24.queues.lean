/-! ===== THE QUEUES: press ===== -/
theorem nI_lt_iff {a b : Nat} (ha : a < 2147483648) (hb : b < 2147483648) : nI a < nI b ↔ a < b := by
  rw [Int32.lt_iff_toInt_lt, nI_toInt ha, nI_toInt hb]; omega
theorem nI_le_iff {a b : Nat} (ha : a < 2147483648) (hb : b < 2147483648) : nI a ≤ nI b ↔ a ≤ b := by
  rw [Int32.le_iff_toInt_le, nI_toInt ha, nI_toInt hb]; omega
/-- queues: at most eight slots, in their arrays -/
def xIq (κ : xKp) (σ : xSg) : Prop := ∀ j, j < κ 1 → κ (10 + j) ≤ 8 ∧ κ (10 + j) ≤ κ (20 + j) ∧ κ (20 + j) ≤ 40 ∧ ∀ k, k < κ (10 + j) → ∃ s, s < 10 ∧ σ 20 j k = nI s
theorem kup_s {κ : xKp} {f v : Nat} : kup κ f v f = v := if_pos rfl
theorem kup_n {κ : xKp} {f v f' : Nat} (h : f' ≠ f) : kup κ f v f' = κ f' := if_neg h
theorem xgrow_ne {n cap : Nat} : xgrow n cap ≠ 0 := by
  unfold xgrow
  split
  · omega
  · split
    · decide
    · omega
theorem ro_ne {k i k' i' : Nat} (hk : k < 64) (hk' : k' < 64) (h : ¬ (k = k' ∧ i = i')) : ro k i ≠ ro k' i' := fun e => h (ro_inj hk hk' e)
/-- the world with a longer queue -/
abbrev kQ (κ : xKp) (j : Nat) : xKp := kup (kup κ (10 + j) (κ (10 + j) + 1)) (20 + j) (xgrow (κ (10 + j)) (κ (20 + j)))
abbrev sQ (κ : xKp) (σ : xSg) (j s : Nat) : xSg := xup (xup σ 20 j (κ (10 + j)) (nI s)) 28 j 0 (σ 28 j 0 + 1)
section XKE
variable {g ad ad' : Nat → Nat} {κ κ' : xKp} {σ σ' : xSg} {i : Nat}
theorem xkE0 (h1 : ad' (ro 1 0) = ad (ro 1 0)) (h2 : ad' (ro 3 0) = ad (ro 3 0)) (h3 : ∀ f, 21 ≤ f → f ≤ 25 → σ' f 0 0 = σ f 0 0) : xkC g ad' κ' σ' 0 i = xkC g ad κ σ 0 i := by
  simp only [xkC, h1, h2, h3 21 (by decide) (by decide), h3 22 (by decide) (by decide), h3 23 (by decide) (by decide), h3 24 (by decide) (by decide), h3 25 (by decide) (by decide)]
theorem xkE1 (h1 : ad' (ro 2 0) = ad (ro 2 0)) (h2 : κ' 2 = κ 2) (h3 : κ' 0 = κ 0) (h4 : σ' 26 0 0 = σ 26 0 0) : xkC g ad' κ' σ' 1 i = xkC g ad κ σ 1 i := by simp only [xkC, h1, h2, h3, h4]
theorem xkE2 (h2 : κ' 2 = κ 2) (h3 : κ' 0 = κ 0) (h1 : ∀ k, ad' (ro 11 k) = ad (ro 11 k)) : xkC g ad' κ' σ' 2 i = xkC g ad κ σ 2 i := by simp only [xkC, h1, h2, h3]
theorem xkE3 (h1 : ad' (ro 4 0) = ad (ro 4 0)) (h2 : κ' 3 = κ 3) (h3 : κ' 1 = κ 1) (h4 : σ' 27 0 0 = σ 27 0 0) : xkC g ad' κ' σ' 3 i = xkC g ad κ σ 3 i := by simp only [xkC, h1, h2, h3, h4]
theorem xkE4 (h2 : κ' 3 = κ 3) (h3 : κ' 1 = κ 1) (h1 : ∀ k, ad' (ro 5 k) = ad (ro 5 k)) : xkC g ad' κ' σ' 4 i = xkC g ad κ σ 4 i := by simp only [xkC, h1, h2, h3]
theorem xkE5 (h1 : κ' 1 = κ 1) (h2 : ∀ f, 6 ≤ f → f ≤ 9 → ad' (ro f i) = ad (ro f i)) (h3 : ∀ f, 5 ≤ f → f ≤ 15 → σ' f i 0 = σ f i 0) : xkC g ad' κ' σ' 5 i = xkC g ad κ σ 5 i := by
  simp only [xkC, xBox, h1, h2 6 (by decide) (by decide), h2 7 (by decide) (by decide), h2 8 (by decide) (by decide), h2 9 (by decide) (by decide), h3 5 (by decide) (by decide), h3 6 (by decide) (by decide), h3 7 (by decide) (by decide), h3 8 (by decide) (by decide), h3 9 (by decide) (by decide), h3 10 (by decide) (by decide), h3 11 (by decide) (by decide), h3 12 (by decide) (by decide), h3 13 (by decide) (by decide), h3 14 (by decide) (by decide), h3 15 (by decide) (by decide)]
theorem xkE6 (h1 : κ' 1 = κ 1) (h2 : ∀ s, σ' 17 i s = σ 17 i s) : xkC g ad' κ' σ' 6 i = xkC g ad κ σ 6 i := by simp only [xkC, h1, h2]
theorem xkE7 (h1 : κ' 1 = κ 1) (h2 : ∀ s, σ' 18 i s = σ 18 i s) : xkC g ad' κ' σ' 7 i = xkC g ad κ σ 7 i := by simp only [xkC, h1, h2]
theorem xkE8 (h1 : κ' 1 = κ 1) (h2 : ∀ s, σ' 19 i s = σ 19 i s) : xkC g ad' κ' σ' 8 i = xkC g ad κ σ 8 i := by simp only [xkC, h1, h2]
theorem xkE9 (h1 : κ' 1 = κ 1) (h2 : i < κ 1 → ad' (ro 10 i) = ad (ro 10 i) ∧ κ' (20 + i) = κ (20 + i) ∧ κ' (10 + i) = κ (10 + i) ∧ σ' 28 i 0 = σ 28 i 0) : xkC g ad' κ' σ' 9 i = xkC g ad κ σ 9 i := by
  by_cases h : i < κ 1
  · obtain ⟨a, b, c, d⟩ := h2 h
    simp only [xkC, h1, a, b, c, d]
  · simp only [xkC, h1, if_neg h]
theorem xkE10 (h1 : κ' 1 = κ 1) (h2 : i < κ 1 → κ' (20 + i) = κ (20 + i) ∧ κ' (10 + i) = κ (10 + i) ∧ ∀ k, σ' 20 i k = σ 20 i k) : xkC g ad' κ' σ' 10 i = xkC g ad κ σ 10 i := by
  by_cases h : i < κ 1
  · obtain ⟨a, b, c⟩ := h2 h
    simp only [xkC, h1, a, b, c]
  · simp only [xkC, h1, if_neg h]
theorem xkE11 (h1 : κ' 0 = κ 0) (h2 : ∀ f, f ≤ 4 → σ' f i 0 = σ f i 0) : xkC g ad' κ' σ' 11 i = xkC g ad κ σ 11 i := by
  simp only [xkC, xDisc, h1, h2 0 (by decide), h2 1 (by decide), h2 2 (by decide), h2 3 (by decide), h2 4 (by decide)]
theorem xkE12 {k : Nat} (h : 12 ≤ k) : xkC g ad κ σ k i = none := by
  obtain ⟨n, rfl⟩ : ∃ n, k = n + 12 := ⟨k - 12, by omega⟩
  rfl
end XKE
theorem kQ_1 {κ : xKp} {j : Nat} : kQ κ j 1 = κ 1 := (kup_n (by omega)).trans (kup_n (by omega))
set_option maxHeartbeats 1000000 in
theorem pc_qadd {g ad : Nat → Nat} {κ : xKp} {σ : xSg} {m t : xK} (hI : xIk κ) {j a s : Nat} (hj : j < κ 1) (hs : s < 10) :
    xu (xu (xj (xkC g ad κ σ) m t) (ro 10 j) (.inl (g 1004, xgrow (κ (10 + j)) (κ (20 + j)), .inr (.inr (.inr (.inr (xcont (fun k => if k = κ (10 + j) then g (128 + s) else g (128 + (σ 20 j k).toNatClampNeg)) (κ (10 + j) + 1)))))))) (ro 9 j) (xL g a (xgrow (κ (10 + j)) (κ (20 + j))) (κ (10 + j) + 1) (σ 28 j 0 + 1))
      = xj (xkC g (xa ad (ro 10 j) a) (kQ κ j) (sQ κ σ j s)) m t := by
  rw [xj_uc (by decide), xj_uc (by decide)]
  have h4 : κ 1 ≤ 4 := hI.2.2.2.2.2
  refine xj_eq (fun k i hk => ?_) (fun _ _ _ _ => rfl) (fun _ _ _ _ => rfl)
  have had : ∀ k' i', k' < 16 → ¬ (k' = 10 ∧ i' = j) → xa ad (ro 10 j) a (ro k' i') = ad (ro k' i') := fun k' i' h1 h2 => xa_n (ro_ne (by omega) (by decide) h2)
  have hk0 : ∀ f, f < 10 → kQ κ j f = κ f := fun f hf => (kup_n (by omega)).trans (kup_n (by omega))
  have hk1 : kQ κ j (10 + j) = κ (10 + j) + 1 := (kup_n (by omega)).trans kup_s
  have hk2 : kQ κ j (20 + j) = xgrow (κ (10 + j)) (κ (20 + j)) := kup_s
  have hk3 : ∀ i, i < κ 1 → i ≠ j → kQ κ j (10 + i) = κ (10 + i) := fun i h1 h2 => (kup_n (by omega)).trans (kup_n (by omega))
  have hk4 : ∀ i, i < κ 1 → i ≠ j → kQ κ j (20 + i) = κ (20 + i) := fun i h1 h2 => (kup_n (by omega)).trans (kup_n (by omega))
  have hs0 : ∀ f i' j', f ≠ 20 → f ≠ 28 → sQ κ σ j s f i' j' = σ f i' j' := fun f i' j' h1 h2 => (xup_n (by omega)).trans (xup_n (by omega))
  have hs1 : ∀ f i' j', i' ≠ j → sQ κ σ j s f i' j' = σ f i' j' := fun f i' j' h1 => (xup_n (by omega)).trans (xup_n (by omega))
  unfold cu
  by_cases h9 : k = 9 ∧ i = j
  · obtain ⟨rfl, rfl⟩ := h9
    rw [if_pos ⟨rfl, rfl⟩, xkC_q (by rw [hk0 1 (by decide)]; exact hj), hk1, hk2, xa_s]
    rw [show sQ κ σ i s 28 i 0 = σ 28 i 0 + 1 from xup_s]
  · rw [if_neg h9]
    by_cases h10 : k = 10 ∧ i = j
    · obtain ⟨rfl, rfl⟩ := h10
      rw [if_pos ⟨rfl, rfl⟩, xkC_qa (by rw [hk0 1 (by decide)]; exact hj) (by rw [hk2]; exact xgrow_ne), hk1, hk2]
      refine congrArg (fun z => some (Sum.inl (g 1004, xgrow (κ (10 + i)) (κ (20 + i)), Sum.inr (Sum.inr (Sum.inr (Sum.inr z)))))) ?_
      funext k
      unfold xcont
      by_cases hk9 : k < κ (10 + i) + 1
      · rw [if_pos hk9, if_pos hk9]
        show some (if k = κ (10 + i) then g (128 + s) else g (128 + (σ 20 i k).toNatClampNeg)) = _
        by_cases hk8 : k = κ (10 + i)
        · subst hk8
          rw [if_pos rfl, show sQ κ σ i s 20 i (κ (10 + i)) = nI s from (xup_n (by omega)).trans xup_s, nI_clamp (by omega)]
        · rw [if_neg hk8, show sQ κ σ i s 20 i k = σ 20 i k from (xup_n (by omega)).trans (xup_n (by omega))]
      · rw [if_neg hk9, if_neg hk9]
    · rw [if_neg h10]
      rcases (show k = 0 ∨ k = 1 ∨ k = 2 ∨ k = 3 ∨ k = 4 ∨ k = 5 ∨ k = 6 ∨ k = 7 ∨ k = 8 ∨ k = 9 ∨ k = 10 ∨ k = 11 ∨ 12 ≤ k by omega) with rfl | rfl | rfl | rfl | rfl | rfl | rfl | rfl | rfl | rfl | rfl | rfl | hk12
      · exact (xkE0 (had 1 0 (by decide) (by omega)) (had 3 0 (by decide) (by omega)) (fun f h1 h2 => hs0 f _ _ (by omega) (by omega))).symm
      · exact (xkE1 (had 2 0 (by decide) (by omega)) (hk0 2 (by decide)) (hk0 0 (by decide)) (hs0 26 _ _ (by decide) (by decide))).symm
      · exact (xkE2 (hk0 2 (by decide)) (hk0 0 (by decide)) (fun k => had 11 k (by decide) (by omega))).symm
      · exact (xkE3 (had 4 0 (by decide) (by omega)) (hk0 3 (by decide)) (hk0 1 (by decide)) (hs0 27 _ _ (by decide) (by decide))).symm
      · exact (xkE4 (hk0 3 (by decide)) (hk0 1 (by decide)) (fun k => had 5 k (by decide) (by omega))).symm
      · exact (xkE5 (hk0 1 (by decide)) (fun f h1 h2 => had f i (by omega) (by omega)) (fun f h1 h2 => hs0 f _ _ (by omega) (by omega))).symm
      · exact (xkE6 (hk0 1 (by decide)) (fun s => hs0 17 _ _ (by decide) (by decide))).symm
      · exact (xkE7 (hk0 1 (by decide)) (fun s => hs0 18 _ _ (by decide) (by decide))).symm
      · exact (xkE8 (hk0 1 (by decide)) (fun s => hs0 19 _ _ (by decide) (by decide))).symm
      · have hi : i ≠ j := fun e => h9 ⟨rfl, e⟩
        exact (xkE9 (hk0 1 (by decide)) (fun hi1 => ⟨had 10 i (by decide) (by omega), hk4 i hi1 hi, hk3 i hi1 hi, hs1 28 i 0 hi⟩)).symm
      · have hi : i ≠ j := fun e => h10 ⟨rfl, e⟩
        exact (xkE10 (hk0 1 (by decide)) (fun hi1 => ⟨hk4 i hi1 hi, hk3 i hi1 hi, fun k => hs1 20 i k hi⟩)).symm
      · exact (xkE11 (hk0 0 (by decide)) (fun f h1 => hs0 f _ _ (by omega) (by omega))).symm
      · rw [xkE12 hk12, xkE12 hk12]
set_option maxHeartbeats 4000000 in
theorem k1_press {G : xG} {ad : Nat → Nat} {κ : xKp} {σ : xSg} {m t : xK} (hI : xIk κ) (hQ : xIq κ σ) (ht : t 56 0 = none) (b sl : Int32) : xM G yX1_press (ws_ yX1_press cX1_press 4 (some Jvm.ClassFile.FieldType.int)) 20 600 10 160 [.ref (ad (ro 0 0)), .int b, .int sl] ad (xj (xkC G.2.2.1 ad κ σ) m t) (fun v ad' ct' => ∃ j, j < κ 1 ∧ ∃ s, s < 10 ∧ b = nI j ∧ sl = nI s ∧ (0 < σ 8 j 0 ∧ ¬ σ 17 j s = -1) ∧ κ (10 + j) < 8 ∧ v = some (.int (nI (κ (10 + j) + 1))) ∧ ∃ a, ad' = xa ad (ro 10 j) a ∧ ct' = xj (xkC G.2.2.1 (xa ad (ro 10 j) a) (kQ κ j) (sQ κ (xup σ 8 j 0 (σ 8 j 0 - 1)) j s)) m t) (fun E ad' ct' => ad' = ad ∧ ct' = xj (xkC G.2.2.1 ad κ σ) m t ∧ (E = xIOB ∧ ¬ (xIx b (κ 1) ∧ xIx sl 10) ∨ E = xUOE ∧ (∃ j, j < κ 1 ∧ ∃ s, s < 10 ∧ b = nI j ∧ sl = nI s ∧ ¬ (0 < σ 8 j 0 ∧ ¬ σ 17 j s = -1)) ∨ E = xISE ∧ ∃ j, j < κ 1 ∧ ∃ s, s < 10 ∧ b = nI j ∧ sl = nI s ∧ (0 < σ 8 j 0 ∧ ¬ σ 17 j s = -1) ∧ ¬ κ (10 + j) < 8)) := by
  refine xM_of (cc := cX1_press) (by decide) rfl (fun F hF C => ?_)
  subst hF
  show xX F _ _ _ 0 0 0 [(0, .ref (ad (ro 0 0))), (1, .int b), (2, .int sl)] []
  refine x_aload_n C dX1_press_0 rfl 0 rfl ?_
  refine x_iload_n C dX1_press_1 rfl 1 rfl ?_
  refine x_iload_n C dX1_press_2 rfl 2 rfl ?_
  refine x_callV (rest := []) C (k1_boxAt2 hI b sl) cf_X1_114 ⟨rfl, hd_X1_boxAt_2⟩ ⟨Nat.le_of_ble_eq_true rfl, Nat.le_of_ble_eq_true rfl⟩ (xR_o xci0 rfl (xj_c (by decide) xkC_sr)) rfl (Nat.le_of_ble_eq_true rfl) ⟨Nat.le_of_ble_eq_true rfl, Nat.le_of_ble_eq_true rfl⟩ dX1_press_3 (fun v ad' ct' q => ?_) (fun E ad' ct' q => ?_)
  rotate_left
  · obtain ⟨rfl, e9, rfl, hx⟩ := q; obtain rfl := e9.symm
    exact x_out C (fun _ h => nomatch h) (Nat.le_of_ble_eq_true rfl) (Nat.le_of_ble_eq_true rfl) ⟨rfl, rfl, Or.inl ⟨rfl, hx⟩⟩
  obtain ⟨e9, rfl, j, hj, s, hs, rfl, rfl, rfl⟩ := q; obtain rfl := e9.symm
  refine x_astore_n (lv' := [(3, .ref (ad (ro 5 j))), (0, .ref (ad (ro 0 0))), (1, .int (nI j)), (2, .int (nI s))]) C dX1_press_6 rfl (by decide) rfl ?_
  refine x_aload_n C dX1_press_7 rfl 0 rfl ?_
  refine x_get C fl_X1_105 (r := ro 5 j) rfl (xj_c (by decide) (xkC_box hj)) (v := .int (σ 8 j 0)) rfl dX1_press_8 ?_
  refine x_if_le (tgt := 28) C dX1_press_11 (by decide) (fun c1 => ?_) (fun c1 => ?_)
  · refine x_iconst (v := 0) C dX1_press_28 (by decide) ?_
    refine x_callS (rest := []) C (k_requireSupported 0) cf_X1_102 hd_X1_requireSupported ⟨Nat.le_of_ble_eq_true rfl, Nat.le_of_ble_eq_true rfl⟩ rfl (Nat.le_of_ble_eq_true rfl) ⟨Nat.le_of_ble_eq_true rfl, Nat.le_of_ble_eq_true rfl⟩ dX1_press_29 (fun v ad' ct' q => absurd rfl q.1) (fun E ad' ct' q => ?_)
    obtain ⟨-, rfl, e9, rfl⟩ := q; obtain rfl := e9.symm
    exact x_out C (fun _ h => nomatch h) (Nat.le_of_ble_eq_true rfl) (Nat.le_of_ble_eq_true rfl) ⟨rfl, rfl, Or.inr (Or.inl ⟨rfl, j, hj, s, hs, rfl, rfl, fun z => absurd z.1 (Int32.not_lt.mpr c1)⟩)⟩
  · refine x_aload_n C dX1_press_14 rfl 0 rfl ?_
    refine x_getR C fl_X1_117 (r := ro 5 j) rfl (xj_c (by decide) (xkC_box hj)) (v := .ref (ad (ro 6 j))) rfl dX1_press_15 ?_
    refine x_iload_n C dX1_press_18 rfl 3 rfl ?_
    refine xi_ald C s rfl (xj_c (by decide) (xkC_slots hj)) rfl hs rfl dX1_press_19 ?_
    refine x_top (y := σ 17 j s) rfl ?_
    refine x_iconst (v := -1) C dX1_press_20 (by decide) ?_
    refine x_icmp_eq (tgt := 28) C dX1_press_21 (by decide) (fun c2 => ?_) (fun c2 => ?_)
    · refine x_iconst (v := 0) C dX1_press_28 (by decide) ?_
      refine x_callS (rest := []) C (k_requireSupported 0) cf_X1_102 hd_X1_requireSupported ⟨Nat.le_of_ble_eq_true rfl, Nat.le_of_ble_eq_true rfl⟩ rfl (Nat.le_of_ble_eq_true rfl) ⟨Nat.le_of_ble_eq_true rfl, Nat.le_of_ble_eq_true rfl⟩ dX1_press_29 (fun v ad' ct' q => absurd rfl q.1) (fun E ad' ct' q => ?_)
      obtain ⟨-, rfl, e9, rfl⟩ := q; obtain rfl := e9.symm
      exact x_out C (fun _ h => nomatch h) (Nat.le_of_ble_eq_true rfl) (Nat.le_of_ble_eq_true rfl) ⟨rfl, rfl, Or.inr (Or.inl ⟨rfl, j, hj, s, hs, rfl, rfl, fun z => z.2 c2⟩)⟩
    · refine x_iconst (v := 1) C dX1_press_24 (by decide) ?_
      refine x_goto (tgt := 29) C dX1_press_25 (by decide) ?_
      refine x_callS (rest := []) C (k_requireSupported 1) cf_X1_102 hd_X1_requireSupported ⟨Nat.le_of_ble_eq_true rfl, Nat.le_of_ble_eq_true rfl⟩ rfl (Nat.le_of_ble_eq_true rfl) ⟨Nat.le_of_ble_eq_true rfl, Nat.le_of_ble_eq_true rfl⟩ dX1_press_29 (fun v ad' ct' q => ?_) (fun E ad' ct' q => absurd q.1 (by decide))
      obtain ⟨-, rfl, e9, rfl⟩ := q; obtain rfl := e9.symm
      refine x_aload_n C dX1_press_32 rfl 0 rfl ?_
      refine x_getR C fl_X1_121 (r := ro 5 j) rfl (xj_c (by decide) (xkC_box hj)) (v := .ref (ad (ro 9 j))) rfl dX1_press_33 ?_
      refine x_callV (rest := []) C (k_size (xj_c (by decide) (xkC_q hj))) cf_X1_53 ⟨rfl, hd_J2_size⟩ ⟨Nat.le_of_ble_eq_true rfl, Nat.le_of_ble_eq_true rfl⟩ (xR_o xci1 rfl (xj_c (by decide) (xkC_q hj))) rfl (Nat.le_of_ble_eq_true rfl) ⟨Nat.le_of_ble_eq_true rfl, Nat.le_of_ble_eq_true rfl⟩ dX1_press_36 (xPv_i ?_) xN_e
      refine x_bipush (v := 8) C dX1_press_39 (by decide) ?_
      refine x_icmp_ge (tgt := 48) C dX1_press_41 (by decide) (fun c3 => ?_) (fun c3 => ?_)
      · refine x_iconst (v := 0) C dX1_press_48 (by decide) ?_
        refine x_callS (rest := []) C (k_requireState 0) cf_X1_57 hd_X1_requireState ⟨Nat.le_of_ble_eq_true rfl, Nat.le_of_ble_eq_true rfl⟩ rfl (Nat.le_of_ble_eq_true rfl) ⟨Nat.le_of_ble_eq_true rfl, Nat.le_of_ble_eq_true rfl⟩ dX1_press_49 (fun v ad' ct' q => absurd rfl q.1) (fun E ad' ct' q => ?_)
        obtain ⟨-, rfl, e9, rfl⟩ := q; obtain rfl := e9.symm
        exact x_out C (fun _ h => nomatch h) (Nat.le_of_ble_eq_true rfl) (Nat.le_of_ble_eq_true rfl) ⟨rfl, rfl, Or.inr (Or.inr ⟨rfl, j, hj, s, hs, rfl, rfl, ⟨Int32.not_le.mp c1, c2⟩, fun z => absurd ((nI_lt_iff (b := 8) (by have := (hQ j hj).1; omega) (by decide)).mpr z) (Int32.not_lt.mpr c3)⟩)⟩
      · refine x_iconst (v := 1) C dX1_press_44 (by decide) ?_
        refine x_goto (tgt := 49) C dX1_press_45 (by decide) ?_
        refine x_callS (rest := []) C (k_requireState 1) cf_X1_57 hd_X1_requireState ⟨Nat.le_of_ble_eq_true rfl, Nat.le_of_ble_eq_true rfl⟩ rfl (Nat.le_of_ble_eq_true rfl) ⟨Nat.le_of_ble_eq_true rfl, Nat.le_of_ble_eq_true rfl⟩ dX1_press_49 (fun v ad' ct' q => ?_) (fun E ad' ct' q => absurd q.1 (by decide))
        obtain ⟨-, rfl, e9, rfl⟩ := q; obtain rfl := e9.symm
        refine x_aload_n C dX1_press_52 rfl 0 rfl ?_
        refine x_dup C dX1_press_53 rfl ?_
        refine x_get C fl_X1_105 (r := ro 5 j) rfl (xj_c (by decide) (xkC_box hj)) (v := .int (σ 8 j 0)) rfl dX1_press_54 ?_
        refine x_iconst (v := 1) C dX1_press_57 (by decide) ?_
        refine x_isub C dX1_press_58 ?_
        refine x_put C fl_X1_105 (r := ro 5 j) rfl (xj_c (by decide) (xkC_box hj)) rfl rfl (Nat.le_of_ble_eq_true rfl) dX1_press_59 ?_
        refine x_pc (k := 5) (by decide) (pc_box8 hj) ?_
        refine x_aload_n C dX1_press_62 rfl 0 rfl ?_
        refine x_getR C fl_X1_121 (r := ro 5 j) rfl (xj_c (by decide) (xkC_box hj)) (v := .ref (ad (ro 9 j))) rfl dX1_press_63 ?_
        refine x_iload_n C dX1_press_66 rfl 3 rfl ?_
        refine x_callS (rest := [.ref (ad (ro 9 j))]) C (k_valueOf (k := s) (by omega)) cf_X1_124 hd_J18_valueOf ⟨Nat.le_of_ble_eq_true rfl, Nat.le_of_ble_eq_true rfl⟩ rfl (Nat.le_of_ble_eq_true rfl) ⟨Nat.le_of_ble_eq_true rfl, Nat.le_of_ble_eq_true rfl⟩ dX1_press_67 (xPv_i ?_) xN_e
        have hq := hQ j hj
        have hn8 : κ (10 + j) < 8 := (nI_lt_iff (b := 8) (by omega) (by decide)).mp (Int32.not_le.mp c3)
        refine x_callV (rest := []) C (k_add (rL := ro 9 j) (rA := ro 10 j) (rS := ro 56 0) (Cn := "java/lang/Integer") (el := fun k => F.1.2.2.1 (128 + (xup σ 8 j 0 (σ 8 j 0 - 1) 20 j k).toNatClampNeg)) (v := F.1.2.2.1 (128 + s)) (xj_c (by decide) (xkC_q hj)) (xj_c (by decide) (if_pos hj)) (xj_t (by decide) (by decide) ht) (ro_ne (by decide) (by decide) (by omega)) (ro_ne (by decide) (by decide) (by omega)) hq.2.1 hq.2.2.1 (fun k hk => xR_i (by obtain ⟨s', hs', e⟩ := hq.2.2.2 k hk; have e2 : xup σ 8 j 0 (σ 8 j 0 - 1) 20 j k = nI s' := (xup_n (by omega)).trans e; rw [e2, nI_clamp (by omega)]; omega)) (xR_i (by omega)) (by decide)) cf_X1_65 ⟨rfl, hd_J2_add⟩ ⟨Nat.le_of_ble_eq_true rfl, Nat.le_of_ble_eq_true rfl⟩ (xR_o xci1 rfl (xj_c (by decide) (xkC_q hj))) rfl (Nat.le_of_ble_eq_true rfl) ⟨Nat.le_of_ble_eq_true rfl, Nat.le_of_ble_eq_true rfl⟩ dX1_press_70 (fun v ad' ct' q => ?_) xN_e
        obtain ⟨a, rfl, rfl, rfl⟩ := q
        refine x_eq (pc_qadd hI hj hs) ?_
        refine x_pop C dX1_press_73 rfl ?_
        refine x_aload_n C dX1_press_74 rfl 0 rfl ?_
        refine x_getR C fl_X1_121 (r := ro 5 j) (xa_n (ro_ne (by decide) (by decide) (by omega))) (xj_c (by decide) (xkC_box (show j < kQ κ j 1 from kQ_1.symm ▸ hj))) (v := .ref (xa ad (ro 10 j) a (ro 9 j))) rfl dX1_press_75 ?_
        refine x_callV (rest := []) C (k_size (rL := ro 9 j) (n := κ (10 + j) + 1) (aA := a) (md := xup σ 8 j 0 (σ 8 j 0 - 1) 28 j 0 + 1) (xj_c (by decide) ((xkC_q (show j < kQ κ j 1 from kQ_1.symm ▸ hj)).trans (by rw [show kQ κ j (20 + j) = xgrow (κ (10 + j)) (κ (20 + j)) from kup_s, show kQ κ j (10 + j) = κ (10 + j) + 1 from (kup_n (by omega)).trans kup_s, xa_s, xL_ne xgrow_ne, show sQ κ (xup σ 8 j 0 (σ 8 j 0 - 1)) j s 28 j 0 = xup σ 8 j 0 (σ 8 j 0 - 1) 28 j 0 + 1 from xup_s])))) cf_X1_53 ⟨rfl, hd_J2_size⟩ ⟨Nat.le_of_ble_eq_true rfl, Nat.le_of_ble_eq_true rfl⟩ (xR_o xci1 rfl (xj_c (by decide) (xkC_q (show j < kQ κ j 1 from kQ_1.symm ▸ hj)))) rfl (Nat.le_of_ble_eq_true rfl) ⟨Nat.le_of_ble_eq_true rfl, Nat.le_of_ble_eq_true rfl⟩ dX1_press_78 (xPv_i ?_) xN_e
        exact x_iret C dX1_press_81 (Nat.le_of_ble_eq_true rfl) (Nat.le_of_ble_eq_true rfl) ⟨j, hj, s, hs, rfl, rfl, ⟨Int32.not_le.mp c1, c2⟩, hn8, rfl, a, rfl, rfl⟩
