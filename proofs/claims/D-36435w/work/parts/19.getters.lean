/-! ===== THE COMPONENT: places, getters ===== -/
/-- b is a place among n -/
abbrev xIx (b : Int32) (n : Nat) : Prop := 0 ≤ b ∧ b ≤ nI n - 1
theorem xIx_nI {b : Int32} {n : Nat} (hn : n ≤ 1000) (h : xIx b n) : ∃ j, j < n ∧ b = nI j := by
  obtain ⟨h1, h2⟩ := h
  cases n with
  | zero => exact absurd (Int32.le_trans h1 h2) (by decide)
  | succ k =>
    rw [show nI (k + 1) - 1 = nI k from (pk_sub (a := k + 1) (b := 1) (by omega)).trans (by rw [Nat.add_sub_cancel])] at h2
    rw [Int32.le_iff_toInt_le] at h1 h2
    rw [nI_toInt (by omega)] at h2
    have h1 : (0 : Int) ≤ b.toInt := h1
    refine ⟨b.toInt.toNat, by omega, ?_⟩
    apply Int32.toInt_inj.mp
    rw [nI_toInt (by omega)]
    omega
theorem xIx_of {j n : Nat} (hn : n ≤ 1000) (h : j < n) : xIx (nI j) n := by
  refine ⟨?_, ?_⟩
  · rw [Int32.le_iff_toInt_le, nI_toInt (by omega)]; show (0 : Int) ≤ _; omega
  · rw [show nI n - 1 = nI (n - 1) from pk_sub (a := n) (b := 1) (by omega), Int32.le_iff_toInt_le, nI_toInt (by omega), nI_toInt (by omega)]; omega
theorem i01 {p : Prop} [Decidable p] (h : ¬ (if p then (1 : Int32) else 0) = 0) : p := by
  by_cases q : p
  · exact q
  · rw [if_neg q] at h; exact absurd rfl h
theorem i00 {p : Prop} [Decidable p] (h : (if p then (1 : Int32) else 0) = 0) : ¬ p := by
  intro q
  rw [if_pos q] at h; exact absurd h (by decide)
/-- the lists' sizes -/
def xIk (κ : xKp) : Prop := κ 0 ≤ κ 2 ∧ κ 2 ≤ 40 ∧ κ 1 ≤ κ 3 ∧ κ 3 ≤ 40 ∧ κ 0 ≤ 30 ∧ κ 1 ≤ 4
section XKL
variable {g ad : Nat → Nat} {κ : xKp} {σ : xSg}
theorem xkC_sr : xkC g ad κ σ 0 0 = some (.inr (0, [.ref (ad (ro 1 0)), .ref (ad (ro 3 0)), .int (σ 21 0 0), .int (σ 22 0 0), .int (σ 23 0 0), .int (σ 25 0 0), .long (σ 24 0 0).toInt64])) := rfl
theorem xkC_L1 : xkC g ad κ σ 1 0 = some (xL g (ad (ro 2 0)) (κ 2) (κ 0) (σ 26 0 0)) := rfl
theorem xkC_L3 : xkC g ad κ σ 3 0 = some (xL g (ad (ro 4 0)) (κ 3) (κ 1) (σ 27 0 0)) := rfl
theorem xL_ne {aA cap n : Nat} {md : Int32} (h : cap ≠ 0) : xL g aA cap n md = xAl md aA n := by unfold xL; rw [if_neg h]
end XKL
theorem k_getD {G : xG} {ad : Nat → Nat} {κ : xKp} {σ : xSg} {m t : xK} (hI : xIk κ) {d : Nat} (hd : d < κ 0) : xM G yJ2_get (ws_ yJ2_get cJ2_get 2 (some (Jvm.ClassFile.FieldType.object "java/lang/Object"))) 5 100 0 0 [.ref (ad (ro 1 0)), .int (nI d)] ad (xj (xkC G.2.2.1 ad κ σ) m t) (xPv (some (.ref (ad (ro 11 d)))) ad (xj (xkC G.2.2.1 ad κ σ) m t)) xN := by
  obtain ⟨h1, h2, -⟩ := hI
  have hne : κ 2 ≠ 0 := by omega
  refine k_get (rA := ro 2 0) (cap := κ 2) (aA := ad (ro 2 0)) (xj_c (by decide) (xkC_L1.trans (by rw [xL_ne hne]))) (xj_c (by decide) (xkC_da hne)) rfl (Nat.ble_eq_true_of_le (by omega)) hd h1 (if_pos hd)
theorem k_getB {G : xG} {ad : Nat → Nat} {κ : xKp} {σ : xSg} {m t : xK} (hI : xIk κ) {d : Nat} (hd : d < κ 1) : xM G yJ2_get (ws_ yJ2_get cJ2_get 2 (some (Jvm.ClassFile.FieldType.object "java/lang/Object"))) 5 100 0 0 [.ref (ad (ro 3 0)), .int (nI d)] ad (xj (xkC G.2.2.1 ad κ σ) m t) (xPv (some (.ref (ad (ro 5 d)))) ad (xj (xkC G.2.2.1 ad κ σ) m t)) xN := by
  obtain ⟨-, -, h1, h2, -⟩ := hI
  have hne : κ 3 ≠ 0 := by omega
  refine k_get (rA := ro 4 0) (cap := κ 3) (aA := ad (ro 4 0)) (xj_c (by decide) (xkC_L3.trans (by rw [xL_ne hne]))) (xj_c (by decide) (xkC_ba hne)) rfl (Nat.ble_eq_true_of_le (by omega)) hd h1 (if_pos hd)
abbrev xIOB : String := "java/lang/IndexOutOfBoundsException"
abbrev xIAE : String := "java/lang/IllegalArgumentException"
abbrev xISE : String := "java/lang/IllegalStateException"
abbrev xNSE : String := "java/util/NoSuchElementException"
abbrev xUOE : String := "java/lang/UnsupportedOperationException"
abbrev xARE : String := "java/lang/ArithmeticException"
set_option maxHeartbeats 4000000 in
theorem k1_boxAt {G : xG} {ad : Nat → Nat} {κ : xKp} {σ : xSg} {m t : xK} (hI : xIk κ) (b : Int32) : xM G yX1_boxAt (ws_ yX1_boxAt cX1_boxAt 2 (some (Jvm.ClassFile.FieldType.object "SelectoRoute$Box"))) 9 130 1 6 [.ref (ad (ro 0 0)), .int b] ad (xj (xkC G.2.2.1 ad κ σ) m t) (fun v ad' ct' => ad' = ad ∧ ct' = xj (xkC G.2.2.1 ad κ σ) m t ∧ ∃ j, j < κ 1 ∧ b = nI j ∧ v = some (.ref (ad (ro 5 j)))) (fun E ad' ct' => E = xIOB ∧ ad' = ad ∧ ct' = xj (xkC G.2.2.1 ad κ σ) m t ∧ ¬ xIx b (κ 1)) := by
  refine xM_of (cc := cX1_boxAt) (by decide) rfl (fun F hF C => ?_)
  subst hF
  show xX F _ _ _ 0 0 0 [(0, .ref (ad (ro 0 0))), (1, .int b)] []
  refine x_iload_n C dX1_boxAt_0 rfl 1 rfl ?_
  refine x_iconst (v := 0) C dX1_boxAt_1 (by decide) ?_
  refine x_aload_n C dX1_boxAt_2 rfl 0 rfl ?_
  refine x_get C fl_X1_34 (r := ro 0 0) rfl (xj_c (by decide) xkC_sr) (v := .ref (ad (ro 3 0))) rfl dX1_boxAt_3 ?_
  refine x_callV (rest := [.int 0, .int b]) C (k_size (xj_c (by decide) xkC_L3)) cf_X1_53 ⟨rfl, hd_J2_size⟩ ⟨Nat.le_of_ble_eq_true rfl, Nat.le_of_ble_eq_true rfl⟩ (xR_o xci1 rfl (xj_c (by decide) xkC_L3)) rfl (Nat.le_of_ble_eq_true rfl) ⟨Nat.le_of_ble_eq_true rfl, Nat.le_of_ble_eq_true rfl⟩ dX1_boxAt_6 (xPv_i ?_) xN_e
  refine x_iconst (v := 1) C dX1_boxAt_9 (by decide) ?_
  refine x_isub C dX1_boxAt_10 ?_
  refine x_callS (rest := []) C (k_isBetween b 0 ((nI (κ 1)) - 1)) cf_X1_45 hd_X1_isBetween ⟨Nat.le_of_ble_eq_true rfl, Nat.le_of_ble_eq_true rfl⟩ rfl (Nat.le_of_ble_eq_true rfl) ⟨Nat.le_of_ble_eq_true rfl, Nat.le_of_ble_eq_true rfl⟩ dX1_boxAt_11 (xPv_i ?_) xN_e
  refine x_callS (rest := []) C (k_requireIndex (if 0 ≤ b ∧ b ≤ (nI (κ 1)) - 1 then 1 else 0)) cf_X1_77 hd_X1_requireIndex ⟨Nat.le_of_ble_eq_true rfl, Nat.le_of_ble_eq_true rfl⟩ rfl (Nat.le_of_ble_eq_true rfl) ⟨Nat.le_of_ble_eq_true rfl, Nat.le_of_ble_eq_true rfl⟩ dX1_boxAt_14 (fun v ad' ct' q => ?_) (fun E ad' ct' q => ?_)
  rotate_left
  · obtain ⟨hc, rfl, e9, rfl⟩ := q; obtain rfl := e9.symm
    exact x_out C (fun _ h => nomatch h) (Nat.le_of_ble_eq_true rfl) (Nat.le_of_ble_eq_true rfl) ⟨rfl, rfl, rfl, i00 hc⟩
  obtain ⟨hc, rfl, e9, rfl⟩ := q; obtain rfl := e9.symm
  obtain ⟨j, hj, rfl⟩ := xIx_nI (by have := hI.2.2.2.2; omega) (i01 hc)
  refine x_aload_n C dX1_boxAt_17 rfl 0 rfl ?_
  refine x_get C fl_X1_34 (r := ro 0 0) rfl (xj_c (by decide) xkC_sr) (v := .ref (ad (ro 3 0))) rfl dX1_boxAt_18 ?_
  refine x_iload_n C dX1_boxAt_21 rfl 1 rfl ?_
  refine x_callV (rest := []) C (k_getB hI hj) cf_X1_80 ⟨rfl, hd_J2_get⟩ ⟨Nat.le_of_ble_eq_true rfl, Nat.le_of_ble_eq_true rfl⟩ (xR_o xci1 rfl (xj_c (by decide) xkC_L3)) rfl (Nat.le_of_ble_eq_true rfl) ⟨Nat.le_of_ble_eq_true rfl, Nat.le_of_ble_eq_true rfl⟩ dX1_boxAt_22 (xPv_i ?_) xN_e
  refine x_cast C (xR_o xci3 rfl (xj_c (by decide) (xkC_box hj))) q249 dX1_boxAt_25 ?_
  exact x_aret C (Or.inl ⟨_, rfl⟩) (Or.inr ⟨_, rfl⟩) dX1_boxAt_28 (Nat.le_of_ble_eq_true rfl) (Nat.le_of_ble_eq_true rfl) ⟨rfl, rfl, j, hj, rfl, rfl⟩
set_option maxHeartbeats 4000000 in
theorem k1_discAt {G : xG} {ad : Nat → Nat} {κ : xKp} {σ : xSg} {m t : xK} (hI : xIk κ) (b : Int32) : xM G yX1_discAt (ws_ yX1_discAt cX1_discAt 2 (some (Jvm.ClassFile.FieldType.object "SelectoRoute$Disc"))) 9 130 1 6 [.ref (ad (ro 0 0)), .int b] ad (xj (xkC G.2.2.1 ad κ σ) m t) (fun v ad' ct' => ad' = ad ∧ ct' = xj (xkC G.2.2.1 ad κ σ) m t ∧ ∃ j, j < κ 0 ∧ b = nI j ∧ v = some (.ref (ad (ro 11 j)))) (fun E ad' ct' => E = xIOB ∧ ad' = ad ∧ ct' = xj (xkC G.2.2.1 ad κ σ) m t ∧ ¬ xIx b (κ 0)) := by
  refine xM_of (cc := cX1_discAt) (by decide) rfl (fun F hF C => ?_)
  subst hF
  show xX F _ _ _ 0 0 0 [(0, .ref (ad (ro 0 0))), (1, .int b)] []
  refine x_iload_n C dX1_discAt_0 rfl 1 rfl ?_
  refine x_iconst (v := 0) C dX1_discAt_1 (by decide) ?_
  refine x_aload_n C dX1_discAt_2 rfl 0 rfl ?_
  refine x_get C fl_X1_28 (r := ro 0 0) rfl (xj_c (by decide) xkC_sr) (v := .ref (ad (ro 1 0))) rfl dX1_discAt_3 ?_
  refine x_callV (rest := [.int 0, .int b]) C (k_size (xj_c (by decide) xkC_L1)) cf_X1_53 ⟨rfl, hd_J2_size⟩ ⟨Nat.le_of_ble_eq_true rfl, Nat.le_of_ble_eq_true rfl⟩ (xR_o xci1 rfl (xj_c (by decide) xkC_L1)) rfl (Nat.le_of_ble_eq_true rfl) ⟨Nat.le_of_ble_eq_true rfl, Nat.le_of_ble_eq_true rfl⟩ dX1_discAt_6 (xPv_i ?_) xN_e
  refine x_iconst (v := 1) C dX1_discAt_9 (by decide) ?_
  refine x_isub C dX1_discAt_10 ?_
  refine x_callS (rest := []) C (k_isBetween b 0 ((nI (κ 0)) - 1)) cf_X1_45 hd_X1_isBetween ⟨Nat.le_of_ble_eq_true rfl, Nat.le_of_ble_eq_true rfl⟩ rfl (Nat.le_of_ble_eq_true rfl) ⟨Nat.le_of_ble_eq_true rfl, Nat.le_of_ble_eq_true rfl⟩ dX1_discAt_11 (xPv_i ?_) xN_e
  refine x_callS (rest := []) C (k_requireIndex (if 0 ≤ b ∧ b ≤ (nI (κ 0)) - 1 then 1 else 0)) cf_X1_77 hd_X1_requireIndex ⟨Nat.le_of_ble_eq_true rfl, Nat.le_of_ble_eq_true rfl⟩ rfl (Nat.le_of_ble_eq_true rfl) ⟨Nat.le_of_ble_eq_true rfl, Nat.le_of_ble_eq_true rfl⟩ dX1_discAt_14 (fun v ad' ct' q => ?_) (fun E ad' ct' q => ?_)
  rotate_left
  · obtain ⟨hc, rfl, e9, rfl⟩ := q; obtain rfl := e9.symm
    exact x_out C (fun _ h => nomatch h) (Nat.le_of_ble_eq_true rfl) (Nat.le_of_ble_eq_true rfl) ⟨rfl, rfl, rfl, i00 hc⟩
  obtain ⟨hc, rfl, e9, rfl⟩ := q; obtain rfl := e9.symm
  obtain ⟨j, hj, rfl⟩ := xIx_nI (by have := hI.2.2.2.2; omega) (i01 hc)
  refine x_aload_n C dX1_discAt_17 rfl 0 rfl ?_
  refine x_get C fl_X1_28 (r := ro 0 0) rfl (xj_c (by decide) xkC_sr) (v := .ref (ad (ro 1 0))) rfl dX1_discAt_18 ?_
  refine x_iload_n C dX1_discAt_21 rfl 1 rfl ?_
  refine x_callV (rest := []) C (k_getD hI hj) cf_X1_80 ⟨rfl, hd_J2_get⟩ ⟨Nat.le_of_ble_eq_true rfl, Nat.le_of_ble_eq_true rfl⟩ (xR_o xci1 rfl (xj_c (by decide) xkC_L1)) rfl (Nat.le_of_ble_eq_true rfl) ⟨Nat.le_of_ble_eq_true rfl, Nat.le_of_ble_eq_true rfl⟩ dX1_discAt_22 (xPv_i ?_) xN_e
  refine x_cast C (xR_o xci2 rfl (xj_c (by decide) (xkC_disc hj))) q247 dX1_discAt_25 ?_
  exact x_aret C (Or.inl ⟨_, rfl⟩) (Or.inr ⟨_, rfl⟩) dX1_discAt_28 (Nat.le_of_ble_eq_true rfl) (Nat.le_of_ble_eq_true rfl) ⟨rfl, rfl, j, hj, rfl, rfl⟩
set_option maxHeartbeats 4000000 in
theorem k1_boxAt2 {G : xG} {ad : Nat → Nat} {κ : xKp} {σ : xSg} {m t : xK} (hI : xIk κ) (b sl : Int32) : xM G yX1_boxAt_2 (ws_ yX1_boxAt_2 cX1_boxAt_2 4 (some (Jvm.ClassFile.FieldType.object "SelectoRoute$Box"))) 10 170 2 12 [.ref (ad (ro 0 0)), .int b, .int sl] ad (xj (xkC G.2.2.1 ad κ σ) m t) (fun v ad' ct' => ad' = ad ∧ ct' = xj (xkC G.2.2.1 ad κ σ) m t ∧ ∃ j, j < κ 1 ∧ ∃ s, s < 10 ∧ b = nI j ∧ sl = nI s ∧ v = some (.ref (ad (ro 5 j)))) (fun E ad' ct' => E = xIOB ∧ ad' = ad ∧ ct' = xj (xkC G.2.2.1 ad κ σ) m t ∧ ¬ (xIx b (κ 1) ∧ xIx sl 10)) := by
  refine xM_of (cc := cX1_boxAt_2) (by decide) rfl (fun F hF C => ?_)
  subst hF
  show xX F _ _ _ 0 0 0 [(0, .ref (ad (ro 0 0))), (1, .int b), (2, .int sl)] []
  refine x_aload_n C dX1_boxAt_2_0 rfl 0 rfl ?_
  refine x_iload_n C dX1_boxAt_2_1 rfl 1 rfl ?_
  refine x_callV (rest := []) C (k1_boxAt hI b) cf_X1_84 ⟨rfl, hd_X1_boxAt⟩ ⟨Nat.le_of_ble_eq_true rfl, Nat.le_of_ble_eq_true rfl⟩ (xR_o xci0 rfl (xj_c (by decide) xkC_sr)) rfl (Nat.le_of_ble_eq_true rfl) ⟨Nat.le_of_ble_eq_true rfl, Nat.le_of_ble_eq_true rfl⟩ dX1_boxAt_2_2 (fun v ad' ct' q => ?_) (fun E ad' ct' q => ?_)
  rotate_left
  · obtain ⟨rfl, e9, rfl, hx⟩ := q; obtain rfl := e9.symm
    exact x_out C (fun _ h => nomatch h) (Nat.le_of_ble_eq_true rfl) (Nat.le_of_ble_eq_true rfl) ⟨rfl, rfl, rfl, fun z => hx z.1⟩
  obtain ⟨e9, rfl, j, hj, rfl, rfl⟩ := q; obtain rfl := e9.symm
  refine x_astore_n (lv' := [(3, .ref (ad (ro 5 j))), (0, .ref (ad (ro 0 0))), (1, .int (nI j)), (2, .int sl)]) C dX1_boxAt_2_5 rfl (by decide) rfl ?_
  refine x_iload_n C dX1_boxAt_2_6 rfl 3 rfl ?_
  refine x_iconst (v := 0) C dX1_boxAt_2_7 (by decide) ?_
  refine x_bipush (v := 9) C dX1_boxAt_2_8 (by decide) ?_
  refine x_callS (rest := []) C (k_isBetween sl 0 9) cf_X1_45 hd_X1_isBetween ⟨Nat.le_of_ble_eq_true rfl, Nat.le_of_ble_eq_true rfl⟩ rfl (Nat.le_of_ble_eq_true rfl) ⟨Nat.le_of_ble_eq_true rfl, Nat.le_of_ble_eq_true rfl⟩ dX1_boxAt_2_10 (xPv_i ?_) xN_e
  refine x_callS (rest := []) C (k_requireIndex (if 0 ≤ sl ∧ sl ≤ 9 then 1 else 0)) cf_X1_77 hd_X1_requireIndex ⟨Nat.le_of_ble_eq_true rfl, Nat.le_of_ble_eq_true rfl⟩ rfl (Nat.le_of_ble_eq_true rfl) ⟨Nat.le_of_ble_eq_true rfl, Nat.le_of_ble_eq_true rfl⟩ dX1_boxAt_2_13 (fun v ad' ct' q => ?_) (fun E ad' ct' q => ?_)
  rotate_left
  · obtain ⟨hc, rfl, e9, rfl⟩ := q; obtain rfl := e9.symm
    exact x_out C (fun _ h => nomatch h) (Nat.le_of_ble_eq_true rfl) (Nat.le_of_ble_eq_true rfl) ⟨rfl, rfl, rfl, fun z => i00 hc z.2⟩
  obtain ⟨hc, rfl, e9, rfl⟩ := q; obtain rfl := e9.symm
  obtain ⟨s, hs, rfl⟩ := xIx_nI (n := 10) (by decide) (i01 hc)
  refine x_aload_n C dX1_boxAt_2_16 rfl 0 rfl ?_
  exact x_aret C (Or.inl ⟨_, rfl⟩) (Or.inr ⟨_, rfl⟩) dX1_boxAt_2_17 (Nat.le_of_ble_eq_true rfl) (Nat.le_of_ble_eq_true rfl) ⟨rfl, rfl, j, hj, s, hs, rfl, rfl, rfl⟩
set_option maxHeartbeats 4000000 in
theorem k1_getCents {G : xG} {ad : Nat → Nat} {κ : xKp} {σ : xSg} {m t : xK} (hI : xIk κ) (b : Int32) : xM G yX1_getCents (ws_ yX1_getCents cX1_getCents 2 (some Jvm.ClassFile.FieldType.int)) 20 600 10 60 [.ref (ad (ro 0 0)), .int b] ad (xj (xkC G.2.2.1 ad κ σ) m t) (fun v ad' ct' => ad' = ad ∧ ct' = xj (xkC G.2.2.1 ad κ σ) m t ∧ ∃ j, j < κ 1 ∧ b = nI j ∧ v = some (.int (σ 9 j 0))) (fun E ad' ct' => E = xIOB ∧ ad' = ad ∧ ct' = xj (xkC G.2.2.1 ad κ σ) m t ∧ ¬ xIx b (κ 1)) := by
  refine xM_of (cc := cX1_getCents) (by decide) rfl (fun F hF C => ?_)
  subst hF
  show xX F _ _ _ 0 0 0 [(0, .ref (ad (ro 0 0))), (1, .int b)] []
  refine x_aload_n C dX1_getCents_0 rfl 0 rfl ?_
  refine x_iload_n C dX1_getCents_1 rfl 1 rfl ?_
  refine x_callV (rest := []) C (k1_boxAt hI b) cf_X1_84 ⟨rfl, hd_X1_boxAt⟩ ⟨Nat.le_of_ble_eq_true rfl, Nat.le_of_ble_eq_true rfl⟩ (xR_o xci0 rfl (xj_c (by decide) xkC_sr)) rfl (Nat.le_of_ble_eq_true rfl) ⟨Nat.le_of_ble_eq_true rfl, Nat.le_of_ble_eq_true rfl⟩ dX1_getCents_2 (fun v ad' ct' q => ?_) (fun E ad' ct' q => ?_)
  rotate_left
  · obtain ⟨rfl, e9, rfl, hx⟩ := q; obtain rfl := e9.symm
    exact x_out C (fun _ h => nomatch h) (Nat.le_of_ble_eq_true rfl) (Nat.le_of_ble_eq_true rfl) ⟨rfl, rfl, rfl, hx⟩
  obtain ⟨e9, rfl, j, hj, rfl, rfl⟩ := q; obtain rfl := e9.symm
  refine x_get C fl_X1_110 (r := ro 5 j) rfl (xj_c (by decide) (xkC_box hj)) (v := .int (σ 9 j 0)) rfl dX1_getCents_5 ?_
  exact x_iret C dX1_getCents_8 (Nat.le_of_ble_eq_true rfl) (Nat.le_of_ble_eq_true rfl) ⟨rfl, rfl, j, hj, rfl, rfl⟩
set_option maxHeartbeats 4000000 in
theorem k1_getCredits {G : xG} {ad : Nat → Nat} {κ : xKp} {σ : xSg} {m t : xK} (hI : xIk κ) (b : Int32) : xM G yX1_getCredits (ws_ yX1_getCredits cX1_getCredits 2 (some Jvm.ClassFile.FieldType.int)) 20 600 10 60 [.ref (ad (ro 0 0)), .int b] ad (xj (xkC G.2.2.1 ad κ σ) m t) (fun v ad' ct' => ad' = ad ∧ ct' = xj (xkC G.2.2.1 ad κ σ) m t ∧ ∃ j, j < κ 1 ∧ b = nI j ∧ v = some (.int (σ 8 j 0))) (fun E ad' ct' => E = xIOB ∧ ad' = ad ∧ ct' = xj (xkC G.2.2.1 ad κ σ) m t ∧ ¬ xIx b (κ 1)) := by
  refine xM_of (cc := cX1_getCredits) (by decide) rfl (fun F hF C => ?_)
  subst hF
  show xX F _ _ _ 0 0 0 [(0, .ref (ad (ro 0 0))), (1, .int b)] []
  refine x_aload_n C dX1_getCredits_0 rfl 0 rfl ?_
  refine x_iload_n C dX1_getCredits_1 rfl 1 rfl ?_
  refine x_callV (rest := []) C (k1_boxAt hI b) cf_X1_84 ⟨rfl, hd_X1_boxAt⟩ ⟨Nat.le_of_ble_eq_true rfl, Nat.le_of_ble_eq_true rfl⟩ (xR_o xci0 rfl (xj_c (by decide) xkC_sr)) rfl (Nat.le_of_ble_eq_true rfl) ⟨Nat.le_of_ble_eq_true rfl, Nat.le_of_ble_eq_true rfl⟩ dX1_getCredits_2 (fun v ad' ct' q => ?_) (fun E ad' ct' q => ?_)
  rotate_left
  · obtain ⟨rfl, e9, rfl, hx⟩ := q; obtain rfl := e9.symm
    exact x_out C (fun _ h => nomatch h) (Nat.le_of_ble_eq_true rfl) (Nat.le_of_ble_eq_true rfl) ⟨rfl, rfl, rfl, hx⟩
  obtain ⟨e9, rfl, j, hj, rfl, rfl⟩ := q; obtain rfl := e9.symm
  refine x_get C fl_X1_105 (r := ro 5 j) rfl (xj_c (by decide) (xkC_box hj)) (v := .int (σ 8 j 0)) rfl dX1_getCredits_5 ?_
  exact x_iret C dX1_getCredits_8 (Nat.le_of_ble_eq_true rfl) (Nat.le_of_ble_eq_true rfl) ⟨rfl, rfl, j, hj, rfl, rfl⟩
set_option maxHeartbeats 4000000 in
theorem k1_getNeedle {G : xG} {ad : Nat → Nat} {κ : xKp} {σ : xSg} {m t : xK} (hI : xIk κ) (b : Int32) : xM G yX1_getNeedle (ws_ yX1_getNeedle cX1_getNeedle 2 (some Jvm.ClassFile.FieldType.int)) 20 600 10 60 [.ref (ad (ro 0 0)), .int b] ad (xj (xkC G.2.2.1 ad κ σ) m t) (fun v ad' ct' => ad' = ad ∧ ct' = xj (xkC G.2.2.1 ad κ σ) m t ∧ ∃ j, j < κ 1 ∧ b = nI j ∧ v = some (.int (σ 10 j 0))) (fun E ad' ct' => E = xIOB ∧ ad' = ad ∧ ct' = xj (xkC G.2.2.1 ad κ σ) m t ∧ ¬ xIx b (κ 1)) := by
  refine xM_of (cc := cX1_getNeedle) (by decide) rfl (fun F hF C => ?_)
  subst hF
  show xX F _ _ _ 0 0 0 [(0, .ref (ad (ro 0 0))), (1, .int b)] []
  refine x_aload_n C dX1_getNeedle_0 rfl 0 rfl ?_
  refine x_iload_n C dX1_getNeedle_1 rfl 1 rfl ?_
  refine x_callV (rest := []) C (k1_boxAt hI b) cf_X1_84 ⟨rfl, hd_X1_boxAt⟩ ⟨Nat.le_of_ble_eq_true rfl, Nat.le_of_ble_eq_true rfl⟩ (xR_o xci0 rfl (xj_c (by decide) xkC_sr)) rfl (Nat.le_of_ble_eq_true rfl) ⟨Nat.le_of_ble_eq_true rfl, Nat.le_of_ble_eq_true rfl⟩ dX1_getNeedle_2 (fun v ad' ct' q => ?_) (fun E ad' ct' q => ?_)
  rotate_left
  · obtain ⟨rfl, e9, rfl, hx⟩ := q; obtain rfl := e9.symm
    exact x_out C (fun _ h => nomatch h) (Nat.le_of_ble_eq_true rfl) (Nat.le_of_ble_eq_true rfl) ⟨rfl, rfl, rfl, hx⟩
  obtain ⟨e9, rfl, j, hj, rfl, rfl⟩ := q; obtain rfl := e9.symm
  refine x_get C fl_X1_159 (r := ro 5 j) rfl (xj_c (by decide) (xkC_box hj)) (v := .int (σ 10 j 0)) rfl dX1_getNeedle_5 ?_
  exact x_iret C dX1_getNeedle_8 (Nat.le_of_ble_eq_true rfl) (Nat.le_of_ble_eq_true rfl) ⟨rfl, rfl, j, hj, rfl, rfl⟩
set_option maxHeartbeats 4000000 in
theorem k1_getShare {G : xG} {ad : Nat → Nat} {κ : xKp} {σ : xSg} {m t : xK} (hI : xIk κ) (b : Int32) : xM G yX1_getShare (ws_ yX1_getShare cX1_getShare 2 (some Jvm.ClassFile.FieldType.int)) 20 600 10 60 [.ref (ad (ro 0 0)), .int b] ad (xj (xkC G.2.2.1 ad κ σ) m t) (fun v ad' ct' => ad' = ad ∧ ct' = xj (xkC G.2.2.1 ad κ σ) m t ∧ ∃ j, j < κ 1 ∧ b = nI j ∧ v = some (.int (σ 13 j 0))) (fun E ad' ct' => E = xIOB ∧ ad' = ad ∧ ct' = xj (xkC G.2.2.1 ad κ σ) m t ∧ ¬ xIx b (κ 1)) := by
  refine xM_of (cc := cX1_getShare) (by decide) rfl (fun F hF C => ?_)
  subst hF
  show xX F _ _ _ 0 0 0 [(0, .ref (ad (ro 0 0))), (1, .int b)] []
  refine x_aload_n C dX1_getShare_0 rfl 0 rfl ?_
  refine x_iload_n C dX1_getShare_1 rfl 1 rfl ?_
  refine x_callV (rest := []) C (k1_boxAt hI b) cf_X1_84 ⟨rfl, hd_X1_boxAt⟩ ⟨Nat.le_of_ble_eq_true rfl, Nat.le_of_ble_eq_true rfl⟩ (xR_o xci0 rfl (xj_c (by decide) xkC_sr)) rfl (Nat.le_of_ble_eq_true rfl) ⟨Nat.le_of_ble_eq_true rfl, Nat.le_of_ble_eq_true rfl⟩ dX1_getShare_2 (fun v ad' ct' q => ?_) (fun E ad' ct' q => ?_)
  rotate_left
  · obtain ⟨rfl, e9, rfl, hx⟩ := q; obtain rfl := e9.symm
    exact x_out C (fun _ h => nomatch h) (Nat.le_of_ble_eq_true rfl) (Nat.le_of_ble_eq_true rfl) ⟨rfl, rfl, rfl, hx⟩
  obtain ⟨e9, rfl, j, hj, rfl, rfl⟩ := q; obtain rfl := e9.symm
  refine x_get C fl_X1_226 (r := ro 5 j) rfl (xj_c (by decide) (xkC_box hj)) (v := .int (σ 13 j 0)) rfl dX1_getShare_5 ?_
  exact x_iret C dX1_getShare_8 (Nat.le_of_ble_eq_true rfl) (Nat.le_of_ble_eq_true rfl) ⟨rfl, rfl, j, hj, rfl, rfl⟩
set_option maxHeartbeats 4000000 in
theorem k1_getShort {G : xG} {ad : Nat → Nat} {κ : xKp} {σ : xSg} {m t : xK} (hI : xIk κ) (b : Int32) : xM G yX1_getShort (ws_ yX1_getShort cX1_getShort 2 (some Jvm.ClassFile.FieldType.int)) 20 600 10 60 [.ref (ad (ro 0 0)), .int b] ad (xj (xkC G.2.2.1 ad κ σ) m t) (fun v ad' ct' => ad' = ad ∧ ct' = xj (xkC G.2.2.1 ad κ σ) m t ∧ ∃ j, j < κ 1 ∧ b = nI j ∧ v = some (.int (σ 12 j 0))) (fun E ad' ct' => E = xIOB ∧ ad' = ad ∧ ct' = xj (xkC G.2.2.1 ad κ σ) m t ∧ ¬ xIx b (κ 1)) := by
  refine xM_of (cc := cX1_getShort) (by decide) rfl (fun F hF C => ?_)
  subst hF
  show xX F _ _ _ 0 0 0 [(0, .ref (ad (ro 0 0))), (1, .int b)] []
  refine x_aload_n C dX1_getShort_0 rfl 0 rfl ?_
  refine x_iload_n C dX1_getShort_1 rfl 1 rfl ?_
  refine x_callV (rest := []) C (k1_boxAt hI b) cf_X1_84 ⟨rfl, hd_X1_boxAt⟩ ⟨Nat.le_of_ble_eq_true rfl, Nat.le_of_ble_eq_true rfl⟩ (xR_o xci0 rfl (xj_c (by decide) xkC_sr)) rfl (Nat.le_of_ble_eq_true rfl) ⟨Nat.le_of_ble_eq_true rfl, Nat.le_of_ble_eq_true rfl⟩ dX1_getShort_2 (fun v ad' ct' q => ?_) (fun E ad' ct' q => ?_)
  rotate_left
  · obtain ⟨rfl, e9, rfl, hx⟩ := q; obtain rfl := e9.symm
    exact x_out C (fun _ h => nomatch h) (Nat.le_of_ble_eq_true rfl) (Nat.le_of_ble_eq_true rfl) ⟨rfl, rfl, rfl, hx⟩
  obtain ⟨e9, rfl, j, hj, rfl, rfl⟩ := q; obtain rfl := e9.symm
  refine x_get C fl_X1_223 (r := ro 5 j) rfl (xj_c (by decide) (xkC_box hj)) (v := .int (σ 12 j 0)) rfl dX1_getShort_5 ?_
  exact x_iret C dX1_getShort_8 (Nat.le_of_ble_eq_true rfl) (Nat.le_of_ble_eq_true rfl) ⟨rfl, rfl, j, hj, rfl, rfl⟩
set_option maxHeartbeats 4000000 in
theorem k1_isJammed {G : xG} {ad : Nat → Nat} {κ : xKp} {σ : xSg} {m t : xK} (hI : xIk κ) (b : Int32) (hJ : ∀ j, j < κ 1 → vp_nar .boolean (σ 14 j 0) = σ 14 j 0) : xM G yX1_isJammed (ws_ yX1_isJammed cX1_isJammed 2 (some Jvm.ClassFile.FieldType.boolean)) 20 600 10 60 [.ref (ad (ro 0 0)), .int b] ad (xj (xkC G.2.2.1 ad κ σ) m t) (fun v ad' ct' => ad' = ad ∧ ct' = xj (xkC G.2.2.1 ad κ σ) m t ∧ ∃ j, j < κ 1 ∧ b = nI j ∧ v = some (.int (σ 14 j 0))) (fun E ad' ct' => E = xIOB ∧ ad' = ad ∧ ct' = xj (xkC G.2.2.1 ad κ σ) m t ∧ ¬ xIx b (κ 1)) := by
  refine xM_of (cc := cX1_isJammed) (by decide) rfl (fun F hF C => ?_)
  subst hF
  show xX F _ _ _ 0 0 0 [(0, .ref (ad (ro 0 0))), (1, .int b)] []
  refine x_aload_n C dX1_isJammed_0 rfl 0 rfl ?_
  refine x_iload_n C dX1_isJammed_1 rfl 1 rfl ?_
  refine x_callV (rest := []) C (k1_boxAt hI b) cf_X1_84 ⟨rfl, hd_X1_boxAt⟩ ⟨Nat.le_of_ble_eq_true rfl, Nat.le_of_ble_eq_true rfl⟩ (xR_o xci0 rfl (xj_c (by decide) xkC_sr)) rfl (Nat.le_of_ble_eq_true rfl) ⟨Nat.le_of_ble_eq_true rfl, Nat.le_of_ble_eq_true rfl⟩ dX1_isJammed_2 (fun v ad' ct' q => ?_) (fun E ad' ct' q => ?_)
  rotate_left
  · obtain ⟨rfl, e9, rfl, hx⟩ := q; obtain rfl := e9.symm
    exact x_out C (fun _ h => nomatch h) (Nat.le_of_ble_eq_true rfl) (Nat.le_of_ble_eq_true rfl) ⟨rfl, rfl, rfl, hx⟩
  obtain ⟨e9, rfl, j, hj, rfl, rfl⟩ := q; obtain rfl := e9.symm
  refine x_get C fl_X1_98 (r := ro 5 j) rfl (xj_c (by decide) (xkC_box hj)) (v := .int (σ 14 j 0)) rfl dX1_isJammed_5 ?_
  exact x_zret C (by have := hJ j hj; simpa [narrow, vp_nar] using this) dX1_isJammed_8 (Nat.le_of_ble_eq_true rfl) (Nat.le_of_ble_eq_true rfl) ⟨rfl, rfl, j, hj, rfl, rfl⟩
set_option maxHeartbeats 4000000 in
theorem k1_getWear {G : xG} {ad : Nat → Nat} {κ : xKp} {σ : xSg} {m t : xK} (hI : xIk κ) (b : Int32) : xM G yX1_getWear (ws_ yX1_getWear cX1_getWear 2 (some Jvm.ClassFile.FieldType.int)) 20 600 10 60 [.ref (ad (ro 0 0)), .int b] ad (xj (xkC G.2.2.1 ad κ σ) m t) (fun v ad' ct' => ad' = ad ∧ ct' = xj (xkC G.2.2.1 ad κ σ) m t ∧ ∃ d, d < κ 0 ∧ b = nI d ∧ v = some (.int (σ 3 d 0))) (fun E ad' ct' => E = xIOB ∧ ad' = ad ∧ ct' = xj (xkC G.2.2.1 ad κ σ) m t ∧ ¬ xIx b (κ 0)) := by
  refine xM_of (cc := cX1_getWear) (by decide) rfl (fun F hF C => ?_)
  subst hF
  show xX F _ _ _ 0 0 0 [(0, .ref (ad (ro 0 0))), (1, .int b)] []
  refine x_aload_n C dX1_getWear_0 rfl 0 rfl ?_
  refine x_iload_n C dX1_getWear_1 rfl 1 rfl ?_
  refine x_callV (rest := []) C (k1_discAt hI b) cf_X1_162 ⟨rfl, hd_X1_discAt⟩ ⟨Nat.le_of_ble_eq_true rfl, Nat.le_of_ble_eq_true rfl⟩ (xR_o xci0 rfl (xj_c (by decide) xkC_sr)) rfl (Nat.le_of_ble_eq_true rfl) ⟨Nat.le_of_ble_eq_true rfl, Nat.le_of_ble_eq_true rfl⟩ dX1_getWear_2 (fun v ad' ct' q => ?_) (fun E ad' ct' q => ?_)
  rotate_left
  · obtain ⟨rfl, e9, rfl, hx⟩ := q; obtain rfl := e9.symm
    exact x_out C (fun _ h => nomatch h) (Nat.le_of_ble_eq_true rfl) (Nat.le_of_ble_eq_true rfl) ⟨rfl, rfl, rfl, hx⟩
  obtain ⟨e9, rfl, d, hd, rfl, rfl⟩ := q; obtain rfl := e9.symm
  refine x_get C fl_X1_166 (r := ro 11 d) rfl (xj_c (by decide) (xkC_disc hd)) (v := .int (σ 3 d 0)) rfl dX1_getWear_5 ?_
  exact x_iret C dX1_getWear_8 (Nat.le_of_ble_eq_true rfl) (Nat.le_of_ble_eq_true rfl) ⟨rfl, rfl, d, hd, rfl, rfl⟩
set_option maxHeartbeats 4000000 in
theorem k1_getPlace {G : xG} {ad : Nat → Nat} {κ : xKp} {σ : xSg} {m t : xK} (hI : xIk κ) (b : Int32) : xM G yX1_getPlace (ws_ yX1_getPlace cX1_getPlace 2 (some Jvm.ClassFile.FieldType.int)) 20 600 10 60 [.ref (ad (ro 0 0)), .int b] ad (xj (xkC G.2.2.1 ad κ σ) m t) (fun v ad' ct' => ad' = ad ∧ ct' = xj (xkC G.2.2.1 ad κ σ) m t ∧ ∃ d, d < κ 0 ∧ b = nI d ∧ v = some (.int (σ 4 d 0))) (fun E ad' ct' => E = xIOB ∧ ad' = ad ∧ ct' = xj (xkC G.2.2.1 ad κ σ) m t ∧ ¬ xIx b (κ 0)) := by
  refine xM_of (cc := cX1_getPlace) (by decide) rfl (fun F hF C => ?_)
  subst hF
  show xX F _ _ _ 0 0 0 [(0, .ref (ad (ro 0 0))), (1, .int b)] []
  refine x_aload_n C dX1_getPlace_0 rfl 0 rfl ?_
  refine x_iload_n C dX1_getPlace_1 rfl 1 rfl ?_
  refine x_callV (rest := []) C (k1_discAt hI b) cf_X1_162 ⟨rfl, hd_X1_discAt⟩ ⟨Nat.le_of_ble_eq_true rfl, Nat.le_of_ble_eq_true rfl⟩ (xR_o xci0 rfl (xj_c (by decide) xkC_sr)) rfl (Nat.le_of_ble_eq_true rfl) ⟨Nat.le_of_ble_eq_true rfl, Nat.le_of_ble_eq_true rfl⟩ dX1_getPlace_2 (fun v ad' ct' q => ?_) (fun E ad' ct' q => ?_)
  rotate_left
  · obtain ⟨rfl, e9, rfl, hx⟩ := q; obtain rfl := e9.symm
    exact x_out C (fun _ h => nomatch h) (Nat.le_of_ble_eq_true rfl) (Nat.le_of_ble_eq_true rfl) ⟨rfl, rfl, rfl, hx⟩
  obtain ⟨e9, rfl, d, hd, rfl, rfl⟩ := q; obtain rfl := e9.symm
  refine x_get C fl_X1_169 (r := ro 11 d) rfl (xj_c (by decide) (xkC_disc hd)) (v := .int (σ 4 d 0)) rfl dX1_getPlace_5 ?_
  exact x_iret C dX1_getPlace_8 (Nat.le_of_ble_eq_true rfl) (Nat.le_of_ble_eq_true rfl) ⟨rfl, rfl, d, hd, rfl, rfl⟩
set_option maxHeartbeats 4000000 in
theorem k1_getEarned {G : xG} {ad : Nat → Nat} {κ : xKp} {σ : xSg} {m t : xK}  : xM G yX1_getEarned (ws_ yX1_getEarned cX1_getEarned 1 (some Jvm.ClassFile.FieldType.int)) 20 600 0 0 [.ref (ad (ro 0 0))] ad (xj (xkC G.2.2.1 ad κ σ) m t) (xPv (some (.int (σ 23 0 0))) ad (xj (xkC G.2.2.1 ad κ σ) m t)) xN := by
  refine xM_of (cc := cX1_getEarned) (by decide) rfl (fun F hF C => ?_)
  subst hF
  show xX F _ _ _ 0 0 0 [(0, .ref (ad (ro 0 0)))] []
  refine x_aload_n C dX1_getEarned_0 rfl 0 rfl ?_
  refine x_get C fl_X1_229 (r := ro 0 0) rfl (xj_c (by decide) xkC_sr) (v := .int (σ 23 0 0)) rfl dX1_getEarned_1 ?_
  exact x_iret C dX1_getEarned_4 (Nat.le_of_ble_eq_true rfl) (Nat.le_of_ble_eq_true rfl) ⟨rfl, rfl, rfl⟩
set_option maxHeartbeats 4000000 in
theorem k1_getMinutes {G : xG} {ad : Nat → Nat} {κ : xKp} {σ : xSg} {m t : xK}  : xM G yX1_getMinutes (ws_ yX1_getMinutes cX1_getMinutes 1 (some Jvm.ClassFile.FieldType.int)) 20 600 0 0 [.ref (ad (ro 0 0))] ad (xj (xkC G.2.2.1 ad κ σ) m t) (xPv (some (.int (σ 22 0 0))) ad (xj (xkC G.2.2.1 ad κ σ) m t)) xN := by
  refine xM_of (cc := cX1_getMinutes) (by decide) rfl (fun F hF C => ?_)
  subst hF
  show xX F _ _ _ 0 0 0 [(0, .ref (ad (ro 0 0)))] []
  refine x_aload_n C dX1_getMinutes_0 rfl 0 rfl ?_
  refine x_get C fl_X1_37 (r := ro 0 0) rfl (xj_c (by decide) xkC_sr) (v := .int (σ 22 0 0)) rfl dX1_getMinutes_1 ?_
  exact x_iret C dX1_getMinutes_4 (Nat.le_of_ble_eq_true rfl) (Nat.le_of_ble_eq_true rfl) ⟨rfl, rfl, rfl⟩
set_option maxHeartbeats 4000000 in
theorem k1_getWeek {G : xG} {ad : Nat → Nat} {κ : xKp} {σ : xSg} {m t : xK}  : xM G yX1_getWeek (ws_ yX1_getWeek cX1_getWeek 1 (some Jvm.ClassFile.FieldType.int)) 20 600 0 0 [.ref (ad (ro 0 0))] ad (xj (xkC G.2.2.1 ad κ σ) m t) (xPv (some (.int (σ 21 0 0))) ad (xj (xkC G.2.2.1 ad κ σ) m t)) xN := by
  refine xM_of (cc := cX1_getWeek) (by decide) rfl (fun F hF C => ?_)
  subst hF
  show xX F _ _ _ 0 0 0 [(0, .ref (ad (ro 0 0)))] []
  refine x_aload_n C dX1_getWeek_0 rfl 0 rfl ?_
  refine x_get C fl_X1_172 (r := ro 0 0) rfl (xj_c (by decide) xkC_sr) (v := .int (σ 21 0 0)) rfl dX1_getWeek_1 ?_
  exact x_iret C dX1_getWeek_4 (Nat.le_of_ble_eq_true rfl) (Nat.le_of_ble_eq_true rfl) ⟨rfl, rfl, rfl⟩
set_option maxHeartbeats 4000000 in
theorem k1_getQueued {G : xG} {ad : Nat → Nat} {κ : xKp} {σ : xSg} {m t : xK} (hI : xIk κ) (b : Int32) : xM G yX1_getQueued (ws_ yX1_getQueued cX1_getQueued 2 (some Jvm.ClassFile.FieldType.int)) 20 600 10 60 [.ref (ad (ro 0 0)), .int b] ad (xj (xkC G.2.2.1 ad κ σ) m t) (fun v ad' ct' => ad' = ad ∧ ct' = xj (xkC G.2.2.1 ad κ σ) m t ∧ ∃ j, j < κ 1 ∧ b = nI j ∧ v = some (.int (nI (κ (10 + j))))) (fun E ad' ct' => E = xIOB ∧ ad' = ad ∧ ct' = xj (xkC G.2.2.1 ad κ σ) m t ∧ ¬ xIx b (κ 1)) := by
  refine xM_of (cc := cX1_getQueued) (by decide) rfl (fun F hF C => ?_)
  subst hF
  show xX F _ _ _ 0 0 0 [(0, .ref (ad (ro 0 0))), (1, .int b)] []
  refine x_aload_n C dX1_getQueued_0 rfl 0 rfl ?_
  refine x_iload_n C dX1_getQueued_1 rfl 1 rfl ?_
  refine x_callV (rest := []) C (k1_boxAt hI b) cf_X1_84 ⟨rfl, hd_X1_boxAt⟩ ⟨Nat.le_of_ble_eq_true rfl, Nat.le_of_ble_eq_true rfl⟩ (xR_o xci0 rfl (xj_c (by decide) xkC_sr)) rfl (Nat.le_of_ble_eq_true rfl) ⟨Nat.le_of_ble_eq_true rfl, Nat.le_of_ble_eq_true rfl⟩ dX1_getQueued_2 (fun v ad' ct' q => ?_) (fun E ad' ct' q => ?_)
  rotate_left
  · obtain ⟨rfl, e9, rfl, hx⟩ := q; obtain rfl := e9.symm
    exact x_out C (fun _ h => nomatch h) (Nat.le_of_ble_eq_true rfl) (Nat.le_of_ble_eq_true rfl) ⟨rfl, rfl, rfl, hx⟩
  obtain ⟨e9, rfl, j, hj, rfl, rfl⟩ := q; obtain rfl := e9.symm
  refine x_getR C fl_X1_121 (r := ro 5 j) rfl (xj_c (by decide) (xkC_box hj)) (v := .ref (ad (ro 9 j))) rfl dX1_getQueued_5 ?_
  refine x_callV (rest := []) C (k_size (xj_c (by decide) (xkC_q hj))) cf_X1_53 ⟨rfl, hd_J2_size⟩ ⟨Nat.le_of_ble_eq_true rfl, Nat.le_of_ble_eq_true rfl⟩ (xR_o xci1 rfl (xj_c (by decide) (xkC_q hj))) rfl (Nat.le_of_ble_eq_true rfl) ⟨Nat.le_of_ble_eq_true rfl, Nat.le_of_ble_eq_true rfl⟩ dX1_getQueued_8 (xPv_i ?_) xN_e
  exact x_iret C dX1_getQueued_11 (Nat.le_of_ble_eq_true rfl) (Nat.le_of_ble_eq_true rfl) ⟨rfl, rfl, j, hj, rfl, rfl⟩
set_option maxHeartbeats 4000000 in
theorem k1_getWheel {G : xG} {ad : Nat → Nat} {κ : xKp} {σ : xSg} {m t : xK} (hI : xIk κ) (b sl : Int32) : xM G yX1_getWheel (ws_ yX1_getWheel cX1_getWheel 3 (some Jvm.ClassFile.FieldType.int)) 20 600 10 60 [.ref (ad (ro 0 0)), .int b, .int sl] ad (xj (xkC G.2.2.1 ad κ σ) m t) (fun v ad' ct' => ad' = ad ∧ ct' = xj (xkC G.2.2.1 ad κ σ) m t ∧ ∃ j, j < κ 1 ∧ ∃ s, s < 10 ∧ b = nI j ∧ sl = nI s ∧ v = some (.int (σ 18 j s))) (fun E ad' ct' => E = xIOB ∧ ad' = ad ∧ ct' = xj (xkC G.2.2.1 ad κ σ) m t ∧ ¬ (xIx b (κ 1) ∧ xIx sl 10)) := by
  refine xM_of (cc := cX1_getWheel) (by decide) rfl (fun F hF C => ?_)
  subst hF
  show xX F _ _ _ 0 0 0 [(0, .ref (ad (ro 0 0))), (1, .int b), (2, .int sl)] []
  refine x_aload_n C dX1_getWheel_0 rfl 0 rfl ?_
  refine x_iload_n C dX1_getWheel_1 rfl 1 rfl ?_
  refine x_iload_n C dX1_getWheel_2 rfl 2 rfl ?_
  refine x_callV (rest := []) C (k1_boxAt2 hI b sl) cf_X1_114 ⟨rfl, hd_X1_boxAt_2⟩ ⟨Nat.le_of_ble_eq_true rfl, Nat.le_of_ble_eq_true rfl⟩ (xR_o xci0 rfl (xj_c (by decide) xkC_sr)) rfl (Nat.le_of_ble_eq_true rfl) ⟨Nat.le_of_ble_eq_true rfl, Nat.le_of_ble_eq_true rfl⟩ dX1_getWheel_3 (fun v ad' ct' q => ?_) (fun E ad' ct' q => ?_)
  rotate_left
  · obtain ⟨rfl, e9, rfl, hx⟩ := q; obtain rfl := e9.symm
    exact x_out C (fun _ h => nomatch h) (Nat.le_of_ble_eq_true rfl) (Nat.le_of_ble_eq_true rfl) ⟨rfl, rfl, rfl, hx⟩
  obtain ⟨e9, rfl, j, hj, s, hs, rfl, rfl, rfl⟩ := q; obtain rfl := e9.symm
  refine x_getR C fl_X1_156 (r := ro 5 j) rfl (xj_c (by decide) (xkC_box hj)) (v := .ref (ad (ro 7 j))) rfl dX1_getWheel_6 ?_
  refine x_iload_n C dX1_getWheel_9 rfl 2 rfl ?_
  refine xi_ald C s rfl (xj_c (by decide) (xkC_wheels hj)) rfl hs rfl dX1_getWheel_10 ?_
  refine x_top (y := σ 18 j s) rfl ?_
  exact x_iret C dX1_getWheel_11 (Nat.le_of_ble_eq_true rfl) (Nat.le_of_ble_eq_true rfl) ⟨rfl, rfl, j, hj, s, hs, rfl, rfl, rfl⟩
set_option maxHeartbeats 4000000 in
theorem k1_discAt2 {G : xG} {ad : Nat → Nat} {κ : xKp} {σ : xSg} {m t : xK} (hI : xIk κ) (b sl : Int32) : xM G yX1_discAt_2 (ws_ yX1_discAt_2 cX1_discAt_2 4 (some Jvm.ClassFile.FieldType.int)) 20 600 10 60 [.ref (ad (ro 0 0)), .int b, .int sl] ad (xj (xkC G.2.2.1 ad κ σ) m t) (fun v ad' ct' => ad' = ad ∧ ct' = xj (xkC G.2.2.1 ad κ σ) m t ∧ ∃ j, j < κ 1 ∧ ∃ s, s < 10 ∧ b = nI j ∧ sl = nI s ∧ ¬ σ 17 j s = -1 ∧ v = some (.int (σ 17 j s))) (fun E ad' ct' => ad' = ad ∧ ct' = xj (xkC G.2.2.1 ad κ σ) m t ∧ (E = xIOB ∧ ¬ (xIx b (κ 1) ∧ xIx sl 10) ∨ E = xNSE ∧ ∃ j, j < κ 1 ∧ ∃ s, s < 10 ∧ b = nI j ∧ sl = nI s ∧ σ 17 j s = -1)) := by
  refine xM_of (cc := cX1_discAt_2) (by decide) rfl (fun F hF C => ?_)
  subst hF
  show xX F _ _ _ 0 0 0 [(0, .ref (ad (ro 0 0))), (1, .int b), (2, .int sl)] []
  refine x_aload_n C dX1_discAt_2_0 rfl 0 rfl ?_
  refine x_iload_n C dX1_discAt_2_1 rfl 1 rfl ?_
  refine x_iload_n C dX1_discAt_2_2 rfl 2 rfl ?_
  refine x_callV (rest := []) C (k1_boxAt2 hI b sl) cf_X1_114 ⟨rfl, hd_X1_boxAt_2⟩ ⟨Nat.le_of_ble_eq_true rfl, Nat.le_of_ble_eq_true rfl⟩ (xR_o xci0 rfl (xj_c (by decide) xkC_sr)) rfl (Nat.le_of_ble_eq_true rfl) ⟨Nat.le_of_ble_eq_true rfl, Nat.le_of_ble_eq_true rfl⟩ dX1_discAt_2_3 (fun v ad' ct' q => ?_) (fun E ad' ct' q => ?_)
  rotate_left
  · obtain ⟨rfl, e9, rfl, hx⟩ := q; obtain rfl := e9.symm
    exact x_out C (fun _ h => nomatch h) (Nat.le_of_ble_eq_true rfl) (Nat.le_of_ble_eq_true rfl) ⟨rfl, rfl, Or.inl ⟨rfl, hx⟩⟩
  obtain ⟨e9, rfl, j, hj, s, hs, rfl, rfl, rfl⟩ := q; obtain rfl := e9.symm
  refine x_astore_n (lv' := [(3, .ref (ad (ro 5 j))), (0, .ref (ad (ro 0 0))), (1, .int (nI j)), (2, .int (nI s))]) C dX1_discAt_2_6 rfl (by decide) rfl ?_
  refine x_aload_n C dX1_discAt_2_7 rfl 0 rfl ?_
  refine x_getR C fl_X1_117 (r := ro 5 j) rfl (xj_c (by decide) (xkC_box hj)) (v := .ref (ad (ro 6 j))) rfl dX1_discAt_2_8 ?_
  refine x_iload_n C dX1_discAt_2_11 rfl 3 rfl ?_
  refine xi_ald C s rfl (xj_c (by decide) (xkC_slots hj)) rfl hs rfl dX1_discAt_2_12 ?_
  refine x_top (y := σ 17 j s) rfl ?_
  refine x_iconst (v := -1) C dX1_discAt_2_13 (by decide) ?_
  refine x_icmp_eq (tgt := 21) C dX1_discAt_2_14 (by decide) (fun c1 => ?_) (fun c1 => ?_)
  · refine x_iconst (v := 0) C dX1_discAt_2_21 (by decide) ?_
    refine x_callS (rest := []) C (k_requireThere 0) cf_X1_134 hd_X1_requireThere ⟨Nat.le_of_ble_eq_true rfl, Nat.le_of_ble_eq_true rfl⟩ rfl (Nat.le_of_ble_eq_true rfl) ⟨Nat.le_of_ble_eq_true rfl, Nat.le_of_ble_eq_true rfl⟩ dX1_discAt_2_22 (fun v ad' ct' q => absurd rfl q.1) (fun E ad' ct' q => ?_)
    obtain ⟨-, rfl, e9, rfl⟩ := q; obtain rfl := e9.symm
    exact x_out C (fun _ h => nomatch h) (Nat.le_of_ble_eq_true rfl) (Nat.le_of_ble_eq_true rfl) ⟨rfl, rfl, Or.inr ⟨rfl, j, hj, s, hs, rfl, rfl, c1⟩⟩
  · refine x_iconst (v := 1) C dX1_discAt_2_17 (by decide) ?_
    refine x_goto (tgt := 22) C dX1_discAt_2_18 (by decide) ?_
    refine x_callS (rest := []) C (k_requireThere 1) cf_X1_134 hd_X1_requireThere ⟨Nat.le_of_ble_eq_true rfl, Nat.le_of_ble_eq_true rfl⟩ rfl (Nat.le_of_ble_eq_true rfl) ⟨Nat.le_of_ble_eq_true rfl, Nat.le_of_ble_eq_true rfl⟩ dX1_discAt_2_22 (fun v ad' ct' q => ?_) (fun E ad' ct' q => absurd q.1 (by decide))
    obtain ⟨-, rfl, e9, rfl⟩ := q; obtain rfl := e9.symm
    refine x_aload_n C dX1_discAt_2_25 rfl 0 rfl ?_
    refine x_getR C fl_X1_117 (r := ro 5 j) rfl (xj_c (by decide) (xkC_box hj)) (v := .ref (ad (ro 6 j))) rfl dX1_discAt_2_26 ?_
    refine x_iload_n C dX1_discAt_2_29 rfl 3 rfl ?_
    refine xi_ald C s rfl (xj_c (by decide) (xkC_slots hj)) rfl hs rfl dX1_discAt_2_30 ?_
    refine x_top (y := σ 17 j s) rfl ?_
    exact x_iret C dX1_discAt_2_31 (Nat.le_of_ble_eq_true rfl) (Nat.le_of_ble_eq_true rfl) ⟨rfl, rfl, j, hj, s, hs, rfl, rfl, c1, rfl⟩
