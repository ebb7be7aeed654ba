/-! ===== THE COMPONENT: pulls, small changes ===== -/
/-- slots hold -1 or a disc; a disc lies in the van, is burnt, or lies in a slot -/
def xIs (κ : xKp) (σ : xSg) : Prop := ∀ j, j < κ 1 → ∀ s, s < 10 → σ 17 j s = -1 ∨ ∃ d, d < κ 0 ∧ σ 17 j s = nI d
def xIp (κ : xKp) (σ : xSg) : Prop := ∀ d, d < κ 0 → σ 4 d 0 = -1 ∨ σ 4 d 0 = -2 ∨ ∃ j, j < κ 1 ∧ ∃ s, s < 10 ∧ σ 4 d 0 = nI (10 * j + s)
/-- the pull of disc d for a taste; of what lies in slot s of box j -/
def sDp (σ : xSg) (d : Nat) (ta : Int32) : Int32 := sPull (σ 0 d 0) (σ 1 d 0) (σ 2 d 0) (σ 3 d 0) (σ 4 d 0) (σ 21 0 0) ta
def sPo (σ : xSg) (j s : Nat) : Int32 := if σ 17 j s = -1 then 0 else sDp σ (σ 17 j s).toNatClampNeg (σ 6 j 0)
def sTa (σ : xSg) (d : Nat) : Int32 := if σ 4 d 0 < 0 then -1 else σ 6 ((σ 4 d 0).toNatClampNeg / 10) 0
theorem nI_ne1 {d : Nat} (h : d < 2147483648) : ¬ nI d = -1 := fun e => by
  have := congrArg Int32.toInt e
  rw [nI_toInt h] at this
  have h2 : (d : Int) = -1 := this
  omega
theorem nI_not_neg {d : Nat} (h : d < 2147483648) : ¬ nI d < 0 := nI_pos h
theorem nI_div10 {j s : Nat} (hj : j < 1000) (hs : s < 10) : nI (10 * j + s) / 10 = nI j := by
  apply Int32.toInt_inj.mp
  rw [Int32.toInt_div, nI_toInt (by omega), nI_toInt (by omega), show (10 : Int32).toInt = 10 from rfl]
  rw [show ((10 * j + s : Nat) : Int).tdiv 10 = (j : Int) by rw [Int.tdiv_eq_ediv_of_nonneg (by omega)]; omega]
  exact Int.bmod_eq_of_le (by omega) (by omega)
/-- plays of a slot's disc -/
def sPlays (σ : xSg) (j s d : Nat) (ti : Int32) : xSg := xup (xup (xup (xup σ 18 j s (σ 18 j s + ti)) 11 j 0 (σ 11 j 0 + ti)) 3 d 0 (σ 3 d 0 + ti * (1 + σ 10 j 0 / 40))) 10 j 0 (σ 10 j 0 + ti)
set_option maxHeartbeats 4000000 in
theorem k1_setRisk {G : xG} {ad : Nat → Nat} {κ : xKp} {σ : xSg} {m t : xK} (hI : xIk κ) (b ri : Int32) : xM G yX1_setRisk (ws_ yX1_setRisk cX1_setRisk 5 (some Jvm.ClassFile.FieldType.int)) 20 600 10 60 [.ref (ad (ro 0 0)), .int b, .int ri] ad (xj (xkC G.2.2.1 ad κ σ) m t) (fun v ad' ct' => ad' = ad ∧ ∃ j, j < κ 1 ∧ b = nI j ∧ (0 ≤ ri ∧ ri ≤ 20) ∧ v = some (.int (σ 7 j 0)) ∧ ct' = xj (xkC G.2.2.1 ad κ (xup σ 7 j 0 ri)) m t) (fun E ad' ct' => ad' = ad ∧ ct' = xj (xkC G.2.2.1 ad κ σ) m t ∧ (E = xIOB ∧ ¬ xIx b (κ 1) ∨ E = xIAE ∧ xIx b (κ 1) ∧ ¬ (0 ≤ ri ∧ ri ≤ 20))) := by
  refine xM_of (cc := cX1_setRisk) (by decide) rfl (fun F hF C => ?_)
  subst hF
  show xX F _ _ _ 0 0 0 [(0, .ref (ad (ro 0 0))), (1, .int b), (2, .int ri)] []
  refine x_aload_n C dX1_setRisk_0 rfl 0 rfl ?_
  refine x_iload_n C dX1_setRisk_1 rfl 1 rfl ?_
  refine x_callV (rest := []) C (k1_boxAt hI b) cf_X1_84 ⟨rfl, hd_X1_boxAt⟩ ⟨Nat.le_of_ble_eq_true rfl, Nat.le_of_ble_eq_true rfl⟩ (xR_o xci0 rfl (xj_c (by decide) xkC_sr)) rfl (Nat.le_of_ble_eq_true rfl) ⟨Nat.le_of_ble_eq_true rfl, Nat.le_of_ble_eq_true rfl⟩ dX1_setRisk_2 (fun v ad' ct' q => ?_) (fun E ad' ct' q => ?_)
  rotate_left
  · obtain ⟨rfl, e9, rfl, hx⟩ := q; obtain rfl := e9.symm
    exact x_out C (fun _ h => nomatch h) (Nat.le_of_ble_eq_true rfl) (Nat.le_of_ble_eq_true rfl) ⟨rfl, rfl, Or.inl ⟨rfl, hx⟩⟩
  obtain ⟨e9, rfl, j, hj, rfl, rfl⟩ := q; obtain rfl := e9.symm
  refine x_astore_n (lv' := [(3, .ref (ad (ro 5 j))), (0, .ref (ad (ro 0 0))), (1, .int (nI j)), (2, .int ri)]) C dX1_setRisk_5 rfl (by decide) rfl ?_
  refine x_iload_n C dX1_setRisk_6 rfl 3 rfl ?_
  refine x_iconst (v := 0) C dX1_setRisk_7 (by decide) ?_
  refine x_bipush (v := 20) C dX1_setRisk_8 (by decide) ?_
  refine x_callS (rest := []) C (k_isBetween ri 0 20) cf_X1_45 hd_X1_isBetween ⟨Nat.le_of_ble_eq_true rfl, Nat.le_of_ble_eq_true rfl⟩ rfl (Nat.le_of_ble_eq_true rfl) ⟨Nat.le_of_ble_eq_true rfl, Nat.le_of_ble_eq_true rfl⟩ dX1_setRisk_10 (xPv_i ?_) xN_e
  refine x_callS (rest := []) C (k_require (if 0 ≤ ri ∧ ri ≤ 20 then 1 else 0)) cf_X1_49 hd_X1_require ⟨Nat.le_of_ble_eq_true rfl, Nat.le_of_ble_eq_true rfl⟩ rfl (Nat.le_of_ble_eq_true rfl) ⟨Nat.le_of_ble_eq_true rfl, Nat.le_of_ble_eq_true rfl⟩ dX1_setRisk_13 (fun v ad' ct' q => ?_) (fun E ad' ct' q => ?_)
  rotate_left
  · obtain ⟨hc, rfl, e9, rfl⟩ := q; obtain rfl := e9.symm
    exact x_out C (fun _ h => nomatch h) (Nat.le_of_ble_eq_true rfl) (Nat.le_of_ble_eq_true rfl) ⟨rfl, rfl, Or.inr ⟨rfl, xIx_of (by have := hI.2.2.2.2; omega) hj, i00 hc⟩⟩
  obtain ⟨hc, rfl, e9, rfl⟩ := q; obtain rfl := e9.symm
  refine x_aload_n C dX1_setRisk_16 rfl 0 rfl ?_
  refine x_get C fl_X1_88 (r := ro 5 j) rfl (xj_c (by decide) (xkC_box hj)) (v := .int (σ 7 j 0)) rfl dX1_setRisk_17 ?_
  refine x_istore (lv' := [(4, .int (σ 7 j 0)), (3, .ref (ad (ro 5 j))), (0, .ref (ad (ro 0 0))), (1, .int (nI j)), (2, .int ri)]) C dX1_setRisk_20 (by decide) rfl ?_
  refine x_aload_n C dX1_setRisk_22 rfl 1 rfl ?_
  refine x_iload_n C dX1_setRisk_23 rfl 4 rfl ?_
  refine x_put C fl_X1_88 (r := ro 5 j) rfl (xj_c (by decide) (xkC_box hj)) rfl rfl (Nat.le_of_ble_eq_true rfl) dX1_setRisk_24 ?_
  refine x_pc (k := 5) (by decide) (pc_box7 hj) ?_
  refine x_iload C dX1_setRisk_27 0 rfl ?_
  exact x_iret C dX1_setRisk_29 (Nat.le_of_ble_eq_true rfl) (Nat.le_of_ble_eq_true rfl) ⟨rfl, j, hj, rfl, i01 hc, rfl, rfl⟩
set_option maxHeartbeats 4000000 in
theorem k1_setSeed {G : xG} {ad : Nat → Nat} {κ : xKp} {σ : xSg} {m t : xK} (z : Int32) : xM G yX1_setSeed (ws_ yX1_setSeed cX1_setSeed 3 (some Jvm.ClassFile.FieldType.int)) 20 600 10 60 [.ref (ad (ro 0 0)), .int z] ad (xj (xkC G.2.2.1 ad κ σ) m t) (fun v ad' ct' => ad' = ad ∧ (1 ≤ z ∧ z ≤ 2147483646) ∧ v = some (.int (σ 24 0 0)) ∧ ct' = xj (xkC G.2.2.1 ad κ (xup σ 24 0 0 z)) m t) (fun E ad' ct' => ad' = ad ∧ ct' = xj (xkC G.2.2.1 ad κ σ) m t ∧ (E = xIAE ∧ ¬ (1 ≤ z ∧ z ≤ 2147483646))) := by
  refine xM_of (cc := cX1_setSeed) (by decide) rfl (fun F hF C => ?_)
  subst hF
  show xX F _ _ _ 0 0 0 [(0, .ref (ad (ro 0 0))), (1, .int z)] []
  refine x_iload_n C dX1_setSeed_0 rfl 1 rfl ?_
  refine x_iconst (v := 1) C dX1_setSeed_1 (by decide) ?_
  refine x_ldc (v := 2147483646) C q631 dX1_setSeed_2 ?_
  refine x_callS (rest := []) C (k_isBetween z 1 2147483646) cf_X1_45 hd_X1_isBetween ⟨Nat.le_of_ble_eq_true rfl, Nat.le_of_ble_eq_true rfl⟩ rfl (Nat.le_of_ble_eq_true rfl) ⟨Nat.le_of_ble_eq_true rfl, Nat.le_of_ble_eq_true rfl⟩ dX1_setSeed_4 (xPv_i ?_) xN_e
  refine x_callS (rest := []) C (k_require (if 1 ≤ z ∧ z ≤ 2147483646 then 1 else 0)) cf_X1_49 hd_X1_require ⟨Nat.le_of_ble_eq_true rfl, Nat.le_of_ble_eq_true rfl⟩ rfl (Nat.le_of_ble_eq_true rfl) ⟨Nat.le_of_ble_eq_true rfl, Nat.le_of_ble_eq_true rfl⟩ dX1_setSeed_7 (fun v ad' ct' q => ?_) (fun E ad' ct' q => ?_)
  rotate_left
  · obtain ⟨hc, rfl, e9, rfl⟩ := q; obtain rfl := e9.symm
    exact x_out C (fun _ h => nomatch h) (Nat.le_of_ble_eq_true rfl) (Nat.le_of_ble_eq_true rfl) ⟨rfl, rfl, rfl, i00 hc⟩
  obtain ⟨hc, rfl, e9, rfl⟩ := q; obtain rfl := e9.symm
  refine x_aload_n C dX1_setSeed_10 rfl 0 rfl ?_
  refine x_get C fl_X1_41 (r := ro 0 0) rfl (xj_c (by decide) xkC_sr) (v := .long ((σ 24 0 0).toInt64)) rfl dX1_setSeed_11 ?_
  refine x_l2i C dX1_setSeed_14 rfl ?_
  refine x_top (y := σ 24 0 0) (Int32.toInt32_toInt64 _) ?_
  refine x_istore_n (lv' := [(2, .int (σ 24 0 0)), (0, .ref (ad (ro 0 0))), (1, .int z)]) C dX1_setSeed_15 rfl (by decide) rfl ?_
  refine x_aload_n C dX1_setSeed_16 rfl 1 rfl ?_
  refine x_iload_n C dX1_setSeed_17 rfl 2 rfl ?_
  refine x_i2l C dX1_setSeed_18 rfl ?_
  refine x_put C fl_X1_41 (r := ro 0 0) rfl (xj_c (by decide) xkC_sr) rfl rfl (Nat.le_of_ble_eq_true rfl) dX1_setSeed_19 ?_
  refine x_pc (k := 0) (by decide) (pc_sr24) ?_
  refine x_iload_n C dX1_setSeed_22 rfl 0 rfl ?_
  exact x_iret C dX1_setSeed_23 (Nat.le_of_ble_eq_true rfl) (Nat.le_of_ble_eq_true rfl) ⟨rfl, i01 hc, rfl, rfl⟩
set_option maxHeartbeats 4000000 in
theorem k1_ask {G : xG} {ad : Nat → Nat} {κ : xKp} {σ : xSg} {m t : xK} (hI : xIk κ) (b so : Int32) : xM G yX1_ask (ws_ yX1_ask cX1_ask 4 (some Jvm.ClassFile.FieldType.int)) 20 600 10 60 [.ref (ad (ro 0 0)), .int b, .int so] ad (xj (xkC G.2.2.1 ad κ σ) m t) (fun v ad' ct' => ad' = ad ∧ ∃ j, j < κ 1 ∧ ∃ q, q < 100 ∧ b = nI j ∧ so = nI q ∧ σ 19 j q < 99 ∧ v = some (.int (σ 19 j q + 1)) ∧ ct' = xj (xkC G.2.2.1 ad κ (xup σ 19 j q (σ 19 j q + 1))) m t) (fun E ad' ct' => ad' = ad ∧ ct' = xj (xkC G.2.2.1 ad κ σ) m t ∧ (E = xIOB ∧ ¬ xIx b (κ 1) ∨ E = xIAE ∧ xIx b (κ 1) ∧ ¬ (0 ≤ so ∧ so ≤ 99) ∨ E = xISE ∧ ∃ j, j < κ 1 ∧ ∃ q, q < 100 ∧ b = nI j ∧ so = nI q ∧ ¬ σ 19 j q < 99)) := by
  refine xM_of (cc := cX1_ask) (by decide) rfl (fun F hF C => ?_)
  subst hF
  show xX F _ _ _ 0 0 0 [(0, .ref (ad (ro 0 0))), (1, .int b), (2, .int so)] []
  refine x_aload_n C dX1_ask_0 rfl 0 rfl ?_
  refine x_iload_n C dX1_ask_1 rfl 1 rfl ?_
  refine x_callV (rest := []) C (k1_boxAt hI b) cf_X1_84 ⟨rfl, hd_X1_boxAt⟩ ⟨Nat.le_of_ble_eq_true rfl, Nat.le_of_ble_eq_true rfl⟩ (xR_o xci0 rfl (xj_c (by decide) xkC_sr)) rfl (Nat.le_of_ble_eq_true rfl) ⟨Nat.le_of_ble_eq_true rfl, Nat.le_of_ble_eq_true rfl⟩ dX1_ask_2 (fun v ad' ct' q => ?_) (fun E ad' ct' q => ?_)
  rotate_left
  · obtain ⟨rfl, e9, rfl, hx⟩ := q; obtain rfl := e9.symm
    exact x_out C (fun _ h => nomatch h) (Nat.le_of_ble_eq_true rfl) (Nat.le_of_ble_eq_true rfl) ⟨rfl, rfl, Or.inl ⟨rfl, hx⟩⟩
  obtain ⟨e9, rfl, j, hj, rfl, rfl⟩ := q; obtain rfl := e9.symm
  refine x_astore_n (lv' := [(3, .ref (ad (ro 5 j))), (0, .ref (ad (ro 0 0))), (1, .int (nI j)), (2, .int so)]) C dX1_ask_5 rfl (by decide) rfl ?_
  refine x_iload_n C dX1_ask_6 rfl 3 rfl ?_
  refine x_iconst (v := 0) C dX1_ask_7 (by decide) ?_
  refine x_bipush (v := 99) C dX1_ask_8 (by decide) ?_
  refine x_callS (rest := []) C (k_isBetween so 0 99) cf_X1_45 hd_X1_isBetween ⟨Nat.le_of_ble_eq_true rfl, Nat.le_of_ble_eq_true rfl⟩ rfl (Nat.le_of_ble_eq_true rfl) ⟨Nat.le_of_ble_eq_true rfl, Nat.le_of_ble_eq_true rfl⟩ dX1_ask_10 (xPv_i ?_) xN_e
  refine x_callS (rest := []) C (k_require (if 0 ≤ so ∧ so ≤ 99 then 1 else 0)) cf_X1_49 hd_X1_require ⟨Nat.le_of_ble_eq_true rfl, Nat.le_of_ble_eq_true rfl⟩ rfl (Nat.le_of_ble_eq_true rfl) ⟨Nat.le_of_ble_eq_true rfl, Nat.le_of_ble_eq_true rfl⟩ dX1_ask_13 (fun v ad' ct' q => ?_) (fun E ad' ct' q => ?_)
  rotate_left
  · obtain ⟨hc, rfl, e9, rfl⟩ := q; obtain rfl := e9.symm
    exact x_out C (fun _ h => nomatch h) (Nat.le_of_ble_eq_true rfl) (Nat.le_of_ble_eq_true rfl) ⟨rfl, rfl, Or.inr (Or.inl ⟨rfl, xIx_of (by have := hI.2.2.2.2; omega) hj, i00 hc⟩)⟩
  obtain ⟨hc, rfl, e9, rfl⟩ := q; obtain rfl := e9.symm
  obtain ⟨q, hq, rfl⟩ := xIx_nI (n := 100) (by decide) (i01 hc)
  refine x_aload_n C dX1_ask_16 rfl 0 rfl ?_
  refine x_getR C fl_X1_235 (r := ro 5 j) rfl (xj_c (by decide) (xkC_box hj)) (v := .ref (ad (ro 8 j))) rfl dX1_ask_17 ?_
  refine x_iload_n C dX1_ask_20 rfl 3 rfl ?_
  refine xi_ald C q rfl (xj_c (by decide) (xkC_asked hj)) rfl hq rfl dX1_ask_21 ?_
  refine x_top (y := σ 19 j q) rfl ?_
  refine x_bipush (v := 99) C dX1_ask_22 (by decide) ?_
  refine x_icmp_ge (tgt := 31) C dX1_ask_24 (by decide) (fun c1 => ?_) (fun c1 => ?_)
  · refine x_iconst (v := 0) C dX1_ask_31 (by decide) ?_
    refine x_callS (rest := []) C (k_requireState 0) cf_X1_57 hd_X1_requireState ⟨Nat.le_of_ble_eq_true rfl, Nat.le_of_ble_eq_true rfl⟩ rfl (Nat.le_of_ble_eq_true rfl) ⟨Nat.le_of_ble_eq_true rfl, Nat.le_of_ble_eq_true rfl⟩ dX1_ask_32 (fun v ad' ct' q => absurd rfl q.1) (fun E ad' ct' q => ?_)
    obtain ⟨-, rfl, e9, rfl⟩ := q; obtain rfl := e9.symm
    exact x_out C (fun _ h => nomatch h) (Nat.le_of_ble_eq_true rfl) (Nat.le_of_ble_eq_true rfl) ⟨rfl, rfl, Or.inr (Or.inr ⟨rfl, j, hj, q, hq, rfl, rfl, Int32.not_lt.mpr c1⟩)⟩
  · refine x_iconst (v := 1) C dX1_ask_27 (by decide) ?_
    refine x_goto (tgt := 32) C dX1_ask_28 (by decide) ?_
    refine x_callS (rest := []) C (k_requireState 1) cf_X1_57 hd_X1_requireState ⟨Nat.le_of_ble_eq_true rfl, Nat.le_of_ble_eq_true rfl⟩ rfl (Nat.le_of_ble_eq_true rfl) ⟨Nat.le_of_ble_eq_true rfl, Nat.le_of_ble_eq_true rfl⟩ dX1_ask_32 (fun v ad' ct' q => ?_) (fun E ad' ct' q => absurd q.1 (by decide))
    obtain ⟨-, rfl, e9, rfl⟩ := q; obtain rfl := e9.symm
    refine x_aload_n C dX1_ask_35 rfl 0 rfl ?_
    refine x_getR C fl_X1_235 (r := ro 5 j) rfl (xj_c (by decide) (xkC_box hj)) (v := .ref (ad (ro 8 j))) rfl dX1_ask_36 ?_
    refine x_iload_n C dX1_ask_39 rfl 3 rfl ?_
    refine x_dup2_11 C dX1_ask_40 rfl rfl ?_
    refine xi_ald C q rfl (xj_c (by decide) (xkC_asked hj)) rfl hq rfl dX1_ask_41 ?_
    refine x_top (y := σ 19 j q) rfl ?_
    refine x_iconst (v := 1) C dX1_ask_42 (by decide) ?_
    refine x_iadd C dX1_ask_43 ?_
    refine xi_ast C q rfl (xj_c (by decide) (xkC_asked hj)) rfl hq rfl dX1_ask_44 ?_
    refine x_pc (k := 8) (by decide) (pc_arr19 hj) ?_
    refine x_aload_n C dX1_ask_45 rfl 0 rfl ?_
    refine x_getR C fl_X1_235 (r := ro 5 j) rfl (xj_c (by decide) (xkC_box hj)) (v := .ref (ad (ro 8 j))) rfl dX1_ask_46 ?_
    refine x_iload_n C dX1_ask_49 rfl 3 rfl ?_
    refine xi_ald C q rfl (xj_c (by decide) (xkC_asked hj)) rfl hq rfl dX1_ask_50 ?_
    refine x_top (y := (σ 19 j q) + 1) (by first | exact xup_s | simp [xup]) ?_
    exact x_iret C dX1_ask_51 (Nat.le_of_ble_eq_true rfl) (Nat.le_of_ble_eq_true rfl) ⟨rfl, j, hj, q, hq, rfl, rfl, Int32.not_le.mp c1, rfl, rfl⟩
set_option maxHeartbeats 4000000 in
theorem k1_burn {G : xG} {ad : Nat → Nat} {κ : xKp} {σ : xSg} {m t : xK} (hI : xIk κ) (b : Int32) : xM G yX1_burn (ws_ yX1_burn cX1_burn 3 (some Jvm.ClassFile.FieldType.int)) 20 600 10 60 [.ref (ad (ro 0 0)), .int b] ad (xj (xkC G.2.2.1 ad κ σ) m t) (fun v ad' ct' => ad' = ad ∧ ∃ d, d < κ 0 ∧ b = nI d ∧ σ 4 d 0 = -1 ∧ v = some (.int (σ 3 d 0)) ∧ ct' = xj (xkC G.2.2.1 ad κ (xup σ 4 d 0 (-2))) m t) (fun E ad' ct' => ad' = ad ∧ ct' = xj (xkC G.2.2.1 ad κ σ) m t ∧ (E = xIOB ∧ ¬ xIx b (κ 0) ∨ E = xUOE ∧ ∃ d, d < κ 0 ∧ b = nI d ∧ ¬ σ 4 d 0 = -1)) := by
  refine xM_of (cc := cX1_burn) (by decide) rfl (fun F hF C => ?_)
  subst hF
  show xX F _ _ _ 0 0 0 [(0, .ref (ad (ro 0 0))), (1, .int b)] []
  refine x_aload_n C dX1_burn_0 rfl 0 rfl ?_
  refine x_iload_n C dX1_burn_1 rfl 1 rfl ?_
  refine x_callV (rest := []) C (k1_discAt hI b) cf_X1_162 ⟨rfl, hd_X1_discAt⟩ ⟨Nat.le_of_ble_eq_true rfl, Nat.le_of_ble_eq_true rfl⟩ (xR_o xci0 rfl (xj_c (by decide) xkC_sr)) rfl (Nat.le_of_ble_eq_true rfl) ⟨Nat.le_of_ble_eq_true rfl, Nat.le_of_ble_eq_true rfl⟩ dX1_burn_2 (fun v ad' ct' q => ?_) (fun E ad' ct' q => ?_)
  rotate_left
  · obtain ⟨rfl, e9, rfl, hx⟩ := q; obtain rfl := e9.symm
    exact x_out C (fun _ h => nomatch h) (Nat.le_of_ble_eq_true rfl) (Nat.le_of_ble_eq_true rfl) ⟨rfl, rfl, Or.inl ⟨rfl, hx⟩⟩
  obtain ⟨e9, rfl, d, hd, rfl, rfl⟩ := q; obtain rfl := e9.symm
  refine x_astore_n (lv' := [(2, .ref (ad (ro 11 d))), (0, .ref (ad (ro 0 0))), (1, .int (nI d))]) C dX1_burn_5 rfl (by decide) rfl ?_
  refine x_aload_n C dX1_burn_6 rfl 0 rfl ?_
  refine x_get C fl_X1_169 (r := ro 11 d) rfl (xj_c (by decide) (xkC_disc hd)) (v := .int (σ 4 d 0)) rfl dX1_burn_7 ?_
  refine x_iconst (v := -1) C dX1_burn_10 (by decide) ?_
  refine x_icmp_ne (tgt := 18) C dX1_burn_11 (by decide) (fun c1 => ?_) (fun c1 => ?_)
  · refine x_iconst (v := 0) C dX1_burn_18 (by decide) ?_
    refine x_callS (rest := []) C (k_requireSupported 0) cf_X1_102 hd_X1_requireSupported ⟨Nat.le_of_ble_eq_true rfl, Nat.le_of_ble_eq_true rfl⟩ rfl (Nat.le_of_ble_eq_true rfl) ⟨Nat.le_of_ble_eq_true rfl, Nat.le_of_ble_eq_true rfl⟩ dX1_burn_19 (fun v ad' ct' q => absurd rfl q.1) (fun E ad' ct' q => ?_)
    obtain ⟨-, rfl, e9, rfl⟩ := q; obtain rfl := e9.symm
    exact x_out C (fun _ h => nomatch h) (Nat.le_of_ble_eq_true rfl) (Nat.le_of_ble_eq_true rfl) ⟨rfl, rfl, Or.inr ⟨rfl, d, hd, rfl, c1⟩⟩
  · refine x_iconst (v := 1) C dX1_burn_14 (by decide) ?_
    refine x_goto (tgt := 19) C dX1_burn_15 (by decide) ?_
    refine x_callS (rest := []) C (k_requireSupported 1) cf_X1_102 hd_X1_requireSupported ⟨Nat.le_of_ble_eq_true rfl, Nat.le_of_ble_eq_true rfl⟩ rfl (Nat.le_of_ble_eq_true rfl) ⟨Nat.le_of_ble_eq_true rfl, Nat.le_of_ble_eq_true rfl⟩ dX1_burn_19 (fun v ad' ct' q => ?_) (fun E ad' ct' q => absurd q.1 (by decide))
    obtain ⟨-, rfl, e9, rfl⟩ := q; obtain rfl := e9.symm
    refine x_aload_n C dX1_burn_22 rfl 0 rfl ?_
    refine x_bipush (v := -2) C dX1_burn_23 (by decide) ?_
    refine x_put C fl_X1_169 (r := ro 11 d) rfl (xj_c (by decide) (xkC_disc hd)) rfl rfl (Nat.le_of_ble_eq_true rfl) dX1_burn_25 ?_
    refine x_pc (k := 11) (by decide) (pc_disc4 hd) ?_
    refine x_aload_n C dX1_burn_28 rfl 0 rfl ?_
    refine x_get C fl_X1_166 (r := ro 11 d) rfl (xj_c (by decide) (xkC_disc hd)) (v := .int (σ 3 d 0)) rfl dX1_burn_29 ?_
    exact x_iret C dX1_burn_32 (Nat.le_of_ble_eq_true rfl) (Nat.le_of_ble_eq_true rfl) ⟨rfl, d, hd, rfl, c1, rfl, rfl⟩
set_option maxHeartbeats 4000000 in
theorem k1_pullOf {G : xG} {ad : Nat → Nat} {κ : xKp} {σ : xSg} {m t : xK} (hI : xIk κ) (hS : xIs κ σ) {j s : Nat} (hj : j < κ 1) (hs : s < 10) : xM G yX1_pullOf (ws_ yX1_pullOf cX1_pullOf 3 (some Jvm.ClassFile.FieldType.int)) 6 130 0 0 [.ref (ad (ro 0 0)), .ref (ad (ro 5 j)), .int (nI s)] ad (xj (xkC G.2.2.1 ad κ σ) m t) (xPv (some (.int (sPo σ j s))) ad (xj (xkC G.2.2.1 ad κ σ) m t)) xN := by
  refine xM_of (cc := cX1_pullOf) (by decide) rfl (fun F hF C => ?_)
  subst hF
  show xX F _ _ _ 0 0 0 [(0, .ref (ad (ro 0 0))), (1, .ref (ad (ro 5 j))), (2, .int (nI s))] []
  refine x_aload_n C dX1_pullOf_0 rfl 1 rfl ?_
  refine x_getR C fl_X1_117 (r := ro 5 j) rfl (xj_c (by decide) (xkC_box hj)) (v := .ref (ad (ro 6 j))) rfl dX1_pullOf_1 ?_
  refine x_iload_n C dX1_pullOf_4 rfl 2 rfl ?_
  refine xi_ald C s rfl (xj_c (by decide) (xkC_slots hj)) rfl hs rfl dX1_pullOf_5 ?_
  refine x_top (y := σ 17 j s) rfl ?_
  refine x_iconst (v := -1) C dX1_pullOf_6 (by decide) ?_
  refine x_icmp_ne (tgt := 14) C dX1_pullOf_7 (by decide) (fun c1 => ?_) (fun c1 => ?_)
  · obtain ⟨d, hd, e1⟩ := (hS j hj s hs).resolve_left c1
    refine x_aload_n C dX1_pullOf_14 rfl 0 rfl ?_
    refine x_get C fl_X1_28 (r := ro 0 0) rfl (xj_c (by decide) xkC_sr) (v := .ref (ad (ro 1 0))) rfl dX1_pullOf_15 ?_
    refine x_aload_n C dX1_pullOf_18 rfl 1 rfl ?_
    refine x_getR C fl_X1_117 (r := ro 5 j) rfl (xj_c (by decide) (xkC_box hj)) (v := .ref (ad (ro 6 j))) rfl dX1_pullOf_19 ?_
    refine x_iload_n C dX1_pullOf_22 rfl 2 rfl ?_
    refine xi_ald C s rfl (xj_c (by decide) (xkC_slots hj)) rfl hs rfl dX1_pullOf_23 ?_
    refine x_top (y := σ 17 j s) rfl ?_
    refine x_top (y := nI d) (e1) ?_
    refine x_callV (rest := []) C (k_getD hI hd) cf_X1_80 ⟨rfl, hd_J2_get⟩ ⟨Nat.le_of_ble_eq_true rfl, Nat.le_of_ble_eq_true rfl⟩ (xR_o xci1 rfl (xj_c (by decide) xkC_L1)) rfl (Nat.le_of_ble_eq_true rfl) ⟨Nat.le_of_ble_eq_true rfl, Nat.le_of_ble_eq_true rfl⟩ dX1_pullOf_24 (xPv_i ?_) xN_e
    refine x_cast C (xR_o xci2 rfl (xj_c (by decide) (xkC_disc hd))) q247 dX1_pullOf_27 ?_
    refine x_aload_n C dX1_pullOf_30 rfl 0 rfl ?_
    refine x_get C fl_X1_172 (r := ro 0 0) rfl (xj_c (by decide) xkC_sr) (v := .int (σ 21 0 0)) rfl dX1_pullOf_31 ?_
    refine x_aload_n C dX1_pullOf_34 rfl 1 rfl ?_
    refine x_getR C fl_X1_175 (r := ro 5 j) rfl (xj_c (by decide) (xkC_box hj)) (v := .int (σ 6 j 0)) rfl dX1_pullOf_35 ?_
    refine x_callV (rest := []) C (k_dpull (xj_c (by decide) (xkC_disc hd)) (σ 21 0 0) (σ 6 j 0)) cf_X1_178 ⟨rfl, hd_X3_pull⟩ ⟨Nat.le_of_ble_eq_true rfl, Nat.le_of_ble_eq_true rfl⟩ (xR_o xci2 rfl (xj_c (by decide) (xkC_disc hd))) rfl (Nat.le_of_ble_eq_true rfl) ⟨Nat.le_of_ble_eq_true rfl, Nat.le_of_ble_eq_true rfl⟩ dX1_pullOf_38 (xPv_i ?_) xN_e
    exact x_iret C dX1_pullOf_41 (Nat.le_of_ble_eq_true rfl) (Nat.le_of_ble_eq_true rfl) ⟨by unfold sPo; rw [if_neg c1, e1, nI_clamp (by have := hI.2.2.2.2.1; omega)]; rfl, rfl, rfl⟩
  · refine x_iconst (v := 0) C dX1_pullOf_10 (by decide) ?_
    refine x_goto (tgt := 41) C dX1_pullOf_11 (by decide) ?_
    exact x_iret C dX1_pullOf_41 (Nat.le_of_ble_eq_true rfl) (Nat.le_of_ble_eq_true rfl) ⟨by unfold sPo; rw [if_pos c1], rfl, rfl⟩
set_option maxHeartbeats 4000000 in
theorem k1_pull {G : xG} {ad : Nat → Nat} {κ : xKp} {σ : xSg} {m t : xK} (hI : xIk κ) (hP : xIp κ σ) (b : Int32) : xM G yX1_pull (ws_ yX1_pull cX1_pull 3 (some Jvm.ClassFile.FieldType.int)) 20 600 10 60 [.ref (ad (ro 0 0)), .int b] ad (xj (xkC G.2.2.1 ad κ σ) m t) (fun v ad' ct' => ad' = ad ∧ ct' = xj (xkC G.2.2.1 ad κ σ) m t ∧ ∃ d, d < κ 0 ∧ b = nI d ∧ v = some (.int (sDp σ d (sTa σ d)))) (fun E ad' ct' => ad' = ad ∧ ct' = xj (xkC G.2.2.1 ad κ σ) m t ∧ (E = xIOB ∧ ¬ xIx b (κ 0))) := by
  refine xM_of (cc := cX1_pull) (by decide) rfl (fun F hF C => ?_)
  subst hF
  show xX F _ _ _ 0 0 0 [(0, .ref (ad (ro 0 0))), (1, .int b)] []
  refine x_aload_n C dX1_pull_0 rfl 0 rfl ?_
  refine x_iload_n C dX1_pull_1 rfl 1 rfl ?_
  refine x_callV (rest := []) C (k1_discAt hI b) cf_X1_162 ⟨rfl, hd_X1_discAt⟩ ⟨Nat.le_of_ble_eq_true rfl, Nat.le_of_ble_eq_true rfl⟩ (xR_o xci0 rfl (xj_c (by decide) xkC_sr)) rfl (Nat.le_of_ble_eq_true rfl) ⟨Nat.le_of_ble_eq_true rfl, Nat.le_of_ble_eq_true rfl⟩ dX1_pull_2 (fun v ad' ct' q => ?_) (fun E ad' ct' q => ?_)
  rotate_left
  · obtain ⟨rfl, e9, rfl, hx⟩ := q; obtain rfl := e9.symm
    exact x_out C (fun _ h => nomatch h) (Nat.le_of_ble_eq_true rfl) (Nat.le_of_ble_eq_true rfl) ⟨rfl, rfl, rfl, hx⟩
  obtain ⟨e9, rfl, d, hd, rfl, rfl⟩ := q; obtain rfl := e9.symm
  refine x_astore_n (lv' := [(2, .ref (ad (ro 11 d))), (0, .ref (ad (ro 0 0))), (1, .int (nI d))]) C dX1_pull_5 rfl (by decide) rfl ?_
  refine x_aload_n C dX1_pull_6 rfl 0 rfl ?_
  refine x_aload_n C dX1_pull_7 rfl 1 rfl ?_
  refine x_get C fl_X1_172 (r := ro 0 0) rfl (xj_c (by decide) xkC_sr) (v := .int (σ 21 0 0)) rfl dX1_pull_8 ?_
  refine x_aload_n C dX1_pull_11 rfl 0 rfl ?_
  refine x_get C fl_X1_169 (r := ro 11 d) rfl (xj_c (by decide) (xkC_disc hd)) (v := .int (σ 4 d 0)) rfl dX1_pull_12 ?_
  refine x_if_ge (tgt := 22) C dX1_pull_15 (by decide) (fun c1 => ?_) (fun c1 => ?_)
  · obtain ⟨j, hj, s, hs, e1⟩ : ∃ j, j < κ 1 ∧ ∃ s, s < 10 ∧ σ 4 d 0 = nI (10 * j + s) := by
      rcases hP d hd with h | h | h
      · exact absurd c1 (by rw [h]; decide)
      · exact absurd c1 (by rw [h]; decide)
      · exact h
    refine x_aload_n C dX1_pull_22 rfl 1 rfl ?_
    refine x_get C fl_X1_34 (r := ro 0 0) rfl (xj_c (by decide) xkC_sr) (v := .ref (ad (ro 3 0))) rfl dX1_pull_23 ?_
    refine x_aload_n C dX1_pull_26 rfl 0 rfl ?_
    refine x_get C fl_X1_169 (r := ro 11 d) rfl (xj_c (by decide) (xkC_disc hd)) (v := .int (σ 4 d 0)) rfl dX1_pull_27 ?_
    refine x_bipush (v := 10) C dX1_pull_30 (by decide) ?_
    refine x_idiv C dX1_pull_32 (by decide) ?_
    refine x_top (y := nI j) (by rw [e1]; exact nI_div10 (by have := hI.2.2.2.2.2; omega) hs) ?_
    refine x_callV (rest := [.int (σ 21 0 0), .ref (ad (ro 11 d))]) C (k_getB hI hj) cf_X1_80 ⟨rfl, hd_J2_get⟩ ⟨Nat.le_of_ble_eq_true rfl, Nat.le_of_ble_eq_true rfl⟩ (xR_o xci1 rfl (xj_c (by decide) xkC_L3)) rfl (Nat.le_of_ble_eq_true rfl) ⟨Nat.le_of_ble_eq_true rfl, Nat.le_of_ble_eq_true rfl⟩ dX1_pull_33 (xPv_i ?_) xN_e
    refine x_cast C (xR_o xci3 rfl (xj_c (by decide) (xkC_box hj))) q249 dX1_pull_36 ?_
    refine x_getR C fl_X1_175 (r := ro 5 j) rfl (xj_c (by decide) (xkC_box hj)) (v := .int (σ 6 j 0)) rfl dX1_pull_39 ?_
    refine x_callV (rest := []) C (k_dpull (xj_c (by decide) (xkC_disc hd)) (σ 21 0 0) (σ 6 j 0)) cf_X1_178 ⟨rfl, hd_X3_pull⟩ ⟨Nat.le_of_ble_eq_true rfl, Nat.le_of_ble_eq_true rfl⟩ (xR_o xci2 rfl (xj_c (by decide) (xkC_disc hd))) rfl (Nat.le_of_ble_eq_true rfl) ⟨Nat.le_of_ble_eq_true rfl, Nat.le_of_ble_eq_true rfl⟩ dX1_pull_42 (xPv_i ?_) xN_e
    exact x_iret C dX1_pull_45 (Nat.le_of_ble_eq_true rfl) (Nat.le_of_ble_eq_true rfl) ⟨rfl, rfl, d, hd, rfl, by unfold sTa sDp; rw [if_neg (Int32.not_lt.mpr c1), e1, nI_clamp (by have := hI.2.2.2.2.2; omega), show (10 * j + s) / 10 = j by omega]⟩
  · refine x_iconst (v := -1) C dX1_pull_18 (by decide) ?_
    refine x_goto (tgt := 42) C dX1_pull_19 (by decide) ?_
    refine x_callV (rest := []) C (k_dpull (xj_c (by decide) (xkC_disc hd)) (σ 21 0 0) ((-1))) cf_X1_178 ⟨rfl, hd_X3_pull⟩ ⟨Nat.le_of_ble_eq_true rfl, Nat.le_of_ble_eq_true rfl⟩ (xR_o xci2 rfl (xj_c (by decide) (xkC_disc hd))) rfl (Nat.le_of_ble_eq_true rfl) ⟨Nat.le_of_ble_eq_true rfl, Nat.le_of_ble_eq_true rfl⟩ dX1_pull_42 (xPv_i ?_) xN_e
    exact x_iret C dX1_pull_45 (Nat.le_of_ble_eq_true rfl) (Nat.le_of_ble_eq_true rfl) ⟨rfl, rfl, d, hd, rfl, by unfold sTa sDp; rw [if_pos (Int32.not_le.mp c1)]⟩
set_option maxHeartbeats 4000000 in
theorem k1_pullIn {G : xG} {ad : Nat → Nat} {κ : xKp} {σ : xSg} {m t : xK} (hI : xIk κ) (b c : Int32) : xM G yX1_pullIn (ws_ yX1_pullIn cX1_pullIn 4 (some Jvm.ClassFile.FieldType.int)) 20 600 10 60 [.ref (ad (ro 0 0)), .int b, .int c] ad (xj (xkC G.2.2.1 ad κ σ) m t) (fun v ad' ct' => ad' = ad ∧ ct' = xj (xkC G.2.2.1 ad κ σ) m t ∧ ∃ j, j < κ 1 ∧ ∃ d, d < κ 0 ∧ b = nI j ∧ c = nI d ∧ v = some (.int (sDp σ d (σ 6 j 0)))) (fun E ad' ct' => ad' = ad ∧ ct' = xj (xkC G.2.2.1 ad κ σ) m t ∧ (E = xIOB ∧ ¬ (xIx b (κ 1) ∧ xIx c (κ 0)))) := by
  refine xM_of (cc := cX1_pullIn) (by decide) rfl (fun F hF C => ?_)
  subst hF
  show xX F _ _ _ 0 0 0 [(0, .ref (ad (ro 0 0))), (1, .int b), (2, .int c)] []
  refine x_aload_n C dX1_pullIn_0 rfl 0 rfl ?_
  refine x_iload_n C dX1_pullIn_1 rfl 1 rfl ?_
  refine x_callV (rest := []) C (k1_boxAt hI b) cf_X1_84 ⟨rfl, hd_X1_boxAt⟩ ⟨Nat.le_of_ble_eq_true rfl, Nat.le_of_ble_eq_true rfl⟩ (xR_o xci0 rfl (xj_c (by decide) xkC_sr)) rfl (Nat.le_of_ble_eq_true rfl) ⟨Nat.le_of_ble_eq_true rfl, Nat.le_of_ble_eq_true rfl⟩ dX1_pullIn_2 (fun v ad' ct' q => ?_) (fun E ad' ct' q => ?_)
  rotate_left
  · obtain ⟨rfl, e9, rfl, hx⟩ := q; obtain rfl := e9.symm
    exact x_out C (fun _ h => nomatch h) (Nat.le_of_ble_eq_true rfl) (Nat.le_of_ble_eq_true rfl) ⟨rfl, rfl, rfl, fun z => hx z.1⟩
  obtain ⟨e9, rfl, j, hj, rfl, rfl⟩ := q; obtain rfl := e9.symm
  refine x_astore_n (lv' := [(3, .ref (ad (ro 5 j))), (0, .ref (ad (ro 0 0))), (1, .int (nI j)), (2, .int c)]) C dX1_pullIn_5 rfl (by decide) rfl ?_
  refine x_aload_n C dX1_pullIn_6 rfl 1 rfl ?_
  refine x_iload_n C dX1_pullIn_7 rfl 3 rfl ?_
  refine x_callV (rest := []) C (k1_discAt hI c) cf_X1_162 ⟨rfl, hd_X1_discAt⟩ ⟨Nat.le_of_ble_eq_true rfl, Nat.le_of_ble_eq_true rfl⟩ (xR_o xci0 rfl (xj_c (by decide) xkC_sr)) rfl (Nat.le_of_ble_eq_true rfl) ⟨Nat.le_of_ble_eq_true rfl, Nat.le_of_ble_eq_true rfl⟩ dX1_pullIn_8 (fun v ad' ct' q => ?_) (fun E ad' ct' q => ?_)
  rotate_left
  · obtain ⟨rfl, e9, rfl, hx⟩ := q; obtain rfl := e9.symm
    exact x_out C (fun _ h => nomatch h) (Nat.le_of_ble_eq_true rfl) (Nat.le_of_ble_eq_true rfl) ⟨rfl, rfl, rfl, fun z => hx z.2⟩
  obtain ⟨e9, rfl, d, hd, rfl, rfl⟩ := q; obtain rfl := e9.symm
  refine x_aload_n C dX1_pullIn_11 rfl 1 rfl ?_
  refine x_get C fl_X1_172 (r := ro 0 0) rfl (xj_c (by decide) xkC_sr) (v := .int (σ 21 0 0)) rfl dX1_pullIn_12 ?_
  refine x_aload_n C dX1_pullIn_15 rfl 0 rfl ?_
  refine x_getR C fl_X1_175 (r := ro 5 j) rfl (xj_c (by decide) (xkC_box hj)) (v := .int (σ 6 j 0)) rfl dX1_pullIn_16 ?_
  refine x_callV (rest := []) C (k_dpull (xj_c (by decide) (xkC_disc hd)) (σ 21 0 0) (σ 6 j 0)) cf_X1_178 ⟨rfl, hd_X3_pull⟩ ⟨Nat.le_of_ble_eq_true rfl, Nat.le_of_ble_eq_true rfl⟩ (xR_o xci2 rfl (xj_c (by decide) (xkC_disc hd))) rfl (Nat.le_of_ble_eq_true rfl) ⟨Nat.le_of_ble_eq_true rfl, Nat.le_of_ble_eq_true rfl⟩ dX1_pullIn_19 (xPv_i ?_) xN_e
  exact x_iret C dX1_pullIn_22 (Nat.le_of_ble_eq_true rfl) (Nat.le_of_ble_eq_true rfl) ⟨rfl, rfl, j, hj, d, hd, rfl, rfl, rfl⟩
set_option maxHeartbeats 4000000 in
theorem k1_worth {G : xG} {ad : Nat → Nat} {κ : xKp} {σ : xSg} {m t : xK} (hI : xIk κ) (hS : xIs κ σ) (b sl c : Int32) : xM G yX1_worth (ws_ yX1_worth cX1_worth 6 (some Jvm.ClassFile.FieldType.int)) 20 600 10 60 [.ref (ad (ro 0 0)), .int b, .int sl, .int c] ad (xj (xkC G.2.2.1 ad κ σ) m t) (fun v ad' ct' => ad' = ad ∧ ct' = xj (xkC G.2.2.1 ad κ σ) m t ∧ ∃ j, j < κ 1 ∧ ∃ s, s < 10 ∧ ∃ d, d < κ 0 ∧ b = nI j ∧ sl = nI s ∧ c = nI d ∧ σ 4 d 0 = -1 ∧ v = some (.int (sDp σ d (σ 6 j 0) - sPo σ j s))) (fun E ad' ct' => ad' = ad ∧ ct' = xj (xkC G.2.2.1 ad κ σ) m t ∧ (E = xIOB ∧ ¬ ((xIx b (κ 1) ∧ xIx sl 10) ∧ xIx c (κ 0)) ∨ E = xUOE ∧ ∃ j, j < κ 1 ∧ ∃ s, s < 10 ∧ ∃ d, d < κ 0 ∧ b = nI j ∧ sl = nI s ∧ c = nI d ∧ ¬ σ 4 d 0 = -1)) := by
  refine xM_of (cc := cX1_worth) (by decide) rfl (fun F hF C => ?_)
  subst hF
  show xX F _ _ _ 0 0 0 [(0, .ref (ad (ro 0 0))), (1, .int b), (2, .int sl), (3, .int c)] []
  refine x_aload_n C dX1_worth_0 rfl 0 rfl ?_
  refine x_iload_n C dX1_worth_1 rfl 1 rfl ?_
  refine x_iload_n C dX1_worth_2 rfl 2 rfl ?_
  refine x_callV (rest := []) C (k1_boxAt2 hI b sl) cf_X1_114 ⟨rfl, hd_X1_boxAt_2⟩ ⟨Nat.le_of_ble_eq_true rfl, Nat.le_of_ble_eq_true rfl⟩ (xR_o xci0 rfl (xj_c (by decide) xkC_sr)) rfl (Nat.le_of_ble_eq_true rfl) ⟨Nat.le_of_ble_eq_true rfl, Nat.le_of_ble_eq_true rfl⟩ dX1_worth_3 (fun v ad' ct' q => ?_) (fun E ad' ct' q => ?_)
  rotate_left
  · obtain ⟨rfl, e9, rfl, hx⟩ := q; obtain rfl := e9.symm
    exact x_out C (fun _ h => nomatch h) (Nat.le_of_ble_eq_true rfl) (Nat.le_of_ble_eq_true rfl) ⟨rfl, rfl, Or.inl ⟨rfl, fun z => hx z.1⟩⟩
  obtain ⟨e9, rfl, j, hj, s, hs, rfl, rfl, rfl⟩ := q; obtain rfl := e9.symm
  refine x_astore (lv' := [(4, .ref (ad (ro 5 j))), (0, .ref (ad (ro 0 0))), (1, .int (nI j)), (2, .int (nI s)), (3, .int c)]) C dX1_worth_6 (by decide) rfl ?_
  refine x_aload_n C dX1_worth_8 rfl 1 rfl ?_
  refine x_iload_n C dX1_worth_9 rfl 4 rfl ?_
  refine x_callV (rest := []) C (k1_discAt hI c) cf_X1_162 ⟨rfl, hd_X1_discAt⟩ ⟨Nat.le_of_ble_eq_true rfl, Nat.le_of_ble_eq_true rfl⟩ (xR_o xci0 rfl (xj_c (by decide) xkC_sr)) rfl (Nat.le_of_ble_eq_true rfl) ⟨Nat.le_of_ble_eq_true rfl, Nat.le_of_ble_eq_true rfl⟩ dX1_worth_10 (fun v ad' ct' q => ?_) (fun E ad' ct' q => ?_)
  rotate_left
  · obtain ⟨rfl, e9, rfl, hx⟩ := q; obtain rfl := e9.symm
    exact x_out C (fun _ h => nomatch h) (Nat.le_of_ble_eq_true rfl) (Nat.le_of_ble_eq_true rfl) ⟨rfl, rfl, Or.inl ⟨rfl, fun z => hx z.2⟩⟩
  obtain ⟨e9, rfl, d, hd, rfl, rfl⟩ := q; obtain rfl := e9.symm
  refine x_astore (lv' := [(5, .ref (ad (ro 11 d))), (4, .ref (ad (ro 5 j))), (0, .ref (ad (ro 0 0))), (1, .int (nI j)), (2, .int (nI s)), (3, .int (nI d))]) C dX1_worth_13 (by decide) rfl ?_
  refine x_aload C dX1_worth_15 0 rfl ?_
  refine x_get C fl_X1_169 (r := ro 11 d) rfl (xj_c (by decide) (xkC_disc hd)) (v := .int (σ 4 d 0)) rfl dX1_worth_17 ?_
  refine x_iconst (v := -1) C dX1_worth_20 (by decide) ?_
  refine x_icmp_ne (tgt := 28) C dX1_worth_21 (by decide) (fun c1 => ?_) (fun c1 => ?_)
  · refine x_iconst (v := 0) C dX1_worth_28 (by decide) ?_
    refine x_callS (rest := []) C (k_requireSupported 0) cf_X1_102 hd_X1_requireSupported ⟨Nat.le_of_ble_eq_true rfl, Nat.le_of_ble_eq_true rfl⟩ rfl (Nat.le_of_ble_eq_true rfl) ⟨Nat.le_of_ble_eq_true rfl, Nat.le_of_ble_eq_true rfl⟩ dX1_worth_29 (fun v ad' ct' q => absurd rfl q.1) (fun E ad' ct' q => ?_)
    obtain ⟨-, rfl, e9, rfl⟩ := q; obtain rfl := e9.symm
    exact x_out C (fun _ h => nomatch h) (Nat.le_of_ble_eq_true rfl) (Nat.le_of_ble_eq_true rfl) ⟨rfl, rfl, Or.inr ⟨rfl, j, hj, s, hs, d, hd, rfl, rfl, rfl, c1⟩⟩
  · refine x_iconst (v := 1) C dX1_worth_24 (by decide) ?_
    refine x_goto (tgt := 29) C dX1_worth_25 (by decide) ?_
    refine x_callS (rest := []) C (k_requireSupported 1) cf_X1_102 hd_X1_requireSupported ⟨Nat.le_of_ble_eq_true rfl, Nat.le_of_ble_eq_true rfl⟩ rfl (Nat.le_of_ble_eq_true rfl) ⟨Nat.le_of_ble_eq_true rfl, Nat.le_of_ble_eq_true rfl⟩ dX1_worth_29 (fun v ad' ct' q => ?_) (fun E ad' ct' q => absurd q.1 (by decide))
    obtain ⟨-, rfl, e9, rfl⟩ := q; obtain rfl := e9.symm
    refine x_aload C dX1_worth_32 0 rfl ?_
    refine x_aload_n C dX1_worth_34 rfl 2 rfl ?_
    refine x_get C fl_X1_172 (r := ro 0 0) rfl (xj_c (by decide) xkC_sr) (v := .int (σ 21 0 0)) rfl dX1_worth_35 ?_
    refine x_aload C dX1_worth_38 1 rfl ?_
    refine x_getR C fl_X1_175 (r := ro 5 j) rfl (xj_c (by decide) (xkC_box hj)) (v := .int (σ 6 j 0)) rfl dX1_worth_40 ?_
    refine x_callV (rest := []) C (k_dpull (xj_c (by decide) (xkC_disc hd)) (σ 21 0 0) (σ 6 j 0)) cf_X1_178 ⟨rfl, hd_X3_pull⟩ ⟨Nat.le_of_ble_eq_true rfl, Nat.le_of_ble_eq_true rfl⟩ (xR_o xci2 rfl (xj_c (by decide) (xkC_disc hd))) rfl (Nat.le_of_ble_eq_true rfl) ⟨Nat.le_of_ble_eq_true rfl, Nat.le_of_ble_eq_true rfl⟩ dX1_worth_43 (xPv_i ?_) xN_e
    refine x_aload_n C dX1_worth_46 rfl 2 rfl ?_
    refine x_aload C dX1_worth_47 1 rfl ?_
    refine x_iload_n C dX1_worth_49 rfl 4 rfl ?_
    refine x_callV (rest := [.int (sPull (σ 0 d 0) (σ 1 d 0) (σ 2 d 0) (σ 3 d 0) (σ 4 d 0) (σ 21 0 0) (σ 6 j 0))]) C (k1_pullOf hI hS hj hs) cf_X1_241 ⟨rfl, hd_X1_pullOf⟩ ⟨Nat.le_of_ble_eq_true rfl, Nat.le_of_ble_eq_true rfl⟩ (xR_o xci0 rfl (xj_c (by decide) xkC_sr)) rfl (Nat.le_of_ble_eq_true rfl) ⟨Nat.le_of_ble_eq_true rfl, Nat.le_of_ble_eq_true rfl⟩ dX1_worth_50 (xPv_i ?_) xN_e
    refine x_isub C dX1_worth_53 ?_
    exact x_iret C dX1_worth_54 (Nat.le_of_ble_eq_true rfl) (Nat.le_of_ble_eq_true rfl) ⟨rfl, rfl, j, hj, s, hs, d, hd, rfl, rfl, rfl, c1, rfl⟩
set_option maxHeartbeats 4000000 in
theorem k4_plays {G : xG} {ad : Nat → Nat} {κ : xKp} {σ : xSg} {m t : xK} {j s d : Nat} (hj : j < κ 1) (hs : s < 10) (hd : d < κ 0) (ti : Int32) : xM G yX4_plays (ws_ yX4_plays cX4_plays 4 none) 1 0 0 0 [.ref (ad (ro 5 j)), .int (nI s), .ref (ad (ro 11 d)), .int ti] ad (xj (xkC G.2.2.1 ad κ σ) m t) (xPv none ad (xj (xkC G.2.2.1 ad κ (sPlays σ j s d ti)) m t)) xN := by
  refine xM_of (cc := cX4_plays) (by decide) rfl (fun F hF C => ?_)
  subst hF
  show xX F _ _ _ 0 0 0 [(0, .ref (ad (ro 5 j))), (1, .int (nI s)), (2, .ref (ad (ro 11 d))), (3, .int ti)] []
  refine x_aload_n C dX4_plays_0 rfl 0 rfl ?_
  refine x_get C fl_X4_18 (r := ro 5 j) rfl (xj_c (by decide) (xkC_box hj)) (v := .ref (ad (ro 7 j))) rfl dX4_plays_1 ?_
  refine x_iload_n C dX4_plays_4 rfl 1 rfl ?_
  refine x_dup2_11 C dX4_plays_5 rfl rfl ?_
  refine xi_ald C s rfl (xj_c (by decide) (xkC_wheels hj)) rfl hs rfl dX4_plays_6 ?_
  refine x_top (y := σ 18 j s) rfl ?_
  refine x_iload_n C dX4_plays_7 rfl 3 rfl ?_
  refine x_iadd C dX4_plays_8 ?_
  refine xi_ast C s rfl (xj_c (by decide) (xkC_wheels hj)) rfl hs rfl dX4_plays_9 ?_
  refine x_pc (k := 7) (by decide) (pc_arr18 hj) ?_
  refine x_aload_n C dX4_plays_10 rfl 0 rfl ?_
  refine x_dup C dX4_plays_11 rfl ?_
  refine x_get C fl_X4_38 (r := ro 5 j) rfl (xj_c (by decide) (xkC_box hj)) (v := .int (σ 11 j 0)) rfl dX4_plays_12 ?_
  refine x_iload_n C dX4_plays_15 rfl 3 rfl ?_
  refine x_iadd C dX4_plays_16 ?_
  refine x_put C fl_X4_38 (r := ro 5 j) rfl (xj_c (by decide) (xkC_box hj)) rfl rfl (Nat.le_of_ble_eq_true rfl) dX4_plays_17 ?_
  refine x_pc (k := 5) (by decide) (pc_box11 hj) ?_
  refine x_aload_n C dX4_plays_20 rfl 2 rfl ?_
  refine x_dup C dX4_plays_21 rfl ?_
  refine x_get C fl_X4_41 (r := ro 11 d) rfl (xj_c (by decide) (xkC_disc hd)) (v := .int (σ 3 d 0)) rfl dX4_plays_22 ?_
  refine x_iload_n C dX4_plays_25 rfl 3 rfl ?_
  refine x_iconst (v := 1) C dX4_plays_26 (by decide) ?_
  refine x_aload_n C dX4_plays_27 rfl 0 rfl ?_
  refine x_get C fl_X4_46 (r := ro 5 j) rfl (xj_c (by decide) (xkC_box hj)) (v := .int (σ 10 j 0)) rfl dX4_plays_28 ?_
  refine x_bipush (v := 40) C dX4_plays_31 (by decide) ?_
  refine x_idiv C dX4_plays_33 (by decide) ?_
  refine x_iadd C dX4_plays_34 ?_
  refine x_imul C dX4_plays_35 ?_
  refine x_iadd C dX4_plays_36 ?_
  refine x_put C fl_X4_41 (r := ro 11 d) rfl (xj_c (by decide) (xkC_disc hd)) rfl rfl (Nat.le_of_ble_eq_true rfl) dX4_plays_37 ?_
  refine x_pc (k := 11) (by decide) (pc_disc3 hd) ?_
  refine x_aload_n C dX4_plays_40 rfl 0 rfl ?_
  refine x_dup C dX4_plays_41 rfl ?_
  refine x_get C fl_X4_46 (r := ro 5 j) rfl (xj_c (by decide) (xkC_box hj)) (v := .int (σ 10 j 0)) rfl dX4_plays_42 ?_
  refine x_iload_n C dX4_plays_45 rfl 3 rfl ?_
  refine x_iadd C dX4_plays_46 ?_
  refine x_put C fl_X4_46 (r := ro 5 j) rfl (xj_c (by decide) (xkC_box hj)) rfl rfl (Nat.le_of_ble_eq_true rfl) dX4_plays_47 ?_
  refine x_pc (k := 5) (by decide) (pc_box10 hj) ?_
  exact x_vret C dX4_plays_50 (Nat.le_of_ble_eq_true rfl) (Nat.le_of_ble_eq_true rfl) ⟨rfl, rfl, rfl⟩
