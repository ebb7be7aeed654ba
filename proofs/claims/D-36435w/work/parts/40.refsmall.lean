/-! ===== THE REFERENCE: getters and small changes ===== -/
theorem nI_sl {κ : xKp} {σ : xSg} (hS : xIs κ σ) (h30 : κ 0 ≤ 30) {j s : Nat} (hj : j < κ 1) (hs : s < 10) : σ 17 j s + 1 ≤ 0 ↔ σ 17 j s = -1 := by
  rcases hS j hj s hs with e | ⟨d, hd, e⟩
  · rw [e]; decide
  · rw [e, show nI d + 1 = nI (d + 1) from nI_add d 1]
    refine ⟨fun h => ?_, fun h => absurd h (nI_ne1 (by omega))⟩
    rw [Int32.le_iff_toInt_le, nI_toInt (by omega)] at h
    have h0 : (0 : Int32).toInt = 0 := rfl
    omega
theorem i_asc {a : Int32} : a + 1 - 1 = a := Int32.add_sub_cancel _ _
/-- flags are 0 or 1 -/
def xIb (κ : xKp) (σ : xSg) : Prop := ∀ j, j < κ 1 → (σ 14 j 0 = 0 ∨ σ 14 j 0 = 1) ∧ (σ 15 j 0 = 0 ∨ σ 15 j 0 = 1)
/-! outcomes -/
def oGb (κ : xKp) (σ : xSg) (f : Nat) (b : Int32) : xO := if xIx b (κ 1) then (0, σ f b.toNatClampNeg 0, κ, σ) else (1, 0, κ, σ)
def oGd (κ : xKp) (σ : xSg) (f : Nat) (b : Int32) : xO := if xIx b (κ 0) then (0, σ f b.toNatClampNeg 0, κ, σ) else (1, 0, κ, σ)
def oQueued (κ : xKp) (σ : xSg) (b : Int32) : xO := if xIx b (κ 1) then (0, nI (κ (10 + b.toNatClampNeg)), κ, σ) else (1, 0, κ, σ)
def oWheel (κ : xKp) (σ : xSg) (b sl : Int32) : xO := if xIx b (κ 1) ∧ xIx sl 10 then (0, σ 18 b.toNatClampNeg sl.toNatClampNeg, κ, σ) else (1, 0, κ, σ)
def oDiscAt (κ : xKp) (σ : xSg) (b sl : Int32) : xO := if xIx b (κ 1) ∧ xIx sl 10 then (if ¬ σ 17 b.toNatClampNeg sl.toNatClampNeg = -1 then (0, σ 17 b.toNatClampNeg sl.toNatClampNeg, κ, σ) else (2, 0, κ, σ)) else (1, 0, κ, σ)
def oSetRisk (κ : xKp) (σ : xSg) (b ri : Int32) : xO := if xIx b (κ 1) then (if 0 ≤ ri ∧ ri ≤ 20 then (0, σ 7 b.toNatClampNeg 0, κ, xup σ 7 b.toNatClampNeg 0 ri) else (2, 0, κ, σ)) else (1, 0, κ, σ)
def oSetSeed (κ : xKp) (σ : xSg) (z : Int32) : xO := if 1 ≤ z ∧ z ≤ 2147483646 then (0, σ 24 0 0, κ, xup σ 24 0 0 z) else (1, 0, κ, σ)
def sMor (c : Int32) : Int32 := if c = 110 then 1 else if c = 100 then 2 else if c = 113 ∨ c = 115 then 6 else 0
def sCen (c : Int32) : Int32 := if c = 110 then 5 else if c = 100 then 10 else if c = 113 then 25 else 0
def oInsert1 (κ : xKp) (σ : xSg) (j : Nat) (mo ce : Int32) : xO := if 0 < mo then (if σ 14 j 0 = 0 then (if σ 8 j 0 + mo ≤ 99 then (0, σ 8 j 0 + mo, κ, xup (xup σ 8 j 0 (σ 8 j 0 + mo)) 9 j 0 (σ 9 j 0 + ce)) else (4, 0, κ, σ)) else (3, 0, κ, σ)) else (2, 0, κ, σ)
def oInsert (κ : xKp) (σ : xSg) (b c : Int32) : xO := if xIx b (κ 1) then oInsert1 κ σ b.toNatClampNeg (sMor c) (sCen c) else (1, 0, κ, σ)
def oVisit (κ : xKp) (σ : xSg) (b : Int32) : xO := if xIx b (κ 1) then (if σ 15 b.toNatClampNeg 0 = 0 ∧ ¬ σ 22 0 0 < 40 then (0, σ 9 b.toNatClampNeg 0, κ, sVi σ b.toNatClampNeg) else (2, 0, κ, σ)) else (1, 0, κ, σ)
def oChangeNeedle (κ : xKp) (σ : xSg) (b : Int32) : xO := if xIx b (κ 1) then (if ¬ σ 15 b.toNatClampNeg 0 = 0 ∧ ¬ σ 22 0 0 < 5 then (0, σ 10 b.toNatClampNeg 0, κ, xup (xup σ 22 0 0 (σ 22 0 0 - 5)) 10 b.toNatClampNeg 0 0) else (2, 0, κ, σ)) else (1, 0, κ, σ)
def oBurn (κ : xKp) (σ : xSg) (b : Int32) : xO := if xIx b (κ 0) then (if σ 4 b.toNatClampNeg 0 = -1 then (0, σ 3 b.toNatClampNeg 0, κ, xup σ 4 b.toNatClampNeg 0 (-2)) else (2, 0, κ, σ)) else (1, 0, κ, σ)
def oAsk (κ : xKp) (σ : xSg) (b so : Int32) : xO := if xIx b (κ 1) then (if 0 ≤ so ∧ so ≤ 99 then (if σ 19 b.toNatClampNeg so.toNatClampNeg < 99 then (0, σ 19 b.toNatClampNeg so.toNatClampNeg + 1, κ, xup σ 19 b.toNatClampNeg so.toNatClampNeg (σ 19 b.toNatClampNeg so.toNatClampNeg + 1)) else (3, 0, κ, σ)) else (2, 0, κ, σ)) else (1, 0, κ, σ)
theorem xRl_vi {κ : xKp} {σ μ : xSg} {j : Nat} (R : xRl κ (xup (xup (xup (xup (xup (xup (xup (xup σ 22 0 0 (σ 22 0 0 - 40)) 15 j 0 1) 14 j 0 0) 13 j 0 (σ 13 j 0 + σ 9 j 0 * σ 5 j 0 / 100)) 23 0 0 (σ 23 0 0 + (σ 9 j 0 - σ 9 j 0 * σ 5 j 0 / 100))) 12 j 0 (5 * σ 11 j 0 - σ 9 j 0)) 11 j 0 0) 9 j 0 0) μ) : xRl κ (sVi σ j) μ := by
  have h := R.c (f := 25) (i := 0) (k := 0) (v := σ 25 0 0 + σ 9 j 0) (by omega)
  refine Eq.mp (congrArg (fun z => xRl κ z μ) ?_) h
  funext f i k
  unfold sVi xup
  repeat' split
  all_goals first
    | rfl
    | (exfalso; omega)
set_option maxHeartbeats 4000000 in
theorem k2_getCredits {G : xG} {ad : Nat → Nat} {κ : xKp} {σ μ : xSg} {c t : xK} (hI : xIk κ) (R : xRl κ σ μ) (b : Int32) : xM G yX2_getCredits (ws_ yX2_getCredits cX2_getCredits 2 (some Jvm.ClassFile.FieldType.int)) 8 300 0 0 [.ref (ad (ro 16 0)), .int b] ad (xj c (xkM G.2.2.1 ad μ) t) (rP G ad c t (oGb κ σ 8 b)) xN := by
  refine xM_of (cc := cX2_getCredits) (by decide) rfl (fun F hF C => ?_)
  subst hF
  have h30 := hI.2.2.2.2.1
  have h14 := hI.2.2.2.2.2
  have T : μ 29 0 0 = μ 29 0 0 := rfl
  show xX F _ _ _ 0 0 0 [(0, .ref (ad (ro 16 0))), (1, .int b)] []
  refine x_aload_n C dX2_getCredits_0 rfl 0 rfl ?_
  refine x_aload_n C dX2_getCredits_1 rfl 0 rfl ?_
  refine x_iload_n C dX2_getCredits_2 rfl 1 rfl ?_
  refine x_callV (rest := [.ref (ad (ro 16 0))]) C (k2_isBox hI R b) cf_X2_100 ⟨rfl, hd_X2_isBox⟩ ⟨Nat.le_of_ble_eq_true rfl, Nat.le_of_ble_eq_true rfl⟩ (xR_o xci4 rfl (xj_m (by decide) (by decide) rfl)) rfl (Nat.le_of_ble_eq_true rfl) ⟨Nat.le_of_ble_eq_true rfl, Nat.le_of_ble_eq_true rfl⟩ dX2_getCredits_3 (xPv_i ?_) xN_e
  refine x_case (fun c1 => ?_) (fun c1 => ?_)
  · obtain ⟨j, hj, rfl⟩ := xIx_nI (by omega) c1
    have tj : (nI j).toNatClampNeg = j := nI_clamp (by omega)
    refine x_iconst (v := 1) C dX2_getCredits_6 (by decide) ?_
    refine m_no1 (p := 1) C R (Nat.le_of_ble_eq_true rfl) ⟨Nat.le_of_ble_eq_true rfl, Nat.le_of_ble_eq_true rfl⟩ ⟨Nat.le_of_ble_eq_true rfl, Nat.le_of_ble_eq_true rfl⟩ dX2_getCredits_7 (fun μ1 R1 T1 => ?_)
    refine x_if_eq (tgt := 17) C dX2_getCredits_10 (by decide) (fun _ => ?_) (fun h => absurd (by decide) h)
    refine x_aload_n C dX2_getCredits_17 rfl 0 rfl ?_
    refine x_get C fl_X2_34 (r := ro 16 0) rfl (xj_m (by decide) (by decide) rfl) (v := .ref (ad (ro 17 9))) rfl dX2_getCredits_18 ?_
    refine x_iload_n C dX2_getCredits_21 rfl 1 rfl ?_
    refine m_ld C R1 (f := 9) (f' := 8) (i := j) (by decide) rfl rfl rfl (show j < 4 by omega) (by decide) dX2_getCredits_22 ?_
    exact x_iret C dX2_getCredits_23 (Nat.le_of_ble_eq_true rfl) (Nat.le_of_ble_eq_true rfl) (rP_of ((if_pos c1).trans (by rw [tj])) R1 T1 (fun _ => rfl))
  · refine x_iconst (v := 1) C dX2_getCredits_6 (by decide) ?_
    refine m_no0 (p := 1) C R (Nat.le_of_ble_eq_true rfl) ⟨Nat.le_of_ble_eq_true rfl, Nat.le_of_ble_eq_true rfl⟩ ⟨Nat.le_of_ble_eq_true rfl, Nat.le_of_ble_eq_true rfl⟩ dX2_getCredits_7 (fun μ1 R1 T1 => ?_)
    refine x_if_eq (tgt := 17) C dX2_getCredits_10 (by decide) (fun h => absurd h (by decide)) (fun _ => ?_)
    refine x_iconst (v := 0) C dX2_getCredits_13 (by decide) ?_
    refine x_goto (tgt := 23) C dX2_getCredits_14 (by decide) ?_
    exact x_iret C dX2_getCredits_23 (Nat.le_of_ble_eq_true rfl) (Nat.le_of_ble_eq_true rfl) (rP_of (if_neg c1) R1 T1 (fun _ => rfl))
set_option maxHeartbeats 4000000 in
theorem k2_getCents {G : xG} {ad : Nat → Nat} {κ : xKp} {σ μ : xSg} {c t : xK} (hI : xIk κ) (R : xRl κ σ μ) (b : Int32) : xM G yX2_getCents (ws_ yX2_getCents cX2_getCents 2 (some Jvm.ClassFile.FieldType.int)) 8 300 0 0 [.ref (ad (ro 16 0)), .int b] ad (xj c (xkM G.2.2.1 ad μ) t) (rP G ad c t (oGb κ σ 9 b)) xN := by
  refine xM_of (cc := cX2_getCents) (by decide) rfl (fun F hF C => ?_)
  subst hF
  have h30 := hI.2.2.2.2.1
  have h14 := hI.2.2.2.2.2
  have T : μ 29 0 0 = μ 29 0 0 := rfl
  show xX F _ _ _ 0 0 0 [(0, .ref (ad (ro 16 0))), (1, .int b)] []
  refine x_aload_n C dX2_getCents_0 rfl 0 rfl ?_
  refine x_aload_n C dX2_getCents_1 rfl 0 rfl ?_
  refine x_iload_n C dX2_getCents_2 rfl 1 rfl ?_
  refine x_callV (rest := [.ref (ad (ro 16 0))]) C (k2_isBox hI R b) cf_X2_100 ⟨rfl, hd_X2_isBox⟩ ⟨Nat.le_of_ble_eq_true rfl, Nat.le_of_ble_eq_true rfl⟩ (xR_o xci4 rfl (xj_m (by decide) (by decide) rfl)) rfl (Nat.le_of_ble_eq_true rfl) ⟨Nat.le_of_ble_eq_true rfl, Nat.le_of_ble_eq_true rfl⟩ dX2_getCents_3 (xPv_i ?_) xN_e
  refine x_case (fun c1 => ?_) (fun c1 => ?_)
  · obtain ⟨j, hj, rfl⟩ := xIx_nI (by omega) c1
    have tj : (nI j).toNatClampNeg = j := nI_clamp (by omega)
    refine x_iconst (v := 1) C dX2_getCents_6 (by decide) ?_
    refine m_no1 (p := 1) C R (Nat.le_of_ble_eq_true rfl) ⟨Nat.le_of_ble_eq_true rfl, Nat.le_of_ble_eq_true rfl⟩ ⟨Nat.le_of_ble_eq_true rfl, Nat.le_of_ble_eq_true rfl⟩ dX2_getCents_7 (fun μ1 R1 T1 => ?_)
    refine x_if_eq (tgt := 17) C dX2_getCents_10 (by decide) (fun _ => ?_) (fun h => absurd (by decide) h)
    refine x_aload_n C dX2_getCents_17 rfl 0 rfl ?_
    refine x_get C fl_X2_37 (r := ro 16 0) rfl (xj_m (by decide) (by decide) rfl) (v := .ref (ad (ro 17 10))) rfl dX2_getCents_18 ?_
    refine x_iload_n C dX2_getCents_21 rfl 1 rfl ?_
    refine m_ld C R1 (f := 10) (f' := 9) (i := j) (by decide) rfl rfl rfl (show j < 4 by omega) (by decide) dX2_getCents_22 ?_
    exact x_iret C dX2_getCents_23 (Nat.le_of_ble_eq_true rfl) (Nat.le_of_ble_eq_true rfl) (rP_of ((if_pos c1).trans (by rw [tj])) R1 T1 (fun _ => rfl))
  · refine x_iconst (v := 1) C dX2_getCents_6 (by decide) ?_
    refine m_no0 (p := 1) C R (Nat.le_of_ble_eq_true rfl) ⟨Nat.le_of_ble_eq_true rfl, Nat.le_of_ble_eq_true rfl⟩ ⟨Nat.le_of_ble_eq_true rfl, Nat.le_of_ble_eq_true rfl⟩ dX2_getCents_7 (fun μ1 R1 T1 => ?_)
    refine x_if_eq (tgt := 17) C dX2_getCents_10 (by decide) (fun h => absurd h (by decide)) (fun _ => ?_)
    refine x_iconst (v := 0) C dX2_getCents_13 (by decide) ?_
    refine x_goto (tgt := 23) C dX2_getCents_14 (by decide) ?_
    exact x_iret C dX2_getCents_23 (Nat.le_of_ble_eq_true rfl) (Nat.le_of_ble_eq_true rfl) (rP_of (if_neg c1) R1 T1 (fun _ => rfl))
set_option maxHeartbeats 4000000 in
theorem k2_getNeedle {G : xG} {ad : Nat → Nat} {κ : xKp} {σ μ : xSg} {c t : xK} (hI : xIk κ) (R : xRl κ σ μ) (b : Int32) : xM G yX2_getNeedle (ws_ yX2_getNeedle cX2_getNeedle 2 (some Jvm.ClassFile.FieldType.int)) 8 300 0 0 [.ref (ad (ro 16 0)), .int b] ad (xj c (xkM G.2.2.1 ad μ) t) (rP G ad c t (oGb κ σ 10 b)) xN := by
  refine xM_of (cc := cX2_getNeedle) (by decide) rfl (fun F hF C => ?_)
  subst hF
  have h30 := hI.2.2.2.2.1
  have h14 := hI.2.2.2.2.2
  have T : μ 29 0 0 = μ 29 0 0 := rfl
  show xX F _ _ _ 0 0 0 [(0, .ref (ad (ro 16 0))), (1, .int b)] []
  refine x_aload_n C dX2_getNeedle_0 rfl 0 rfl ?_
  refine x_aload_n C dX2_getNeedle_1 rfl 0 rfl ?_
  refine x_iload_n C dX2_getNeedle_2 rfl 1 rfl ?_
  refine x_callV (rest := [.ref (ad (ro 16 0))]) C (k2_isBox hI R b) cf_X2_100 ⟨rfl, hd_X2_isBox⟩ ⟨Nat.le_of_ble_eq_true rfl, Nat.le_of_ble_eq_true rfl⟩ (xR_o xci4 rfl (xj_m (by decide) (by decide) rfl)) rfl (Nat.le_of_ble_eq_true rfl) ⟨Nat.le_of_ble_eq_true rfl, Nat.le_of_ble_eq_true rfl⟩ dX2_getNeedle_3 (xPv_i ?_) xN_e
  refine x_case (fun c1 => ?_) (fun c1 => ?_)
  · obtain ⟨j, hj, rfl⟩ := xIx_nI (by omega) c1
    have tj : (nI j).toNatClampNeg = j := nI_clamp (by omega)
    refine x_iconst (v := 1) C dX2_getNeedle_6 (by decide) ?_
    refine m_no1 (p := 1) C R (Nat.le_of_ble_eq_true rfl) ⟨Nat.le_of_ble_eq_true rfl, Nat.le_of_ble_eq_true rfl⟩ ⟨Nat.le_of_ble_eq_true rfl, Nat.le_of_ble_eq_true rfl⟩ dX2_getNeedle_7 (fun μ1 R1 T1 => ?_)
    refine x_if_eq (tgt := 17) C dX2_getNeedle_10 (by decide) (fun _ => ?_) (fun h => absurd (by decide) h)
    refine x_aload_n C dX2_getNeedle_17 rfl 0 rfl ?_
    refine x_get C fl_X2_40 (r := ro 16 0) rfl (xj_m (by decide) (by decide) rfl) (v := .ref (ad (ro 17 11))) rfl dX2_getNeedle_18 ?_
    refine x_iload_n C dX2_getNeedle_21 rfl 1 rfl ?_
    refine m_ld C R1 (f := 11) (f' := 10) (i := j) (by decide) rfl rfl rfl (show j < 4 by omega) (by decide) dX2_getNeedle_22 ?_
    exact x_iret C dX2_getNeedle_23 (Nat.le_of_ble_eq_true rfl) (Nat.le_of_ble_eq_true rfl) (rP_of ((if_pos c1).trans (by rw [tj])) R1 T1 (fun _ => rfl))
  · refine x_iconst (v := 1) C dX2_getNeedle_6 (by decide) ?_
    refine m_no0 (p := 1) C R (Nat.le_of_ble_eq_true rfl) ⟨Nat.le_of_ble_eq_true rfl, Nat.le_of_ble_eq_true rfl⟩ ⟨Nat.le_of_ble_eq_true rfl, Nat.le_of_ble_eq_true rfl⟩ dX2_getNeedle_7 (fun μ1 R1 T1 => ?_)
    refine x_if_eq (tgt := 17) C dX2_getNeedle_10 (by decide) (fun h => absurd h (by decide)) (fun _ => ?_)
    refine x_iconst (v := 0) C dX2_getNeedle_13 (by decide) ?_
    refine x_goto (tgt := 23) C dX2_getNeedle_14 (by decide) ?_
    exact x_iret C dX2_getNeedle_23 (Nat.le_of_ble_eq_true rfl) (Nat.le_of_ble_eq_true rfl) (rP_of (if_neg c1) R1 T1 (fun _ => rfl))
set_option maxHeartbeats 4000000 in
theorem k2_getShort {G : xG} {ad : Nat → Nat} {κ : xKp} {σ μ : xSg} {c t : xK} (hI : xIk κ) (R : xRl κ σ μ) (b : Int32) : xM G yX2_getShort (ws_ yX2_getShort cX2_getShort 2 (some Jvm.ClassFile.FieldType.int)) 8 300 0 0 [.ref (ad (ro 16 0)), .int b] ad (xj c (xkM G.2.2.1 ad μ) t) (rP G ad c t (oGb κ σ 12 b)) xN := by
  refine xM_of (cc := cX2_getShort) (by decide) rfl (fun F hF C => ?_)
  subst hF
  have h30 := hI.2.2.2.2.1
  have h14 := hI.2.2.2.2.2
  have T : μ 29 0 0 = μ 29 0 0 := rfl
  show xX F _ _ _ 0 0 0 [(0, .ref (ad (ro 16 0))), (1, .int b)] []
  refine x_aload_n C dX2_getShort_0 rfl 0 rfl ?_
  refine x_aload_n C dX2_getShort_1 rfl 0 rfl ?_
  refine x_iload_n C dX2_getShort_2 rfl 1 rfl ?_
  refine x_callV (rest := [.ref (ad (ro 16 0))]) C (k2_isBox hI R b) cf_X2_100 ⟨rfl, hd_X2_isBox⟩ ⟨Nat.le_of_ble_eq_true rfl, Nat.le_of_ble_eq_true rfl⟩ (xR_o xci4 rfl (xj_m (by decide) (by decide) rfl)) rfl (Nat.le_of_ble_eq_true rfl) ⟨Nat.le_of_ble_eq_true rfl, Nat.le_of_ble_eq_true rfl⟩ dX2_getShort_3 (xPv_i ?_) xN_e
  refine x_case (fun c1 => ?_) (fun c1 => ?_)
  · obtain ⟨j, hj, rfl⟩ := xIx_nI (by omega) c1
    have tj : (nI j).toNatClampNeg = j := nI_clamp (by omega)
    refine x_iconst (v := 1) C dX2_getShort_6 (by decide) ?_
    refine m_no1 (p := 1) C R (Nat.le_of_ble_eq_true rfl) ⟨Nat.le_of_ble_eq_true rfl, Nat.le_of_ble_eq_true rfl⟩ ⟨Nat.le_of_ble_eq_true rfl, Nat.le_of_ble_eq_true rfl⟩ dX2_getShort_7 (fun μ1 R1 T1 => ?_)
    refine x_if_eq (tgt := 17) C dX2_getShort_10 (by decide) (fun _ => ?_) (fun h => absurd (by decide) h)
    refine x_aload_n C dX2_getShort_17 rfl 0 rfl ?_
    refine x_get C fl_X2_52 (r := ro 16 0) rfl (xj_m (by decide) (by decide) rfl) (v := .ref (ad (ro 17 15))) rfl dX2_getShort_18 ?_
    refine x_iload_n C dX2_getShort_21 rfl 1 rfl ?_
    refine m_ld C R1 (f := 15) (f' := 12) (i := j) (by decide) rfl rfl rfl (show j < 4 by omega) (by decide) dX2_getShort_22 ?_
    exact x_iret C dX2_getShort_23 (Nat.le_of_ble_eq_true rfl) (Nat.le_of_ble_eq_true rfl) (rP_of ((if_pos c1).trans (by rw [tj])) R1 T1 (fun _ => rfl))
  · refine x_iconst (v := 1) C dX2_getShort_6 (by decide) ?_
    refine m_no0 (p := 1) C R (Nat.le_of_ble_eq_true rfl) ⟨Nat.le_of_ble_eq_true rfl, Nat.le_of_ble_eq_true rfl⟩ ⟨Nat.le_of_ble_eq_true rfl, Nat.le_of_ble_eq_true rfl⟩ dX2_getShort_7 (fun μ1 R1 T1 => ?_)
    refine x_if_eq (tgt := 17) C dX2_getShort_10 (by decide) (fun h => absurd h (by decide)) (fun _ => ?_)
    refine x_iconst (v := 0) C dX2_getShort_13 (by decide) ?_
    refine x_goto (tgt := 23) C dX2_getShort_14 (by decide) ?_
    exact x_iret C dX2_getShort_23 (Nat.le_of_ble_eq_true rfl) (Nat.le_of_ble_eq_true rfl) (rP_of (if_neg c1) R1 T1 (fun _ => rfl))
set_option maxHeartbeats 4000000 in
theorem k2_getShare {G : xG} {ad : Nat → Nat} {κ : xKp} {σ μ : xSg} {c t : xK} (hI : xIk κ) (R : xRl κ σ μ) (b : Int32) : xM G yX2_getShare (ws_ yX2_getShare cX2_getShare 2 (some Jvm.ClassFile.FieldType.int)) 8 300 0 0 [.ref (ad (ro 16 0)), .int b] ad (xj c (xkM G.2.2.1 ad μ) t) (rP G ad c t (oGb κ σ 13 b)) xN := by
  refine xM_of (cc := cX2_getShare) (by decide) rfl (fun F hF C => ?_)
  subst hF
  have h30 := hI.2.2.2.2.1
  have h14 := hI.2.2.2.2.2
  have T : μ 29 0 0 = μ 29 0 0 := rfl
  show xX F _ _ _ 0 0 0 [(0, .ref (ad (ro 16 0))), (1, .int b)] []
  refine x_aload_n C dX2_getShare_0 rfl 0 rfl ?_
  refine x_aload_n C dX2_getShare_1 rfl 0 rfl ?_
  refine x_iload_n C dX2_getShare_2 rfl 1 rfl ?_
  refine x_callV (rest := [.ref (ad (ro 16 0))]) C (k2_isBox hI R b) cf_X2_100 ⟨rfl, hd_X2_isBox⟩ ⟨Nat.le_of_ble_eq_true rfl, Nat.le_of_ble_eq_true rfl⟩ (xR_o xci4 rfl (xj_m (by decide) (by decide) rfl)) rfl (Nat.le_of_ble_eq_true rfl) ⟨Nat.le_of_ble_eq_true rfl, Nat.le_of_ble_eq_true rfl⟩ dX2_getShare_3 (xPv_i ?_) xN_e
  refine x_case (fun c1 => ?_) (fun c1 => ?_)
  · obtain ⟨j, hj, rfl⟩ := xIx_nI (by omega) c1
    have tj : (nI j).toNatClampNeg = j := nI_clamp (by omega)
    refine x_iconst (v := 1) C dX2_getShare_6 (by decide) ?_
    refine m_no1 (p := 1) C R (Nat.le_of_ble_eq_true rfl) ⟨Nat.le_of_ble_eq_true rfl, Nat.le_of_ble_eq_true rfl⟩ ⟨Nat.le_of_ble_eq_true rfl, Nat.le_of_ble_eq_true rfl⟩ dX2_getShare_7 (fun μ1 R1 T1 => ?_)
    refine x_if_eq (tgt := 17) C dX2_getShare_10 (by decide) (fun _ => ?_) (fun h => absurd (by decide) h)
    refine x_aload_n C dX2_getShare_17 rfl 0 rfl ?_
    refine x_get C fl_X2_55 (r := ro 16 0) rfl (xj_m (by decide) (by decide) rfl) (v := .ref (ad (ro 17 16))) rfl dX2_getShare_18 ?_
    refine x_iload_n C dX2_getShare_21 rfl 1 rfl ?_
    refine m_ld C R1 (f := 16) (f' := 13) (i := j) (by decide) rfl rfl rfl (show j < 4 by omega) (by decide) dX2_getShare_22 ?_
    exact x_iret C dX2_getShare_23 (Nat.le_of_ble_eq_true rfl) (Nat.le_of_ble_eq_true rfl) (rP_of ((if_pos c1).trans (by rw [tj])) R1 T1 (fun _ => rfl))
  · refine x_iconst (v := 1) C dX2_getShare_6 (by decide) ?_
    refine m_no0 (p := 1) C R (Nat.le_of_ble_eq_true rfl) ⟨Nat.le_of_ble_eq_true rfl, Nat.le_of_ble_eq_true rfl⟩ ⟨Nat.le_of_ble_eq_true rfl, Nat.le_of_ble_eq_true rfl⟩ dX2_getShare_7 (fun μ1 R1 T1 => ?_)
    refine x_if_eq (tgt := 17) C dX2_getShare_10 (by decide) (fun h => absurd h (by decide)) (fun _ => ?_)
    refine x_iconst (v := 0) C dX2_getShare_13 (by decide) ?_
    refine x_goto (tgt := 23) C dX2_getShare_14 (by decide) ?_
    exact x_iret C dX2_getShare_23 (Nat.le_of_ble_eq_true rfl) (Nat.le_of_ble_eq_true rfl) (rP_of (if_neg c1) R1 T1 (fun _ => rfl))
set_option maxHeartbeats 4000000 in
theorem k2_getWear {G : xG} {ad : Nat → Nat} {κ : xKp} {σ μ : xSg} {c t : xK} (hI : xIk κ) (R : xRl κ σ μ) (b : Int32) : xM G yX2_getWear (ws_ yX2_getWear cX2_getWear 2 (some Jvm.ClassFile.FieldType.int)) 8 300 0 0 [.ref (ad (ro 16 0)), .int b] ad (xj c (xkM G.2.2.1 ad μ) t) (rP G ad c t (oGd κ σ 3 b)) xN := by
  refine xM_of (cc := cX2_getWear) (by decide) rfl (fun F hF C => ?_)
  subst hF
  have h30 := hI.2.2.2.2.1
  have h14 := hI.2.2.2.2.2
  have T : μ 29 0 0 = μ 29 0 0 := rfl
  show xX F _ _ _ 0 0 0 [(0, .ref (ad (ro 16 0))), (1, .int b)] []
  refine x_aload_n C dX2_getWear_0 rfl 0 rfl ?_
  refine x_aload_n C dX2_getWear_1 rfl 0 rfl ?_
  refine x_iload_n C dX2_getWear_2 rfl 1 rfl ?_
  refine x_callV (rest := [.ref (ad (ro 16 0))]) C (k2_isDisc hI R b) cf_X2_128 ⟨rfl, hd_X2_isDisc⟩ ⟨Nat.le_of_ble_eq_true rfl, Nat.le_of_ble_eq_true rfl⟩ (xR_o xci4 rfl (xj_m (by decide) (by decide) rfl)) rfl (Nat.le_of_ble_eq_true rfl) ⟨Nat.le_of_ble_eq_true rfl, Nat.le_of_ble_eq_true rfl⟩ dX2_getWear_3 (xPv_i ?_) xN_e
  refine x_case (fun c1 => ?_) (fun c1 => ?_)
  · obtain ⟨j, hj, rfl⟩ := xIx_nI (by omega) c1
    have tj : (nI j).toNatClampNeg = j := nI_clamp (by omega)
    refine x_iconst (v := 1) C dX2_getWear_6 (by decide) ?_
    refine m_no1 (p := 1) C R (Nat.le_of_ble_eq_true rfl) ⟨Nat.le_of_ble_eq_true rfl, Nat.le_of_ble_eq_true rfl⟩ ⟨Nat.le_of_ble_eq_true rfl, Nat.le_of_ble_eq_true rfl⟩ dX2_getWear_7 (fun μ1 R1 T1 => ?_)
    refine x_if_eq (tgt := 17) C dX2_getWear_10 (by decide) (fun _ => ?_) (fun h => absurd (by decide) h)
    refine x_aload_n C dX2_getWear_17 rfl 0 rfl ?_
    refine x_get C fl_X2_19 (r := ro 16 0) rfl (xj_m (by decide) (by decide) rfl) (v := .ref (ad (ro 17 3))) rfl dX2_getWear_18 ?_
    refine x_iload_n C dX2_getWear_21 rfl 1 rfl ?_
    refine m_ld C R1 (f := 3) (f' := 3) (i := j) (by decide) rfl rfl rfl (show j < 30 by omega) (by decide) dX2_getWear_22 ?_
    exact x_iret C dX2_getWear_23 (Nat.le_of_ble_eq_true rfl) (Nat.le_of_ble_eq_true rfl) (rP_of ((if_pos c1).trans (by rw [tj])) R1 T1 (fun _ => rfl))
  · refine x_iconst (v := 1) C dX2_getWear_6 (by decide) ?_
    refine m_no0 (p := 1) C R (Nat.le_of_ble_eq_true rfl) ⟨Nat.le_of_ble_eq_true rfl, Nat.le_of_ble_eq_true rfl⟩ ⟨Nat.le_of_ble_eq_true rfl, Nat.le_of_ble_eq_true rfl⟩ dX2_getWear_7 (fun μ1 R1 T1 => ?_)
    refine x_if_eq (tgt := 17) C dX2_getWear_10 (by decide) (fun h => absurd h (by decide)) (fun _ => ?_)
    refine x_iconst (v := 0) C dX2_getWear_13 (by decide) ?_
    refine x_goto (tgt := 23) C dX2_getWear_14 (by decide) ?_
    exact x_iret C dX2_getWear_23 (Nat.le_of_ble_eq_true rfl) (Nat.le_of_ble_eq_true rfl) (rP_of (if_neg c1) R1 T1 (fun _ => rfl))
set_option maxHeartbeats 4000000 in
theorem k2_getPlace {G : xG} {ad : Nat → Nat} {κ : xKp} {σ μ : xSg} {c t : xK} (hI : xIk κ) (R : xRl κ σ μ) (b : Int32) : xM G yX2_getPlace (ws_ yX2_getPlace cX2_getPlace 2 (some Jvm.ClassFile.FieldType.int)) 8 300 0 0 [.ref (ad (ro 16 0)), .int b] ad (xj c (xkM G.2.2.1 ad μ) t) (rP G ad c t (oGd κ σ 4 b)) xN := by
  refine xM_of (cc := cX2_getPlace) (by decide) rfl (fun F hF C => ?_)
  subst hF
  have h30 := hI.2.2.2.2.1
  have h14 := hI.2.2.2.2.2
  have T : μ 29 0 0 = μ 29 0 0 := rfl
  show xX F _ _ _ 0 0 0 [(0, .ref (ad (ro 16 0))), (1, .int b)] []
  refine x_aload_n C dX2_getPlace_0 rfl 0 rfl ?_
  refine x_aload_n C dX2_getPlace_1 rfl 0 rfl ?_
  refine x_iload_n C dX2_getPlace_2 rfl 1 rfl ?_
  refine x_callV (rest := [.ref (ad (ro 16 0))]) C (k2_isDisc hI R b) cf_X2_128 ⟨rfl, hd_X2_isDisc⟩ ⟨Nat.le_of_ble_eq_true rfl, Nat.le_of_ble_eq_true rfl⟩ (xR_o xci4 rfl (xj_m (by decide) (by decide) rfl)) rfl (Nat.le_of_ble_eq_true rfl) ⟨Nat.le_of_ble_eq_true rfl, Nat.le_of_ble_eq_true rfl⟩ dX2_getPlace_3 (xPv_i ?_) xN_e
  refine x_case (fun c1 => ?_) (fun c1 => ?_)
  · obtain ⟨j, hj, rfl⟩ := xIx_nI (by omega) c1
    have tj : (nI j).toNatClampNeg = j := nI_clamp (by omega)
    refine x_iconst (v := 1) C dX2_getPlace_6 (by decide) ?_
    refine m_no1 (p := 1) C R (Nat.le_of_ble_eq_true rfl) ⟨Nat.le_of_ble_eq_true rfl, Nat.le_of_ble_eq_true rfl⟩ ⟨Nat.le_of_ble_eq_true rfl, Nat.le_of_ble_eq_true rfl⟩ dX2_getPlace_7 (fun μ1 R1 T1 => ?_)
    refine x_if_eq (tgt := 17) C dX2_getPlace_10 (by decide) (fun _ => ?_) (fun h => absurd (by decide) h)
    refine x_aload_n C dX2_getPlace_17 rfl 0 rfl ?_
    refine x_get C fl_X2_22 (r := ro 16 0) rfl (xj_m (by decide) (by decide) rfl) (v := .ref (ad (ro 17 4))) rfl dX2_getPlace_18 ?_
    refine x_iload_n C dX2_getPlace_21 rfl 1 rfl ?_
    refine m_ld C R1 (f := 4) (f' := 4) (i := j) (by decide) rfl rfl rfl (show j < 30 by omega) (by decide) dX2_getPlace_22 ?_
    exact x_iret C dX2_getPlace_23 (Nat.le_of_ble_eq_true rfl) (Nat.le_of_ble_eq_true rfl) (rP_of ((if_pos c1).trans (by rw [tj])) R1 T1 (fun _ => rfl))
  · refine x_iconst (v := 1) C dX2_getPlace_6 (by decide) ?_
    refine m_no0 (p := 1) C R (Nat.le_of_ble_eq_true rfl) ⟨Nat.le_of_ble_eq_true rfl, Nat.le_of_ble_eq_true rfl⟩ ⟨Nat.le_of_ble_eq_true rfl, Nat.le_of_ble_eq_true rfl⟩ dX2_getPlace_7 (fun μ1 R1 T1 => ?_)
    refine x_if_eq (tgt := 17) C dX2_getPlace_10 (by decide) (fun h => absurd h (by decide)) (fun _ => ?_)
    refine x_iconst (v := 0) C dX2_getPlace_13 (by decide) ?_
    refine x_goto (tgt := 23) C dX2_getPlace_14 (by decide) ?_
    exact x_iret C dX2_getPlace_23 (Nat.le_of_ble_eq_true rfl) (Nat.le_of_ble_eq_true rfl) (rP_of (if_neg c1) R1 T1 (fun _ => rfl))
set_option maxHeartbeats 4000000 in
theorem k2_getQueued {G : xG} {ad : Nat → Nat} {κ : xKp} {σ μ : xSg} {c t : xK} (hI : xIk κ) (R : xRl κ σ μ) (b : Int32) : xM G yX2_getQueued (ws_ yX2_getQueued cX2_getQueued 2 (some Jvm.ClassFile.FieldType.int)) 8 300 0 0 [.ref (ad (ro 16 0)), .int b] ad (xj c (xkM G.2.2.1 ad μ) t) (rP G ad c t (oQueued κ σ b)) xN := by
  refine xM_of (cc := cX2_getQueued) (by decide) rfl (fun F hF C => ?_)
  subst hF
  have h30 := hI.2.2.2.2.1
  have h14 := hI.2.2.2.2.2
  have T : μ 29 0 0 = μ 29 0 0 := rfl
  show xX F _ _ _ 0 0 0 [(0, .ref (ad (ro 16 0))), (1, .int b)] []
  refine x_aload_n C dX2_getQueued_0 rfl 0 rfl ?_
  refine x_aload_n C dX2_getQueued_1 rfl 0 rfl ?_
  refine x_iload_n C dX2_getQueued_2 rfl 1 rfl ?_
  refine x_callV (rest := [.ref (ad (ro 16 0))]) C (k2_isBox hI R b) cf_X2_100 ⟨rfl, hd_X2_isBox⟩ ⟨Nat.le_of_ble_eq_true rfl, Nat.le_of_ble_eq_true rfl⟩ (xR_o xci4 rfl (xj_m (by decide) (by decide) rfl)) rfl (Nat.le_of_ble_eq_true rfl) ⟨Nat.le_of_ble_eq_true rfl, Nat.le_of_ble_eq_true rfl⟩ dX2_getQueued_3 (xPv_i ?_) xN_e
  refine x_case (fun c1 => ?_) (fun c1 => ?_)
  · obtain ⟨j, hj, rfl⟩ := xIx_nI (by omega) c1
    have tj : (nI j).toNatClampNeg = j := nI_clamp (by omega)
    refine x_iconst (v := 1) C dX2_getQueued_6 (by decide) ?_
    refine m_no1 (p := 1) C R (Nat.le_of_ble_eq_true rfl) ⟨Nat.le_of_ble_eq_true rfl, Nat.le_of_ble_eq_true rfl⟩ ⟨Nat.le_of_ble_eq_true rfl, Nat.le_of_ble_eq_true rfl⟩ dX2_getQueued_7 (fun μ1 R1 T1 => ?_)
    refine x_if_eq (tgt := 17) C dX2_getQueued_10 (by decide) (fun _ => ?_) (fun h => absurd (by decide) h)
    refine x_aload_n C dX2_getQueued_17 rfl 0 rfl ?_
    refine x_get C fl_X2_43 (r := ro 16 0) rfl (xj_m (by decide) (by decide) rfl) (v := .ref (ad (ro 17 12))) rfl dX2_getQueued_18 ?_
    refine x_iload_n C dX2_getQueued_21 rfl 1 rfl ?_
    refine m_ld12 C R1 (j := j) rfl (by omega) dX2_getQueued_22 ?_
    exact x_iret C dX2_getQueued_23 (Nat.le_of_ble_eq_true rfl) (Nat.le_of_ble_eq_true rfl) (rP_of ((if_pos c1).trans (by rw [tj])) R1 T1 (fun _ => rfl))
  · refine x_iconst (v := 1) C dX2_getQueued_6 (by decide) ?_
    refine m_no0 (p := 1) C R (Nat.le_of_ble_eq_true rfl) ⟨Nat.le_of_ble_eq_true rfl, Nat.le_of_ble_eq_true rfl⟩ ⟨Nat.le_of_ble_eq_true rfl, Nat.le_of_ble_eq_true rfl⟩ dX2_getQueued_7 (fun μ1 R1 T1 => ?_)
    refine x_if_eq (tgt := 17) C dX2_getQueued_10 (by decide) (fun h => absurd h (by decide)) (fun _ => ?_)
    refine x_iconst (v := 0) C dX2_getQueued_13 (by decide) ?_
    refine x_goto (tgt := 23) C dX2_getQueued_14 (by decide) ?_
    exact x_iret C dX2_getQueued_23 (Nat.le_of_ble_eq_true rfl) (Nat.le_of_ble_eq_true rfl) (rP_of (if_neg c1) R1 T1 (fun _ => rfl))
set_option maxHeartbeats 4000000 in
theorem k2_isJammed {G : xG} {ad : Nat → Nat} {κ : xKp} {σ μ : xSg} {c t : xK} (hI : xIk κ) (R : xRl κ σ μ) (hb : xIb κ σ) (b : Int32) : xM G yX2_isJammed (ws_ yX2_isJammed cX2_isJammed 2 (some Jvm.ClassFile.FieldType.boolean)) 8 300 0 0 [.ref (ad (ro 16 0)), .int b] ad (xj c (xkM G.2.2.1 ad μ) t) (rP G ad c t (oGb κ σ 14 b)) xN := by
  refine xM_of (cc := cX2_isJammed) (by decide) rfl (fun F hF C => ?_)
  subst hF
  have h30 := hI.2.2.2.2.1
  have h14 := hI.2.2.2.2.2
  have T : μ 29 0 0 = μ 29 0 0 := rfl
  show xX F _ _ _ 0 0 0 [(0, .ref (ad (ro 16 0))), (1, .int b)] []
  refine x_aload_n C dX2_isJammed_0 rfl 0 rfl ?_
  refine x_aload_n C dX2_isJammed_1 rfl 0 rfl ?_
  refine x_iload_n C dX2_isJammed_2 rfl 1 rfl ?_
  refine x_callV (rest := [.ref (ad (ro 16 0))]) C (k2_isBox hI R b) cf_X2_100 ⟨rfl, hd_X2_isBox⟩ ⟨Nat.le_of_ble_eq_true rfl, Nat.le_of_ble_eq_true rfl⟩ (xR_o xci4 rfl (xj_m (by decide) (by decide) rfl)) rfl (Nat.le_of_ble_eq_true rfl) ⟨Nat.le_of_ble_eq_true rfl, Nat.le_of_ble_eq_true rfl⟩ dX2_isJammed_3 (xPv_i ?_) xN_e
  refine x_case (fun c1 => ?_) (fun c1 => ?_)
  · obtain ⟨j, hj, rfl⟩ := xIx_nI (by omega) c1
    have tj : (nI j).toNatClampNeg = j := nI_clamp (by omega)
    refine x_iconst (v := 1) C dX2_isJammed_6 (by decide) ?_
    refine m_no1 (p := 1) C R (Nat.le_of_ble_eq_true rfl) ⟨Nat.le_of_ble_eq_true rfl, Nat.le_of_ble_eq_true rfl⟩ ⟨Nat.le_of_ble_eq_true rfl, Nat.le_of_ble_eq_true rfl⟩ dX2_isJammed_7 (fun μ1 R1 T1 => ?_)
    refine x_if_ne (tgt := 26) C dX2_isJammed_10 (by decide) (fun h => absurd rfl h) (fun _ => ?_)
    refine x_aload_n C dX2_isJammed_13 rfl 0 rfl ?_
    refine x_get C fl_X2_58 (r := ro 16 0) rfl (xj_m (by decide) (by decide) rfl) (v := .ref (ad (ro 17 17))) rfl dX2_isJammed_14 ?_
    refine x_iload_n C dX2_isJammed_17 rfl 1 rfl ?_
    refine m_zld C R1 (f := 17) (f' := 14) (i := j) (by decide) rfl rfl rfl (show j < 4 by omega) (by decide) dX2_isJammed_18 ?_
    refine x_if_eq (tgt := 26) C dX2_isJammed_19 (by decide) (fun c2 => ?_) (fun c2 => ?_)
    · refine x_iconst (v := 0) C dX2_isJammed_26 (by decide) ?_
      exact x_zret C rfl dX2_isJammed_27 (Nat.le_of_ble_eq_true rfl) (Nat.le_of_ble_eq_true rfl) (rP_of ((if_pos c1).trans (by rw [tj])) R1 T1 (fun _ => c2.symm))
    · refine x_iconst (v := 1) C dX2_isJammed_22 (by decide) ?_
      refine x_goto (tgt := 27) C dX2_isJammed_23 (by decide) ?_
      exact x_zret C rfl dX2_isJammed_27 (Nat.le_of_ble_eq_true rfl) (Nat.le_of_ble_eq_true rfl) (rP_of ((if_pos c1).trans (by rw [tj])) R1 T1 (fun _ => (((hb j hj).1).resolve_left c2).symm))
  · refine x_iconst (v := 1) C dX2_isJammed_6 (by decide) ?_
    refine m_no0 (p := 1) C R (Nat.le_of_ble_eq_true rfl) ⟨Nat.le_of_ble_eq_true rfl, Nat.le_of_ble_eq_true rfl⟩ ⟨Nat.le_of_ble_eq_true rfl, Nat.le_of_ble_eq_true rfl⟩ dX2_isJammed_7 (fun μ1 R1 T1 => ?_)
    refine x_if_ne (tgt := 26) C dX2_isJammed_10 (by decide) (fun _ => ?_) (fun h => absurd h (by decide))
    refine x_iconst (v := 0) C dX2_isJammed_26 (by decide) ?_
    exact x_zret C rfl dX2_isJammed_27 (Nat.le_of_ble_eq_true rfl) (Nat.le_of_ble_eq_true rfl) (rP_of (if_neg c1) R1 T1 (fun _ => rfl))
theorem nI_at100 {j s : Nat} : 100 * nI j + nI s = nI (100 * j + s) := by
  rw [show (100 : Int32) = nI 100 from rfl, pk_mul, nI_add]
set_option maxHeartbeats 4000000 in
theorem k2_getWheel {G : xG} {ad : Nat → Nat} {κ : xKp} {σ μ : xSg} {c t : xK} (hI : xIk κ) (R : xRl κ σ μ) (b sl : Int32) : xM G yX2_getWheel (ws_ yX2_getWheel cX2_getWheel 3 (some Jvm.ClassFile.FieldType.int)) 8 300 0 0 [.ref (ad (ro 16 0)), .int b, .int sl] ad (xj c (xkM G.2.2.1 ad μ) t) (rP G ad c t (oWheel κ σ b sl)) xN := by
  refine xM_of (cc := cX2_getWheel) (by decide) rfl (fun F hF C => ?_)
  subst hF
  have h30 := hI.2.2.2.2.1
  have h14 := hI.2.2.2.2.2
  have T : μ 29 0 0 = μ 29 0 0 := rfl
  show xX F _ _ _ 0 0 0 [(0, .ref (ad (ro 16 0))), (1, .int b), (2, .int sl)] []
  refine x_aload_n C dX2_getWheel_0 rfl 0 rfl ?_
  refine x_aload_n C dX2_getWheel_1 rfl 0 rfl ?_
  refine x_iload_n C dX2_getWheel_2 rfl 1 rfl ?_
  refine x_iload_n C dX2_getWheel_3 rfl 2 rfl ?_
  refine x_callV (rest := [.ref (ad (ro 16 0))]) C (k2_isSlot hI R b sl) cf_X2_116 ⟨rfl, hd_X2_isSlot⟩ ⟨Nat.le_of_ble_eq_true rfl, Nat.le_of_ble_eq_true rfl⟩ (xR_o xci4 rfl (xj_m (by decide) (by decide) rfl)) rfl (Nat.le_of_ble_eq_true rfl) ⟨Nat.le_of_ble_eq_true rfl, Nat.le_of_ble_eq_true rfl⟩ dX2_getWheel_4 (xPv_i ?_) xN_e
  refine x_case (fun c1 => ?_) (fun c1 => ?_)
  · obtain ⟨c1b, c1s⟩ := id c1
    obtain ⟨j, hj, rfl⟩ := xIx_nI (by omega) c1b
    have tj : (nI j).toNatClampNeg = j := nI_clamp (by omega)
    obtain ⟨s, hs, rfl⟩ := xIx_nI (by omega) c1s
    have ts : (nI s).toNatClampNeg = s := nI_clamp (by omega)
    refine x_iconst (v := 1) C dX2_getWheel_7 (by decide) ?_
    refine m_no1 (p := 1) C R (Nat.le_of_ble_eq_true rfl) ⟨Nat.le_of_ble_eq_true rfl, Nat.le_of_ble_eq_true rfl⟩ ⟨Nat.le_of_ble_eq_true rfl, Nat.le_of_ble_eq_true rfl⟩ dX2_getWheel_8 (fun μ1 R1 T1 => ?_)
    refine x_if_eq (tgt := 18) C dX2_getWheel_11 (by decide) (fun _ => ?_) (fun h => absurd (by decide) h)
    refine x_aload_n C dX2_getWheel_18 rfl 0 rfl ?_
    refine x_get C fl_X2_68 (r := ro 16 0) rfl (xj_m (by decide) (by decide) rfl) (v := .ref (ad (ro 17 21))) rfl dX2_getWheel_19 ?_
    refine x_bipush (v := 10) C dX2_getWheel_22 (by decide) ?_
    refine x_iload_n C dX2_getWheel_24 rfl 1 rfl ?_
    refine x_imul C dX2_getWheel_25 ?_
    refine x_iload_n C dX2_getWheel_26 rfl 2 rfl ?_
    refine x_iadd C dX2_getWheel_27 ?_
    refine x_top (y := nI (10 * j + s)) (nI_at) ?_
    refine m_ld21 C R1 (j := j) (s := s) rfl (by omega) (by omega) dX2_getWheel_28 ?_
    exact x_iret C dX2_getWheel_29 (Nat.le_of_ble_eq_true rfl) (Nat.le_of_ble_eq_true rfl) (rP_of ((if_pos c1).trans (by rw [tj, ts])) R1 T1 (fun _ => rfl))
  · refine x_iconst (v := 1) C dX2_getWheel_7 (by decide) ?_
    refine m_no0 (p := 1) C R (Nat.le_of_ble_eq_true rfl) ⟨Nat.le_of_ble_eq_true rfl, Nat.le_of_ble_eq_true rfl⟩ ⟨Nat.le_of_ble_eq_true rfl, Nat.le_of_ble_eq_true rfl⟩ dX2_getWheel_8 (fun μ1 R1 T1 => ?_)
    refine x_if_eq (tgt := 18) C dX2_getWheel_11 (by decide) (fun h => absurd h (by decide)) (fun _ => ?_)
    refine x_iconst (v := 0) C dX2_getWheel_14 (by decide) ?_
    refine x_goto (tgt := 29) C dX2_getWheel_15 (by decide) ?_
    exact x_iret C dX2_getWheel_29 (Nat.le_of_ble_eq_true rfl) (Nat.le_of_ble_eq_true rfl) (rP_of (if_neg c1) R1 T1 (fun _ => rfl))
set_option maxHeartbeats 4000000 in
theorem k2_discAt {G : xG} {ad : Nat → Nat} {κ : xKp} {σ μ : xSg} {c t : xK} (hI : xIk κ) (R : xRl κ σ μ) (hS : xIs κ σ) (b sl : Int32) : xM G yX2_discAt (ws_ yX2_discAt cX2_discAt 3 (some Jvm.ClassFile.FieldType.int)) 8 300 0 0 [.ref (ad (ro 16 0)), .int b, .int sl] ad (xj c (xkM G.2.2.1 ad μ) t) (rP G ad c t (oDiscAt κ σ b sl)) xN := by
  refine xM_of (cc := cX2_discAt) (by decide) rfl (fun F hF C => ?_)
  subst hF
  have h30 := hI.2.2.2.2.1
  have h14 := hI.2.2.2.2.2
  have T : μ 29 0 0 = μ 29 0 0 := rfl
  show xX F _ _ _ 0 0 0 [(0, .ref (ad (ro 16 0))), (1, .int b), (2, .int sl)] []
  refine x_aload_n C dX2_discAt_0 rfl 0 rfl ?_
  refine x_aload_n C dX2_discAt_1 rfl 0 rfl ?_
  refine x_iload_n C dX2_discAt_2 rfl 1 rfl ?_
  refine x_iload_n C dX2_discAt_3 rfl 2 rfl ?_
  refine x_callV (rest := [.ref (ad (ro 16 0))]) C (k2_isSlot hI R b sl) cf_X2_116 ⟨rfl, hd_X2_isSlot⟩ ⟨Nat.le_of_ble_eq_true rfl, Nat.le_of_ble_eq_true rfl⟩ (xR_o xci4 rfl (xj_m (by decide) (by decide) rfl)) rfl (Nat.le_of_ble_eq_true rfl) ⟨Nat.le_of_ble_eq_true rfl, Nat.le_of_ble_eq_true rfl⟩ dX2_discAt_4 (xPv_i ?_) xN_e
  refine x_case (fun c1 => ?_) (fun c1 => ?_)
  · obtain ⟨c1b, c1s⟩ := id c1
    obtain ⟨j, hj, rfl⟩ := xIx_nI (by omega) c1b
    have tj : (nI j).toNatClampNeg = j := nI_clamp (by omega)
    obtain ⟨s, hs, rfl⟩ := xIx_nI (by omega) c1s
    have ts : (nI s).toNatClampNeg = s := nI_clamp (by omega)
    have hsl := nI_sl hS h30 hj hs
    refine x_iconst (v := 1) C dX2_discAt_7 (by decide) ?_
    refine m_no1 (p := 1) C R (Nat.le_of_ble_eq_true rfl) ⟨Nat.le_of_ble_eq_true rfl, Nat.le_of_ble_eq_true rfl⟩ ⟨Nat.le_of_ble_eq_true rfl, Nat.le_of_ble_eq_true rfl⟩ dX2_discAt_8 (fun μ1 R1 T1 => ?_)
    refine x_if_ne (tgt := 41) C dX2_discAt_11 (by decide) (fun h => absurd rfl h) (fun _ => ?_)
    refine x_aload_n C dX2_discAt_14 rfl 0 rfl ?_
    refine x_aload_n C dX2_discAt_15 rfl 0 rfl ?_
    refine x_get C fl_X2_65 (r := ro 16 0) rfl (xj_m (by decide) (by decide) rfl) (v := .ref (ad (ro 17 20))) rfl dX2_discAt_16 ?_
    refine x_bipush (v := 10) C dX2_discAt_19 (by decide) ?_
    refine x_iload_n C dX2_discAt_21 rfl 1 rfl ?_
    refine x_imul C dX2_discAt_22 ?_
    refine x_iload_n C dX2_discAt_23 rfl 2 rfl ?_
    refine x_iadd C dX2_discAt_24 ?_
    refine x_top (y := nI (10 * j + s)) (nI_at) ?_
    refine m_ld20 C R1 (j := j) (s := s) rfl (by omega) (by omega) dX2_discAt_25 ?_
    refine x_if_le (tgt := 33) C dX2_discAt_26 (by decide) (fun c2 => ?_) (fun c2 => ?_)
    · refine x_iconst (v := 0) C dX2_discAt_33 (by decide) ?_
      refine x_iconst (v := 2) C dX2_discAt_34 (by decide) ?_
      refine m_no0 (p := 2) C R1 (Nat.le_of_ble_eq_true rfl) ⟨Nat.le_of_ble_eq_true rfl, Nat.le_of_ble_eq_true rfl⟩ ⟨Nat.le_of_ble_eq_true rfl, Nat.le_of_ble_eq_true rfl⟩ dX2_discAt_35 (fun μ2 R2 T2 => ?_)
      refine x_if_eq (tgt := 43) C dX2_discAt_38 (by decide) (fun h => absurd h (by decide)) (fun _ => ?_)
      refine x_iconst (v := 0) C dX2_discAt_41 (by decide) ?_
      exact x_iret C dX2_discAt_42 (Nat.le_of_ble_eq_true rfl) (Nat.le_of_ble_eq_true rfl) (rP_of (by unfold oDiscAt; rw [if_pos c1, tj, ts]; exact if_neg (fun z => z (hsl.mp c2))) R2 T2 (fun _ => rfl))
    · refine x_iconst (v := 1) C dX2_discAt_29 (by decide) ?_
      refine x_goto (tgt := 34) C dX2_discAt_30 (by decide) ?_
      refine x_iconst (v := 2) C dX2_discAt_34 (by decide) ?_
      refine m_no1 (p := 2) C R1 (Nat.le_of_ble_eq_true rfl) ⟨Nat.le_of_ble_eq_true rfl, Nat.le_of_ble_eq_true rfl⟩ ⟨Nat.le_of_ble_eq_true rfl, Nat.le_of_ble_eq_true rfl⟩ dX2_discAt_35 (fun μ2 R2 T2 => ?_)
      refine x_if_eq (tgt := 43) C dX2_discAt_38 (by decide) (fun _ => ?_) (fun h => absurd (by decide) h)
      refine x_aload_n C dX2_discAt_43 rfl 0 rfl ?_
      refine x_get C fl_X2_65 (r := ro 16 0) rfl (xj_m (by decide) (by decide) rfl) (v := .ref (ad (ro 17 20))) rfl dX2_discAt_44 ?_
      refine x_bipush (v := 10) C dX2_discAt_47 (by decide) ?_
      refine x_iload_n C dX2_discAt_49 rfl 1 rfl ?_
      refine x_imul C dX2_discAt_50 ?_
      refine x_iload_n C dX2_discAt_51 rfl 2 rfl ?_
      refine x_iadd C dX2_discAt_52 ?_
      refine x_top (y := nI (10 * j + s)) (nI_at) ?_
      refine m_ld20 C R2 (j := j) (s := s) rfl (by omega) (by omega) dX2_discAt_53 ?_
      refine x_iconst (v := 1) C dX2_discAt_54 (by decide) ?_
      refine x_isub C dX2_discAt_55 ?_
      refine x_top (y := σ 17 j s) (i_asc) ?_
      exact x_iret C dX2_discAt_56 (Nat.le_of_ble_eq_true rfl) (Nat.le_of_ble_eq_true rfl) (rP_of (by unfold oDiscAt; rw [if_pos c1, tj, ts]; exact if_pos (fun z => c2 (hsl.mpr z))) R2 T2 (fun _ => rfl))
  · refine x_iconst (v := 1) C dX2_discAt_7 (by decide) ?_
    refine m_no0 (p := 1) C R (Nat.le_of_ble_eq_true rfl) ⟨Nat.le_of_ble_eq_true rfl, Nat.le_of_ble_eq_true rfl⟩ ⟨Nat.le_of_ble_eq_true rfl, Nat.le_of_ble_eq_true rfl⟩ dX2_discAt_8 (fun μ1 R1 T1 => ?_)
    refine x_if_ne (tgt := 41) C dX2_discAt_11 (by decide) (fun _ => ?_) (fun h => absurd h (by decide))
    refine x_iconst (v := 0) C dX2_discAt_41 (by decide) ?_
    exact x_iret C dX2_discAt_42 (Nat.le_of_ble_eq_true rfl) (Nat.le_of_ble_eq_true rfl) (rP_of (if_neg c1) R1 T1 (fun _ => rfl))
set_option maxHeartbeats 4000000 in
theorem k2_setRisk {G : xG} {ad : Nat → Nat} {κ : xKp} {σ μ : xSg} {c t : xK} (hI : xIk κ) (R : xRl κ σ μ) (b ri : Int32) : xM G yX2_setRisk (ws_ yX2_setRisk cX2_setRisk 4 (some Jvm.ClassFile.FieldType.int)) 8 300 0 0 [.ref (ad (ro 16 0)), .int b, .int ri] ad (xj c (xkM G.2.2.1 ad μ) t) (rP G ad c t (oSetRisk κ σ b ri)) xN := by
  refine xM_of (cc := cX2_setRisk) (by decide) rfl (fun F hF C => ?_)
  subst hF
  have h30 := hI.2.2.2.2.1
  have h14 := hI.2.2.2.2.2
  have T : μ 29 0 0 = μ 29 0 0 := rfl
  show xX F _ _ _ 0 0 0 [(0, .ref (ad (ro 16 0))), (1, .int b), (2, .int ri)] []
  refine x_aload_n C dX2_setRisk_0 rfl 0 rfl ?_
  refine x_aload_n C dX2_setRisk_1 rfl 0 rfl ?_
  refine x_iload_n C dX2_setRisk_2 rfl 1 rfl ?_
  refine x_callV (rest := [.ref (ad (ro 16 0))]) C (k2_isBox hI R b) cf_X2_100 ⟨rfl, hd_X2_isBox⟩ ⟨Nat.le_of_ble_eq_true rfl, Nat.le_of_ble_eq_true rfl⟩ (xR_o xci4 rfl (xj_m (by decide) (by decide) rfl)) rfl (Nat.le_of_ble_eq_true rfl) ⟨Nat.le_of_ble_eq_true rfl, Nat.le_of_ble_eq_true rfl⟩ dX2_setRisk_3 (xPv_i ?_) xN_e
  refine x_case (fun c1 => ?_) (fun c1 => ?_)
  · obtain ⟨j, hj, rfl⟩ := xIx_nI (by omega) c1
    have tj : (nI j).toNatClampNeg = j := nI_clamp (by omega)
    refine x_iconst (v := 1) C dX2_setRisk_6 (by decide) ?_
    refine m_no1 (p := 1) C R (Nat.le_of_ble_eq_true rfl) ⟨Nat.le_of_ble_eq_true rfl, Nat.le_of_ble_eq_true rfl⟩ ⟨Nat.le_of_ble_eq_true rfl, Nat.le_of_ble_eq_true rfl⟩ dX2_setRisk_7 (fun μ1 R1 T1 => ?_)
    refine x_if_ne (tgt := 28) C dX2_setRisk_10 (by decide) (fun h => absurd rfl h) (fun _ => ?_)
    refine x_aload_n C dX2_setRisk_13 rfl 0 rfl ?_
    refine x_iload_n C dX2_setRisk_14 rfl 2 rfl ?_
    refine x_iconst (v := 0) C dX2_setRisk_15 (by decide) ?_
    refine x_bipush (v := 20) C dX2_setRisk_16 (by decide) ?_
    refine x_callS (rest := [.ref (ad (ro 16 0))]) C (k2_isIn ri 0 20) cf_X2_93 hd_X2_isIn ⟨Nat.le_of_ble_eq_true rfl, Nat.le_of_ble_eq_true rfl⟩ rfl (Nat.le_of_ble_eq_true rfl) ⟨Nat.le_of_ble_eq_true rfl, Nat.le_of_ble_eq_true rfl⟩ dX2_setRisk_18 (xPv_i ?_) xN_e
    refine x_case (fun c2 => ?_) (fun c2 => ?_)
    · refine x_iconst (v := 2) C dX2_setRisk_21 (by decide) ?_
      refine m_no1 (p := 2) C R1 (Nat.le_of_ble_eq_true rfl) ⟨Nat.le_of_ble_eq_true rfl, Nat.le_of_ble_eq_true rfl⟩ ⟨Nat.le_of_ble_eq_true rfl, Nat.le_of_ble_eq_true rfl⟩ dX2_setRisk_22 (fun μ2 R2 T2 => ?_)
      refine x_if_eq (tgt := 30) C dX2_setRisk_25 (by decide) (fun _ => ?_) (fun h => absurd (by decide) h)
      refine x_aload_n C dX2_setRisk_30 rfl 0 rfl ?_
      refine x_get C fl_X2_31 (r := ro 16 0) rfl (xj_m (by decide) (by decide) rfl) (v := .ref (ad (ro 17 8))) rfl dX2_setRisk_31 ?_
      refine x_iload_n C dX2_setRisk_34 rfl 1 rfl ?_
      refine m_ld C R2 (f := 8) (f' := 7) (i := j) (by decide) rfl rfl rfl (show j < 4 by omega) (by decide) dX2_setRisk_35 ?_
      refine x_istore_n (lv' := [(3, .int (σ 7 j 0)), (0, .ref (ad (ro 16 0))), (1, .int (nI j)), (2, .int ri)]) C dX2_setRisk_36 rfl (by decide) rfl ?_
      refine x_aload_n C dX2_setRisk_37 rfl 1 rfl ?_
      refine x_get C fl_X2_31 (r := ro 16 0) rfl (xj_m (by decide) (by decide) rfl) (v := .ref (ad (ro 17 8))) rfl dX2_setRisk_38 ?_
      refine x_iload_n C dX2_setRisk_41 rfl 2 rfl ?_
      refine x_iload_n C dX2_setRisk_42 rfl 3 rfl ?_
      refine m_st C R2 T2 (f := 8) (f' := 7) (i := j) (by decide) rfl rfl rfl (show j < 4 by omega) (by decide) dX2_setRisk_43 (fun μ3 R3 T3 => ?_)
      refine x_iload_n C dX2_setRisk_44 rfl 0 rfl ?_
      exact x_iret C dX2_setRisk_45 (Nat.le_of_ble_eq_true rfl) (Nat.le_of_ble_eq_true rfl) (rP_of (by unfold oSetRisk; rw [if_pos c1, tj]; exact if_pos c2) R3 T3 (fun _ => rfl))
    · refine x_iconst (v := 2) C dX2_setRisk_21 (by decide) ?_
      refine m_no0 (p := 2) C R1 (Nat.le_of_ble_eq_true rfl) ⟨Nat.le_of_ble_eq_true rfl, Nat.le_of_ble_eq_true rfl⟩ ⟨Nat.le_of_ble_eq_true rfl, Nat.le_of_ble_eq_true rfl⟩ dX2_setRisk_22 (fun μ2 R2 T2 => ?_)
      refine x_if_eq (tgt := 30) C dX2_setRisk_25 (by decide) (fun h => absurd h (by decide)) (fun _ => ?_)
      refine x_iconst (v := 0) C dX2_setRisk_28 (by decide) ?_
      exact x_iret C dX2_setRisk_29 (Nat.le_of_ble_eq_true rfl) (Nat.le_of_ble_eq_true rfl) (rP_of ((if_pos c1).trans (if_neg c2)) R2 T2 (fun _ => rfl))
  · refine x_iconst (v := 1) C dX2_setRisk_6 (by decide) ?_
    refine m_no0 (p := 1) C R (Nat.le_of_ble_eq_true rfl) ⟨Nat.le_of_ble_eq_true rfl, Nat.le_of_ble_eq_true rfl⟩ ⟨Nat.le_of_ble_eq_true rfl, Nat.le_of_ble_eq_true rfl⟩ dX2_setRisk_7 (fun μ1 R1 T1 => ?_)
    refine x_if_ne (tgt := 28) C dX2_setRisk_10 (by decide) (fun _ => ?_) (fun h => absurd h (by decide))
    refine x_iconst (v := 0) C dX2_setRisk_28 (by decide) ?_
    exact x_iret C dX2_setRisk_29 (Nat.le_of_ble_eq_true rfl) (Nat.le_of_ble_eq_true rfl) (rP_of (if_neg c1) R1 T1 (fun _ => rfl))
set_option maxHeartbeats 4000000 in
theorem k2_setSeed {G : xG} {ad : Nat → Nat} {κ : xKp} {σ μ : xSg} {c t : xK} (hI : xIk κ) (R : xRl κ σ μ) (z : Int32) : xM G yX2_setSeed (ws_ yX2_setSeed cX2_setSeed 3 (some Jvm.ClassFile.FieldType.int)) 8 300 0 0 [.ref (ad (ro 16 0)), .int z] ad (xj c (xkM G.2.2.1 ad μ) t) (rP G ad c t (oSetSeed κ σ z)) xN := by
  refine xM_of (cc := cX2_setSeed) (by decide) rfl (fun F hF C => ?_)
  subst hF
  have h30 := hI.2.2.2.2.1
  have h14 := hI.2.2.2.2.2
  have T : μ 29 0 0 = μ 29 0 0 := rfl
  show xX F _ _ _ 0 0 0 [(0, .ref (ad (ro 16 0))), (1, .int z)] []
  refine x_aload_n C dX2_setSeed_0 rfl 0 rfl ?_
  refine x_iload_n C dX2_setSeed_1 rfl 1 rfl ?_
  refine x_iconst (v := 1) C dX2_setSeed_2 (by decide) ?_
  refine x_ldc (v := 2147483646) C q1095 dX2_setSeed_3 ?_
  refine x_callS (rest := [.ref (ad (ro 16 0))]) C (k2_isIn z 1 2147483646) cf_X2_93 hd_X2_isIn ⟨Nat.le_of_ble_eq_true rfl, Nat.le_of_ble_eq_true rfl⟩ rfl (Nat.le_of_ble_eq_true rfl) ⟨Nat.le_of_ble_eq_true rfl, Nat.le_of_ble_eq_true rfl⟩ dX2_setSeed_5 (xPv_i ?_) xN_e
  refine x_case (fun c1 => ?_) (fun c1 => ?_)
  · refine x_iconst (v := 1) C dX2_setSeed_8 (by decide) ?_
    refine m_no1 (p := 1) C R (Nat.le_of_ble_eq_true rfl) ⟨Nat.le_of_ble_eq_true rfl, Nat.le_of_ble_eq_true rfl⟩ ⟨Nat.le_of_ble_eq_true rfl, Nat.le_of_ble_eq_true rfl⟩ dX2_setSeed_9 (fun μ1 R1 T1 => ?_)
    refine x_if_eq (tgt := 17) C dX2_setSeed_12 (by decide) (fun _ => ?_) (fun h => absurd (by decide) h)
    refine x_aload_n C dX2_setSeed_17 rfl 0 rfl ?_
    refine x_get C fl_X2_80 (r := ro 16 0) rfl (xj_m (by decide) (by decide) rfl) (v := .int (μ1 25 0 0)) rfl dX2_setSeed_18 ?_
    refine x_top (y := σ 24 0 0) (R1.1 (25, 24) (by decide) 0) ?_
    refine x_istore_n (lv' := [(2, .int (σ 24 0 0)), (0, .ref (ad (ro 16 0))), (1, .int z)]) C dX2_setSeed_21 rfl (by decide) rfl ?_
    refine x_aload_n C dX2_setSeed_22 rfl 1 rfl ?_
    refine x_iload_n C dX2_setSeed_23 rfl 2 rfl ?_
    refine x_put C fl_X2_80 (r := ro 16 0) rfl (xj_m (by decide) (by decide) rfl) rfl rfl (Nat.le_of_ble_eq_true rfl) dX2_setSeed_24 ?_
    refine m_put (f := 25) (f' := 24) (by decide) (by decide) pm_25 R1 T1 (fun μ2 R2 T2 => ?_)
    refine x_iload_n C dX2_setSeed_27 rfl 0 rfl ?_
    exact x_iret C dX2_setSeed_28 (Nat.le_of_ble_eq_true rfl) (Nat.le_of_ble_eq_true rfl) (rP_of (if_pos c1) R2 T2 (fun _ => rfl))
  · refine x_iconst (v := 1) C dX2_setSeed_8 (by decide) ?_
    refine m_no0 (p := 1) C R (Nat.le_of_ble_eq_true rfl) ⟨Nat.le_of_ble_eq_true rfl, Nat.le_of_ble_eq_true rfl⟩ ⟨Nat.le_of_ble_eq_true rfl, Nat.le_of_ble_eq_true rfl⟩ dX2_setSeed_9 (fun μ1 R1 T1 => ?_)
    refine x_if_eq (tgt := 17) C dX2_setSeed_12 (by decide) (fun h => absurd h (by decide)) (fun _ => ?_)
    refine x_iconst (v := 0) C dX2_setSeed_15 (by decide) ?_
    exact x_iret C dX2_setSeed_16 (Nat.le_of_ble_eq_true rfl) (Nat.le_of_ble_eq_true rfl) (rP_of (if_neg c1) R1 T1 (fun _ => rfl))
set_option maxHeartbeats 4000000 in
theorem k2_visit {G : xG} {ad : Nat → Nat} {κ : xKp} {σ μ : xSg} {c t : xK} (hI : xIk κ) (R : xRl κ σ μ) (b : Int32) : xM G yX2_visit (ws_ yX2_visit cX2_visit 4 (some Jvm.ClassFile.FieldType.int)) 8 300 0 0 [.ref (ad (ro 16 0)), .int b] ad (xj c (xkM G.2.2.1 ad μ) t) (rP G ad c t (oVisit κ σ b)) xN := by
  refine xM_of (cc := cX2_visit) (by decide) rfl (fun F hF C => ?_)
  subst hF
  have h30 := hI.2.2.2.2.1
  have h14 := hI.2.2.2.2.2
  have T : μ 29 0 0 = μ 29 0 0 := rfl
  show xX F _ _ _ 0 0 0 [(0, .ref (ad (ro 16 0))), (1, .int b)] []
  refine x_aload_n C dX2_visit_0 rfl 0 rfl ?_
  refine x_aload_n C dX2_visit_1 rfl 0 rfl ?_
  refine x_iload_n C dX2_visit_2 rfl 1 rfl ?_
  refine x_callV (rest := [.ref (ad (ro 16 0))]) C (k2_isBox hI R b) cf_X2_100 ⟨rfl, hd_X2_isBox⟩ ⟨Nat.le_of_ble_eq_true rfl, Nat.le_of_ble_eq_true rfl⟩ (xR_o xci4 rfl (xj_m (by decide) (by decide) rfl)) rfl (Nat.le_of_ble_eq_true rfl) ⟨Nat.le_of_ble_eq_true rfl, Nat.le_of_ble_eq_true rfl⟩ dX2_visit_3 (xPv_i ?_) xN_e
  refine x_case (fun c1 => ?_) (fun c1 => ?_)
  · obtain ⟨j, hj, rfl⟩ := xIx_nI (by omega) c1
    have tj : (nI j).toNatClampNeg = j := nI_clamp (by omega)
    refine x_iconst (v := 1) C dX2_visit_6 (by decide) ?_
    refine m_no1 (p := 1) C R (Nat.le_of_ble_eq_true rfl) ⟨Nat.le_of_ble_eq_true rfl, Nat.le_of_ble_eq_true rfl⟩ ⟨Nat.le_of_ble_eq_true rfl, Nat.le_of_ble_eq_true rfl⟩ dX2_visit_7 (fun μ1 R1 T1 => ?_)
    refine x_if_ne (tgt := 44) C dX2_visit_10 (by decide) (fun h => absurd rfl h) (fun _ => ?_)
    refine x_aload_n C dX2_visit_13 rfl 0 rfl ?_
    refine x_aload_n C dX2_visit_14 rfl 0 rfl ?_
    refine x_get C fl_X2_62 (r := ro 16 0) rfl (xj_m (by decide) (by decide) rfl) (v := .ref (ad (ro 17 18))) rfl dX2_visit_15 ?_
    refine x_iload_n C dX2_visit_18 rfl 1 rfl ?_
    refine m_zld C R1 (f := 18) (f' := 15) (i := j) (by decide) rfl rfl rfl (show j < 4 by omega) (by decide) dX2_visit_19 ?_
    refine x_if_ne (tgt := 36) C dX2_visit_20 (by decide) (fun c2 => ?_) (fun c2 => ?_)
    · refine x_iconst (v := 0) C dX2_visit_36 (by decide) ?_
      refine x_iconst (v := 2) C dX2_visit_37 (by decide) ?_
      refine m_no0 (p := 2) C R1 (Nat.le_of_ble_eq_true rfl) ⟨Nat.le_of_ble_eq_true rfl, Nat.le_of_ble_eq_true rfl⟩ ⟨Nat.le_of_ble_eq_true rfl, Nat.le_of_ble_eq_true rfl⟩ dX2_visit_38 (fun μ2 R2 T2 => ?_)
      refine x_if_eq (tgt := 46) C dX2_visit_41 (by decide) (fun h => absurd h (by decide)) (fun _ => ?_)
      refine x_iconst (v := 0) C dX2_visit_44 (by decide) ?_
      exact x_iret C dX2_visit_45 (Nat.le_of_ble_eq_true rfl) (Nat.le_of_ble_eq_true rfl) (rP_of (by unfold oVisit; rw [if_pos c1, tj]; exact if_neg (fun z => c2 z.1)) R2 T2 (fun _ => rfl))
    · refine x_aload_n C dX2_visit_23 rfl 0 rfl ?_
      refine x_get C fl_X2_84 (r := ro 16 0) rfl (xj_m (by decide) (by decide) rfl) (v := .int (μ1 27 0 0)) rfl dX2_visit_24 ?_
      refine x_top (y := σ 22 0 0) (R1.1 (27, 22) (by decide) 0) ?_
      refine x_bipush (v := 40) C dX2_visit_27 (by decide) ?_
      refine x_icmp_lt (tgt := 36) C dX2_visit_29 (by decide) (fun c3 => ?_) (fun c3 => ?_)
      · refine x_iconst (v := 0) C dX2_visit_36 (by decide) ?_
        refine x_iconst (v := 2) C dX2_visit_37 (by decide) ?_
        refine m_no0 (p := 2) C R1 (Nat.le_of_ble_eq_true rfl) ⟨Nat.le_of_ble_eq_true rfl, Nat.le_of_ble_eq_true rfl⟩ ⟨Nat.le_of_ble_eq_true rfl, Nat.le_of_ble_eq_true rfl⟩ dX2_visit_38 (fun μ2 R2 T2 => ?_)
        refine x_if_eq (tgt := 46) C dX2_visit_41 (by decide) (fun h => absurd h (by decide)) (fun _ => ?_)
        refine x_iconst (v := 0) C dX2_visit_44 (by decide) ?_
        exact x_iret C dX2_visit_45 (Nat.le_of_ble_eq_true rfl) (Nat.le_of_ble_eq_true rfl) (rP_of (by unfold oVisit; rw [if_pos c1, tj]; exact if_neg (fun z => z.2 c3)) R2 T2 (fun _ => rfl))
      · refine x_iconst (v := 1) C dX2_visit_32 (by decide) ?_
        refine x_goto (tgt := 37) C dX2_visit_33 (by decide) ?_
        refine x_iconst (v := 2) C dX2_visit_37 (by decide) ?_
        refine m_no1 (p := 2) C R1 (Nat.le_of_ble_eq_true rfl) ⟨Nat.le_of_ble_eq_true rfl, Nat.le_of_ble_eq_true rfl⟩ ⟨Nat.le_of_ble_eq_true rfl, Nat.le_of_ble_eq_true rfl⟩ dX2_visit_38 (fun μ2 R2 T2 => ?_)
        refine x_if_eq (tgt := 46) C dX2_visit_41 (by decide) (fun _ => ?_) (fun h => absurd (by decide) h)
        refine x_aload_n C dX2_visit_46 rfl 0 rfl ?_
        refine x_dup C dX2_visit_47 rfl ?_
        refine x_get C fl_X2_84 (r := ro 16 0) rfl (xj_m (by decide) (by decide) rfl) (v := .int (μ2 27 0 0)) rfl dX2_visit_48 ?_
        refine x_top (y := σ 22 0 0) (R2.1 (27, 22) (by decide) 0) ?_
        refine x_bipush (v := 40) C dX2_visit_51 (by decide) ?_
        refine x_isub C dX2_visit_53 ?_
        refine x_put C fl_X2_84 (r := ro 16 0) rfl (xj_m (by decide) (by decide) rfl) rfl rfl (Nat.le_of_ble_eq_true rfl) dX2_visit_54 ?_
        refine m_put (f := 27) (f' := 22) (by decide) (by decide) pm_27 R2 T2 (fun μ3 R3 T3 => ?_)
        refine x_aload_n C dX2_visit_57 rfl 0 rfl ?_
        refine x_get C fl_X2_62 (r := ro 16 0) rfl (xj_m (by decide) (by decide) rfl) (v := .ref (ad (ro 17 18))) rfl dX2_visit_58 ?_
        refine x_iload_n C dX2_visit_61 rfl 1 rfl ?_
        refine x_iconst (v := 1) C dX2_visit_62 (by decide) ?_
        refine m_zst C R3 T3 (f := 18) (f' := 15) (i := j) (by decide) rfl rfl rfl (show j < 4 by omega) (by decide) rfl dX2_visit_63 (fun μ4 R4 T4 => ?_)
        refine x_aload_n C dX2_visit_64 rfl 0 rfl ?_
        refine x_get C fl_X2_58 (r := ro 16 0) rfl (xj_m (by decide) (by decide) rfl) (v := .ref (ad (ro 17 17))) rfl dX2_visit_65 ?_
        refine x_iload_n C dX2_visit_68 rfl 1 rfl ?_
        refine x_iconst (v := 0) C dX2_visit_69 (by decide) ?_
        refine m_zst C R4 T4 (f := 17) (f' := 14) (i := j) (by decide) rfl rfl rfl (show j < 4 by omega) (by decide) rfl dX2_visit_70 (fun μ5 R5 T5 => ?_)
        refine x_aload_n C dX2_visit_71 rfl 0 rfl ?_
        refine x_get C fl_X2_37 (r := ro 16 0) rfl (xj_m (by decide) (by decide) rfl) (v := .ref (ad (ro 17 10))) rfl dX2_visit_72 ?_
        refine x_iload_n C dX2_visit_75 rfl 1 rfl ?_
        refine m_ld C R5 (f := 10) (f' := 9) (i := j) (by decide) rfl rfl rfl (show j < 4 by omega) (by decide) dX2_visit_76 ?_
        refine x_top (y := σ 9 j 0) (by first | exact xup_s | simp [xup]) ?_
        refine x_istore_n (lv' := [(2, .int (σ 9 j 0)), (0, .ref (ad (ro 16 0))), (1, .int (nI j))]) C dX2_visit_77 rfl (by decide) rfl ?_
        refine x_iload_n C dX2_visit_78 rfl 0 rfl ?_
        refine x_aload_n C dX2_visit_79 rfl 1 rfl ?_
        refine x_get C fl_X2_25 (r := ro 16 0) rfl (xj_m (by decide) (by decide) rfl) (v := .ref (ad (ro 17 6))) rfl dX2_visit_80 ?_
        refine x_iload_n C dX2_visit_83 rfl 2 rfl ?_
        refine m_ld C R5 (f := 6) (f' := 5) (i := j) (by decide) rfl rfl rfl (show j < 4 by omega) (by decide) dX2_visit_84 ?_
        refine x_top (y := σ 5 j 0) (by first | exact xup_s | simp [xup]) ?_
        refine x_imul C dX2_visit_85 ?_
        refine x_bipush (v := 100) C dX2_visit_86 (by decide) ?_
        refine x_idiv C dX2_visit_88 (by decide) ?_
        refine x_istore_n (lv' := [(3, .int (((σ 9 j 0) * (σ 5 j 0)) / 100)), (2, .int (σ 9 j 0)), (0, .ref (ad (ro 16 0))), (1, .int (nI j))]) C dX2_visit_89 rfl (by decide) rfl ?_
        refine x_aload_n C dX2_visit_90 rfl 2 rfl ?_
        refine x_get C fl_X2_55 (r := ro 16 0) rfl (xj_m (by decide) (by decide) rfl) (v := .ref (ad (ro 17 16))) rfl dX2_visit_91 ?_
        refine x_iload_n C dX2_visit_94 rfl 3 rfl ?_
        refine x_dup2_11 C dX2_visit_95 rfl rfl ?_
        refine m_ld C R5 (f := 16) (f' := 13) (i := j) (by decide) rfl rfl rfl (show j < 4 by omega) (by decide) dX2_visit_96 ?_
        refine x_top (y := σ 13 j 0) (by first | exact xup_s | simp [xup]) ?_
        refine x_iload_n C dX2_visit_97 rfl 0 rfl ?_
        refine x_iadd C dX2_visit_98 ?_
        refine m_st C R5 T5 (f := 16) (f' := 13) (i := j) (by decide) rfl rfl rfl (show j < 4 by omega) (by decide) dX2_visit_99 (fun μ6 R6 T6 => ?_)
        refine x_aload_n C dX2_visit_100 rfl 2 rfl ?_
        refine x_dup C dX2_visit_101 rfl ?_
        refine x_get C fl_X2_135 (r := ro 16 0) rfl (xj_m (by decide) (by decide) rfl) (v := .int (μ6 28 0 0)) rfl dX2_visit_102 ?_
        refine x_top (y := (xup (xup (xup (xup σ 22 0 0 ((σ 22 0 0) - 40)) 15 j 0 1) 14 j 0 0) 13 j 0 ((σ 13 j 0) + (((σ 9 j 0) * (σ 5 j 0)) / 100))) 23 0 0) (R6.1 (28, 23) (by decide) 0) ?_
        refine x_top (y := σ 23 0 0) (by first | exact xup_s | simp [xup]) ?_
        refine x_iload_n C dX2_visit_105 rfl 1 rfl ?_
        refine x_iload_n C dX2_visit_106 rfl 0 rfl ?_
        refine x_isub C dX2_visit_107 ?_
        refine x_iadd C dX2_visit_108 ?_
        refine x_put C fl_X2_135 (r := ro 16 0) rfl (xj_m (by decide) (by decide) rfl) rfl rfl (Nat.le_of_ble_eq_true rfl) dX2_visit_109 ?_
        refine m_put (f := 28) (f' := 23) (by decide) (by decide) pm_28 R6 T6 (fun μ7 R7 T7 => ?_)
        refine x_aload_n C dX2_visit_112 rfl 2 rfl ?_
        refine x_get C fl_X2_52 (r := ro 16 0) rfl (xj_m (by decide) (by decide) rfl) (v := .ref (ad (ro 17 15))) rfl dX2_visit_113 ?_
        refine x_iload_n C dX2_visit_116 rfl 3 rfl ?_
        refine x_iconst (v := 5) C dX2_visit_117 (by decide) ?_
        refine x_aload_n C dX2_visit_118 rfl 2 rfl ?_
        refine x_get C fl_X2_49 (r := ro 16 0) rfl (xj_m (by decide) (by decide) rfl) (v := .ref (ad (ro 17 14))) rfl dX2_visit_119 ?_
        refine x_iload_n C dX2_visit_122 rfl 3 rfl ?_
        refine m_ld C R7 (f := 14) (f' := 11) (i := j) (by decide) rfl rfl rfl (show j < 4 by omega) (by decide) dX2_visit_123 ?_
        refine x_top (y := σ 11 j 0) (by first | exact xup_s | simp [xup]) ?_
        refine x_imul C dX2_visit_124 ?_
        refine x_iload_n C dX2_visit_125 rfl 1 rfl ?_
        refine x_isub C dX2_visit_126 ?_
        refine m_st C R7 T7 (f := 15) (f' := 12) (i := j) (by decide) rfl rfl rfl (show j < 4 by omega) (by decide) dX2_visit_127 (fun μ8 R8 T8 => ?_)
        refine x_aload_n C dX2_visit_128 rfl 2 rfl ?_
        refine x_get C fl_X2_49 (r := ro 16 0) rfl (xj_m (by decide) (by decide) rfl) (v := .ref (ad (ro 17 14))) rfl dX2_visit_129 ?_
        refine x_iload_n C dX2_visit_132 rfl 3 rfl ?_
        refine x_iconst (v := 0) C dX2_visit_133 (by decide) ?_
        refine m_st C R8 T8 (f := 14) (f' := 11) (i := j) (by decide) rfl rfl rfl (show j < 4 by omega) (by decide) dX2_visit_134 (fun μ9 R9 T9 => ?_)
        refine x_aload_n C dX2_visit_135 rfl 2 rfl ?_
        refine x_get C fl_X2_37 (r := ro 16 0) rfl (xj_m (by decide) (by decide) rfl) (v := .ref (ad (ro 17 10))) rfl dX2_visit_136 ?_
        refine x_iload_n C dX2_visit_139 rfl 3 rfl ?_
        refine x_iconst (v := 0) C dX2_visit_140 (by decide) ?_
        refine m_st C R9 T9 (f := 10) (f' := 9) (i := j) (by decide) rfl rfl rfl (show j < 4 by omega) (by decide) dX2_visit_141 (fun μ10 R10 T10 => ?_)
        refine x_iload_n C dX2_visit_142 rfl 1 rfl ?_
        exact x_iret C dX2_visit_143 (Nat.le_of_ble_eq_true rfl) (Nat.le_of_ble_eq_true rfl) (rP_of (by unfold oVisit; rw [if_pos c1, tj]; exact if_pos ⟨c2, c3⟩) (xRl_vi R10) T10 (fun _ => rfl))
  · refine x_iconst (v := 1) C dX2_visit_6 (by decide) ?_
    refine m_no0 (p := 1) C R (Nat.le_of_ble_eq_true rfl) ⟨Nat.le_of_ble_eq_true rfl, Nat.le_of_ble_eq_true rfl⟩ ⟨Nat.le_of_ble_eq_true rfl, Nat.le_of_ble_eq_true rfl⟩ dX2_visit_7 (fun μ1 R1 T1 => ?_)
    refine x_if_ne (tgt := 44) C dX2_visit_10 (by decide) (fun _ => ?_) (fun h => absurd h (by decide))
    refine x_iconst (v := 0) C dX2_visit_44 (by decide) ?_
    exact x_iret C dX2_visit_45 (Nat.le_of_ble_eq_true rfl) (Nat.le_of_ble_eq_true rfl) (rP_of (if_neg c1) R1 T1 (fun _ => rfl))
set_option maxHeartbeats 4000000 in
theorem k2_changeNeedle {G : xG} {ad : Nat → Nat} {κ : xKp} {σ μ : xSg} {c t : xK} (hI : xIk κ) (R : xRl κ σ μ) (b : Int32) : xM G yX2_changeNeedle (ws_ yX2_changeNeedle cX2_changeNeedle 3 (some Jvm.ClassFile.FieldType.int)) 8 300 0 0 [.ref (ad (ro 16 0)), .int b] ad (xj c (xkM G.2.2.1 ad μ) t) (rP G ad c t (oChangeNeedle κ σ b)) xN := by
  refine xM_of (cc := cX2_changeNeedle) (by decide) rfl (fun F hF C => ?_)
  subst hF
  have h30 := hI.2.2.2.2.1
  have h14 := hI.2.2.2.2.2
  have T : μ 29 0 0 = μ 29 0 0 := rfl
  show xX F _ _ _ 0 0 0 [(0, .ref (ad (ro 16 0))), (1, .int b)] []
  refine x_aload_n C dX2_changeNeedle_0 rfl 0 rfl ?_
  refine x_aload_n C dX2_changeNeedle_1 rfl 0 rfl ?_
  refine x_iload_n C dX2_changeNeedle_2 rfl 1 rfl ?_
  refine x_callV (rest := [.ref (ad (ro 16 0))]) C (k2_isBox hI R b) cf_X2_100 ⟨rfl, hd_X2_isBox⟩ ⟨Nat.le_of_ble_eq_true rfl, Nat.le_of_ble_eq_true rfl⟩ (xR_o xci4 rfl (xj_m (by decide) (by decide) rfl)) rfl (Nat.le_of_ble_eq_true rfl) ⟨Nat.le_of_ble_eq_true rfl, Nat.le_of_ble_eq_true rfl⟩ dX2_changeNeedle_3 (xPv_i ?_) xN_e
  refine x_case (fun c1 => ?_) (fun c1 => ?_)
  · obtain ⟨j, hj, rfl⟩ := xIx_nI (by omega) c1
    have tj : (nI j).toNatClampNeg = j := nI_clamp (by omega)
    refine x_iconst (v := 1) C dX2_changeNeedle_6 (by decide) ?_
    refine m_no1 (p := 1) C R (Nat.le_of_ble_eq_true rfl) ⟨Nat.le_of_ble_eq_true rfl, Nat.le_of_ble_eq_true rfl⟩ ⟨Nat.le_of_ble_eq_true rfl, Nat.le_of_ble_eq_true rfl⟩ dX2_changeNeedle_7 (fun μ1 R1 T1 => ?_)
    refine x_if_ne (tgt := 43) C dX2_changeNeedle_10 (by decide) (fun h => absurd rfl h) (fun _ => ?_)
    refine x_aload_n C dX2_changeNeedle_13 rfl 0 rfl ?_
    refine x_aload_n C dX2_changeNeedle_14 rfl 0 rfl ?_
    refine x_get C fl_X2_62 (r := ro 16 0) rfl (xj_m (by decide) (by decide) rfl) (v := .ref (ad (ro 17 18))) rfl dX2_changeNeedle_15 ?_
    refine x_iload_n C dX2_changeNeedle_18 rfl 1 rfl ?_
    refine m_zld C R1 (f := 18) (f' := 15) (i := j) (by decide) rfl rfl rfl (show j < 4 by omega) (by decide) dX2_changeNeedle_19 ?_
    refine x_if_eq (tgt := 35) C dX2_changeNeedle_20 (by decide) (fun c2 => ?_) (fun c2 => ?_)
    · refine x_iconst (v := 0) C dX2_changeNeedle_35 (by decide) ?_
      refine x_iconst (v := 2) C dX2_changeNeedle_36 (by decide) ?_
      refine m_no0 (p := 2) C R1 (Nat.le_of_ble_eq_true rfl) ⟨Nat.le_of_ble_eq_true rfl, Nat.le_of_ble_eq_true rfl⟩ ⟨Nat.le_of_ble_eq_true rfl, Nat.le_of_ble_eq_true rfl⟩ dX2_changeNeedle_37 (fun μ2 R2 T2 => ?_)
      refine x_if_eq (tgt := 45) C dX2_changeNeedle_40 (by decide) (fun h => absurd h (by decide)) (fun _ => ?_)
      refine x_iconst (v := 0) C dX2_changeNeedle_43 (by decide) ?_
      exact x_iret C dX2_changeNeedle_44 (Nat.le_of_ble_eq_true rfl) (Nat.le_of_ble_eq_true rfl) (rP_of (by unfold oChangeNeedle; rw [if_pos c1, tj]; exact if_neg (fun z => z.1 c2)) R2 T2 (fun _ => rfl))
    · refine x_aload_n C dX2_changeNeedle_23 rfl 0 rfl ?_
      refine x_get C fl_X2_84 (r := ro 16 0) rfl (xj_m (by decide) (by decide) rfl) (v := .int (μ1 27 0 0)) rfl dX2_changeNeedle_24 ?_
      refine x_top (y := σ 22 0 0) (R1.1 (27, 22) (by decide) 0) ?_
      refine x_iconst (v := 5) C dX2_changeNeedle_27 (by decide) ?_
      refine x_icmp_lt (tgt := 35) C dX2_changeNeedle_28 (by decide) (fun c3 => ?_) (fun c3 => ?_)
      · refine x_iconst (v := 0) C dX2_changeNeedle_35 (by decide) ?_
        refine x_iconst (v := 2) C dX2_changeNeedle_36 (by decide) ?_
        refine m_no0 (p := 2) C R1 (Nat.le_of_ble_eq_true rfl) ⟨Nat.le_of_ble_eq_true rfl, Nat.le_of_ble_eq_true rfl⟩ ⟨Nat.le_of_ble_eq_true rfl, Nat.le_of_ble_eq_true rfl⟩ dX2_changeNeedle_37 (fun μ2 R2 T2 => ?_)
        refine x_if_eq (tgt := 45) C dX2_changeNeedle_40 (by decide) (fun h => absurd h (by decide)) (fun _ => ?_)
        refine x_iconst (v := 0) C dX2_changeNeedle_43 (by decide) ?_
        exact x_iret C dX2_changeNeedle_44 (Nat.le_of_ble_eq_true rfl) (Nat.le_of_ble_eq_true rfl) (rP_of (by unfold oChangeNeedle; rw [if_pos c1, tj]; exact if_neg (fun z => z.2 c3)) R2 T2 (fun _ => rfl))
      · refine x_iconst (v := 1) C dX2_changeNeedle_31 (by decide) ?_
        refine x_goto (tgt := 36) C dX2_changeNeedle_32 (by decide) ?_
        refine x_iconst (v := 2) C dX2_changeNeedle_36 (by decide) ?_
        refine m_no1 (p := 2) C R1 (Nat.le_of_ble_eq_true rfl) ⟨Nat.le_of_ble_eq_true rfl, Nat.le_of_ble_eq_true rfl⟩ ⟨Nat.le_of_ble_eq_true rfl, Nat.le_of_ble_eq_true rfl⟩ dX2_changeNeedle_37 (fun μ2 R2 T2 => ?_)
        refine x_if_eq (tgt := 45) C dX2_changeNeedle_40 (by decide) (fun _ => ?_) (fun h => absurd (by decide) h)
        refine x_aload_n C dX2_changeNeedle_45 rfl 0 rfl ?_
        refine x_get C fl_X2_40 (r := ro 16 0) rfl (xj_m (by decide) (by decide) rfl) (v := .ref (ad (ro 17 11))) rfl dX2_changeNeedle_46 ?_
        refine x_iload_n C dX2_changeNeedle_49 rfl 1 rfl ?_
        refine m_ld C R2 (f := 11) (f' := 10) (i := j) (by decide) rfl rfl rfl (show j < 4 by omega) (by decide) dX2_changeNeedle_50 ?_
        refine x_istore_n (lv' := [(2, .int (σ 10 j 0)), (0, .ref (ad (ro 16 0))), (1, .int (nI j))]) C dX2_changeNeedle_51 rfl (by decide) rfl ?_
        refine x_aload_n C dX2_changeNeedle_52 rfl 1 rfl ?_
        refine x_dup C dX2_changeNeedle_53 rfl ?_
        refine x_get C fl_X2_84 (r := ro 16 0) rfl (xj_m (by decide) (by decide) rfl) (v := .int (μ2 27 0 0)) rfl dX2_changeNeedle_54 ?_
        refine x_top (y := σ 22 0 0) (R2.1 (27, 22) (by decide) 0) ?_
        refine x_iconst (v := 5) C dX2_changeNeedle_57 (by decide) ?_
        refine x_isub C dX2_changeNeedle_58 ?_
        refine x_put C fl_X2_84 (r := ro 16 0) rfl (xj_m (by decide) (by decide) rfl) rfl rfl (Nat.le_of_ble_eq_true rfl) dX2_changeNeedle_59 ?_
        refine m_put (f := 27) (f' := 22) (by decide) (by decide) pm_27 R2 T2 (fun μ3 R3 T3 => ?_)
        refine x_aload_n C dX2_changeNeedle_62 rfl 1 rfl ?_
        refine x_get C fl_X2_40 (r := ro 16 0) rfl (xj_m (by decide) (by decide) rfl) (v := .ref (ad (ro 17 11))) rfl dX2_changeNeedle_63 ?_
        refine x_iload_n C dX2_changeNeedle_66 rfl 2 rfl ?_
        refine x_iconst (v := 0) C dX2_changeNeedle_67 (by decide) ?_
        refine m_st C R3 T3 (f := 11) (f' := 10) (i := j) (by decide) rfl rfl rfl (show j < 4 by omega) (by decide) dX2_changeNeedle_68 (fun μ4 R4 T4 => ?_)
        refine x_iload_n C dX2_changeNeedle_69 rfl 0 rfl ?_
        exact x_iret C dX2_changeNeedle_70 (Nat.le_of_ble_eq_true rfl) (Nat.le_of_ble_eq_true rfl) (rP_of (by unfold oChangeNeedle; rw [if_pos c1, tj]; exact if_pos ⟨c2, c3⟩) R4 T4 (fun _ => rfl))
  · refine x_iconst (v := 1) C dX2_changeNeedle_6 (by decide) ?_
    refine m_no0 (p := 1) C R (Nat.le_of_ble_eq_true rfl) ⟨Nat.le_of_ble_eq_true rfl, Nat.le_of_ble_eq_true rfl⟩ ⟨Nat.le_of_ble_eq_true rfl, Nat.le_of_ble_eq_true rfl⟩ dX2_changeNeedle_7 (fun μ1 R1 T1 => ?_)
    refine x_if_ne (tgt := 43) C dX2_changeNeedle_10 (by decide) (fun _ => ?_) (fun h => absurd h (by decide))
    refine x_iconst (v := 0) C dX2_changeNeedle_43 (by decide) ?_
    exact x_iret C dX2_changeNeedle_44 (Nat.le_of_ble_eq_true rfl) (Nat.le_of_ble_eq_true rfl) (rP_of (if_neg c1) R1 T1 (fun _ => rfl))
set_option maxHeartbeats 4000000 in
theorem k2_burn {G : xG} {ad : Nat → Nat} {κ : xKp} {σ μ : xSg} {c t : xK} (hI : xIk κ) (R : xRl κ σ μ) (b : Int32) : xM G yX2_burn (ws_ yX2_burn cX2_burn 2 (some Jvm.ClassFile.FieldType.int)) 8 300 0 0 [.ref (ad (ro 16 0)), .int b] ad (xj c (xkM G.2.2.1 ad μ) t) (rP G ad c t (oBurn κ σ b)) xN := by
  refine xM_of (cc := cX2_burn) (by decide) rfl (fun F hF C => ?_)
  subst hF
  have h30 := hI.2.2.2.2.1
  have h14 := hI.2.2.2.2.2
  have T : μ 29 0 0 = μ 29 0 0 := rfl
  show xX F _ _ _ 0 0 0 [(0, .ref (ad (ro 16 0))), (1, .int b)] []
  refine x_aload_n C dX2_burn_0 rfl 0 rfl ?_
  refine x_aload_n C dX2_burn_1 rfl 0 rfl ?_
  refine x_iload_n C dX2_burn_2 rfl 1 rfl ?_
  refine x_callV (rest := [.ref (ad (ro 16 0))]) C (k2_isDisc hI R b) cf_X2_128 ⟨rfl, hd_X2_isDisc⟩ ⟨Nat.le_of_ble_eq_true rfl, Nat.le_of_ble_eq_true rfl⟩ (xR_o xci4 rfl (xj_m (by decide) (by decide) rfl)) rfl (Nat.le_of_ble_eq_true rfl) ⟨Nat.le_of_ble_eq_true rfl, Nat.le_of_ble_eq_true rfl⟩ dX2_burn_3 (xPv_i ?_) xN_e
  refine x_case (fun c1 => ?_) (fun c1 => ?_)
  · obtain ⟨d, hd, rfl⟩ := xIx_nI (by omega) c1
    have td : (nI d).toNatClampNeg = d := nI_clamp (by omega)
    refine x_iconst (v := 1) C dX2_burn_6 (by decide) ?_
    refine m_no1 (p := 1) C R (Nat.le_of_ble_eq_true rfl) ⟨Nat.le_of_ble_eq_true rfl, Nat.le_of_ble_eq_true rfl⟩ ⟨Nat.le_of_ble_eq_true rfl, Nat.le_of_ble_eq_true rfl⟩ dX2_burn_7 (fun μ1 R1 T1 => ?_)
    refine x_if_ne (tgt := 26) C dX2_burn_10 (by decide) (fun h => absurd rfl h) (fun _ => ?_)
    refine x_aload_n C dX2_burn_13 rfl 0 rfl ?_
    refine x_aload_n C dX2_burn_14 rfl 0 rfl ?_
    refine x_iload_n C dX2_burn_15 rfl 1 rfl ?_
    refine x_callV (rest := [.ref (ad (ro 16 0))]) C (k2_isInVan hI R1 (d := d) (by omega)) cf_X2_138 ⟨rfl, hd_X2_isInVan⟩ ⟨Nat.le_of_ble_eq_true rfl, Nat.le_of_ble_eq_true rfl⟩ (xR_o xci4 rfl (xj_m (by decide) (by decide) rfl)) rfl (Nat.le_of_ble_eq_true rfl) ⟨Nat.le_of_ble_eq_true rfl, Nat.le_of_ble_eq_true rfl⟩ dX2_burn_16 (xPv_i ?_) xN_e
    refine x_case (fun c2 => ?_) (fun c2 => ?_)
    · refine x_iconst (v := 2) C dX2_burn_19 (by decide) ?_
      refine m_no1 (p := 2) C R1 (Nat.le_of_ble_eq_true rfl) ⟨Nat.le_of_ble_eq_true rfl, Nat.le_of_ble_eq_true rfl⟩ ⟨Nat.le_of_ble_eq_true rfl, Nat.le_of_ble_eq_true rfl⟩ dX2_burn_20 (fun μ2 R2 T2 => ?_)
      refine x_if_eq (tgt := 28) C dX2_burn_23 (by decide) (fun _ => ?_) (fun h => absurd (by decide) h)
      refine x_aload_n C dX2_burn_28 rfl 0 rfl ?_
      refine x_get C fl_X2_22 (r := ro 16 0) rfl (xj_m (by decide) (by decide) rfl) (v := .ref (ad (ro 17 4))) rfl dX2_burn_29 ?_
      refine x_iload_n C dX2_burn_32 rfl 1 rfl ?_
      refine x_bipush (v := -2) C dX2_burn_33 (by decide) ?_
      refine m_st C R2 T2 (f := 4) (f' := 4) (i := d) (by decide) rfl rfl rfl (show d < 30 by omega) (by decide) dX2_burn_35 (fun μ3 R3 T3 => ?_)
      refine x_aload_n C dX2_burn_36 rfl 0 rfl ?_
      refine x_get C fl_X2_19 (r := ro 16 0) rfl (xj_m (by decide) (by decide) rfl) (v := .ref (ad (ro 17 3))) rfl dX2_burn_37 ?_
      refine x_iload_n C dX2_burn_40 rfl 1 rfl ?_
      refine m_ld C R3 (f := 3) (f' := 3) (i := d) (by decide) rfl rfl rfl (show d < 30 by omega) (by decide) dX2_burn_41 ?_
      refine x_top (y := σ 3 d 0) (by first | exact xup_s | simp [xup]) ?_
      exact x_iret C dX2_burn_42 (Nat.le_of_ble_eq_true rfl) (Nat.le_of_ble_eq_true rfl) (rP_of (by unfold oBurn; rw [if_pos c1, td]; exact if_pos c2) R3 T3 (fun _ => rfl))
    · refine x_iconst (v := 2) C dX2_burn_19 (by decide) ?_
      refine m_no0 (p := 2) C R1 (Nat.le_of_ble_eq_true rfl) ⟨Nat.le_of_ble_eq_true rfl, Nat.le_of_ble_eq_true rfl⟩ ⟨Nat.le_of_ble_eq_true rfl, Nat.le_of_ble_eq_true rfl⟩ dX2_burn_20 (fun μ2 R2 T2 => ?_)
      refine x_if_eq (tgt := 28) C dX2_burn_23 (by decide) (fun h => absurd h (by decide)) (fun _ => ?_)
      refine x_iconst (v := 0) C dX2_burn_26 (by decide) ?_
      exact x_iret C dX2_burn_27 (Nat.le_of_ble_eq_true rfl) (Nat.le_of_ble_eq_true rfl) (rP_of (by unfold oBurn; rw [if_pos c1, td]; exact if_neg c2) R2 T2 (fun _ => rfl))
  · refine x_iconst (v := 1) C dX2_burn_6 (by decide) ?_
    refine m_no0 (p := 1) C R (Nat.le_of_ble_eq_true rfl) ⟨Nat.le_of_ble_eq_true rfl, Nat.le_of_ble_eq_true rfl⟩ ⟨Nat.le_of_ble_eq_true rfl, Nat.le_of_ble_eq_true rfl⟩ dX2_burn_7 (fun μ1 R1 T1 => ?_)
    refine x_if_ne (tgt := 26) C dX2_burn_10 (by decide) (fun _ => ?_) (fun h => absurd h (by decide))
    refine x_iconst (v := 0) C dX2_burn_26 (by decide) ?_
    exact x_iret C dX2_burn_27 (Nat.le_of_ble_eq_true rfl) (Nat.le_of_ble_eq_true rfl) (rP_of (if_neg c1) R1 T1 (fun _ => rfl))
set_option maxHeartbeats 4000000 in
theorem k2_ask {G : xG} {ad : Nat → Nat} {κ : xKp} {σ μ : xSg} {c t : xK} (hI : xIk κ) (R : xRl κ σ μ) (b so : Int32) : xM G yX2_ask (ws_ yX2_ask cX2_ask 3 (some Jvm.ClassFile.FieldType.int)) 8 300 0 0 [.ref (ad (ro 16 0)), .int b, .int so] ad (xj c (xkM G.2.2.1 ad μ) t) (rP G ad c t (oAsk κ σ b so)) xN := by
  refine xM_of (cc := cX2_ask) (by decide) rfl (fun F hF C => ?_)
  subst hF
  have h30 := hI.2.2.2.2.1
  have h14 := hI.2.2.2.2.2
  have T : μ 29 0 0 = μ 29 0 0 := rfl
  show xX F _ _ _ 0 0 0 [(0, .ref (ad (ro 16 0))), (1, .int b), (2, .int so)] []
  refine x_aload_n C dX2_ask_0 rfl 0 rfl ?_
  refine x_aload_n C dX2_ask_1 rfl 0 rfl ?_
  refine x_iload_n C dX2_ask_2 rfl 1 rfl ?_
  refine x_callV (rest := [.ref (ad (ro 16 0))]) C (k2_isBox hI R b) cf_X2_100 ⟨rfl, hd_X2_isBox⟩ ⟨Nat.le_of_ble_eq_true rfl, Nat.le_of_ble_eq_true rfl⟩ (xR_o xci4 rfl (xj_m (by decide) (by decide) rfl)) rfl (Nat.le_of_ble_eq_true rfl) ⟨Nat.le_of_ble_eq_true rfl, Nat.le_of_ble_eq_true rfl⟩ dX2_ask_3 (xPv_i ?_) xN_e
  refine x_case (fun c1 => ?_) (fun c1 => ?_)
  · obtain ⟨j, hj, rfl⟩ := xIx_nI (by omega) c1
    have tj : (nI j).toNatClampNeg = j := nI_clamp (by omega)
    refine x_iconst (v := 1) C dX2_ask_6 (by decide) ?_
    refine m_no1 (p := 1) C R (Nat.le_of_ble_eq_true rfl) ⟨Nat.le_of_ble_eq_true rfl, Nat.le_of_ble_eq_true rfl⟩ ⟨Nat.le_of_ble_eq_true rfl, Nat.le_of_ble_eq_true rfl⟩ dX2_ask_7 (fun μ1 R1 T1 => ?_)
    refine x_if_ne (tgt := 57) C dX2_ask_10 (by decide) (fun h => absurd rfl h) (fun _ => ?_)
    refine x_aload_n C dX2_ask_13 rfl 0 rfl ?_
    refine x_iload_n C dX2_ask_14 rfl 2 rfl ?_
    refine x_iconst (v := 0) C dX2_ask_15 (by decide) ?_
    refine x_bipush (v := 99) C dX2_ask_16 (by decide) ?_
    refine x_callS (rest := [.ref (ad (ro 16 0))]) C (k2_isIn so 0 99) cf_X2_93 hd_X2_isIn ⟨Nat.le_of_ble_eq_true rfl, Nat.le_of_ble_eq_true rfl⟩ rfl (Nat.le_of_ble_eq_true rfl) ⟨Nat.le_of_ble_eq_true rfl, Nat.le_of_ble_eq_true rfl⟩ dX2_ask_18 (xPv_i ?_) xN_e
    refine x_case (fun c2 => ?_) (fun c2 => ?_)
    · obtain ⟨q, hq, rfl⟩ := xIx_nI (n := 100) (by decide) c2
      have tq : (nI q).toNatClampNeg = q := nI_clamp (by omega)
      refine x_iconst (v := 2) C dX2_ask_21 (by decide) ?_
      refine m_no1 (p := 2) C R1 (Nat.le_of_ble_eq_true rfl) ⟨Nat.le_of_ble_eq_true rfl, Nat.le_of_ble_eq_true rfl⟩ ⟨Nat.le_of_ble_eq_true rfl, Nat.le_of_ble_eq_true rfl⟩ dX2_ask_22 (fun μ2 R2 T2 => ?_)
      refine x_if_ne (tgt := 57) C dX2_ask_25 (by decide) (fun h => absurd rfl h) (fun _ => ?_)
      refine x_aload_n C dX2_ask_28 rfl 0 rfl ?_
      refine x_aload_n C dX2_ask_29 rfl 0 rfl ?_
      refine x_get C fl_X2_71 (r := ro 16 0) rfl (xj_m (by decide) (by decide) rfl) (v := .ref (ad (ro 17 22))) rfl dX2_ask_30 ?_
      refine x_bipush (v := 100) C dX2_ask_33 (by decide) ?_
      refine x_iload_n C dX2_ask_35 rfl 1 rfl ?_
      refine x_imul C dX2_ask_36 ?_
      refine x_iload_n C dX2_ask_37 rfl 2 rfl ?_
      refine x_iadd C dX2_ask_38 ?_
      refine x_top (y := nI (100 * j + q)) (nI_at100) ?_
      refine m_ld22 C R2 (j := j) (q := q) rfl (by omega) (by omega) dX2_ask_39 ?_
      refine x_bipush (v := 99) C dX2_ask_40 (by decide) ?_
      refine x_icmp_ge (tgt := 49) C dX2_ask_42 (by decide) (fun c3 => ?_) (fun c3 => ?_)
      · refine x_iconst (v := 0) C dX2_ask_49 (by decide) ?_
        refine x_iconst (v := 3) C dX2_ask_50 (by decide) ?_
        refine m_no0 (p := 3) C R2 (Nat.le_of_ble_eq_true rfl) ⟨Nat.le_of_ble_eq_true rfl, Nat.le_of_ble_eq_true rfl⟩ ⟨Nat.le_of_ble_eq_true rfl, Nat.le_of_ble_eq_true rfl⟩ dX2_ask_51 (fun μ3 R3 T3 => ?_)
        refine x_if_eq (tgt := 59) C dX2_ask_54 (by decide) (fun h => absurd h (by decide)) (fun _ => ?_)
        refine x_iconst (v := 0) C dX2_ask_57 (by decide) ?_
        exact x_iret C dX2_ask_58 (Nat.le_of_ble_eq_true rfl) (Nat.le_of_ble_eq_true rfl) (rP_of (by unfold oAsk; rw [if_pos c1, if_pos c2, tj, tq]; exact if_neg (Int32.not_lt.mpr c3)) R3 T3 (fun _ => rfl))
      · refine x_iconst (v := 1) C dX2_ask_45 (by decide) ?_
        refine x_goto (tgt := 50) C dX2_ask_46 (by decide) ?_
        refine x_iconst (v := 3) C dX2_ask_50 (by decide) ?_
        refine m_no1 (p := 3) C R2 (Nat.le_of_ble_eq_true rfl) ⟨Nat.le_of_ble_eq_true rfl, Nat.le_of_ble_eq_true rfl⟩ ⟨Nat.le_of_ble_eq_true rfl, Nat.le_of_ble_eq_true rfl⟩ dX2_ask_51 (fun μ3 R3 T3 => ?_)
        refine x_if_eq (tgt := 59) C dX2_ask_54 (by decide) (fun _ => ?_) (fun h => absurd (by decide) h)
        refine x_aload_n C dX2_ask_59 rfl 0 rfl ?_
        refine x_get C fl_X2_71 (r := ro 16 0) rfl (xj_m (by decide) (by decide) rfl) (v := .ref (ad (ro 17 22))) rfl dX2_ask_60 ?_
        refine x_bipush (v := 100) C dX2_ask_63 (by decide) ?_
        refine x_iload_n C dX2_ask_65 rfl 1 rfl ?_
        refine x_imul C dX2_ask_66 ?_
        refine x_iload_n C dX2_ask_67 rfl 2 rfl ?_
        refine x_iadd C dX2_ask_68 ?_
        refine x_top (y := nI (100 * j + q)) (nI_at100) ?_
        refine x_dup2_11 C dX2_ask_69 rfl rfl ?_
        refine m_ld22 C R3 (j := j) (q := q) rfl (by omega) (by omega) dX2_ask_70 ?_
        refine x_iconst (v := 1) C dX2_ask_71 (by decide) ?_
        refine x_iadd C dX2_ask_72 ?_
        refine m_st22 C R3 T3 (j := j) (s := q) (w := (σ 19 j q) + 1) rfl (by omega) (by omega) rfl dX2_ask_73 (fun μ4 R4 T4 => ?_)
        refine x_aload_n C dX2_ask_74 rfl 0 rfl ?_
        refine x_get C fl_X2_71 (r := ro 16 0) rfl (xj_m (by decide) (by decide) rfl) (v := .ref (ad (ro 17 22))) rfl dX2_ask_75 ?_
        refine x_bipush (v := 100) C dX2_ask_78 (by decide) ?_
        refine x_iload_n C dX2_ask_80 rfl 1 rfl ?_
        refine x_imul C dX2_ask_81 ?_
        refine x_iload_n C dX2_ask_82 rfl 2 rfl ?_
        refine x_iadd C dX2_ask_83 ?_
        refine x_top (y := nI (100 * j + q)) (nI_at100) ?_
        refine m_ld22 C R4 (j := j) (q := q) rfl (by omega) (by omega) dX2_ask_84 ?_
        refine x_top (y := (σ 19 j q) + 1) (by first | exact xup_s | simp [xup]) ?_
        exact x_iret C dX2_ask_85 (Nat.le_of_ble_eq_true rfl) (Nat.le_of_ble_eq_true rfl) (rP_of (by unfold oAsk; rw [if_pos c1, if_pos c2, tj, tq]; exact if_pos (Int32.not_le.mp c3)) R4 T4 (fun _ => rfl))
    · refine x_iconst (v := 2) C dX2_ask_21 (by decide) ?_
      refine m_no0 (p := 2) C R1 (Nat.le_of_ble_eq_true rfl) ⟨Nat.le_of_ble_eq_true rfl, Nat.le_of_ble_eq_true rfl⟩ ⟨Nat.le_of_ble_eq_true rfl, Nat.le_of_ble_eq_true rfl⟩ dX2_ask_22 (fun μ2 R2 T2 => ?_)
      refine x_if_ne (tgt := 57) C dX2_ask_25 (by decide) (fun _ => ?_) (fun h => absurd h (by decide))
      refine x_iconst (v := 0) C dX2_ask_57 (by decide) ?_
      exact x_iret C dX2_ask_58 (Nat.le_of_ble_eq_true rfl) (Nat.le_of_ble_eq_true rfl) (rP_of ((if_pos c1).trans (if_neg c2)) R2 T2 (fun _ => rfl))
  · refine x_iconst (v := 1) C dX2_ask_6 (by decide) ?_
    refine m_no0 (p := 1) C R (Nat.le_of_ble_eq_true rfl) ⟨Nat.le_of_ble_eq_true rfl, Nat.le_of_ble_eq_true rfl⟩ ⟨Nat.le_of_ble_eq_true rfl, Nat.le_of_ble_eq_true rfl⟩ dX2_ask_7 (fun μ1 R1 T1 => ?_)
    refine x_if_ne (tgt := 57) C dX2_ask_10 (by decide) (fun _ => ?_) (fun h => absurd h (by decide))
    refine x_iconst (v := 0) C dX2_ask_57 (by decide) ?_
    exact x_iret C dX2_ask_58 (Nat.le_of_ble_eq_true rfl) (Nat.le_of_ble_eq_true rfl) (rP_of (if_neg c1) R1 T1 (fun _ => rfl))
set_option maxHeartbeats 4000000 in
theorem k2_insert {G : xG} {ad : Nat → Nat} {κ : xKp} {σ μ : xSg} {c t : xK} (hI : xIk κ) (R : xRl κ σ μ) (b c9 : Int32) : xM G yX2_insert (ws_ yX2_insert cX2_insert 4 (some Jvm.ClassFile.FieldType.int)) 8 300 0 0 [.ref (ad (ro 16 0)), .int b, .int c9] ad (xj c (xkM G.2.2.1 ad μ) t) (rP G ad c t (oInsert κ σ b c9)) xN := by
  refine xM_of (cc := cX2_insert) (by decide) rfl (fun F hF C => ?_)
  subst hF
  have h30 := hI.2.2.2.2.1
  have h14 := hI.2.2.2.2.2
  have T : μ 29 0 0 = μ 29 0 0 := rfl
  show xX F _ _ _ 0 0 0 [(0, .ref (ad (ro 16 0))), (1, .int b), (2, .int c9)] []
  refine x_iload_n C dX2_insert_0 rfl 2 rfl ?_
  refine x_bipush (v := 110) C dX2_insert_1 (by decide) ?_
  refine x_icmp_ne (tgt := 10) C dX2_insert_3 (by decide) (fun d1 => ?_) (fun d1 => ?_)
  · refine x_iload_n C dX2_insert_10 rfl 2 rfl ?_
    refine x_bipush (v := 100) C dX2_insert_11 (by decide) ?_
    refine x_icmp_ne (tgt := 20) C dX2_insert_13 (by decide) (fun d2 => ?_) (fun d2 => ?_)
    · refine x_iload_n C dX2_insert_20 rfl 2 rfl ?_
      refine x_bipush (v := 113) C dX2_insert_21 (by decide) ?_
      refine x_icmp_eq (tgt := 32) C dX2_insert_23 (by decide) (fun d3 => ?_) (fun d3 => ?_)
      · obtain rfl := d3
        refine x_bipush (v := 6) C dX2_insert_32 (by decide) ?_
        refine x_goto (tgt := 38) C dX2_insert_34 (by decide) ?_
        refine x_istore_n (lv' := [(3, .int 6), (0, .ref (ad (ro 16 0))), (1, .int b), (2, .int 113)]) C dX2_insert_38 rfl (by decide) rfl ?_
        refine x_aload_n C dX2_insert_39 rfl 1 rfl ?_
        refine x_aload_n C dX2_insert_40 rfl 1 rfl ?_
        refine x_iload_n C dX2_insert_41 rfl 2 rfl ?_
        refine x_callV (rest := [.ref (ad (ro 16 0))]) C (k2_isBox hI R b) cf_X2_100 ⟨rfl, hd_X2_isBox⟩ ⟨Nat.le_of_ble_eq_true rfl, Nat.le_of_ble_eq_true rfl⟩ (xR_o xci4 rfl (xj_m (by decide) (by decide) rfl)) rfl (Nat.le_of_ble_eq_true rfl) ⟨Nat.le_of_ble_eq_true rfl, Nat.le_of_ble_eq_true rfl⟩ dX2_insert_42 (xPv_i ?_) xN_e
        refine x_case (fun c1 => ?_) (fun c1 => ?_)
        · obtain ⟨j, hj, rfl⟩ := xIx_nI (by omega) c1
          have tj : (nI j).toNatClampNeg = j := nI_clamp (by omega)
          refine x_iconst (v := 1) C dX2_insert_45 (by decide) ?_
          refine m_no1 (p := 1) C R (Nat.le_of_ble_eq_true rfl) ⟨Nat.le_of_ble_eq_true rfl, Nat.le_of_ble_eq_true rfl⟩ ⟨Nat.le_of_ble_eq_true rfl, Nat.le_of_ble_eq_true rfl⟩ dX2_insert_46 (fun μ1 R1 T1 => ?_)
          refine x_if_ne (tgt := 117) C dX2_insert_49 (by decide) (fun h => absurd rfl h) (fun _ => ?_)
          refine x_aload_n C dX2_insert_52 rfl 1 rfl ?_
          refine x_iload_n C dX2_insert_53 rfl 0 rfl ?_
          refine x_if_le (tgt := 61) C dX2_insert_54 (by decide) (fun h => absurd h (by decide)) (fun _ => ?_)
          refine x_iconst (v := 1) C dX2_insert_57 (by decide) ?_
          refine x_goto (tgt := 62) C dX2_insert_58 (by decide) ?_
          refine x_iconst (v := 2) C dX2_insert_62 (by decide) ?_
          refine m_no1 (p := 2) C R1 (Nat.le_of_ble_eq_true rfl) ⟨Nat.le_of_ble_eq_true rfl, Nat.le_of_ble_eq_true rfl⟩ ⟨Nat.le_of_ble_eq_true rfl, Nat.le_of_ble_eq_true rfl⟩ dX2_insert_63 (fun μ2 R2 T2 => ?_)
          refine x_if_ne (tgt := 117) C dX2_insert_66 (by decide) (fun h => absurd rfl h) (fun _ => ?_)
          refine x_aload_n C dX2_insert_69 rfl 1 rfl ?_
          refine x_aload_n C dX2_insert_70 rfl 1 rfl ?_
          refine x_get C fl_X2_58 (r := ro 16 0) rfl (xj_m (by decide) (by decide) rfl) (v := .ref (ad (ro 17 17))) rfl dX2_insert_71 ?_
          refine x_iload_n C dX2_insert_74 rfl 2 rfl ?_
          refine m_zld C R2 (f := 17) (f' := 14) (i := j) (by decide) rfl rfl rfl (show j < 4 by omega) (by decide) dX2_insert_75 ?_
          refine x_if_ne (tgt := 83) C dX2_insert_76 (by decide) (fun c2 => ?_) (fun c2 => ?_)
          · refine x_iconst (v := 0) C dX2_insert_83 (by decide) ?_
            refine x_iconst (v := 3) C dX2_insert_84 (by decide) ?_
            refine m_no0 (p := 3) C R2 (Nat.le_of_ble_eq_true rfl) ⟨Nat.le_of_ble_eq_true rfl, Nat.le_of_ble_eq_true rfl⟩ ⟨Nat.le_of_ble_eq_true rfl, Nat.le_of_ble_eq_true rfl⟩ dX2_insert_85 (fun μ3 R3 T3 => ?_)
            refine x_if_ne (tgt := 117) C dX2_insert_88 (by decide) (fun _ => ?_) (fun h => absurd h (by decide))
            refine x_iconst (v := 0) C dX2_insert_117 (by decide) ?_
            exact x_iret C dX2_insert_118 (Nat.le_of_ble_eq_true rfl) (Nat.le_of_ble_eq_true rfl) (rP_of (by unfold oInsert; rw [if_pos c1, tj, show sMor _ = 6 from rfl, show sCen _ = 25 from rfl]; unfold oInsert1; rw [if_pos (by decide)]; exact if_neg c2) R3 T3 (fun _ => rfl))
          · refine x_iconst (v := 1) C dX2_insert_79 (by decide) ?_
            refine x_goto (tgt := 84) C dX2_insert_80 (by decide) ?_
            refine x_iconst (v := 3) C dX2_insert_84 (by decide) ?_
            refine m_no1 (p := 3) C R2 (Nat.le_of_ble_eq_true rfl) ⟨Nat.le_of_ble_eq_true rfl, Nat.le_of_ble_eq_true rfl⟩ ⟨Nat.le_of_ble_eq_true rfl, Nat.le_of_ble_eq_true rfl⟩ dX2_insert_85 (fun μ3 R3 T3 => ?_)
            refine x_if_ne (tgt := 117) C dX2_insert_88 (by decide) (fun h => absurd rfl h) (fun _ => ?_)
            refine x_aload_n C dX2_insert_91 rfl 1 rfl ?_
            refine x_aload_n C dX2_insert_92 rfl 1 rfl ?_
            refine x_get C fl_X2_34 (r := ro 16 0) rfl (xj_m (by decide) (by decide) rfl) (v := .ref (ad (ro 17 9))) rfl dX2_insert_93 ?_
            refine x_iload_n C dX2_insert_96 rfl 2 rfl ?_
            refine m_ld C R3 (f := 9) (f' := 8) (i := j) (by decide) rfl rfl rfl (show j < 4 by omega) (by decide) dX2_insert_97 ?_
            refine x_iload_n C dX2_insert_98 rfl 0 rfl ?_
            refine x_iadd C dX2_insert_99 ?_
            refine x_bipush (v := 99) C dX2_insert_100 (by decide) ?_
            refine x_icmp_gt (tgt := 109) C dX2_insert_102 (by decide) (fun c3 => ?_) (fun c3 => ?_)
            · refine x_iconst (v := 0) C dX2_insert_109 (by decide) ?_
              refine x_iconst (v := 4) C dX2_insert_110 (by decide) ?_
              refine m_no0 (p := 4) C R3 (Nat.le_of_ble_eq_true rfl) ⟨Nat.le_of_ble_eq_true rfl, Nat.le_of_ble_eq_true rfl⟩ ⟨Nat.le_of_ble_eq_true rfl, Nat.le_of_ble_eq_true rfl⟩ dX2_insert_111 (fun μ4 R4 T4 => ?_)
              refine x_if_eq (tgt := 119) C dX2_insert_114 (by decide) (fun h => absurd h (by decide)) (fun _ => ?_)
              refine x_iconst (v := 0) C dX2_insert_117 (by decide) ?_
              exact x_iret C dX2_insert_118 (Nat.le_of_ble_eq_true rfl) (Nat.le_of_ble_eq_true rfl) (rP_of (by unfold oInsert; rw [if_pos c1, tj, show sMor _ = 6 from rfl, show sCen _ = 25 from rfl]; unfold oInsert1; rw [if_pos (by decide), if_pos c2]; exact if_neg (Int32.not_le.mpr c3)) R4 T4 (fun _ => rfl))
            · refine x_iconst (v := 1) C dX2_insert_105 (by decide) ?_
              refine x_goto (tgt := 110) C dX2_insert_106 (by decide) ?_
              refine x_iconst (v := 4) C dX2_insert_110 (by decide) ?_
              refine m_no1 (p := 4) C R3 (Nat.le_of_ble_eq_true rfl) ⟨Nat.le_of_ble_eq_true rfl, Nat.le_of_ble_eq_true rfl⟩ ⟨Nat.le_of_ble_eq_true rfl, Nat.le_of_ble_eq_true rfl⟩ dX2_insert_111 (fun μ4 R4 T4 => ?_)
              refine x_if_eq (tgt := 119) C dX2_insert_114 (by decide) (fun _ => ?_) (fun h => absurd (by decide) h)
              refine x_aload_n C dX2_insert_119 rfl 1 rfl ?_
              refine x_get C fl_X2_34 (r := ro 16 0) rfl (xj_m (by decide) (by decide) rfl) (v := .ref (ad (ro 17 9))) rfl dX2_insert_120 ?_
              refine x_iload_n C dX2_insert_123 rfl 2 rfl ?_
              refine x_dup2_11 C dX2_insert_124 rfl rfl ?_
              refine m_ld C R4 (f := 9) (f' := 8) (i := j) (by decide) rfl rfl rfl (show j < 4 by omega) (by decide) dX2_insert_125 ?_
              refine x_iload_n C dX2_insert_126 rfl 0 rfl ?_
              refine x_iadd C dX2_insert_127 ?_
              refine m_st C R4 T4 (f := 9) (f' := 8) (i := j) (by decide) rfl rfl rfl (show j < 4 by omega) (by decide) dX2_insert_128 (fun μ5 R5 T5 => ?_)
              refine x_aload_n C dX2_insert_129 rfl 1 rfl ?_
              refine x_get C fl_X2_37 (r := ro 16 0) rfl (xj_m (by decide) (by decide) rfl) (v := .ref (ad (ro 17 10))) rfl dX2_insert_130 ?_
              refine x_iload_n C dX2_insert_133 rfl 2 rfl ?_
              refine x_dup2_11 C dX2_insert_134 rfl rfl ?_
              refine m_ld C R5 (f := 10) (f' := 9) (i := j) (by decide) rfl rfl rfl (show j < 4 by omega) (by decide) dX2_insert_135 ?_
              refine x_top (y := σ 9 j 0) (by first | exact xup_s | simp [xup]) ?_
              refine x_iload_n C dX2_insert_136 rfl 3 rfl ?_
              refine x_bipush (v := 110) C dX2_insert_137 (by decide) ?_
              refine x_icmp_ne (tgt := 146) C dX2_insert_139 (by decide) (fun _ => ?_) (fun h => absurd h (by decide))
              refine x_iload_n C dX2_insert_146 rfl 3 rfl ?_
              refine x_bipush (v := 100) C dX2_insert_147 (by decide) ?_
              refine x_icmp_ne (tgt := 157) C dX2_insert_149 (by decide) (fun _ => ?_) (fun h => absurd h (by decide))
              refine x_iload_n C dX2_insert_157 rfl 3 rfl ?_
              refine x_bipush (v := 113) C dX2_insert_158 (by decide) ?_
              refine x_icmp_ne (tgt := 168) C dX2_insert_160 (by decide) (fun h => absurd rfl h) (fun _ => ?_)
              refine x_bipush (v := 25) C dX2_insert_163 (by decide) ?_
              refine x_goto (tgt := 169) C dX2_insert_165 (by decide) ?_
              refine x_iadd C dX2_insert_169 ?_
              refine m_st C R5 T5 (f := 10) (f' := 9) (i := j) (by decide) rfl rfl rfl (show j < 4 by omega) (by decide) dX2_insert_170 (fun μ6 R6 T6 => ?_)
              refine x_aload_n C dX2_insert_171 rfl 1 rfl ?_
              refine x_get C fl_X2_34 (r := ro 16 0) rfl (xj_m (by decide) (by decide) rfl) (v := .ref (ad (ro 17 9))) rfl dX2_insert_172 ?_
              refine x_iload_n C dX2_insert_175 rfl 2 rfl ?_
              refine m_ld C R6 (f := 9) (f' := 8) (i := j) (by decide) rfl rfl rfl (show j < 4 by omega) (by decide) dX2_insert_176 ?_
              refine x_top (y := (σ 8 j 0) + 6) (by first | exact xup_s | simp [xup]) ?_
              exact x_iret C dX2_insert_177 (Nat.le_of_ble_eq_true rfl) (Nat.le_of_ble_eq_true rfl) (rP_of (by unfold oInsert; rw [if_pos c1, tj, show sMor _ = 6 from rfl, show sCen _ = 25 from rfl]; unfold oInsert1; rw [if_pos (by decide), if_pos c2]; exact if_pos (Int32.not_lt.mp c3)) R6 T6 (fun _ => rfl))
        · refine x_iconst (v := 1) C dX2_insert_45 (by decide) ?_
          refine m_no0 (p := 1) C R (Nat.le_of_ble_eq_true rfl) ⟨Nat.le_of_ble_eq_true rfl, Nat.le_of_ble_eq_true rfl⟩ ⟨Nat.le_of_ble_eq_true rfl, Nat.le_of_ble_eq_true rfl⟩ dX2_insert_46 (fun μ1 R1 T1 => ?_)
          refine x_if_ne (tgt := 117) C dX2_insert_49 (by decide) (fun _ => ?_) (fun h => absurd h (by decide))
          refine x_iconst (v := 0) C dX2_insert_117 (by decide) ?_
          exact x_iret C dX2_insert_118 (Nat.le_of_ble_eq_true rfl) (Nat.le_of_ble_eq_true rfl) (rP_of (if_neg c1) R1 T1 (fun _ => rfl))
      · refine x_iload_n C dX2_insert_26 rfl 2 rfl ?_
        refine x_bipush (v := 115) C dX2_insert_27 (by decide) ?_
        refine x_icmp_ne (tgt := 37) C dX2_insert_29 (by decide) (fun d4 => ?_) (fun d4 => ?_)
        · refine x_iconst (v := 0) C dX2_insert_37 (by decide) ?_
          refine x_istore_n (lv' := [(3, .int 0), (0, .ref (ad (ro 16 0))), (1, .int b), (2, .int c9)]) C dX2_insert_38 rfl (by decide) rfl ?_
          refine x_aload_n C dX2_insert_39 rfl 1 rfl ?_
          refine x_aload_n C dX2_insert_40 rfl 1 rfl ?_
          refine x_iload_n C dX2_insert_41 rfl 2 rfl ?_
          refine x_callV (rest := [.ref (ad (ro 16 0))]) C (k2_isBox hI R b) cf_X2_100 ⟨rfl, hd_X2_isBox⟩ ⟨Nat.le_of_ble_eq_true rfl, Nat.le_of_ble_eq_true rfl⟩ (xR_o xci4 rfl (xj_m (by decide) (by decide) rfl)) rfl (Nat.le_of_ble_eq_true rfl) ⟨Nat.le_of_ble_eq_true rfl, Nat.le_of_ble_eq_true rfl⟩ dX2_insert_42 (xPv_i ?_) xN_e
          refine x_case (fun c1 => ?_) (fun c1 => ?_)
          · obtain ⟨j, hj, rfl⟩ := xIx_nI (by omega) c1
            have tj : (nI j).toNatClampNeg = j := nI_clamp (by omega)
            refine x_iconst (v := 1) C dX2_insert_45 (by decide) ?_
            refine m_no1 (p := 1) C R (Nat.le_of_ble_eq_true rfl) ⟨Nat.le_of_ble_eq_true rfl, Nat.le_of_ble_eq_true rfl⟩ ⟨Nat.le_of_ble_eq_true rfl, Nat.le_of_ble_eq_true rfl⟩ dX2_insert_46 (fun μ1 R1 T1 => ?_)
            refine x_if_ne (tgt := 117) C dX2_insert_49 (by decide) (fun h => absurd rfl h) (fun _ => ?_)
            refine x_aload_n C dX2_insert_52 rfl 1 rfl ?_
            refine x_iload_n C dX2_insert_53 rfl 0 rfl ?_
            refine x_if_le (tgt := 61) C dX2_insert_54 (by decide) (fun _ => ?_) (fun h => absurd (by decide) h)
            refine x_iconst (v := 0) C dX2_insert_61 (by decide) ?_
            refine x_iconst (v := 2) C dX2_insert_62 (by decide) ?_
            refine m_no0 (p := 2) C R1 (Nat.le_of_ble_eq_true rfl) ⟨Nat.le_of_ble_eq_true rfl, Nat.le_of_ble_eq_true rfl⟩ ⟨Nat.le_of_ble_eq_true rfl, Nat.le_of_ble_eq_true rfl⟩ dX2_insert_63 (fun μ2 R2 T2 => ?_)
            refine x_if_ne (tgt := 117) C dX2_insert_66 (by decide) (fun _ => ?_) (fun h => absurd h (by decide))
            refine x_iconst (v := 0) C dX2_insert_117 (by decide) ?_
            exact x_iret C dX2_insert_118 (Nat.le_of_ble_eq_true rfl) (Nat.le_of_ble_eq_true rfl) (rP_of (by unfold oInsert; rw [if_pos c1, tj, show sMor _ = 0 from by unfold sMor; rw [if_neg d1, if_neg d2, if_neg (fun z => z.elim d3 d4)], show sCen _ = 0 from by unfold sCen; rw [if_neg d1, if_neg d2, if_neg d3]]; unfold oInsert1; exact if_neg (by decide)) R2 T2 (fun _ => rfl))
          · refine x_iconst (v := 1) C dX2_insert_45 (by decide) ?_
            refine m_no0 (p := 1) C R (Nat.le_of_ble_eq_true rfl) ⟨Nat.le_of_ble_eq_true rfl, Nat.le_of_ble_eq_true rfl⟩ ⟨Nat.le_of_ble_eq_true rfl, Nat.le_of_ble_eq_true rfl⟩ dX2_insert_46 (fun μ1 R1 T1 => ?_)
            refine x_if_ne (tgt := 117) C dX2_insert_49 (by decide) (fun _ => ?_) (fun h => absurd h (by decide))
            refine x_iconst (v := 0) C dX2_insert_117 (by decide) ?_
            exact x_iret C dX2_insert_118 (Nat.le_of_ble_eq_true rfl) (Nat.le_of_ble_eq_true rfl) (rP_of (if_neg c1) R1 T1 (fun _ => rfl))
        · obtain rfl := d4
          refine x_bipush (v := 6) C dX2_insert_32 (by decide) ?_
          refine x_goto (tgt := 38) C dX2_insert_34 (by decide) ?_
          refine x_istore_n (lv' := [(3, .int 6), (0, .ref (ad (ro 16 0))), (1, .int b), (2, .int 115)]) C dX2_insert_38 rfl (by decide) rfl ?_
          refine x_aload_n C dX2_insert_39 rfl 1 rfl ?_
          refine x_aload_n C dX2_insert_40 rfl 1 rfl ?_
          refine x_iload_n C dX2_insert_41 rfl 2 rfl ?_
          refine x_callV (rest := [.ref (ad (ro 16 0))]) C (k2_isBox hI R b) cf_X2_100 ⟨rfl, hd_X2_isBox⟩ ⟨Nat.le_of_ble_eq_true rfl, Nat.le_of_ble_eq_true rfl⟩ (xR_o xci4 rfl (xj_m (by decide) (by decide) rfl)) rfl (Nat.le_of_ble_eq_true rfl) ⟨Nat.le_of_ble_eq_true rfl, Nat.le_of_ble_eq_true rfl⟩ dX2_insert_42 (xPv_i ?_) xN_e
          refine x_case (fun c1 => ?_) (fun c1 => ?_)
          · obtain ⟨j, hj, rfl⟩ := xIx_nI (by omega) c1
            have tj : (nI j).toNatClampNeg = j := nI_clamp (by omega)
            refine x_iconst (v := 1) C dX2_insert_45 (by decide) ?_
            refine m_no1 (p := 1) C R (Nat.le_of_ble_eq_true rfl) ⟨Nat.le_of_ble_eq_true rfl, Nat.le_of_ble_eq_true rfl⟩ ⟨Nat.le_of_ble_eq_true rfl, Nat.le_of_ble_eq_true rfl⟩ dX2_insert_46 (fun μ1 R1 T1 => ?_)
            refine x_if_ne (tgt := 117) C dX2_insert_49 (by decide) (fun h => absurd rfl h) (fun _ => ?_)
            refine x_aload_n C dX2_insert_52 rfl 1 rfl ?_
            refine x_iload_n C dX2_insert_53 rfl 0 rfl ?_
            refine x_if_le (tgt := 61) C dX2_insert_54 (by decide) (fun h => absurd h (by decide)) (fun _ => ?_)
            refine x_iconst (v := 1) C dX2_insert_57 (by decide) ?_
            refine x_goto (tgt := 62) C dX2_insert_58 (by decide) ?_
            refine x_iconst (v := 2) C dX2_insert_62 (by decide) ?_
            refine m_no1 (p := 2) C R1 (Nat.le_of_ble_eq_true rfl) ⟨Nat.le_of_ble_eq_true rfl, Nat.le_of_ble_eq_true rfl⟩ ⟨Nat.le_of_ble_eq_true rfl, Nat.le_of_ble_eq_true rfl⟩ dX2_insert_63 (fun μ2 R2 T2 => ?_)
            refine x_if_ne (tgt := 117) C dX2_insert_66 (by decide) (fun h => absurd rfl h) (fun _ => ?_)
            refine x_aload_n C dX2_insert_69 rfl 1 rfl ?_
            refine x_aload_n C dX2_insert_70 rfl 1 rfl ?_
            refine x_get C fl_X2_58 (r := ro 16 0) rfl (xj_m (by decide) (by decide) rfl) (v := .ref (ad (ro 17 17))) rfl dX2_insert_71 ?_
            refine x_iload_n C dX2_insert_74 rfl 2 rfl ?_
            refine m_zld C R2 (f := 17) (f' := 14) (i := j) (by decide) rfl rfl rfl (show j < 4 by omega) (by decide) dX2_insert_75 ?_
            refine x_if_ne (tgt := 83) C dX2_insert_76 (by decide) (fun c2 => ?_) (fun c2 => ?_)
            · refine x_iconst (v := 0) C dX2_insert_83 (by decide) ?_
              refine x_iconst (v := 3) C dX2_insert_84 (by decide) ?_
              refine m_no0 (p := 3) C R2 (Nat.le_of_ble_eq_true rfl) ⟨Nat.le_of_ble_eq_true rfl, Nat.le_of_ble_eq_true rfl⟩ ⟨Nat.le_of_ble_eq_true rfl, Nat.le_of_ble_eq_true rfl⟩ dX2_insert_85 (fun μ3 R3 T3 => ?_)
              refine x_if_ne (tgt := 117) C dX2_insert_88 (by decide) (fun _ => ?_) (fun h => absurd h (by decide))
              refine x_iconst (v := 0) C dX2_insert_117 (by decide) ?_
              exact x_iret C dX2_insert_118 (Nat.le_of_ble_eq_true rfl) (Nat.le_of_ble_eq_true rfl) (rP_of (by unfold oInsert; rw [if_pos c1, tj, show sMor _ = 6 from rfl, show sCen _ = 0 from rfl]; unfold oInsert1; rw [if_pos (by decide)]; exact if_neg c2) R3 T3 (fun _ => rfl))
            · refine x_iconst (v := 1) C dX2_insert_79 (by decide) ?_
              refine x_goto (tgt := 84) C dX2_insert_80 (by decide) ?_
              refine x_iconst (v := 3) C dX2_insert_84 (by decide) ?_
              refine m_no1 (p := 3) C R2 (Nat.le_of_ble_eq_true rfl) ⟨Nat.le_of_ble_eq_true rfl, Nat.le_of_ble_eq_true rfl⟩ ⟨Nat.le_of_ble_eq_true rfl, Nat.le_of_ble_eq_true rfl⟩ dX2_insert_85 (fun μ3 R3 T3 => ?_)
              refine x_if_ne (tgt := 117) C dX2_insert_88 (by decide) (fun h => absurd rfl h) (fun _ => ?_)
              refine x_aload_n C dX2_insert_91 rfl 1 rfl ?_
              refine x_aload_n C dX2_insert_92 rfl 1 rfl ?_
              refine x_get C fl_X2_34 (r := ro 16 0) rfl (xj_m (by decide) (by decide) rfl) (v := .ref (ad (ro 17 9))) rfl dX2_insert_93 ?_
              refine x_iload_n C dX2_insert_96 rfl 2 rfl ?_
              refine m_ld C R3 (f := 9) (f' := 8) (i := j) (by decide) rfl rfl rfl (show j < 4 by omega) (by decide) dX2_insert_97 ?_
              refine x_iload_n C dX2_insert_98 rfl 0 rfl ?_
              refine x_iadd C dX2_insert_99 ?_
              refine x_bipush (v := 99) C dX2_insert_100 (by decide) ?_
              refine x_icmp_gt (tgt := 109) C dX2_insert_102 (by decide) (fun c3 => ?_) (fun c3 => ?_)
              · refine x_iconst (v := 0) C dX2_insert_109 (by decide) ?_
                refine x_iconst (v := 4) C dX2_insert_110 (by decide) ?_
                refine m_no0 (p := 4) C R3 (Nat.le_of_ble_eq_true rfl) ⟨Nat.le_of_ble_eq_true rfl, Nat.le_of_ble_eq_true rfl⟩ ⟨Nat.le_of_ble_eq_true rfl, Nat.le_of_ble_eq_true rfl⟩ dX2_insert_111 (fun μ4 R4 T4 => ?_)
                refine x_if_eq (tgt := 119) C dX2_insert_114 (by decide) (fun h => absurd h (by decide)) (fun _ => ?_)
                refine x_iconst (v := 0) C dX2_insert_117 (by decide) ?_
                exact x_iret C dX2_insert_118 (Nat.le_of_ble_eq_true rfl) (Nat.le_of_ble_eq_true rfl) (rP_of (by unfold oInsert; rw [if_pos c1, tj, show sMor _ = 6 from rfl, show sCen _ = 0 from rfl]; unfold oInsert1; rw [if_pos (by decide), if_pos c2]; exact if_neg (Int32.not_le.mpr c3)) R4 T4 (fun _ => rfl))
              · refine x_iconst (v := 1) C dX2_insert_105 (by decide) ?_
                refine x_goto (tgt := 110) C dX2_insert_106 (by decide) ?_
                refine x_iconst (v := 4) C dX2_insert_110 (by decide) ?_
                refine m_no1 (p := 4) C R3 (Nat.le_of_ble_eq_true rfl) ⟨Nat.le_of_ble_eq_true rfl, Nat.le_of_ble_eq_true rfl⟩ ⟨Nat.le_of_ble_eq_true rfl, Nat.le_of_ble_eq_true rfl⟩ dX2_insert_111 (fun μ4 R4 T4 => ?_)
                refine x_if_eq (tgt := 119) C dX2_insert_114 (by decide) (fun _ => ?_) (fun h => absurd (by decide) h)
                refine x_aload_n C dX2_insert_119 rfl 1 rfl ?_
                refine x_get C fl_X2_34 (r := ro 16 0) rfl (xj_m (by decide) (by decide) rfl) (v := .ref (ad (ro 17 9))) rfl dX2_insert_120 ?_
                refine x_iload_n C dX2_insert_123 rfl 2 rfl ?_
                refine x_dup2_11 C dX2_insert_124 rfl rfl ?_
                refine m_ld C R4 (f := 9) (f' := 8) (i := j) (by decide) rfl rfl rfl (show j < 4 by omega) (by decide) dX2_insert_125 ?_
                refine x_iload_n C dX2_insert_126 rfl 0 rfl ?_
                refine x_iadd C dX2_insert_127 ?_
                refine m_st C R4 T4 (f := 9) (f' := 8) (i := j) (by decide) rfl rfl rfl (show j < 4 by omega) (by decide) dX2_insert_128 (fun μ5 R5 T5 => ?_)
                refine x_aload_n C dX2_insert_129 rfl 1 rfl ?_
                refine x_get C fl_X2_37 (r := ro 16 0) rfl (xj_m (by decide) (by decide) rfl) (v := .ref (ad (ro 17 10))) rfl dX2_insert_130 ?_
                refine x_iload_n C dX2_insert_133 rfl 2 rfl ?_
                refine x_dup2_11 C dX2_insert_134 rfl rfl ?_
                refine m_ld C R5 (f := 10) (f' := 9) (i := j) (by decide) rfl rfl rfl (show j < 4 by omega) (by decide) dX2_insert_135 ?_
                refine x_top (y := σ 9 j 0) (by first | exact xup_s | simp [xup]) ?_
                refine x_iload_n C dX2_insert_136 rfl 3 rfl ?_
                refine x_bipush (v := 110) C dX2_insert_137 (by decide) ?_
                refine x_icmp_ne (tgt := 146) C dX2_insert_139 (by decide) (fun _ => ?_) (fun h => absurd h (by decide))
                refine x_iload_n C dX2_insert_146 rfl 3 rfl ?_
                refine x_bipush (v := 100) C dX2_insert_147 (by decide) ?_
                refine x_icmp_ne (tgt := 157) C dX2_insert_149 (by decide) (fun _ => ?_) (fun h => absurd h (by decide))
                refine x_iload_n C dX2_insert_157 rfl 3 rfl ?_
                refine x_bipush (v := 113) C dX2_insert_158 (by decide) ?_
                refine x_icmp_ne (tgt := 168) C dX2_insert_160 (by decide) (fun _ => ?_) (fun h => absurd h (by decide))
                refine x_iconst (v := 0) C dX2_insert_168 (by decide) ?_
                refine x_iadd C dX2_insert_169 ?_
                refine m_st C R5 T5 (f := 10) (f' := 9) (i := j) (by decide) rfl rfl rfl (show j < 4 by omega) (by decide) dX2_insert_170 (fun μ6 R6 T6 => ?_)
                refine x_aload_n C dX2_insert_171 rfl 1 rfl ?_
                refine x_get C fl_X2_34 (r := ro 16 0) rfl (xj_m (by decide) (by decide) rfl) (v := .ref (ad (ro 17 9))) rfl dX2_insert_172 ?_
                refine x_iload_n C dX2_insert_175 rfl 2 rfl ?_
                refine m_ld C R6 (f := 9) (f' := 8) (i := j) (by decide) rfl rfl rfl (show j < 4 by omega) (by decide) dX2_insert_176 ?_
                refine x_top (y := (σ 8 j 0) + 6) (by first | exact xup_s | simp [xup]) ?_
                exact x_iret C dX2_insert_177 (Nat.le_of_ble_eq_true rfl) (Nat.le_of_ble_eq_true rfl) (rP_of (by unfold oInsert; rw [if_pos c1, tj, show sMor _ = 6 from rfl, show sCen _ = 0 from rfl]; unfold oInsert1; rw [if_pos (by decide), if_pos c2]; exact if_pos (Int32.not_lt.mp c3)) R6 T6 (fun _ => rfl))
          · refine x_iconst (v := 1) C dX2_insert_45 (by decide) ?_
            refine m_no0 (p := 1) C R (Nat.le_of_ble_eq_true rfl) ⟨Nat.le_of_ble_eq_true rfl, Nat.le_of_ble_eq_true rfl⟩ ⟨Nat.le_of_ble_eq_true rfl, Nat.le_of_ble_eq_true rfl⟩ dX2_insert_46 (fun μ1 R1 T1 => ?_)
            refine x_if_ne (tgt := 117) C dX2_insert_49 (by decide) (fun _ => ?_) (fun h => absurd h (by decide))
            refine x_iconst (v := 0) C dX2_insert_117 (by decide) ?_
            exact x_iret C dX2_insert_118 (Nat.le_of_ble_eq_true rfl) (Nat.le_of_ble_eq_true rfl) (rP_of (if_neg c1) R1 T1 (fun _ => rfl))
    · obtain rfl := d2
      refine x_iconst (v := 2) C dX2_insert_16 (by decide) ?_
      refine x_goto (tgt := 38) C dX2_insert_17 (by decide) ?_
      refine x_istore_n (lv' := [(3, .int 2), (0, .ref (ad (ro 16 0))), (1, .int b), (2, .int 100)]) C dX2_insert_38 rfl (by decide) rfl ?_
      refine x_aload_n C dX2_insert_39 rfl 1 rfl ?_
      refine x_aload_n C dX2_insert_40 rfl 1 rfl ?_
      refine x_iload_n C dX2_insert_41 rfl 2 rfl ?_
      refine x_callV (rest := [.ref (ad (ro 16 0))]) C (k2_isBox hI R b) cf_X2_100 ⟨rfl, hd_X2_isBox⟩ ⟨Nat.le_of_ble_eq_true rfl, Nat.le_of_ble_eq_true rfl⟩ (xR_o xci4 rfl (xj_m (by decide) (by decide) rfl)) rfl (Nat.le_of_ble_eq_true rfl) ⟨Nat.le_of_ble_eq_true rfl, Nat.le_of_ble_eq_true rfl⟩ dX2_insert_42 (xPv_i ?_) xN_e
      refine x_case (fun c1 => ?_) (fun c1 => ?_)
      · obtain ⟨j, hj, rfl⟩ := xIx_nI (by omega) c1
        have tj : (nI j).toNatClampNeg = j := nI_clamp (by omega)
        refine x_iconst (v := 1) C dX2_insert_45 (by decide) ?_
        refine m_no1 (p := 1) C R (Nat.le_of_ble_eq_true rfl) ⟨Nat.le_of_ble_eq_true rfl, Nat.le_of_ble_eq_true rfl⟩ ⟨Nat.le_of_ble_eq_true rfl, Nat.le_of_ble_eq_true rfl⟩ dX2_insert_46 (fun μ1 R1 T1 => ?_)
        refine x_if_ne (tgt := 117) C dX2_insert_49 (by decide) (fun h => absurd rfl h) (fun _ => ?_)
        refine x_aload_n C dX2_insert_52 rfl 1 rfl ?_
        refine x_iload_n C dX2_insert_53 rfl 0 rfl ?_
        refine x_if_le (tgt := 61) C dX2_insert_54 (by decide) (fun h => absurd h (by decide)) (fun _ => ?_)
        refine x_iconst (v := 1) C dX2_insert_57 (by decide) ?_
        refine x_goto (tgt := 62) C dX2_insert_58 (by decide) ?_
        refine x_iconst (v := 2) C dX2_insert_62 (by decide) ?_
        refine m_no1 (p := 2) C R1 (Nat.le_of_ble_eq_true rfl) ⟨Nat.le_of_ble_eq_true rfl, Nat.le_of_ble_eq_true rfl⟩ ⟨Nat.le_of_ble_eq_true rfl, Nat.le_of_ble_eq_true rfl⟩ dX2_insert_63 (fun μ2 R2 T2 => ?_)
        refine x_if_ne (tgt := 117) C dX2_insert_66 (by decide) (fun h => absurd rfl h) (fun _ => ?_)
        refine x_aload_n C dX2_insert_69 rfl 1 rfl ?_
        refine x_aload_n C dX2_insert_70 rfl 1 rfl ?_
        refine x_get C fl_X2_58 (r := ro 16 0) rfl (xj_m (by decide) (by decide) rfl) (v := .ref (ad (ro 17 17))) rfl dX2_insert_71 ?_
        refine x_iload_n C dX2_insert_74 rfl 2 rfl ?_
        refine m_zld C R2 (f := 17) (f' := 14) (i := j) (by decide) rfl rfl rfl (show j < 4 by omega) (by decide) dX2_insert_75 ?_
        refine x_if_ne (tgt := 83) C dX2_insert_76 (by decide) (fun c2 => ?_) (fun c2 => ?_)
        · refine x_iconst (v := 0) C dX2_insert_83 (by decide) ?_
          refine x_iconst (v := 3) C dX2_insert_84 (by decide) ?_
          refine m_no0 (p := 3) C R2 (Nat.le_of_ble_eq_true rfl) ⟨Nat.le_of_ble_eq_true rfl, Nat.le_of_ble_eq_true rfl⟩ ⟨Nat.le_of_ble_eq_true rfl, Nat.le_of_ble_eq_true rfl⟩ dX2_insert_85 (fun μ3 R3 T3 => ?_)
          refine x_if_ne (tgt := 117) C dX2_insert_88 (by decide) (fun _ => ?_) (fun h => absurd h (by decide))
          refine x_iconst (v := 0) C dX2_insert_117 (by decide) ?_
          exact x_iret C dX2_insert_118 (Nat.le_of_ble_eq_true rfl) (Nat.le_of_ble_eq_true rfl) (rP_of (by unfold oInsert; rw [if_pos c1, tj, show sMor _ = 2 from rfl, show sCen _ = 10 from rfl]; unfold oInsert1; rw [if_pos (by decide)]; exact if_neg c2) R3 T3 (fun _ => rfl))
        · refine x_iconst (v := 1) C dX2_insert_79 (by decide) ?_
          refine x_goto (tgt := 84) C dX2_insert_80 (by decide) ?_
          refine x_iconst (v := 3) C dX2_insert_84 (by decide) ?_
          refine m_no1 (p := 3) C R2 (Nat.le_of_ble_eq_true rfl) ⟨Nat.le_of_ble_eq_true rfl, Nat.le_of_ble_eq_true rfl⟩ ⟨Nat.le_of_ble_eq_true rfl, Nat.le_of_ble_eq_true rfl⟩ dX2_insert_85 (fun μ3 R3 T3 => ?_)
          refine x_if_ne (tgt := 117) C dX2_insert_88 (by decide) (fun h => absurd rfl h) (fun _ => ?_)
          refine x_aload_n C dX2_insert_91 rfl 1 rfl ?_
          refine x_aload_n C dX2_insert_92 rfl 1 rfl ?_
          refine x_get C fl_X2_34 (r := ro 16 0) rfl (xj_m (by decide) (by decide) rfl) (v := .ref (ad (ro 17 9))) rfl dX2_insert_93 ?_
          refine x_iload_n C dX2_insert_96 rfl 2 rfl ?_
          refine m_ld C R3 (f := 9) (f' := 8) (i := j) (by decide) rfl rfl rfl (show j < 4 by omega) (by decide) dX2_insert_97 ?_
          refine x_iload_n C dX2_insert_98 rfl 0 rfl ?_
          refine x_iadd C dX2_insert_99 ?_
          refine x_bipush (v := 99) C dX2_insert_100 (by decide) ?_
          refine x_icmp_gt (tgt := 109) C dX2_insert_102 (by decide) (fun c3 => ?_) (fun c3 => ?_)
          · refine x_iconst (v := 0) C dX2_insert_109 (by decide) ?_
            refine x_iconst (v := 4) C dX2_insert_110 (by decide) ?_
            refine m_no0 (p := 4) C R3 (Nat.le_of_ble_eq_true rfl) ⟨Nat.le_of_ble_eq_true rfl, Nat.le_of_ble_eq_true rfl⟩ ⟨Nat.le_of_ble_eq_true rfl, Nat.le_of_ble_eq_true rfl⟩ dX2_insert_111 (fun μ4 R4 T4 => ?_)
            refine x_if_eq (tgt := 119) C dX2_insert_114 (by decide) (fun h => absurd h (by decide)) (fun _ => ?_)
            refine x_iconst (v := 0) C dX2_insert_117 (by decide) ?_
            exact x_iret C dX2_insert_118 (Nat.le_of_ble_eq_true rfl) (Nat.le_of_ble_eq_true rfl) (rP_of (by unfold oInsert; rw [if_pos c1, tj, show sMor _ = 2 from rfl, show sCen _ = 10 from rfl]; unfold oInsert1; rw [if_pos (by decide), if_pos c2]; exact if_neg (Int32.not_le.mpr c3)) R4 T4 (fun _ => rfl))
          · refine x_iconst (v := 1) C dX2_insert_105 (by decide) ?_
            refine x_goto (tgt := 110) C dX2_insert_106 (by decide) ?_
            refine x_iconst (v := 4) C dX2_insert_110 (by decide) ?_
            refine m_no1 (p := 4) C R3 (Nat.le_of_ble_eq_true rfl) ⟨Nat.le_of_ble_eq_true rfl, Nat.le_of_ble_eq_true rfl⟩ ⟨Nat.le_of_ble_eq_true rfl, Nat.le_of_ble_eq_true rfl⟩ dX2_insert_111 (fun μ4 R4 T4 => ?_)
            refine x_if_eq (tgt := 119) C dX2_insert_114 (by decide) (fun _ => ?_) (fun h => absurd (by decide) h)
            refine x_aload_n C dX2_insert_119 rfl 1 rfl ?_
            refine x_get C fl_X2_34 (r := ro 16 0) rfl (xj_m (by decide) (by decide) rfl) (v := .ref (ad (ro 17 9))) rfl dX2_insert_120 ?_
            refine x_iload_n C dX2_insert_123 rfl 2 rfl ?_
            refine x_dup2_11 C dX2_insert_124 rfl rfl ?_
            refine m_ld C R4 (f := 9) (f' := 8) (i := j) (by decide) rfl rfl rfl (show j < 4 by omega) (by decide) dX2_insert_125 ?_
            refine x_iload_n C dX2_insert_126 rfl 0 rfl ?_
            refine x_iadd C dX2_insert_127 ?_
            refine m_st C R4 T4 (f := 9) (f' := 8) (i := j) (by decide) rfl rfl rfl (show j < 4 by omega) (by decide) dX2_insert_128 (fun μ5 R5 T5 => ?_)
            refine x_aload_n C dX2_insert_129 rfl 1 rfl ?_
            refine x_get C fl_X2_37 (r := ro 16 0) rfl (xj_m (by decide) (by decide) rfl) (v := .ref (ad (ro 17 10))) rfl dX2_insert_130 ?_
            refine x_iload_n C dX2_insert_133 rfl 2 rfl ?_
            refine x_dup2_11 C dX2_insert_134 rfl rfl ?_
            refine m_ld C R5 (f := 10) (f' := 9) (i := j) (by decide) rfl rfl rfl (show j < 4 by omega) (by decide) dX2_insert_135 ?_
            refine x_top (y := σ 9 j 0) (by first | exact xup_s | simp [xup]) ?_
            refine x_iload_n C dX2_insert_136 rfl 3 rfl ?_
            refine x_bipush (v := 110) C dX2_insert_137 (by decide) ?_
            refine x_icmp_ne (tgt := 146) C dX2_insert_139 (by decide) (fun _ => ?_) (fun h => absurd h (by decide))
            refine x_iload_n C dX2_insert_146 rfl 3 rfl ?_
            refine x_bipush (v := 100) C dX2_insert_147 (by decide) ?_
            refine x_icmp_ne (tgt := 157) C dX2_insert_149 (by decide) (fun h => absurd rfl h) (fun _ => ?_)
            refine x_bipush (v := 10) C dX2_insert_152 (by decide) ?_
            refine x_goto (tgt := 169) C dX2_insert_154 (by decide) ?_
            refine x_iadd C dX2_insert_169 ?_
            refine m_st C R5 T5 (f := 10) (f' := 9) (i := j) (by decide) rfl rfl rfl (show j < 4 by omega) (by decide) dX2_insert_170 (fun μ6 R6 T6 => ?_)
            refine x_aload_n C dX2_insert_171 rfl 1 rfl ?_
            refine x_get C fl_X2_34 (r := ro 16 0) rfl (xj_m (by decide) (by decide) rfl) (v := .ref (ad (ro 17 9))) rfl dX2_insert_172 ?_
            refine x_iload_n C dX2_insert_175 rfl 2 rfl ?_
            refine m_ld C R6 (f := 9) (f' := 8) (i := j) (by decide) rfl rfl rfl (show j < 4 by omega) (by decide) dX2_insert_176 ?_
            refine x_top (y := (σ 8 j 0) + 2) (by first | exact xup_s | simp [xup]) ?_
            exact x_iret C dX2_insert_177 (Nat.le_of_ble_eq_true rfl) (Nat.le_of_ble_eq_true rfl) (rP_of (by unfold oInsert; rw [if_pos c1, tj, show sMor _ = 2 from rfl, show sCen _ = 10 from rfl]; unfold oInsert1; rw [if_pos (by decide), if_pos c2]; exact if_pos (Int32.not_lt.mp c3)) R6 T6 (fun _ => rfl))
      · refine x_iconst (v := 1) C dX2_insert_45 (by decide) ?_
        refine m_no0 (p := 1) C R (Nat.le_of_ble_eq_true rfl) ⟨Nat.le_of_ble_eq_true rfl, Nat.le_of_ble_eq_true rfl⟩ ⟨Nat.le_of_ble_eq_true rfl, Nat.le_of_ble_eq_true rfl⟩ dX2_insert_46 (fun μ1 R1 T1 => ?_)
        refine x_if_ne (tgt := 117) C dX2_insert_49 (by decide) (fun _ => ?_) (fun h => absurd h (by decide))
        refine x_iconst (v := 0) C dX2_insert_117 (by decide) ?_
        exact x_iret C dX2_insert_118 (Nat.le_of_ble_eq_true rfl) (Nat.le_of_ble_eq_true rfl) (rP_of (if_neg c1) R1 T1 (fun _ => rfl))
  · obtain rfl := d1
    refine x_iconst (v := 1) C dX2_insert_6 (by decide) ?_
    refine x_goto (tgt := 38) C dX2_insert_7 (by decide) ?_
    refine x_istore_n (lv' := [(3, .int 1), (0, .ref (ad (ro 16 0))), (1, .int b), (2, .int 110)]) C dX2_insert_38 rfl (by decide) rfl ?_
    refine x_aload_n C dX2_insert_39 rfl 1 rfl ?_
    refine x_aload_n C dX2_insert_40 rfl 1 rfl ?_
    refine x_iload_n C dX2_insert_41 rfl 2 rfl ?_
    refine x_callV (rest := [.ref (ad (ro 16 0))]) C (k2_isBox hI R b) cf_X2_100 ⟨rfl, hd_X2_isBox⟩ ⟨Nat.le_of_ble_eq_true rfl, Nat.le_of_ble_eq_true rfl⟩ (xR_o xci4 rfl (xj_m (by decide) (by decide) rfl)) rfl (Nat.le_of_ble_eq_true rfl) ⟨Nat.le_of_ble_eq_true rfl, Nat.le_of_ble_eq_true rfl⟩ dX2_insert_42 (xPv_i ?_) xN_e
    refine x_case (fun c1 => ?_) (fun c1 => ?_)
    · obtain ⟨j, hj, rfl⟩ := xIx_nI (by omega) c1
      have tj : (nI j).toNatClampNeg = j := nI_clamp (by omega)
      refine x_iconst (v := 1) C dX2_insert_45 (by decide) ?_
      refine m_no1 (p := 1) C R (Nat.le_of_ble_eq_true rfl) ⟨Nat.le_of_ble_eq_true rfl, Nat.le_of_ble_eq_true rfl⟩ ⟨Nat.le_of_ble_eq_true rfl, Nat.le_of_ble_eq_true rfl⟩ dX2_insert_46 (fun μ1 R1 T1 => ?_)
      refine x_if_ne (tgt := 117) C dX2_insert_49 (by decide) (fun h => absurd rfl h) (fun _ => ?_)
      refine x_aload_n C dX2_insert_52 rfl 1 rfl ?_
      refine x_iload_n C dX2_insert_53 rfl 0 rfl ?_
      refine x_if_le (tgt := 61) C dX2_insert_54 (by decide) (fun h => absurd h (by decide)) (fun _ => ?_)
      refine x_iconst (v := 1) C dX2_insert_57 (by decide) ?_
      refine x_goto (tgt := 62) C dX2_insert_58 (by decide) ?_
      refine x_iconst (v := 2) C dX2_insert_62 (by decide) ?_
      refine m_no1 (p := 2) C R1 (Nat.le_of_ble_eq_true rfl) ⟨Nat.le_of_ble_eq_true rfl, Nat.le_of_ble_eq_true rfl⟩ ⟨Nat.le_of_ble_eq_true rfl, Nat.le_of_ble_eq_true rfl⟩ dX2_insert_63 (fun μ2 R2 T2 => ?_)
      refine x_if_ne (tgt := 117) C dX2_insert_66 (by decide) (fun h => absurd rfl h) (fun _ => ?_)
      refine x_aload_n C dX2_insert_69 rfl 1 rfl ?_
      refine x_aload_n C dX2_insert_70 rfl 1 rfl ?_
      refine x_get C fl_X2_58 (r := ro 16 0) rfl (xj_m (by decide) (by decide) rfl) (v := .ref (ad (ro 17 17))) rfl dX2_insert_71 ?_
      refine x_iload_n C dX2_insert_74 rfl 2 rfl ?_
      refine m_zld C R2 (f := 17) (f' := 14) (i := j) (by decide) rfl rfl rfl (show j < 4 by omega) (by decide) dX2_insert_75 ?_
      refine x_if_ne (tgt := 83) C dX2_insert_76 (by decide) (fun c2 => ?_) (fun c2 => ?_)
      · refine x_iconst (v := 0) C dX2_insert_83 (by decide) ?_
        refine x_iconst (v := 3) C dX2_insert_84 (by decide) ?_
        refine m_no0 (p := 3) C R2 (Nat.le_of_ble_eq_true rfl) ⟨Nat.le_of_ble_eq_true rfl, Nat.le_of_ble_eq_true rfl⟩ ⟨Nat.le_of_ble_eq_true rfl, Nat.le_of_ble_eq_true rfl⟩ dX2_insert_85 (fun μ3 R3 T3 => ?_)
        refine x_if_ne (tgt := 117) C dX2_insert_88 (by decide) (fun _ => ?_) (fun h => absurd h (by decide))
        refine x_iconst (v := 0) C dX2_insert_117 (by decide) ?_
        exact x_iret C dX2_insert_118 (Nat.le_of_ble_eq_true rfl) (Nat.le_of_ble_eq_true rfl) (rP_of (by unfold oInsert; rw [if_pos c1, tj, show sMor _ = 1 from rfl, show sCen _ = 5 from rfl]; unfold oInsert1; rw [if_pos (by decide)]; exact if_neg c2) R3 T3 (fun _ => rfl))
      · refine x_iconst (v := 1) C dX2_insert_79 (by decide) ?_
        refine x_goto (tgt := 84) C dX2_insert_80 (by decide) ?_
        refine x_iconst (v := 3) C dX2_insert_84 (by decide) ?_
        refine m_no1 (p := 3) C R2 (Nat.le_of_ble_eq_true rfl) ⟨Nat.le_of_ble_eq_true rfl, Nat.le_of_ble_eq_true rfl⟩ ⟨Nat.le_of_ble_eq_true rfl, Nat.le_of_ble_eq_true rfl⟩ dX2_insert_85 (fun μ3 R3 T3 => ?_)
        refine x_if_ne (tgt := 117) C dX2_insert_88 (by decide) (fun h => absurd rfl h) (fun _ => ?_)
        refine x_aload_n C dX2_insert_91 rfl 1 rfl ?_
        refine x_aload_n C dX2_insert_92 rfl 1 rfl ?_
        refine x_get C fl_X2_34 (r := ro 16 0) rfl (xj_m (by decide) (by decide) rfl) (v := .ref (ad (ro 17 9))) rfl dX2_insert_93 ?_
        refine x_iload_n C dX2_insert_96 rfl 2 rfl ?_
        refine m_ld C R3 (f := 9) (f' := 8) (i := j) (by decide) rfl rfl rfl (show j < 4 by omega) (by decide) dX2_insert_97 ?_
        refine x_iload_n C dX2_insert_98 rfl 0 rfl ?_
        refine x_iadd C dX2_insert_99 ?_
        refine x_bipush (v := 99) C dX2_insert_100 (by decide) ?_
        refine x_icmp_gt (tgt := 109) C dX2_insert_102 (by decide) (fun c3 => ?_) (fun c3 => ?_)
        · refine x_iconst (v := 0) C dX2_insert_109 (by decide) ?_
          refine x_iconst (v := 4) C dX2_insert_110 (by decide) ?_
          refine m_no0 (p := 4) C R3 (Nat.le_of_ble_eq_true rfl) ⟨Nat.le_of_ble_eq_true rfl, Nat.le_of_ble_eq_true rfl⟩ ⟨Nat.le_of_ble_eq_true rfl, Nat.le_of_ble_eq_true rfl⟩ dX2_insert_111 (fun μ4 R4 T4 => ?_)
          refine x_if_eq (tgt := 119) C dX2_insert_114 (by decide) (fun h => absurd h (by decide)) (fun _ => ?_)
          refine x_iconst (v := 0) C dX2_insert_117 (by decide) ?_
          exact x_iret C dX2_insert_118 (Nat.le_of_ble_eq_true rfl) (Nat.le_of_ble_eq_true rfl) (rP_of (by unfold oInsert; rw [if_pos c1, tj, show sMor _ = 1 from rfl, show sCen _ = 5 from rfl]; unfold oInsert1; rw [if_pos (by decide), if_pos c2]; exact if_neg (Int32.not_le.mpr c3)) R4 T4 (fun _ => rfl))
        · refine x_iconst (v := 1) C dX2_insert_105 (by decide) ?_
          refine x_goto (tgt := 110) C dX2_insert_106 (by decide) ?_
          refine x_iconst (v := 4) C dX2_insert_110 (by decide) ?_
          refine m_no1 (p := 4) C R3 (Nat.le_of_ble_eq_true rfl) ⟨Nat.le_of_ble_eq_true rfl, Nat.le_of_ble_eq_true rfl⟩ ⟨Nat.le_of_ble_eq_true rfl, Nat.le_of_ble_eq_true rfl⟩ dX2_insert_111 (fun μ4 R4 T4 => ?_)
          refine x_if_eq (tgt := 119) C dX2_insert_114 (by decide) (fun _ => ?_) (fun h => absurd (by decide) h)
          refine x_aload_n C dX2_insert_119 rfl 1 rfl ?_
          refine x_get C fl_X2_34 (r := ro 16 0) rfl (xj_m (by decide) (by decide) rfl) (v := .ref (ad (ro 17 9))) rfl dX2_insert_120 ?_
          refine x_iload_n C dX2_insert_123 rfl 2 rfl ?_
          refine x_dup2_11 C dX2_insert_124 rfl rfl ?_
          refine m_ld C R4 (f := 9) (f' := 8) (i := j) (by decide) rfl rfl rfl (show j < 4 by omega) (by decide) dX2_insert_125 ?_
          refine x_iload_n C dX2_insert_126 rfl 0 rfl ?_
          refine x_iadd C dX2_insert_127 ?_
          refine m_st C R4 T4 (f := 9) (f' := 8) (i := j) (by decide) rfl rfl rfl (show j < 4 by omega) (by decide) dX2_insert_128 (fun μ5 R5 T5 => ?_)
          refine x_aload_n C dX2_insert_129 rfl 1 rfl ?_
          refine x_get C fl_X2_37 (r := ro 16 0) rfl (xj_m (by decide) (by decide) rfl) (v := .ref (ad (ro 17 10))) rfl dX2_insert_130 ?_
          refine x_iload_n C dX2_insert_133 rfl 2 rfl ?_
          refine x_dup2_11 C dX2_insert_134 rfl rfl ?_
          refine m_ld C R5 (f := 10) (f' := 9) (i := j) (by decide) rfl rfl rfl (show j < 4 by omega) (by decide) dX2_insert_135 ?_
          refine x_top (y := σ 9 j 0) (by first | exact xup_s | simp [xup]) ?_
          refine x_iload_n C dX2_insert_136 rfl 3 rfl ?_
          refine x_bipush (v := 110) C dX2_insert_137 (by decide) ?_
          refine x_icmp_ne (tgt := 146) C dX2_insert_139 (by decide) (fun h => absurd rfl h) (fun _ => ?_)
          refine x_iconst (v := 5) C dX2_insert_142 (by decide) ?_
          refine x_goto (tgt := 169) C dX2_insert_143 (by decide) ?_
          refine x_iadd C dX2_insert_169 ?_
          refine m_st C R5 T5 (f := 10) (f' := 9) (i := j) (by decide) rfl rfl rfl (show j < 4 by omega) (by decide) dX2_insert_170 (fun μ6 R6 T6 => ?_)
          refine x_aload_n C dX2_insert_171 rfl 1 rfl ?_
          refine x_get C fl_X2_34 (r := ro 16 0) rfl (xj_m (by decide) (by decide) rfl) (v := .ref (ad (ro 17 9))) rfl dX2_insert_172 ?_
          refine x_iload_n C dX2_insert_175 rfl 2 rfl ?_
          refine m_ld C R6 (f := 9) (f' := 8) (i := j) (by decide) rfl rfl rfl (show j < 4 by omega) (by decide) dX2_insert_176 ?_
          refine x_top (y := (σ 8 j 0) + 1) (by first | exact xup_s | simp [xup]) ?_
          exact x_iret C dX2_insert_177 (Nat.le_of_ble_eq_true rfl) (Nat.le_of_ble_eq_true rfl) (rP_of (by unfold oInsert; rw [if_pos c1, tj, show sMor _ = 1 from rfl, show sCen _ = 5 from rfl]; unfold oInsert1; rw [if_pos (by decide), if_pos c2]; exact if_pos (Int32.not_lt.mp c3)) R6 T6 (fun _ => rfl))
    · refine x_iconst (v := 1) C dX2_insert_45 (by decide) ?_
      refine m_no0 (p := 1) C R (Nat.le_of_ble_eq_true rfl) ⟨Nat.le_of_ble_eq_true rfl, Nat.le_of_ble_eq_true rfl⟩ ⟨Nat.le_of_ble_eq_true rfl, Nat.le_of_ble_eq_true rfl⟩ dX2_insert_46 (fun μ1 R1 T1 => ?_)
      refine x_if_ne (tgt := 117) C dX2_insert_49 (by decide) (fun _ => ?_) (fun h => absurd h (by decide))
      refine x_iconst (v := 0) C dX2_insert_117 (by decide) ?_
      exact x_iret C dX2_insert_118 (Nat.le_of_ble_eq_true rfl) (Nat.le_of_ble_eq_true rfl) (rP_of (if_neg c1) R1 T1 (fun _ => rfl))
set_option maxHeartbeats 4000000 in
theorem k2_getWeek {G : xG} {ad : Nat → Nat} {κ : xKp} {σ μ : xSg} {c t : xK} (hI : xIk κ) (R : xRl κ σ μ)  : xM G yX2_getWeek (ws_ yX2_getWeek cX2_getWeek 1 (some Jvm.ClassFile.FieldType.int)) 8 300 0 0 [.ref (ad (ro 16 0))] ad (xj c (xkM G.2.2.1 ad μ) t) (xPv (some (.int (σ 21 0 0))) ad (xj c (xkM G.2.2.1 ad μ) t)) xN := by
  refine xM_of (cc := cX2_getWeek) (by decide) rfl (fun F hF C => ?_)
  subst hF
  have h30 := hI.2.2.2.2.1
  have h14 := hI.2.2.2.2.2
  have T : μ 29 0 0 = μ 29 0 0 := rfl
  show xX F _ _ _ 0 0 0 [(0, .ref (ad (ro 16 0)))] []
  refine x_aload_n C dX2_getWeek_0 rfl 0 rfl ?_
  refine x_get C fl_X2_109 (r := ro 16 0) rfl (xj_m (by decide) (by decide) rfl) (v := .int (μ 26 0 0)) rfl dX2_getWeek_1 ?_
  refine x_top (y := σ 21 0 0) (R.1 (26, 21) (by decide) 0) ?_
  exact x_iret C dX2_getWeek_4 (Nat.le_of_ble_eq_true rfl) (Nat.le_of_ble_eq_true rfl) ⟨rfl, rfl, rfl⟩
set_option maxHeartbeats 4000000 in
theorem k2_getMinutes {G : xG} {ad : Nat → Nat} {κ : xKp} {σ μ : xSg} {c t : xK} (hI : xIk κ) (R : xRl κ σ μ)  : xM G yX2_getMinutes (ws_ yX2_getMinutes cX2_getMinutes 1 (some Jvm.ClassFile.FieldType.int)) 8 300 0 0 [.ref (ad (ro 16 0))] ad (xj c (xkM G.2.2.1 ad μ) t) (xPv (some (.int (σ 22 0 0))) ad (xj c (xkM G.2.2.1 ad μ) t)) xN := by
  refine xM_of (cc := cX2_getMinutes) (by decide) rfl (fun F hF C => ?_)
  subst hF
  have h30 := hI.2.2.2.2.1
  have h14 := hI.2.2.2.2.2
  have T : μ 29 0 0 = μ 29 0 0 := rfl
  show xX F _ _ _ 0 0 0 [(0, .ref (ad (ro 16 0)))] []
  refine x_aload_n C dX2_getMinutes_0 rfl 0 rfl ?_
  refine x_get C fl_X2_84 (r := ro 16 0) rfl (xj_m (by decide) (by decide) rfl) (v := .int (μ 27 0 0)) rfl dX2_getMinutes_1 ?_
  refine x_top (y := σ 22 0 0) (R.1 (27, 22) (by decide) 0) ?_
  exact x_iret C dX2_getMinutes_4 (Nat.le_of_ble_eq_true rfl) (Nat.le_of_ble_eq_true rfl) ⟨rfl, rfl, rfl⟩
set_option maxHeartbeats 4000000 in
theorem k2_getEarned {G : xG} {ad : Nat → Nat} {κ : xKp} {σ μ : xSg} {c t : xK} (hI : xIk κ) (R : xRl κ σ μ)  : xM G yX2_getEarned (ws_ yX2_getEarned cX2_getEarned 1 (some Jvm.ClassFile.FieldType.int)) 8 300 0 0 [.ref (ad (ro 16 0))] ad (xj c (xkM G.2.2.1 ad μ) t) (xPv (some (.int (σ 23 0 0))) ad (xj c (xkM G.2.2.1 ad μ) t)) xN := by
  refine xM_of (cc := cX2_getEarned) (by decide) rfl (fun F hF C => ?_)
  subst hF
  have h30 := hI.2.2.2.2.1
  have h14 := hI.2.2.2.2.2
  have T : μ 29 0 0 = μ 29 0 0 := rfl
  show xX F _ _ _ 0 0 0 [(0, .ref (ad (ro 16 0)))] []
  refine x_aload_n C dX2_getEarned_0 rfl 0 rfl ?_
  refine x_get C fl_X2_135 (r := ro 16 0) rfl (xj_m (by decide) (by decide) rfl) (v := .int (μ 28 0 0)) rfl dX2_getEarned_1 ?_
  refine x_top (y := σ 23 0 0) (R.1 (28, 23) (by decide) 0) ?_
  exact x_iret C dX2_getEarned_4 (Nat.le_of_ble_eq_true rfl) (Nat.le_of_ble_eq_true rfl) ⟨rfl, rfl, rfl⟩
set_option maxHeartbeats 4000000 in
theorem k2_thrown {G : xG} {ad : Nat → Nat} {κ : xKp} {σ μ : xSg} {c t : xK} (hI : xIk κ) (R : xRl κ σ μ)  : xM G yX2_thrown (ws_ yX2_thrown cX2_thrown 1 (some Jvm.ClassFile.FieldType.int)) 8 300 0 0 [.ref (ad (ro 16 0))] ad (xj c (xkM G.2.2.1 ad μ) t) (xPv (some (.int (μ 29 0 0))) ad (xj c (xkM G.2.2.1 ad μ) t)) xN := by
  refine xM_of (cc := cX2_thrown) (by decide) rfl (fun F hF C => ?_)
  subst hF
  have h30 := hI.2.2.2.2.1
  have h14 := hI.2.2.2.2.2
  have T : μ 29 0 0 = μ 29 0 0 := rfl
  show xX F _ _ _ 0 0 0 [(0, .ref (ad (ro 16 0)))] []
  refine x_aload_n C dX2_thrown_0 rfl 0 rfl ?_
  refine x_get C fl_X2_87 (r := ro 16 0) rfl (xj_m (by decide) (by decide) rfl) (v := .int (μ 29 0 0)) rfl dX2_thrown_1 ?_
  refine x_top (y := μ 29 0 0) T ?_
  exact x_iret C dX2_thrown_4 (Nat.le_of_ble_eq_true rfl) (Nat.le_of_ble_eq_true rfl) ⟨rfl, rfl, rfl⟩
set_option maxHeartbeats 4000000 in
theorem k2_isSound {G : xG} {ad : Nat → Nat} {κ : xKp} {σ μ : xSg} {c t : xK} (hI : xIk κ) (R : xRl κ σ μ)  : xM G yX2_isSound (ws_ yX2_isSound cX2_isSound 1 (some Jvm.ClassFile.FieldType.boolean)) 8 300 0 0 [.ref (ad (ro 16 0))] ad (xj c (xkM G.2.2.1 ad μ) t) (xPv (some (.int (1))) ad (xj c (xkM G.2.2.1 ad μ) t)) xN := by
  refine xM_of (cc := cX2_isSound) (by decide) rfl (fun F hF C => ?_)
  subst hF
  have h30 := hI.2.2.2.2.1
  have h14 := hI.2.2.2.2.2
  have T : μ 29 0 0 = μ 29 0 0 := rfl
  show xX F _ _ _ 0 0 0 [(0, .ref (ad (ro 16 0)))] []
  refine x_iconst (v := 1) C dX2_isSound_0 (by decide) ?_
  exact x_zret C rfl dX2_isSound_1 (Nat.le_of_ble_eq_true rfl) (Nat.le_of_ble_eq_true rfl) ⟨rfl, rfl, rfl⟩
