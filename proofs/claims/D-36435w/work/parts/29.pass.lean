/-! ===== PASS ===== -/
/-- a week's end at one box; at the first k boxes -/
def sP1 (σ : xSg) (j : Nat) : xSg := xup (if σ 14 j 0 = 0 then sGn σ j 10 else σ) 15 j 0 0
def sPn (σ : xSg) : Nat → xSg
  | 0 => σ
  | k + 1 => sP1 (sPn σ k) k
theorem sP1_n {σ : xSg} {j f i s : Nat} (h : f ≠ 3 ∧ f ≠ 9 ∧ f ≠ 10 ∧ f ≠ 11 ∧ f ≠ 18 ∧ f ≠ 15) : sP1 σ j f i s = σ f i s := by
  unfold sP1
  rw [xup_n (by omega)]
  split
  · exact sGn_n (by omega) 10
  · rfl
theorem sPn_n {σ : xSg} {f i s : Nat} (h : f ≠ 3 ∧ f ≠ 9 ∧ f ≠ 10 ∧ f ≠ 11 ∧ f ≠ 18 ∧ f ≠ 15) : ∀ k, sPn σ k f i s = σ f i s
  | 0 => rfl
  | k + 1 => (sP1_n h).trans (sPn_n h k)
theorem xIs_of {κ : xKp} {σ σ' : xSg} (h : ∀ i s, σ' 17 i s = σ 17 i s) (hS : xIs κ σ) : xIs κ σ' := fun j hj s hs => by rw [h]; exact hS j hj s hs
set_option maxHeartbeats 4000000 in
theorem k1_pass {G : xG} {ad0 : Nat → Nat} {κ : xKp} {σ : xSg} {m t : xK} (hI : xIk κ) (hS : xIs κ σ) (ht : t 58 0 = none) : xM G yX1_pass (ws_ yX1_pass cX1_pass 3 (some Jvm.ClassFile.FieldType.int)) 20 600 10 60 [.ref (ad0 (ro 0 0))] ad0 (xj (xkC G.2.2.1 ad0 κ σ) m t) (fun v ad' ct' => ad' = ad0 ∧ σ 21 0 0 < 99 ∧ v = some (.int (σ 21 0 0 + 1)) ∧ ct' = xj (xkC G.2.2.1 ad0 κ (xup (xup (sPn σ (κ 1)) 21 0 0 (σ 21 0 0 + 1)) 22 0 0 600)) m t) (fun E ad' ct' => ad' = ad0 ∧ ct' = xj (xkC G.2.2.1 ad0 κ σ) m t ∧ E = xISE ∧ ¬ σ 21 0 0 < 99) := by
  refine xM_of (cc := cX1_pass) (by decide) rfl (fun F hF C => ?_)
  subst hF
  show xX F _ _ _ 0 0 0 [(0, .ref (ad0 (ro 0 0)))] []
  refine x_aload_n C dX1_pass_0 rfl 0 rfl ?_
  refine x_get C fl_X1_172 (r := ro 0 0) rfl (xj_c (by decide) xkC_sr) (v := .int (σ 21 0 0)) rfl dX1_pass_1 ?_
  refine x_bipush (v := 99) C dX1_pass_4 (by decide) ?_
  refine x_icmp_ge (tgt := 13) C dX1_pass_6 (by decide) (fun c0 => ?_) (fun c0 => ?_)
  · refine x_iconst (v := 0) C dX1_pass_13 (by decide) ?_
    refine x_callS (rest := []) C (k_requireState 0) cf_X1_57 hd_X1_requireState ⟨Nat.le_of_ble_eq_true rfl, Nat.le_of_ble_eq_true rfl⟩ rfl (Nat.le_of_ble_eq_true rfl) ⟨Nat.le_of_ble_eq_true rfl, Nat.le_of_ble_eq_true rfl⟩ dX1_pass_14 (fun v ad' ct' q => absurd rfl q.1) (fun E ad' ct' q => ?_)
    obtain ⟨-, rfl, e9, rfl⟩ := q; obtain rfl := e9.symm
    exact x_out C (fun _ h => nomatch h) (Nat.le_of_ble_eq_true rfl) (Nat.le_of_ble_eq_true rfl) ⟨rfl, rfl, rfl, Int32.not_lt.mpr c0⟩
  · refine x_iconst (v := 1) C dX1_pass_9 (by decide) ?_
    refine x_goto (tgt := 14) C dX1_pass_10 (by decide) ?_
    refine x_callS (rest := []) C (k_requireState 1) cf_X1_57 hd_X1_requireState ⟨Nat.le_of_ble_eq_true rfl, Nat.le_of_ble_eq_true rfl⟩ rfl (Nat.le_of_ble_eq_true rfl) ⟨Nat.le_of_ble_eq_true rfl, Nat.le_of_ble_eq_true rfl⟩ dX1_pass_14 (fun v ad' ct' q => ?_) (fun E ad' ct' q => absurd q.1 (by decide))
    obtain ⟨-, rfl, e9, rfl⟩ := q; obtain rfl := e9.symm
    refine x_aload_n C dX1_pass_17 rfl 0 rfl ?_
    refine x_get C fl_X1_34 (r := ro 0 0) rfl (xj_c (by decide) xkC_sr) (v := .ref (ad0 (ro 3 0))) rfl dX1_pass_18 ?_
    refine x_iter C (kL := 3) (by decide) (xkC_L3) ht ⟨Nat.le_of_ble_eq_true rfl, Nat.le_of_ble_eq_true rfl⟩ (Nat.le_of_ble_eq_true rfl) ⟨Nat.le_of_ble_eq_true rfl, Nat.le_of_ble_eq_true rfl⟩ dX1_pass_21 (fun ad had => ?_)
    rw [← had (ro 0 0) (ro_ne (by decide) (by decide) (by decide))]
    refine x_astore_n (lv' := [(1, .ref (ad (ro 58 0))), (0, .ref (ad (ro 0 0)))]) C dX1_pass_24 rfl (by decide) rfl ?_
    have loop : ∀ (n c : Nat) (l : Int32), c + n = κ 1 → xX F (xQ F (fun v ad' ct' => ad' = ad0 ∧ σ 21 0 0 < 99 ∧ v = some (.int (σ 21 0 0 + 1)) ∧ ct' = xj (xkC F.1.2.2.1 ad0 κ (xup (xup (sPn σ (κ 1)) 21 0 0 (σ 21 0 0 + 1)) 22 0 0 600)) m t) (fun E ad' ct' => ad' = ad0 ∧ ct' = xj (xkC F.1.2.2.1 ad0 κ σ) m t ∧ E = xISE ∧ ¬ σ 21 0 0 < 99) 10 60) ad (xj (xkC F.1.2.2.1 ad κ (sPn σ c)) m (cu t 58 0 (xIt c l (σ 27 0 0) (ad (ro 3 0))))) 2 10 25 [(1, .ref (ad (ro 58 0))), (0, .ref (ad (ro 0 0)))] [] := by
      intro n
      induction n with
      | zero =>
        intro c l hk
        have h14 := hI.2.2.2.2.2
        have hL9 : xkC F.1.2.2.1 ad κ (sPn σ c) 3 0 = some (xAl (σ 27 0 0) (if κ 3 = 0 then F.1.2.2.1 301 else ad (ro 4 0)) (κ 1)) := by rw [xkC_L3, sPn_n (by decide) c]; rfl
        refine x_aload_n C dX1_pass_25 rfl 0 rfl ?_
        refine x_hasNext C (kL := 3) (by decide) hL9 (by omega) (by omega) ⟨Nat.le_of_ble_eq_true rfl, Nat.le_of_ble_eq_true rfl⟩ (Nat.le_of_ble_eq_true rfl) ⟨Nat.le_of_ble_eq_true rfl, Nat.le_of_ble_eq_true rfl⟩ dX1_pass_26 ?_
        refine x_top (y := 0) (if_neg (by omega)) ?_
        refine x_if_eq (tgt := 64) C dX1_pass_31 (by decide) (fun _ => ?_) (fun h => absurd rfl h)
        obtain rfl : c = κ 1 := by omega
        refine x_aload_n C dX1_pass_64 rfl 1 rfl ?_
        refine x_dup C dX1_pass_65 rfl ?_
        refine x_get C fl_X1_172 (r := ro 0 0) rfl (xj_c (by decide) xkC_sr) (v := .int ((sPn σ (κ 1)) 21 0 0)) rfl dX1_pass_66 ?_
        refine x_top (y := σ 21 0 0) (sPn_n (by decide) _) ?_
        refine x_iconst (v := 1) C dX1_pass_69 (by decide) ?_
        refine x_iadd C dX1_pass_70 ?_
        refine x_put C fl_X1_172 (r := ro 0 0) rfl (xj_c (by decide) xkC_sr) rfl rfl (Nat.le_of_ble_eq_true rfl) dX1_pass_71 ?_
        refine x_pc (k := 0) (by decide) (pc_sr21) ?_
        refine x_aload_n C dX1_pass_74 rfl 1 rfl ?_
        refine x_sipush (v := 600) C dX1_pass_75 (by decide) ?_
        refine x_put C fl_X1_37 (r := ro 0 0) rfl (xj_c (by decide) xkC_sr) rfl rfl (Nat.le_of_ble_eq_true rfl) dX1_pass_78 ?_
        refine x_pc (k := 0) (by decide) (pc_sr22) ?_
        refine x_aload_n C dX1_pass_81 rfl 1 rfl ?_
        refine x_get C fl_X1_172 (r := ro 0 0) rfl (xj_c (by decide) xkC_sr) (v := .int ((xup (xup (sPn σ (κ 1)) 21 0 0 ((σ 21 0 0) + 1)) 22 0 0 600) 21 0 0)) rfl dX1_pass_82 ?_
        refine x_top (y := (σ 21 0 0) + 1) (by first | exact xup_s | simp [xup]) ?_
        refine x_backAd had ht ?_
        exact x_iret C dX1_pass_85 (Nat.le_of_ble_eq_true rfl) (Nat.le_of_ble_eq_true rfl) ⟨rfl, Int32.not_le.mp c0, rfl, rfl⟩
      | succ n ih =>
        intro c l hk
        have h14 := hI.2.2.2.2.2
        have hL9 : xkC F.1.2.2.1 ad κ (sPn σ c) 3 0 = some (xAl (σ 27 0 0) (if κ 3 = 0 then F.1.2.2.1 301 else ad (ro 4 0)) (κ 1)) := by rw [xkC_L3, sPn_n (by decide) c]; rfl
        refine x_aload_n C dX1_pass_25 rfl 0 rfl ?_
        refine x_hasNext C (kL := 3) (by decide) hL9 (by omega) (by omega) ⟨Nat.le_of_ble_eq_true rfl, Nat.le_of_ble_eq_true rfl⟩ (Nat.le_of_ble_eq_true rfl) ⟨Nat.le_of_ble_eq_true rfl, Nat.le_of_ble_eq_true rfl⟩ dX1_pass_26 ?_
        refine x_top (y := 1) (if_pos (by omega)) ?_
        refine x_if_eq (tgt := 64) C dX1_pass_31 (by decide) (fun h => absurd h (by decide)) (fun _ => ?_)
        have hc1 : c < κ 1 := by omega
        have h13 := hI.2.2.1
        have h33 := hI.2.2.2.1
        have hne : κ 3 ≠ 0 := by omega
        refine x_aload_n C dX1_pass_34 rfl 0 rfl ?_
        refine x_next C (kL := 3) (kA := 4) (by decide) (by decide) (hL9.trans (by rw [if_neg hne])) (xkC_ba hne) hc1 h13 (by omega) (if_pos hc1) ⟨Nat.le_of_ble_eq_true rfl, Nat.le_of_ble_eq_true rfl⟩ (Nat.le_of_ble_eq_true rfl) ⟨Nat.le_of_ble_eq_true rfl, Nat.le_of_ble_eq_true rfl⟩ dX1_pass_35 ?_
        refine x_cast C (xR_o xci3 rfl (xj_c (by decide) (xkC_box hc1))) q249 dX1_pass_40 ?_
        refine x_astore_n (lv' := [(2, .ref (ad (ro 5 c))), (1, .ref (ad (ro 58 0))), (0, .ref (ad (ro 0 0)))]) C dX1_pass_43 rfl (by decide) rfl ?_
        refine x_aload_n C dX1_pass_44 rfl 0 rfl ?_
        refine x_get C fl_X1_98 (r := ro 5 c) rfl (xj_c (by decide) (xkC_box hc1)) (v := .int ((sPn σ c) 14 c 0)) rfl dX1_pass_45 ?_
        refine x_if_ne (tgt := 56) C dX1_pass_48 (by decide) (fun c1 => ?_) (fun c1 => ?_)
        · refine x_aload_n C dX1_pass_56 rfl 0 rfl ?_
          refine x_iconst (v := 0) C dX1_pass_57 (by decide) ?_
          refine x_put C fl_X1_199 (r := ro 5 c) rfl (xj_c (by decide) (xkC_box hc1)) rfl rfl (Nat.le_of_ble_eq_true rfl) dX1_pass_58 ?_
          refine x_pc (k := 5) (by decide) (pc_box15 hc1) ?_
          refine x_goto (tgt := 25) C dX1_pass_61 (by decide) ?_
          refine x_lv (lv' := [(1, .ref (ad (ro 58 0))), (0, .ref (ad (ro 0 0)))]) [1, 2] rfl ?_
          have e9 : sPn σ (c + 1) = xup (sPn σ c) 15 c 0 0 := by show sP1 _ _ = _; unfold sP1; rw [if_neg c1]
          have h9 := ih (c + 1) (nI c) (by omega)
          rw [e9] at h9
          exact h9
        · refine x_aload_n C dX1_pass_51 rfl 2 rfl ?_
          refine x_aload_n C dX1_pass_52 rfl 0 rfl ?_
          refine x_callV (rest := []) C (k1_guests hI (xIs_of (fun i s => sPn_n (by decide) c) hS) hc1) cf_X1_195 ⟨rfl, hd_X1_guests⟩ ⟨Nat.le_of_ble_eq_true rfl, Nat.le_of_ble_eq_true rfl⟩ (xR_o xci0 rfl (xj_c (by decide) xkC_sr)) rfl (Nat.le_of_ble_eq_true rfl) ⟨Nat.le_of_ble_eq_true rfl, Nat.le_of_ble_eq_true rfl⟩ dX1_pass_53 (xPv_i ?_) xN_e
          refine x_aload_n C dX1_pass_56 rfl 0 rfl ?_
          refine x_iconst (v := 0) C dX1_pass_57 (by decide) ?_
          refine x_put C fl_X1_199 (r := ro 5 c) rfl (xj_c (by decide) (xkC_box hc1)) rfl rfl (Nat.le_of_ble_eq_true rfl) dX1_pass_58 ?_
          refine x_pc (k := 5) (by decide) (pc_box15 hc1) ?_
          refine x_goto (tgt := 25) C dX1_pass_61 (by decide) ?_
          refine x_lv (lv' := [(1, .ref (ad (ro 58 0))), (0, .ref (ad (ro 0 0)))]) [1, 2] rfl ?_
          have e9 : sPn σ (c + 1) = xup (sGn (sPn σ c) c 10) 15 c 0 0 := by show sP1 _ _ = _; unfold sP1; rw [if_pos c1]
          have h9 := ih (c + 1) (nI c) (by omega)
          rw [e9] at h9
          exact h9
    exact loop (κ 1) 0 (-1) (by omega)
