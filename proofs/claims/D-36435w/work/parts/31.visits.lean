/-! ===== VISITS: changeNeedle ===== -/
section XMU
variable {F : xFr} {cc : ByteArray} {nL : Nat} {ret : Option FieldType} {rm : Room} {nm : String} {tb : List ExceptionTableEntry} {Q : State → Prop} {ad : Nat → Nat} {κ : xKp} {σ : xSg} {c m t : xK} {cells slots pc : Nat} {lv : List (Nat × Value)} {rest : List Value}
theorem x_newMu (C : xC F cc nL "SelectoRoute" ret rm nm tb) {N : Nat} {n : Int32} (hN : n = nI N) (hN2 : N < 1000) (ht : t 60 0 = none) (hcs : cells + 1 ≤ rm.cells ∧ slots + N ≤ rm.slots) (hdg : decode cc pc = .ok (.newarray .boolean, 2))
    (kk : ∀ ad2, (∀ x, x ≠ ro 60 0 → ad2 x = ad x) → xX F Q ad2 (xj (xkC F.1.2.2.1 ad2 κ σ) m (cu t 60 0 (.inl (F.1.2.2.1 1001, N, .inl (fun _ => 0))))) (cells + 1) (slots + N) (pc + 2) lv (.ref (ad2 (ro 60 0)) :: rest)) : xX F Q ad (xj (xkC F.1.2.2.1 ad κ σ) m t) cells slots pc lv (.int n :: rest) := by
  subst hN
  refine x_newZ C N (r := ro 60 0) (xj_t (by decide) (by decide) ht) (nI_pos (by omega)) (nI_clamp (by omega)) (by show N * 1 ≤ _; omega) hcs hdg (fun ad2 had => ?_)
  have h := kk ad2 had
  rw [xk_ad (had16 (by decide) (by decide) had)] at h
  rw [xj_ut (by decide) (by decide)]
  exact h
theorem x_backMu {ad0 : Nat → Nat} {e0 : va_E} {st : List Value} (had : ∀ x, x ≠ ro 60 0 → ad x = ad0 x) (ht : t 60 0 = none) (kk : xX F Q ad0 (xj (xkC F.1.2.2.1 ad0 κ σ) m t) cells slots pc lv st) : xX F Q ad (xj (xkC F.1.2.2.1 ad κ σ) m (cu t 60 0 e0)) cells slots pc lv st := by
  rw [xk_ad (had16 (by decide) (by decide) had), ← xj_ut (by decide) (by decide)]
  refine x_sub (fun r e he => ?_) kk
  have hne : r ≠ ro 60 0 := fun e9 => by
    subst e9
    rw [xj_t (by decide) (by decide) ht] at he
    cases he
  exact ⟨xu_n hne he, (had r hne).symm⟩
theorem xT_backMu {ad0 : Nat → Nat} {e0 : va_E} {E : String} (had : ∀ x, x ≠ ro 60 0 → ad x = ad0 x) (ht : t 60 0 = none) (kk : xT F Q ad0 (xj (xkC F.1.2.2.1 ad0 κ σ) m t) cells slots pc lv E) : xT F Q ad (xj (xkC F.1.2.2.1 ad κ σ) m (cu t 60 0 e0)) cells slots pc lv E := by
  rw [xk_ad (had16 (by decide) (by decide) had), ← xj_ut (by decide) (by decide)]
  refine xT_sub (fun r e he => ?_) kk
  have hne : r ≠ ro 60 0 := fun e9 => by
    subst e9
    rw [xj_t (by decide) (by decide) ht] at he
    cases he
  exact ⟨xu_n hne he, (had r hne).symm⟩
theorem cu_n {c : xK} {k i k' i' : Nat} {e : va_E} {o : Option va_E} (h : ¬ (k' = k ∧ i' = i)) (hh : c k' i' = o) : cu c k i e k' i' = o := (if_neg h).trans hh
end XMU
theorem up1 {x : Int32} : (∀ i, i < 1 → ¬ upd (fun _ => 0) 0 x i = 0) ↔ ¬ x = 0 := by
  refine ⟨fun h e => h 0 (by decide) (by rw [pk_us]; exact e), fun h i hi => ?_⟩
  obtain rfl : i = 0 := by omega
  rw [pk_us]; exact h
set_option maxHeartbeats 4000000 in
theorem k1_changeNeedle {G : xG} {ad0 : Nat → Nat} {κ : xKp} {σ : xSg} {m t : xK} (hI : xIk κ) (hV : ∀ j, j < κ 1 → vp_nar .boolean (σ 15 j 0) = σ 15 j 0) (ht60 : t 60 0 = none) (ht61 : t 61 0 = none) (ht62 : t 62 0 = none) (b : Int32) : xM G yX1_changeNeedle (wsW_ yX1_changeNeedle cX1_changeNeedle 4 (some Jvm.ClassFile.FieldType.int) [(6, 21, 24, 202)]) 20 600 10 60 [.ref (ad0 (ro 0 0)), .int b] ad0 (xj (xkC G.2.2.1 ad0 κ σ) m t) (fun v ad' ct' => ad' = ad0 ∧ ∃ j0, j0 < κ 1 ∧ b = nI j0 ∧ (¬ σ 15 j0 0 = 0 ∧ ¬ σ 22 0 0 < 5) ∧ v = some (.int (σ 10 j0 0)) ∧ ct' = xj (xkC G.2.2.1 ad0 κ (xup (xup σ 22 0 0 (σ 22 0 0 - 5)) 10 j0 0 0)) m t) (fun E ad' ct' => ad' = ad0 ∧ ct' = xj (xkC G.2.2.1 ad0 κ σ) m t ∧ (E = xIOB ∧ ¬ xIx b (κ 1) ∨ E = xUOE ∧ ∃ j0, j0 < κ 1 ∧ b = nI j0 ∧ ¬ (¬ σ 15 j0 0 = 0 ∧ ¬ σ 22 0 0 < 5))) := by
  refine xMW_of (hh := [(6, 21, 24, 202)]) (cc := cX1_changeNeedle) (by decide) rfl (fun F hF C => ?_)
  subst hF
  show xX F _ _ _ 0 0 0 [(0, .ref (ad0 (ro 0 0))), (1, .int b)] []
  refine x_aload_n C dX1_changeNeedle_0 rfl 0 rfl ?_
  refine x_iload_n C dX1_changeNeedle_1 rfl 1 rfl ?_
  refine x_callV (rest := []) C (k1_boxAt hI b) cf_X1_84 ⟨rfl, hd_X1_boxAt⟩ ⟨Nat.le_of_ble_eq_true rfl, Nat.le_of_ble_eq_true rfl⟩ (xR_o xci0 rfl (xj_c (by decide) xkC_sr)) rfl (Nat.le_of_ble_eq_true rfl) ⟨Nat.le_of_ble_eq_true rfl, Nat.le_of_ble_eq_true rfl⟩ dX1_changeNeedle_2 (fun v ad' ct' q => ?_) (fun E ad' ct' q => ?_)
  rotate_left
  · obtain ⟨rfl, e9, rfl, hx⟩ := q; obtain rfl := e9.symm
    exact x_out C (by decide) (Nat.le_of_ble_eq_true rfl) (Nat.le_of_ble_eq_true rfl) ⟨rfl, rfl, Or.inl ⟨rfl, hx⟩⟩
  obtain ⟨e9, rfl, j, hj, rfl, rfl⟩ := q; obtain rfl := e9.symm
  refine x_astore_n (lv' := [(2, .ref (ad0 (ro 5 j))), (0, .ref (ad0 (ro 0 0))), (1, .int (nI j))]) C dX1_changeNeedle_5 rfl (by decide) rfl ?_
  refine x_aload_n C dX1_changeNeedle_6 rfl 1 rfl ?_
  refine x_iconst (v := 5) C dX1_changeNeedle_7 (by decide) ?_
  refine x_iconst (v := 1) C dX1_changeNeedle_8 (by decide) ?_
  refine x_newMu C (N := 1) rfl (by decide) ht60 ⟨Nat.le_of_ble_eq_true rfl, Nat.le_of_ble_eq_true rfl⟩ dX1_changeNeedle_9 (fun ad had => ?_)
  rw [← had (ro 0 0) (ro_ne (by decide) (by decide) (by decide)), ← had (ro 5 j) (ro_ne (by decide) (by decide) (by omega))]
  refine x_dup C dX1_changeNeedle_11 rfl ?_
  refine x_iconst (v := 0) C dX1_changeNeedle_12 (by decide) ?_
  refine x_aload_n C dX1_changeNeedle_13 rfl 0 rfl ?_
  refine x_get C fl_X1_199 (r := ro 5 j) rfl (xj_c (by decide) (xkC_box hj)) (v := .int (σ 15 j 0)) rfl dX1_changeNeedle_14 ?_
  refine xi_zst C 0 rfl (xj_t (by decide) (by decide) cu_s) rfl (by decide) rfl (hV j hj) dX1_changeNeedle_17 ?_
  refine x_pt (k := 60) (by decide) (by decide) cu_cu ?_
  refine x_callV (rest := []) C (k1_works (L := 1) (f := (upd (fun _ => 0) 0 (σ 15 j 0))) (cu_n (by decide) ht61) (by decide) cu_s 5) cf_X1_211 ⟨rfl, hd_X1_works⟩ ⟨Nat.le_of_ble_eq_true rfl, Nat.le_of_ble_eq_true rfl⟩ (xR_o xci0 rfl (xj_c (by decide) xkC_sr)) rfl (Nat.le_of_ble_eq_true rfl) ⟨Nat.le_of_ble_eq_true rfl, Nat.le_of_ble_eq_true rfl⟩ dX1_changeNeedle_18 (fun v ad' ct' q => ?_) (fun E ad' ct' q => ?_)
  rotate_left
  · obtain ⟨rfl, e9, rfl, hno⟩ := q; obtain rfl := e9.symm
    refine x_catch C [] ⟨6, 21, 24, 202⟩ [] rfl (fun z hz => nomatch hz) (by decide) (by decide) q827 (by decide) (fun qe => ?_)
    refine x_astore_n (lv' := [(3, .ref qe), (2, .ref (ad (ro 5 j))), (0, .ref (ad (ro 0 0))), (1, .int (nI j))]) C dX1_changeNeedle_24 rfl (by decide) rfl ?_
    refine x_throwUOE C (r := ro 62 0) (a := qe) (w4 := 1) (fun h0 k => lv_aload_n C.hx C.hb dX1_changeNeedle_30 rfl (lv_at h0 0 rfl) k) (xj_t (by decide) (by decide) (cu_n (by decide) ht62)) ⟨Nat.le_of_ble_eq_true rfl, Nat.le_of_ble_eq_true rfl⟩ ⟨Nat.le_of_ble_eq_true rfl, Nat.le_of_ble_eq_true rfl⟩ dX1_changeNeedle_25 dX1_changeNeedle_28 dX1_changeNeedle_29 dX1_changeNeedle_31 dX1_changeNeedle_34 ?_
    refine xT_backMu had ht60 ?_
    exact x_out C (by decide) (Nat.le_of_ble_eq_true rfl) (Nat.le_of_ble_eq_true rfl) ⟨rfl, rfl, Or.inr ⟨rfl, j, hj, rfl, fun z => hno ⟨up1.mpr z.1, z.2⟩⟩⟩
  obtain ⟨rfl, e9, hyes, rfl⟩ := q; obtain rfl := e9.symm
  refine x_goto (tgt := 35) C dX1_changeNeedle_21 (by decide) ?_
  refine x_aload_n C dX1_changeNeedle_35 rfl 0 rfl ?_
  refine x_get C fl_X1_159 (r := ro 5 j) rfl (xj_c (by decide) (xkC_box hj)) (v := .int (σ 10 j 0)) rfl dX1_changeNeedle_36 ?_
  refine x_istore_n (lv' := [(3, .int (σ 10 j 0)), (2, .ref (ad (ro 5 j))), (0, .ref (ad (ro 0 0))), (1, .int (nI j))]) C dX1_changeNeedle_39 rfl (by decide) rfl ?_
  refine x_aload_n C dX1_changeNeedle_40 rfl 1 rfl ?_
  refine x_iconst (v := 0) C dX1_changeNeedle_41 (by decide) ?_
  refine x_put C fl_X1_159 (r := ro 5 j) rfl (xj_c (by decide) (xkC_box hj)) rfl rfl (Nat.le_of_ble_eq_true rfl) dX1_changeNeedle_42 ?_
  refine x_pc (k := 5) (by decide) (pc_box10 hj) ?_
  refine x_iload_n C dX1_changeNeedle_45 rfl 0 rfl ?_
  refine x_backMu had ht60 ?_
  exact x_iret C dX1_changeNeedle_46 (Nat.le_of_ble_eq_true rfl) (Nat.le_of_ble_eq_true rfl) ⟨rfl, j, hj, rfl, ⟨up1.mp hyes.1, hyes.2⟩, rfl, rfl⟩
/-- a visit's doings at box j -/
def sVi (σ : xSg) (j : Nat) : xSg := xup (xup (xup (xup (xup (xup (xup (xup (xup σ 22 0 0 (σ 22 0 0 - 40)) 12 j 0 (5 * σ 11 j 0 - σ 9 j 0)) 11 j 0 0) 9 j 0 0) 13 j 0 (σ 13 j 0 + σ 9 j 0 * σ 5 j 0 / 100)) 23 0 0 (σ 23 0 0 + (σ 9 j 0 - σ 9 j 0 * σ 5 j 0 / 100))) 25 0 0 (σ 25 0 0 + σ 9 j 0)) 14 j 0 0) 15 j 0 1
set_option maxHeartbeats 4000000 in
theorem k1_visit {G : xG} {ad0 : Nat → Nat} {κ : xKp} {σ : xSg} {m t : xK} (hI : xIk κ) (ht60 : t 60 0 = none) (ht61 : t 61 0 = none) (ht62 : t 62 0 = none) (b : Int32) : xM G yX1_visit (wsW_ yX1_visit cX1_visit 5 (some Jvm.ClassFile.FieldType.int) [(6, 30, 33, 202)]) 20 600 10 60 [.ref (ad0 (ro 0 0)), .int b] ad0 (xj (xkC G.2.2.1 ad0 κ σ) m t) (fun v ad' ct' => ad' = ad0 ∧ ∃ j0, j0 < κ 1 ∧ b = nI j0 ∧ (σ 15 j0 0 = 0 ∧ ¬ σ 22 0 0 < 40) ∧ v = some (.int (σ 9 j0 0)) ∧ ct' = xj (xkC G.2.2.1 ad0 κ (sVi σ j0)) m t) (fun E ad' ct' => ad' = ad0 ∧ ct' = xj (xkC G.2.2.1 ad0 κ σ) m t ∧ (E = xIOB ∧ ¬ xIx b (κ 1) ∨ E = xUOE ∧ ∃ j0, j0 < κ 1 ∧ b = nI j0 ∧ ¬ (σ 15 j0 0 = 0 ∧ ¬ σ 22 0 0 < 40))) := by
  refine xMW_of (hh := [(6, 30, 33, 202)]) (cc := cX1_visit) (by decide) rfl (fun F hF C => ?_)
  subst hF
  show xX F _ _ _ 0 0 0 [(0, .ref (ad0 (ro 0 0))), (1, .int b)] []
  refine x_aload_n C dX1_visit_0 rfl 0 rfl ?_
  refine x_iload_n C dX1_visit_1 rfl 1 rfl ?_
  refine x_callV (rest := []) C (k1_boxAt hI b) cf_X1_84 ⟨rfl, hd_X1_boxAt⟩ ⟨Nat.le_of_ble_eq_true rfl, Nat.le_of_ble_eq_true rfl⟩ (xR_o xci0 rfl (xj_c (by decide) xkC_sr)) rfl (Nat.le_of_ble_eq_true rfl) ⟨Nat.le_of_ble_eq_true rfl, Nat.le_of_ble_eq_true rfl⟩ dX1_visit_2 (fun v ad' ct' q => ?_) (fun E ad' ct' q => ?_)
  rotate_left
  · obtain ⟨rfl, e9, rfl, hx⟩ := q; obtain rfl := e9.symm
    exact x_out C (by decide) (Nat.le_of_ble_eq_true rfl) (Nat.le_of_ble_eq_true rfl) ⟨rfl, rfl, Or.inl ⟨rfl, hx⟩⟩
  obtain ⟨e9, rfl, j, hj, rfl, rfl⟩ := q; obtain rfl := e9.symm
  refine x_astore_n (lv' := [(2, .ref (ad0 (ro 5 j))), (0, .ref (ad0 (ro 0 0))), (1, .int (nI j))]) C dX1_visit_5 rfl (by decide) rfl ?_
  refine x_aload_n C dX1_visit_6 rfl 1 rfl ?_
  refine x_bipush (v := 40) C dX1_visit_7 (by decide) ?_
  refine x_iconst (v := 1) C dX1_visit_9 (by decide) ?_
  refine x_newMu C (N := 1) rfl (by decide) ht60 ⟨Nat.le_of_ble_eq_true rfl, Nat.le_of_ble_eq_true rfl⟩ dX1_visit_10 (fun ad had => ?_)
  rw [← had (ro 0 0) (ro_ne (by decide) (by decide) (by decide)), ← had (ro 5 j) (ro_ne (by decide) (by decide) (by omega))]
  refine x_dup C dX1_visit_12 rfl ?_
  refine x_iconst (v := 0) C dX1_visit_13 (by decide) ?_
  refine x_aload_n C dX1_visit_14 rfl 0 rfl ?_
  refine x_get C fl_X1_199 (r := ro 5 j) rfl (xj_c (by decide) (xkC_box hj)) (v := .int (σ 15 j 0)) rfl dX1_visit_15 ?_
  refine x_if_ne (tgt := 25) C dX1_visit_18 (by decide) (fun c1 => ?_) (fun c1 => ?_)
  · refine x_iconst (v := 0) C dX1_visit_25 (by decide) ?_
    refine xi_zst C 0 rfl (xj_t (by decide) (by decide) cu_s) rfl (by decide) rfl rfl dX1_visit_26 ?_
    refine x_pt (k := 60) (by decide) (by decide) cu_cu ?_
    refine x_callV (rest := []) C (k1_works (L := 1) (f := (upd (fun _ => 0) 0 0)) (cu_n (by decide) ht61) (by decide) cu_s 40) cf_X1_211 ⟨rfl, hd_X1_works⟩ ⟨Nat.le_of_ble_eq_true rfl, Nat.le_of_ble_eq_true rfl⟩ (xR_o xci0 rfl (xj_c (by decide) xkC_sr)) rfl (Nat.le_of_ble_eq_true rfl) ⟨Nat.le_of_ble_eq_true rfl, Nat.le_of_ble_eq_true rfl⟩ dX1_visit_27 (fun v ad' ct' q => ?_) (fun E ad' ct' q => ?_)
    rotate_left
    · obtain ⟨rfl, e9, rfl, hno⟩ := q; obtain rfl := e9.symm
      refine x_catch C [] ⟨6, 30, 33, 202⟩ [] rfl (fun z hz => nomatch hz) (by decide) (by decide) q827 (by decide) (fun qe => ?_)
      refine x_astore_n (lv' := [(3, .ref qe), (2, .ref (ad (ro 5 j))), (0, .ref (ad (ro 0 0))), (1, .int (nI j))]) C dX1_visit_33 rfl (by decide) rfl ?_
      refine x_throwUOE C (r := ro 62 0) (a := qe) (w4 := 1) (fun h0 k => lv_aload_n C.hx C.hb dX1_visit_39 rfl (lv_at h0 0 rfl) k) (xj_t (by decide) (by decide) (cu_n (by decide) ht62)) ⟨Nat.le_of_ble_eq_true rfl, Nat.le_of_ble_eq_true rfl⟩ ⟨Nat.le_of_ble_eq_true rfl, Nat.le_of_ble_eq_true rfl⟩ dX1_visit_34 dX1_visit_37 dX1_visit_38 dX1_visit_40 dX1_visit_43 ?_
      refine xT_backMu had ht60 ?_
      exact x_out C (by decide) (Nat.le_of_ble_eq_true rfl) (Nat.le_of_ble_eq_true rfl) ⟨rfl, rfl, Or.inr ⟨rfl, j, hj, rfl, fun z => c1 z.1⟩⟩
    obtain ⟨rfl, e9, hyes, rfl⟩ := q; obtain rfl := e9.symm
    exact absurd rfl (up1.mp hyes.1)
  · refine x_iconst (v := 1) C dX1_visit_21 (by decide) ?_
    refine x_goto (tgt := 26) C dX1_visit_22 (by decide) ?_
    refine xi_zst C 0 rfl (xj_t (by decide) (by decide) cu_s) rfl (by decide) rfl rfl dX1_visit_26 ?_
    refine x_pt (k := 60) (by decide) (by decide) cu_cu ?_
    refine x_callV (rest := []) C (k1_works (L := 1) (f := (upd (fun _ => 0) 0 1)) (cu_n (by decide) ht61) (by decide) cu_s 40) cf_X1_211 ⟨rfl, hd_X1_works⟩ ⟨Nat.le_of_ble_eq_true rfl, Nat.le_of_ble_eq_true rfl⟩ (xR_o xci0 rfl (xj_c (by decide) xkC_sr)) rfl (Nat.le_of_ble_eq_true rfl) ⟨Nat.le_of_ble_eq_true rfl, Nat.le_of_ble_eq_true rfl⟩ dX1_visit_27 (fun v ad' ct' q => ?_) (fun E ad' ct' q => ?_)
    rotate_left
    · obtain ⟨rfl, e9, rfl, hno⟩ := q; obtain rfl := e9.symm
      refine x_catch C [] ⟨6, 30, 33, 202⟩ [] rfl (fun z hz => nomatch hz) (by decide) (by decide) q827 (by decide) (fun qe => ?_)
      refine x_astore_n (lv' := [(3, .ref qe), (2, .ref (ad (ro 5 j))), (0, .ref (ad (ro 0 0))), (1, .int (nI j))]) C dX1_visit_33 rfl (by decide) rfl ?_
      refine x_throwUOE C (r := ro 62 0) (a := qe) (w4 := 1) (fun h0 k => lv_aload_n C.hx C.hb dX1_visit_39 rfl (lv_at h0 0 rfl) k) (xj_t (by decide) (by decide) (cu_n (by decide) ht62)) ⟨Nat.le_of_ble_eq_true rfl, Nat.le_of_ble_eq_true rfl⟩ ⟨Nat.le_of_ble_eq_true rfl, Nat.le_of_ble_eq_true rfl⟩ dX1_visit_34 dX1_visit_37 dX1_visit_38 dX1_visit_40 dX1_visit_43 ?_
      refine xT_backMu had ht60 ?_
      exact x_out C (by decide) (Nat.le_of_ble_eq_true rfl) (Nat.le_of_ble_eq_true rfl) ⟨rfl, rfl, Or.inr ⟨rfl, j, hj, rfl, fun z => hno ⟨up1.mpr (by decide), z.2⟩⟩⟩
    obtain ⟨rfl, e9, hyes, rfl⟩ := q; obtain rfl := e9.symm
    refine x_goto (tgt := 44) C dX1_visit_30 (by decide) ?_
    refine x_aload_n C dX1_visit_44 rfl 0 rfl ?_
    refine x_get C fl_X1_110 (r := ro 5 j) rfl (xj_c (by decide) (xkC_box hj)) (v := .int (σ 9 j 0)) rfl dX1_visit_45 ?_
    refine x_istore_n (lv' := [(3, .int (σ 9 j 0)), (2, .ref (ad (ro 5 j))), (0, .ref (ad (ro 0 0))), (1, .int (nI j))]) C dX1_visit_48 rfl (by decide) rfl ?_
    refine x_iload_n C dX1_visit_49 rfl 0 rfl ?_
    refine x_aload_n C dX1_visit_50 rfl 1 rfl ?_
    refine x_getR C fl_X1_218 (r := ro 5 j) rfl (xj_c (by decide) (xkC_box hj)) (v := .int (σ 5 j 0)) rfl dX1_visit_51 ?_
    refine x_imul C dX1_visit_54 ?_
    refine x_bipush (v := 100) C dX1_visit_55 (by decide) ?_
    refine x_idiv C dX1_visit_57 (by decide) ?_
    refine x_istore (lv' := [(4, .int (((σ 9 j 0) * (σ 5 j 0)) / 100)), (3, .int (σ 9 j 0)), (2, .ref (ad (ro 5 j))), (0, .ref (ad (ro 0 0))), (1, .int (nI j))]) C dX1_visit_58 (by decide) rfl ?_
    refine x_aload_n C dX1_visit_60 rfl 2 rfl ?_
    refine x_iconst (v := 5) C dX1_visit_61 (by decide) ?_
    refine x_aload_n C dX1_visit_62 rfl 2 rfl ?_
    refine x_get C fl_X1_221 (r := ro 5 j) rfl (xj_c (by decide) (xkC_box hj)) (v := .int (σ 11 j 0)) rfl dX1_visit_63 ?_
    refine x_imul C dX1_visit_66 ?_
    refine x_iload_n C dX1_visit_67 rfl 1 rfl ?_
    refine x_isub C dX1_visit_68 ?_
    refine x_put C fl_X1_223 (r := ro 5 j) rfl (xj_c (by decide) (xkC_box hj)) rfl rfl (Nat.le_of_ble_eq_true rfl) dX1_visit_69 ?_
    refine x_pc (k := 5) (by decide) (pc_box12 hj) ?_
    refine x_aload_n C dX1_visit_72 rfl 2 rfl ?_
    refine x_iconst (v := 0) C dX1_visit_73 (by decide) ?_
    refine x_put C fl_X1_221 (r := ro 5 j) rfl (xj_c (by decide) (xkC_box hj)) rfl rfl (Nat.le_of_ble_eq_true rfl) dX1_visit_74 ?_
    refine x_pc (k := 5) (by decide) (pc_box11 hj) ?_
    refine x_aload_n C dX1_visit_77 rfl 2 rfl ?_
    refine x_iconst (v := 0) C dX1_visit_78 (by decide) ?_
    refine x_put C fl_X1_110 (r := ro 5 j) rfl (xj_c (by decide) (xkC_box hj)) rfl rfl (Nat.le_of_ble_eq_true rfl) dX1_visit_79 ?_
    refine x_pc (k := 5) (by decide) (pc_box9 hj) ?_
    refine x_aload_n C dX1_visit_82 rfl 2 rfl ?_
    refine x_dup C dX1_visit_83 rfl ?_
    refine x_get C fl_X1_226 (r := ro 5 j) rfl (xj_c (by decide) (xkC_box hj)) (v := .int (σ 13 j 0)) rfl dX1_visit_84 ?_
    refine x_iload C dX1_visit_87 0 rfl ?_
    refine x_iadd C dX1_visit_89 ?_
    refine x_put C fl_X1_226 (r := ro 5 j) rfl (xj_c (by decide) (xkC_box hj)) rfl rfl (Nat.le_of_ble_eq_true rfl) dX1_visit_90 ?_
    refine x_pc (k := 5) (by decide) (pc_box13 hj) ?_
    refine x_aload_n C dX1_visit_93 rfl 3 rfl ?_
    refine x_dup C dX1_visit_94 rfl ?_
    refine x_get C fl_X1_229 (r := ro 0 0) rfl (xj_c (by decide) xkC_sr) (v := .int (σ 23 0 0)) rfl dX1_visit_95 ?_
    refine x_iload_n C dX1_visit_98 rfl 1 rfl ?_
    refine x_iload C dX1_visit_99 0 rfl ?_
    refine x_isub C dX1_visit_101 ?_
    refine x_iadd C dX1_visit_102 ?_
    refine x_put C fl_X1_229 (r := ro 0 0) rfl (xj_c (by decide) xkC_sr) rfl rfl (Nat.le_of_ble_eq_true rfl) dX1_visit_103 ?_
    refine x_pc (k := 0) (by decide) (pc_sr23) ?_
    refine x_aload_n C dX1_visit_106 rfl 3 rfl ?_
    refine x_dup C dX1_visit_107 rfl ?_
    refine x_get C fl_X1_232 (r := ro 0 0) rfl (xj_c (by decide) xkC_sr) (v := .int (σ 25 0 0)) rfl dX1_visit_108 ?_
    refine x_iload_n C dX1_visit_111 rfl 1 rfl ?_
    refine x_iadd C dX1_visit_112 ?_
    refine x_put C fl_X1_232 (r := ro 0 0) rfl (xj_c (by decide) xkC_sr) rfl rfl (Nat.le_of_ble_eq_true rfl) dX1_visit_113 ?_
    refine x_pc (k := 0) (by decide) (pc_sr25) ?_
    refine x_aload_n C dX1_visit_116 rfl 2 rfl ?_
    refine x_iconst (v := 0) C dX1_visit_117 (by decide) ?_
    refine x_put C fl_X1_98 (r := ro 5 j) rfl (xj_c (by decide) (xkC_box hj)) rfl rfl (Nat.le_of_ble_eq_true rfl) dX1_visit_118 ?_
    refine x_pc (k := 5) (by decide) (pc_box14 hj) ?_
    refine x_aload_n C dX1_visit_121 rfl 2 rfl ?_
    refine x_iconst (v := 1) C dX1_visit_122 (by decide) ?_
    refine x_put C fl_X1_199 (r := ro 5 j) rfl (xj_c (by decide) (xkC_box hj)) rfl rfl (Nat.le_of_ble_eq_true rfl) dX1_visit_123 ?_
    refine x_pc (k := 5) (by decide) (pc_box15 hj) ?_
    refine x_iload_n C dX1_visit_126 rfl 1 rfl ?_
    refine x_backMu had ht60 ?_
    exact x_iret C dX1_visit_127 (Nat.le_of_ble_eq_true rfl) (Nat.le_of_ble_eq_true rfl) ⟨rfl, j, hj, rfl, ⟨c1, hyes.2⟩, rfl, rfl⟩
