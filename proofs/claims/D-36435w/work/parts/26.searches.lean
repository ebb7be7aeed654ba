/-! ===== SEARCHES: least, mostAsked ===== -/
def oI : Option Nat → Int32
  | none => -1
  | some b => nI b
/-- the slot with a disc and the fewest plays, the first of them, among the first k -/
def sLe (σ : xSg) (j : Nat) : Nat → Option Nat
  | 0 => none
  | k + 1 => if ¬ σ 17 j k = -1 ∧ (∀ b, sLe σ j k = some b → σ 18 j k < σ 18 j b) then some k else sLe σ j k
theorem sLe_lt {σ : xSg} {j b : Nat} : ∀ {k : Nat}, sLe σ j k = some b → b < k
  | 0, h => by cases h
  | k + 1, h => by
    unfold sLe at h
    split at h
    · cases h; omega
    · have := sLe_lt h; omega
/-- the song asked most, the first of them, among the first k -/
def sMo (σ : xSg) (j : Nat) : Nat → Nat
  | 0 => 0
  | k + 1 => if σ 19 j (sMo σ j k) < σ 19 j k then k else sMo σ j k
theorem sMo_lt {σ : xSg} {j : Nat} : ∀ k : Nat, k ≤ 100 → sMo σ j k < 100
  | 0, _ => by show 0 < 100; omega
  | k + 1, h => by
    unfold sMo
    split
    · omega
    · exact sMo_lt k (by omega)
set_option maxHeartbeats 4000000 in
theorem k1_mostAsked {G : xG} {ad : Nat → Nat} {κ : xKp} {σ : xSg} {m t : xK} (hI : xIk κ) (b : Int32) : xM G yX1_mostAsked (ws_ yX1_mostAsked cX1_mostAsked 5 (some Jvm.ClassFile.FieldType.int)) 20 600 10 60 [.ref (ad (ro 0 0)), .int b] ad (xj (xkC G.2.2.1 ad κ σ) m t) (fun v ad' ct' => ad' = ad ∧ ct' = xj (xkC G.2.2.1 ad κ σ) m t ∧ ∃ j0, j0 < κ 1 ∧ b = nI j0 ∧ 0 < σ 19 j0 (sMo σ j0 100) ∧ v = some (.int (nI (sMo σ j0 100)))) (fun E ad' ct' => ad' = ad ∧ ct' = xj (xkC G.2.2.1 ad κ σ) m t ∧ (E = xIOB ∧ ¬ xIx b (κ 1) ∨ E = xNSE ∧ ∃ j0, j0 < κ 1 ∧ b = nI j0 ∧ ¬ 0 < σ 19 j0 (sMo σ j0 100))) := by
  refine xM_of (cc := cX1_mostAsked) (by decide) rfl (fun F hF C => ?_)
  subst hF
  show xX F _ _ _ 0 0 0 [(0, .ref (ad (ro 0 0))), (1, .int b)] []
  refine x_aload_n C dX1_mostAsked_0 rfl 0 rfl ?_
  refine x_iload_n C dX1_mostAsked_1 rfl 1 rfl ?_
  refine x_callV (rest := []) C (k1_boxAt hI b) cf_X1_84 ⟨rfl, hd_X1_boxAt⟩ ⟨Nat.le_of_ble_eq_true rfl, Nat.le_of_ble_eq_true rfl⟩ (xR_o xci0 rfl (xj_c (by decide) xkC_sr)) rfl (Nat.le_of_ble_eq_true rfl) ⟨Nat.le_of_ble_eq_true rfl, Nat.le_of_ble_eq_true rfl⟩ dX1_mostAsked_2 (fun v ad' ct' q => ?_) (fun E ad' ct' q => ?_)
  rotate_left
  · obtain ⟨rfl, e9, rfl, hx⟩ := q; obtain rfl := e9.symm
    exact x_out C (fun _ h => nomatch h) (Nat.le_of_ble_eq_true rfl) (Nat.le_of_ble_eq_true rfl) ⟨rfl, rfl, Or.inl ⟨rfl, hx⟩⟩
  obtain ⟨e9, rfl, j, hj, rfl, rfl⟩ := q; obtain rfl := e9.symm
  refine x_astore_n (lv' := [(2, .ref (ad (ro 5 j))), (0, .ref (ad (ro 0 0))), (1, .int (nI j))]) C dX1_mostAsked_5 rfl (by decide) rfl ?_
  refine x_iconst (v := 0) C dX1_mostAsked_6 (by decide) ?_
  refine x_istore_n (lv' := [(3, .int 0), (2, .ref (ad (ro 5 j))), (0, .ref (ad (ro 0 0))), (1, .int (nI j))]) C dX1_mostAsked_7 rfl (by decide) rfl ?_
  refine x_iconst (v := 0) C dX1_mostAsked_8 (by decide) ?_
  refine x_istore (lv' := [(4, .int 0), (3, .int 0), (2, .ref (ad (ro 5 j))), (0, .ref (ad (ro 0 0))), (1, .int (nI j))]) C dX1_mostAsked_9 (by decide) rfl ?_
  have loop : ∀ n k : Nat, k + n = 100 → xX F (xQ F (fun v ad' ct' => ad' = ad ∧ ct' = xj (xkC F.1.2.2.1 ad κ σ) m t ∧ ∃ j0, j0 < κ 1 ∧ (nI j) = nI j0 ∧ 0 < σ 19 j0 (sMo σ j0 100) ∧ v = some (.int (nI (sMo σ j0 100)))) (fun E ad' ct' => ad' = ad ∧ ct' = xj (xkC F.1.2.2.1 ad κ σ) m t ∧ (E = xIOB ∧ ¬ xIx (nI j) (κ 1) ∨ E = xNSE ∧ ∃ j0, j0 < κ 1 ∧ (nI j) = nI j0 ∧ ¬ 0 < σ 19 j0 (sMo σ j0 100))) 10 60) ad (xj (xkC F.1.2.2.1 ad κ σ) m t) 1 6 11 [(4, .int (nI k)), (3, .int (nI (sMo σ j k))), (2, .ref (ad (ro 5 j))), (0, .ref (ad (ro 0 0))), (1, .int (nI j))] [] := by
    intro n
    induction n with
    | zero =>
      intro k hk
      obtain rfl : k = 100 := by omega
      refine x_iload C dX1_mostAsked_11 0 rfl ?_
      refine x_bipush (v := 99) C dX1_mostAsked_13 (by decide) ?_
      refine x_icmp_gt (tgt := 47) C dX1_mostAsked_15 (by decide) (fun _ => ?_) (fun h => absurd (by decide) h)
      refine x_aload_n C dX1_mostAsked_47 rfl 2 rfl ?_
      refine x_getR C fl_X1_235 (r := ro 5 j) rfl (xj_c (by decide) (xkC_box hj)) (v := .ref (ad (ro 8 j))) rfl dX1_mostAsked_48 ?_
      refine x_iload_n C dX1_mostAsked_51 rfl 1 rfl ?_
      refine xi_ald C (sMo σ j 100) rfl (xj_c (by decide) (xkC_asked hj)) rfl (sMo_lt 100 (by omega)) rfl dX1_mostAsked_52 ?_
      refine x_top (y := σ 19 j (sMo σ j 100)) rfl ?_
      refine x_if_le (tgt := 60) C dX1_mostAsked_53 (by decide) (fun c1 => ?_) (fun c1 => ?_)
      · refine x_iconst (v := 0) C dX1_mostAsked_60 (by decide) ?_
        refine x_callS (rest := []) C (k_requireThere 0) cf_X1_134 hd_X1_requireThere ⟨Nat.le_of_ble_eq_true rfl, Nat.le_of_ble_eq_true rfl⟩ rfl (Nat.le_of_ble_eq_true rfl) ⟨Nat.le_of_ble_eq_true rfl, Nat.le_of_ble_eq_true rfl⟩ dX1_mostAsked_61 (fun v ad' ct' q => absurd rfl q.1) (fun E ad' ct' q => ?_)
        obtain ⟨-, rfl, e9, rfl⟩ := q; obtain rfl := e9.symm
        exact x_out C (fun _ h => nomatch h) (Nat.le_of_ble_eq_true rfl) (Nat.le_of_ble_eq_true rfl) ⟨rfl, rfl, Or.inr ⟨rfl, j, hj, rfl, Int32.not_lt.mpr c1⟩⟩
      · refine x_iconst (v := 1) C dX1_mostAsked_56 (by decide) ?_
        refine x_goto (tgt := 61) C dX1_mostAsked_57 (by decide) ?_
        refine x_callS (rest := []) C (k_requireThere 1) cf_X1_134 hd_X1_requireThere ⟨Nat.le_of_ble_eq_true rfl, Nat.le_of_ble_eq_true rfl⟩ rfl (Nat.le_of_ble_eq_true rfl) ⟨Nat.le_of_ble_eq_true rfl, Nat.le_of_ble_eq_true rfl⟩ dX1_mostAsked_61 (fun v ad' ct' q => ?_) (fun E ad' ct' q => absurd q.1 (by decide))
        obtain ⟨-, rfl, e9, rfl⟩ := q; obtain rfl := e9.symm
        refine x_iload_n C dX1_mostAsked_64 rfl 1 rfl ?_
        exact x_iret C dX1_mostAsked_65 (Nat.le_of_ble_eq_true rfl) (Nat.le_of_ble_eq_true rfl) ⟨rfl, rfl, j, hj, rfl, Int32.not_le.mp c1, rfl⟩
    | succ n ih =>
      intro k hk
      refine x_iload C dX1_mostAsked_11 0 rfl ?_
      refine x_bipush (v := 99) C dX1_mostAsked_13 (by decide) ?_
      refine x_icmp_gt (tgt := 47) C dX1_mostAsked_15 (by decide) (fun h => absurd ((nI_lt_iff (a := 99) (by omega) (by omega)).mp h) (by omega)) (fun _ => ?_)
      refine x_aload_n C dX1_mostAsked_18 rfl 2 rfl ?_
      refine x_getR C fl_X1_235 (r := ro 5 j) rfl (xj_c (by decide) (xkC_box hj)) (v := .ref (ad (ro 8 j))) rfl dX1_mostAsked_19 ?_
      refine x_iload C dX1_mostAsked_22 0 rfl ?_
      refine xi_ald C k rfl (xj_c (by decide) (xkC_asked hj)) rfl (show k < 100 by omega) rfl dX1_mostAsked_24 ?_
      refine x_top (y := σ 19 j k) rfl ?_
      refine x_aload_n C dX1_mostAsked_25 rfl 2 rfl ?_
      refine x_getR C fl_X1_235 (r := ro 5 j) rfl (xj_c (by decide) (xkC_box hj)) (v := .ref (ad (ro 8 j))) rfl dX1_mostAsked_26 ?_
      refine x_iload_n C dX1_mostAsked_29 rfl 1 rfl ?_
      refine xi_ald C (sMo σ j k) rfl (xj_c (by decide) (xkC_asked hj)) rfl (sMo_lt k (by omega)) rfl dX1_mostAsked_30 ?_
      refine x_top (y := σ 19 j (sMo σ j k)) rfl ?_
      refine x_icmp_le (tgt := 39) C dX1_mostAsked_31 (by decide) (fun c1 => ?_) (fun c1 => ?_)
      · refine x_iload_n C dX1_mostAsked_39 rfl 1 rfl ?_
        refine x_istore_n (lv' := [(3, .int (nI (sMo σ j k))), (4, .int (nI k)), (2, .ref (ad (ro 5 j))), (0, .ref (ad (ro 0 0))), (1, .int (nI j))]) C dX1_mostAsked_40 rfl (by decide) rfl ?_
        refine x_iinc (k := 1) (v := nI (k + 1)) (lv' := [(4, .int (nI (k + 1))), (3, .int (nI (sMo σ j k))), (2, .ref (ad (ro 5 j))), (0, .ref (ad (ro 0 0))), (1, .int (nI j))]) C dX1_mostAsked_41 rfl (nI_1 k) (by decide) rfl ?_
        refine x_goto (tgt := 11) C dX1_mostAsked_44 (by decide) ?_
        refine x_lv (lv' := [(4, .int (nI (k + 1))), (3, .int (nI (sMo σ j k))), (2, .ref (ad (ro 5 j))), (0, .ref (ad (ro 0 0))), (1, .int (nI j))]) [0, 1, 2, 3, 4] rfl ?_
        have e9 : sMo σ j (k + 1) = sMo σ j k := by show (if _ then _ else _) = _; rw [if_neg (Int32.not_lt.mpr c1)]
        have h9 := ih (k + 1) (by omega)
        rw [e9] at h9
        exact h9
      · refine x_iload C dX1_mostAsked_34 0 rfl ?_
        refine x_goto (tgt := 40) C dX1_mostAsked_36 (by decide) ?_
        refine x_istore_n (lv' := [(3, .int (nI k)), (4, .int (nI k)), (2, .ref (ad (ro 5 j))), (0, .ref (ad (ro 0 0))), (1, .int (nI j))]) C dX1_mostAsked_40 rfl (by decide) rfl ?_
        refine x_iinc (k := 1) (v := nI (k + 1)) (lv' := [(4, .int (nI (k + 1))), (3, .int (nI k)), (2, .ref (ad (ro 5 j))), (0, .ref (ad (ro 0 0))), (1, .int (nI j))]) C dX1_mostAsked_41 rfl (nI_1 k) (by decide) rfl ?_
        refine x_goto (tgt := 11) C dX1_mostAsked_44 (by decide) ?_
        refine x_lv (lv' := [(4, .int (nI (k + 1))), (3, .int (nI k)), (2, .ref (ad (ro 5 j))), (0, .ref (ad (ro 0 0))), (1, .int (nI j))]) [0, 1, 2, 3, 4] rfl ?_
        have e9 : sMo σ j (k + 1) = k := by show (if _ then _ else _) = _; rw [if_pos (Int32.not_le.mp c1)]
        have h9 := ih (k + 1) (by omega)
        rw [e9] at h9
        exact h9
  refine x_lv (lv' := [(4, .int 0), (3, .int 0), (2, .ref (ad (ro 5 j))), (0, .ref (ad (ro 0 0))), (1, .int (nI j))]) [0, 1, 2, 3, 4] rfl ?_
  exact loop 100 0 (by omega)
set_option maxHeartbeats 4000000 in
theorem k1_least {G : xG} {ad : Nat → Nat} {κ : xKp} {σ : xSg} {m t : xK} (hI : xIk κ) (b : Int32) : xM G yX1_least (ws_ yX1_least cX1_least 6 (some Jvm.ClassFile.FieldType.int)) 20 600 10 60 [.ref (ad (ro 0 0)), .int b] ad (xj (xkC G.2.2.1 ad κ σ) m t) (fun v ad' ct' => ad' = ad ∧ ct' = xj (xkC G.2.2.1 ad κ σ) m t ∧ ∃ j0, j0 < κ 1 ∧ b = nI j0 ∧ ∃ s0, sLe σ j0 10 = some s0 ∧ v = some (.int (nI s0))) (fun E ad' ct' => ad' = ad ∧ ct' = xj (xkC G.2.2.1 ad κ σ) m t ∧ (E = xIOB ∧ ¬ xIx b (κ 1) ∨ E = xNSE ∧ ∃ j0, j0 < κ 1 ∧ b = nI j0 ∧ sLe σ j0 10 = none)) := by
  refine xM_of (cc := cX1_least) (by decide) rfl (fun F hF C => ?_)
  subst hF
  show xX F _ _ _ 0 0 0 [(0, .ref (ad (ro 0 0))), (1, .int b)] []
  refine x_aload_n C dX1_least_0 rfl 0 rfl ?_
  refine x_iload_n C dX1_least_1 rfl 1 rfl ?_
  refine x_callV (rest := []) C (k1_boxAt hI b) cf_X1_84 ⟨rfl, hd_X1_boxAt⟩ ⟨Nat.le_of_ble_eq_true rfl, Nat.le_of_ble_eq_true rfl⟩ (xR_o xci0 rfl (xj_c (by decide) xkC_sr)) rfl (Nat.le_of_ble_eq_true rfl) ⟨Nat.le_of_ble_eq_true rfl, Nat.le_of_ble_eq_true rfl⟩ dX1_least_2 (fun v ad' ct' q => ?_) (fun E ad' ct' q => ?_)
  rotate_left
  · obtain ⟨rfl, e9, rfl, hx⟩ := q; obtain rfl := e9.symm
    exact x_out C (fun _ h => nomatch h) (Nat.le_of_ble_eq_true rfl) (Nat.le_of_ble_eq_true rfl) ⟨rfl, rfl, Or.inl ⟨rfl, hx⟩⟩
  obtain ⟨e9, rfl, j, hj, rfl, rfl⟩ := q; obtain rfl := e9.symm
  refine x_astore_n (lv' := [(2, .ref (ad (ro 5 j))), (0, .ref (ad (ro 0 0))), (1, .int (nI j))]) C dX1_least_5 rfl (by decide) rfl ?_
  refine x_iconst (v := -1) C dX1_least_6 (by decide) ?_
  refine x_istore_n (lv' := [(3, .int ((-1))), (2, .ref (ad (ro 5 j))), (0, .ref (ad (ro 0 0))), (1, .int (nI j))]) C dX1_least_7 rfl (by decide) rfl ?_
  refine x_iconst (v := 0) C dX1_least_8 (by decide) ?_
  refine x_istore (lv' := [(4, .int 0), (3, .int ((-1))), (2, .ref (ad (ro 5 j))), (0, .ref (ad (ro 0 0))), (1, .int (nI j))]) C dX1_least_9 (by decide) rfl ?_
  have loop : ∀ n k : Nat, k + n = 10 → xX F (xQ F (fun v ad' ct' => ad' = ad ∧ ct' = xj (xkC F.1.2.2.1 ad κ σ) m t ∧ ∃ j0, j0 < κ 1 ∧ (nI j) = nI j0 ∧ ∃ s0, sLe σ j0 10 = some s0 ∧ v = some (.int (nI s0))) (fun E ad' ct' => ad' = ad ∧ ct' = xj (xkC F.1.2.2.1 ad κ σ) m t ∧ (E = xIOB ∧ ¬ xIx (nI j) (κ 1) ∨ E = xNSE ∧ ∃ j0, j0 < κ 1 ∧ (nI j) = nI j0 ∧ sLe σ j0 10 = none)) 10 60) ad (xj (xkC F.1.2.2.1 ad κ σ) m t) 1 6 11 [(4, .int (nI k)), (3, .int (oI (sLe σ j k))), (2, .ref (ad (ro 5 j))), (0, .ref (ad (ro 0 0))), (1, .int (nI j))] [] := by
    intro n
    induction n with
    | zero =>
      intro k hk
      obtain rfl : k = 10 := by omega
      refine x_iload C dX1_least_11 0 rfl ?_
      refine x_bipush (v := 10) C dX1_least_13 (by decide) ?_
      refine x_icmp_ge (tgt := 75) C dX1_least_15 (by decide) (fun _ => ?_) (fun h => absurd (by decide) h)
      cases hle : sLe σ j 10 with
      | none =>
        show xX F _ _ _ _ _ _ [(4, .int (nI 10)), (3, .int (-1)), (2, .ref (ad (ro 5 j))), (0, .ref (ad (ro 0 0))), (1, .int (nI j))] []
        refine x_iload_n C dX1_least_75 rfl 1 rfl ?_
        refine x_iconst (v := -1) C dX1_least_76 (by decide) ?_
        refine x_icmp_eq (tgt := 84) C dX1_least_77 (by decide) (fun _ => ?_) (fun h => absurd rfl h)
        refine x_iconst (v := 0) C dX1_least_84 (by decide) ?_
        refine x_callS (rest := []) C (k_requireThere 0) cf_X1_134 hd_X1_requireThere ⟨Nat.le_of_ble_eq_true rfl, Nat.le_of_ble_eq_true rfl⟩ rfl (Nat.le_of_ble_eq_true rfl) ⟨Nat.le_of_ble_eq_true rfl, Nat.le_of_ble_eq_true rfl⟩ dX1_least_85 (fun v ad' ct' q => absurd rfl q.1) (fun E ad' ct' q => ?_)
        obtain ⟨-, rfl, e9, rfl⟩ := q; obtain rfl := e9.symm
        exact x_out C (fun _ h => nomatch h) (Nat.le_of_ble_eq_true rfl) (Nat.le_of_ble_eq_true rfl) ⟨rfl, rfl, Or.inr ⟨rfl, j, hj, rfl, hle⟩⟩
      | some s0 =>
        have hs0 := sLe_lt hle
        show xX F _ _ _ _ _ _ [(4, .int (nI 10)), (3, .int (nI s0)), (2, .ref (ad (ro 5 j))), (0, .ref (ad (ro 0 0))), (1, .int (nI j))] []
        refine x_iload_n C dX1_least_75 rfl 1 rfl ?_
        refine x_iconst (v := -1) C dX1_least_76 (by decide) ?_
        refine x_icmp_eq (tgt := 84) C dX1_least_77 (by decide) (fun h => absurd h (nI_ne1 (by omega))) (fun _ => ?_)
        refine x_iconst (v := 1) C dX1_least_80 (by decide) ?_
        refine x_goto (tgt := 85) C dX1_least_81 (by decide) ?_
        refine x_callS (rest := []) C (k_requireThere 1) cf_X1_134 hd_X1_requireThere ⟨Nat.le_of_ble_eq_true rfl, Nat.le_of_ble_eq_true rfl⟩ rfl (Nat.le_of_ble_eq_true rfl) ⟨Nat.le_of_ble_eq_true rfl, Nat.le_of_ble_eq_true rfl⟩ dX1_least_85 (fun v ad' ct' q => ?_) (fun E ad' ct' q => absurd q.1 (by decide))
        obtain ⟨-, rfl, e9, rfl⟩ := q; obtain rfl := e9.symm
        refine x_iload_n C dX1_least_88 rfl 1 rfl ?_
        exact x_iret C dX1_least_89 (Nat.le_of_ble_eq_true rfl) (Nat.le_of_ble_eq_true rfl) ⟨rfl, rfl, j, hj, rfl, s0, hle, rfl⟩
    | succ n ih =>
      intro k hk
      refine x_iload C dX1_least_11 0 rfl ?_
      refine x_bipush (v := 10) C dX1_least_13 (by decide) ?_
      refine x_icmp_ge (tgt := 75) C dX1_least_15 (by decide) (fun h => absurd ((nI_le_iff (a := 10) (by omega) (by omega)).mp h) (by omega)) (fun _ => ?_)
      refine x_aload_n C dX1_least_18 rfl 2 rfl ?_
      refine x_getR C fl_X1_117 (r := ro 5 j) rfl (xj_c (by decide) (xkC_box hj)) (v := .ref (ad (ro 6 j))) rfl dX1_least_19 ?_
      refine x_iload C dX1_least_22 0 rfl ?_
      refine xi_ald C k rfl (xj_c (by decide) (xkC_slots hj)) rfl (show k < 10 by omega) rfl dX1_least_24 ?_
      refine x_top (y := σ 17 j k) rfl ?_
      refine x_iconst (v := -1) C dX1_least_25 (by decide) ?_
      refine x_icmp_eq (tgt := 54) C dX1_least_26 (by decide) (fun c1 => ?_) (fun c1 => ?_)
      · refine x_iconst (v := 0) C dX1_least_54 (by decide) ?_
        refine x_istore (lv' := [(5, .int 0), (4, .int (nI k)), (3, .int (oI (sLe σ j k))), (2, .ref (ad (ro 5 j))), (0, .ref (ad (ro 0 0))), (1, .int (nI j))]) C dX1_least_55 (by decide) rfl ?_
        refine x_iload C dX1_least_57 0 rfl ?_
        refine x_if_eq (tgt := 67) C dX1_least_59 (by decide) (fun _ => ?_) (fun h => absurd rfl h)
        refine x_iload_n C dX1_least_67 rfl 2 rfl ?_
        refine x_istore_n (lv' := [(3, .int (oI (sLe σ j k))), (5, .int 0), (4, .int (nI k)), (2, .ref (ad (ro 5 j))), (0, .ref (ad (ro 0 0))), (1, .int (nI j))]) C dX1_least_68 rfl (by decide) rfl ?_
        refine x_iinc (k := 2) (v := nI (k + 1)) (lv' := [(4, .int (nI (k + 1))), (3, .int (oI (sLe σ j k))), (5, .int 0), (2, .ref (ad (ro 5 j))), (0, .ref (ad (ro 0 0))), (1, .int (nI j))]) C dX1_least_69 rfl (nI_1 k) (by decide) rfl ?_
        refine x_goto (tgt := 11) C dX1_least_72 (by decide) ?_
        refine x_lv (lv' := [(4, .int (nI (k + 1))), (3, .int (oI (sLe σ j k))), (2, .ref (ad (ro 5 j))), (0, .ref (ad (ro 0 0))), (1, .int (nI j))]) [0, 1, 3, 4, 5] rfl ?_
        have e9 : sLe σ j (k + 1) = sLe σ j k := by show (if _ then _ else _) = _; rw [if_neg (fun z => z.1 c1)]
        have h9 := ih (k + 1) (by omega)
        rw [e9] at h9
        exact h9
      · cases hle : sLe σ j k with
        | none =>
          show xX F _ _ _ _ _ _ [(4, .int (nI k)), (3, .int (-1)), (2, .ref (ad (ro 5 j))), (0, .ref (ad (ro 0 0))), (1, .int (nI j))] []
          refine x_iload_n C dX1_least_29 rfl 1 rfl ?_
          refine x_iconst (v := -1) C dX1_least_30 (by decide) ?_
          refine x_icmp_eq (tgt := 50) C dX1_least_31 (by decide) (fun _ => ?_) (fun h => absurd rfl h)
          refine x_iconst (v := 1) C dX1_least_50 (by decide) ?_
          refine x_goto (tgt := 55) C dX1_least_51 (by decide) ?_
          refine x_istore (lv' := [(5, .int 1), (4, .int (nI k)), (3, .int (-1)), (2, .ref (ad (ro 5 j))), (0, .ref (ad (ro 0 0))), (1, .int (nI j))]) C dX1_least_55 (by decide) rfl ?_
          refine x_iload C dX1_least_57 0 rfl ?_
          refine x_if_eq (tgt := 67) C dX1_least_59 (by decide) (fun h => absurd h (by decide)) (fun _ => ?_)
          refine x_iload C dX1_least_62 1 rfl ?_
          refine x_goto (tgt := 68) C dX1_least_64 (by decide) ?_
          refine x_istore_n (lv' := [(3, .int (nI k)), (5, .int 1), (4, .int (nI k)), (2, .ref (ad (ro 5 j))), (0, .ref (ad (ro 0 0))), (1, .int (nI j))]) C dX1_least_68 rfl (by decide) rfl ?_
          refine x_iinc (k := 2) (v := nI (k + 1)) (lv' := [(4, .int (nI (k + 1))), (3, .int (nI k)), (5, .int 1), (2, .ref (ad (ro 5 j))), (0, .ref (ad (ro 0 0))), (1, .int (nI j))]) C dX1_least_69 rfl (nI_1 k) (by decide) rfl ?_
          refine x_goto (tgt := 11) C dX1_least_72 (by decide) ?_
          refine x_lv (lv' := [(4, .int (nI (k + 1))), (3, .int (nI k)), (2, .ref (ad (ro 5 j))), (0, .ref (ad (ro 0 0))), (1, .int (nI j))]) [0, 1, 3, 4, 5] rfl ?_
          have e9 : sLe σ j (k + 1) = some k := by show (if _ then _ else _) = _; rw [if_pos ⟨c1, fun b0 hb => by rw [hle] at hb; cases hb⟩]
          have h9 := ih (k + 1) (by omega)
          rw [e9] at h9
          exact h9
        | some b0 =>
          have hb0 := sLe_lt hle
          show xX F _ _ _ _ _ _ [(4, .int (nI k)), (3, .int (nI b0)), (2, .ref (ad (ro 5 j))), (0, .ref (ad (ro 0 0))), (1, .int (nI j))] []
          refine x_iload_n C dX1_least_29 rfl 1 rfl ?_
          refine x_iconst (v := -1) C dX1_least_30 (by decide) ?_
          refine x_icmp_eq (tgt := 50) C dX1_least_31 (by decide) (fun h => absurd h (nI_ne1 (by omega))) (fun _ => ?_)
          refine x_aload_n C dX1_least_34 rfl 2 rfl ?_
          refine x_getR C fl_X1_156 (r := ro 5 j) rfl (xj_c (by decide) (xkC_box hj)) (v := .ref (ad (ro 7 j))) rfl dX1_least_35 ?_
          refine x_iload C dX1_least_38 0 rfl ?_
          refine xi_ald C k rfl (xj_c (by decide) (xkC_wheels hj)) rfl (show k < 10 by omega) rfl dX1_least_40 ?_
          refine x_top (y := σ 18 j k) rfl ?_
          refine x_aload_n C dX1_least_41 rfl 2 rfl ?_
          refine x_getR C fl_X1_156 (r := ro 5 j) rfl (xj_c (by decide) (xkC_box hj)) (v := .ref (ad (ro 7 j))) rfl dX1_least_42 ?_
          refine x_iload_n C dX1_least_45 rfl 1 rfl ?_
          refine xi_ald C b0 rfl (xj_c (by decide) (xkC_wheels hj)) rfl (show b0 < 10 by omega) rfl dX1_least_46 ?_
          refine x_top (y := σ 18 j b0) rfl ?_
          refine x_icmp_ge (tgt := 54) C dX1_least_47 (by decide) (fun c2 => ?_) (fun c2 => ?_)
          · refine x_iconst (v := 0) C dX1_least_54 (by decide) ?_
            refine x_istore (lv' := [(5, .int 0), (4, .int (nI k)), (3, .int (nI b0)), (2, .ref (ad (ro 5 j))), (0, .ref (ad (ro 0 0))), (1, .int (nI j))]) C dX1_least_55 (by decide) rfl ?_
            refine x_iload C dX1_least_57 0 rfl ?_
            refine x_if_eq (tgt := 67) C dX1_least_59 (by decide) (fun _ => ?_) (fun h => absurd rfl h)
            refine x_iload_n C dX1_least_67 rfl 2 rfl ?_
            refine x_istore_n (lv' := [(3, .int (nI b0)), (5, .int 0), (4, .int (nI k)), (2, .ref (ad (ro 5 j))), (0, .ref (ad (ro 0 0))), (1, .int (nI j))]) C dX1_least_68 rfl (by decide) rfl ?_
            refine x_iinc (k := 2) (v := nI (k + 1)) (lv' := [(4, .int (nI (k + 1))), (3, .int (nI b0)), (5, .int 0), (2, .ref (ad (ro 5 j))), (0, .ref (ad (ro 0 0))), (1, .int (nI j))]) C dX1_least_69 rfl (nI_1 k) (by decide) rfl ?_
            refine x_goto (tgt := 11) C dX1_least_72 (by decide) ?_
            refine x_lv (lv' := [(4, .int (nI (k + 1))), (3, .int (nI b0)), (2, .ref (ad (ro 5 j))), (0, .ref (ad (ro 0 0))), (1, .int (nI j))]) [0, 1, 3, 4, 5] rfl ?_
            have e9 : sLe σ j (k + 1) = some b0 := by show (if _ then _ else _) = _; rw [if_neg (fun z => absurd (z.2 b0 hle) (Int32.not_lt.mpr c2)), hle]
            have h9 := ih (k + 1) (by omega)
            rw [e9] at h9
            exact h9
          · refine x_iconst (v := 1) C dX1_least_50 (by decide) ?_
            refine x_goto (tgt := 55) C dX1_least_51 (by decide) ?_
            refine x_istore (lv' := [(5, .int 1), (4, .int (nI k)), (3, .int (nI b0)), (2, .ref (ad (ro 5 j))), (0, .ref (ad (ro 0 0))), (1, .int (nI j))]) C dX1_least_55 (by decide) rfl ?_
            refine x_iload C dX1_least_57 0 rfl ?_
            refine x_if_eq (tgt := 67) C dX1_least_59 (by decide) (fun h => absurd h (by decide)) (fun _ => ?_)
            refine x_iload C dX1_least_62 1 rfl ?_
            refine x_goto (tgt := 68) C dX1_least_64 (by decide) ?_
            refine x_istore_n (lv' := [(3, .int (nI k)), (5, .int 1), (4, .int (nI k)), (2, .ref (ad (ro 5 j))), (0, .ref (ad (ro 0 0))), (1, .int (nI j))]) C dX1_least_68 rfl (by decide) rfl ?_
            refine x_iinc (k := 2) (v := nI (k + 1)) (lv' := [(4, .int (nI (k + 1))), (3, .int (nI k)), (5, .int 1), (2, .ref (ad (ro 5 j))), (0, .ref (ad (ro 0 0))), (1, .int (nI j))]) C dX1_least_69 rfl (nI_1 k) (by decide) rfl ?_
            refine x_goto (tgt := 11) C dX1_least_72 (by decide) ?_
            refine x_lv (lv' := [(4, .int (nI (k + 1))), (3, .int (nI k)), (2, .ref (ad (ro 5 j))), (0, .ref (ad (ro 0 0))), (1, .int (nI j))]) [0, 1, 3, 4, 5] rfl ?_
            have e9 : sLe σ j (k + 1) = some k := by show (if _ then _ else _) = _; rw [if_pos ⟨c1, fun b1 hb => by rw [hle] at hb; cases hb; exact Int32.not_le.mp c2⟩]
            have h9 := ih (k + 1) (by omega)
            rw [e9] at h9
            exact h9
  refine x_lv (lv' := [(4, .int 0), (3, .int ((-1))), (2, .ref (ad (ro 5 j))), (0, .ref (ad (ro 0 0))), (1, .int (nI j))]) [0, 1, 2, 3, 4] rfl ?_
  exact loop 10 0 (by omega)
