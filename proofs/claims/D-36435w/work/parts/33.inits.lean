/-! ===== CONSTRUCTORS: Disc, Box ===== -/
set_option maxHeartbeats 4000000 in
theorem k3_init {G : xG} {ad : Nat → Nat} {ct : xCt} {r : Nat} (h : ct r = some (.inr (2, [.int 0, .int 0, .int 0, .int 0, .int 0]))) (so st we : Int32) : xM G yX3_init (ws_ yX3_init cX3_init 4 none) 1 20 0 0 [.ref (ad r), .int so, .int st, .int we] ad ct (xPv none ad (xu ct r (.inr (2, [.int so, .int st, .int we, .int 0, .int (-1)])))) xN := by
  refine xM_of (cc := cX3_init) (by decide) rfl (fun F hF C => ?_)
  subst hF
  show xX F _ _ _ 0 0 0 [(0, .ref (ad r)), (1, .int so), (2, .int st), (3, .int we)] []
  refine x_aload_n C dX3_init_0 rfl 0 rfl ?_
  refine x_objInit C q468 q62 q63 ⟨Nat.le_of_ble_eq_true rfl, Nat.le_of_ble_eq_true rfl⟩ dX3_init_1 ?_
  refine x_aload_n C dX3_init_4 rfl 0 rfl ?_
  refine x_iconst (v := -1) C dX3_init_5 (by decide) ?_
  refine x_put C fl_X3_9 (r := r) rfl h rfl rfl (Nat.le_of_ble_eq_true rfl) dX3_init_6 ?_
  refine x_aload_n C dX3_init_9 rfl 0 rfl ?_
  refine x_iload_n C dX3_init_10 rfl 1 rfl ?_
  refine x_putF C fl_X3_15 (by decide) (r := r) rfl xu_s rfl rfl (Nat.le_of_ble_eq_true rfl) dX3_init_11 ?_
  refine x_aload_n C dX3_init_14 rfl 0 rfl ?_
  refine x_iload_n C dX3_init_15 rfl 2 rfl ?_
  refine x_putF C fl_X3_18 (by decide) (r := r) rfl xu_s rfl rfl (Nat.le_of_ble_eq_true rfl) dX3_init_16 ?_
  refine x_aload_n C dX3_init_19 rfl 0 rfl ?_
  refine x_iload_n C dX3_init_20 rfl 3 rfl ?_
  refine x_putF C fl_X3_21 (by decide) (r := r) rfl xu_s rfl rfl (Nat.le_of_ble_eq_true rfl) dX3_init_21 ?_
  exact x_vret C dX3_init_24 (Nat.le_of_ble_eq_true rfl) (Nat.le_of_ble_eq_true rfl) ⟨rfl, rfl, by simp only [xu_xu]; rfl⟩
abbrev xBn (f2 f3 f4 f5 : Value) (sh ta : Int32) : va_E := .inr (3, [.int sh, .int ta, f2, f3, f4, f5, .int 0, .int 0, .int 0, .int 0, .int 0, .int 0, .int 0, .int 0, .int 0])
/-- a new box at role rB, its arrays and its queue at r6 .. r9 -/
def xBx (G : xG) (ad : Nat → Nat) (ct : xCt) (rB r6 r7 r8 r9 : Nat) (sh ta : Int32) : xCt := fun x => if x = rB then some (xBn (.ref (ad r6)) (.ref (ad r7)) (.ref (ad r8)) (.ref (ad r9)) sh ta) else if x = r6 then some (.inl (G.2.2.1 1000, 10, .inl (fun s => if s < 10 then -1 else 0))) else if x = r7 then some (.inl (G.2.2.1 1000, 10, .inl (fun _ => 0))) else if x = r8 then some (.inl (G.2.2.1 1000, 100, .inl (fun _ => 0))) else if x = r9 then some (xAl 0 (G.2.2.1 301) 0) else ct x
set_option maxHeartbeats 4000000 in
theorem k4_init2 {G : xG} {ad : Nat → Nat} {ct : xCt} {rB r6 r7 r8 r9 : Nat} (h : ct rB = some (xBn .null .null .null .null 0 0)) (h6 : ct r6 = none) (h7 : ct r7 = none) (h8 : ct r8 = none) (h9 : ct r9 = none) (hd : (r6 ≠ r7 ∧ r6 ≠ r8 ∧ r6 ≠ r9) ∧ (r7 ≠ r8 ∧ r7 ≠ r9) ∧ r8 ≠ r9) (sh ta : Int32) : xM G yX4_init_2 (ws_ yX4_init_2 cX4_init_2 4 none) 7 130 4 123 [.ref (ad rB), .int sh, .int ta] ad ct (fun v ad' ct' => v = none ∧ (∀ x, x ≠ r6 → x ≠ r7 → x ≠ r8 → x ≠ r9 → ad' x = ad x) ∧ ct' = xBx G ad' ct rB r6 r7 r8 r9 sh ta) xN := by
  refine xM_of (cc := cX4_init_2) (by decide) rfl (fun F hF C => ?_)
  subst hF
  show xX F _ _ _ 0 0 0 [(0, .ref (ad rB)), (1, .int sh), (2, .int ta)] []
  obtain ⟨⟨d67, d68, d69⟩, ⟨d78, d79⟩, d89⟩ := hd
  have b6 : rB ≠ r6 := fun e => by rw [e, h6] at h; cases h
  have b7 : rB ≠ r7 := fun e => by rw [e, h7] at h; cases h
  have b8 : rB ≠ r8 := fun e => by rw [e, h8] at h; cases h
  have b9 : rB ≠ r9 := fun e => by rw [e, h9] at h; cases h
  refine x_aload_n C dX4_init_2_0 rfl 0 rfl ?_
  refine x_objInit C q503 q62 q63 ⟨Nat.le_of_ble_eq_true rfl, Nat.le_of_ble_eq_true rfl⟩ dX4_init_2_1 ?_
  refine x_aload_n C dX4_init_2_4 rfl 0 rfl ?_
  refine x_bipush (v := 10) C dX4_init_2_5 (by decide) ?_
  refine x_newI C 10 (r := r6) h6 (by decide) (by decide) (by decide) ⟨Nat.le_of_ble_eq_true rfl, Nat.le_of_ble_eq_true rfl⟩ dX4_init_2_7 (fun ad6 had6 => ?_)
  rw [← had6 rB b6]
  refine x_putF C fl_X4_14 (by decide) (r := rB) rfl (xu_n b6 h) rfl rfl (Nat.le_of_ble_eq_true rfl) dX4_init_2_9 ?_
  refine x_aload_n C dX4_init_2_12 rfl 0 rfl ?_
  refine x_bipush (v := 10) C dX4_init_2_13 (by decide) ?_
  refine x_newI C 10 (r := r7) (xu_n (Ne.symm b7) (xu_n d67.symm h7)) (by decide) (by decide) (by decide) ⟨Nat.le_of_ble_eq_true rfl, Nat.le_of_ble_eq_true rfl⟩ dX4_init_2_15 (fun ad7 had7 => ?_)
  rw [← had7 rB b7, ← had7 r6 d67]
  refine x_putF C fl_X4_18 (by decide) (r := rB) rfl (xu_n b7 xu_s) rfl rfl (Nat.le_of_ble_eq_true rfl) dX4_init_2_17 ?_
  refine x_aload_n C dX4_init_2_20 rfl 0 rfl ?_
  refine x_bipush (v := 100) C dX4_init_2_21 (by decide) ?_
  refine x_newI C 100 (r := r8) (xu_n (Ne.symm b8) (xu_n d78.symm (xu_n (Ne.symm b8) (xu_n d68.symm h8)))) (by decide) (by decide) (by decide) ⟨Nat.le_of_ble_eq_true rfl, Nat.le_of_ble_eq_true rfl⟩ dX4_init_2_23 (fun ad8 had8 => ?_)
  rw [← had8 rB b8, ← had8 r6 d68, ← had8 r7 d78]
  refine x_putF C fl_X4_21 (by decide) (r := rB) rfl (xu_n b8 xu_s) rfl rfl (Nat.le_of_ble_eq_true rfl) dX4_init_2_25 ?_
  refine x_aload_n C dX4_init_2_28 rfl 0 rfl ?_
  refine x_new C (r := r9) (fs := [.int 0, .null, .int 0]) xci1 q504 q65 q27 (xu_n (Ne.symm b9) (xu_n d89.symm (xu_n (Ne.symm b9) (xu_n d79.symm (xu_n (Ne.symm b9) (xu_n d69.symm h9)))))) (by decide) ⟨Nat.le_of_ble_eq_true rfl, Nat.le_of_ble_eq_true rfl⟩ dX4_init_2_29 (fun ad9 had9 => ?_)
  rw [← had9 rB b9, ← had9 r6 d69, ← had9 r7 d79, ← had9 r8 d89]
  refine x_dup C dX4_init_2_32 rfl ?_
  refine x_callI (rest := [.ref (ad9 r9), .ref (ad9 rB)]) C (k_AL_init xu_s) q68 q27 q505 q67 rfl hd_J2_init ⟨Nat.le_of_ble_eq_true rfl, Nat.le_of_ble_eq_true rfl⟩ rfl (Nat.le_of_ble_eq_true rfl) ⟨Nat.le_of_ble_eq_true rfl, Nat.le_of_ble_eq_true rfl⟩ dX4_init_2_33 (xPv_i ?_) xN_e
  refine x_putF C fl_X4_27 (by decide) (r := rB) rfl (xu_n b9 (xu_n b9 xu_s)) rfl rfl (Nat.le_of_ble_eq_true rfl) dX4_init_2_36 ?_
  refine x_eq (ct' := xu (xu (xu (xu (xu ct r6 (.inl (F.1.2.2.1 1000, 10, .inl (fun s => if s < 0 then -1 else 0)))) r7 (.inl (F.1.2.2.1 1000, 10, .inl (fun _ => 0)))) r8 (.inl (F.1.2.2.1 1000, 100, .inl (fun _ => 0)))) r9 (xAl 0 (F.1.2.2.1 301) 0)) rB (xBn (.ref (ad9 r6)) (.ref (ad9 r7)) (.ref (ad9 r8)) (.ref (ad9 r9)) 0 0)) ?_ ?_
  · funext x
    by_cases e0 : x = rB
    · subst e0; simp [xu]
    · simp only [xu, if_neg e0]
      by_cases e9 : x = r9
      · simp only [if_pos e9]
      · simp only [if_neg e9]
        by_cases e8 : x = r8
        · simp only [if_pos e8]
        · simp only [if_neg e8]
          by_cases e7 : x = r7
          · simp only [if_pos e7]
          · simp only [if_neg e7]
            by_cases e6 : x = r6
            · simp only [if_pos e6, Nat.not_lt_zero, if_false]
            · simp only [if_neg e6]
  refine x_iconst (v := 0) C dX4_init_2_39 (by decide) ?_
  refine x_istore_n (lv' := [(3, .int 0), (0, .ref (ad9 rB)), (1, .int sh), (2, .int ta)]) C dX4_init_2_40 rfl (by decide) rfl ?_
  have loop : ∀ n k : Nat, k + n = 10 → xX F (xQ F (fun v ad' ct' => v = none ∧ (∀ x, x ≠ r6 → x ≠ r7 → x ≠ r8 → x ≠ r9 → ad' x = ad x) ∧ ct' = xBx F.1 ad' ct rB r6 r7 r8 r9 sh ta) (xN) 4 123) ad9 (xu (xu (xu (xu (xu ct r6 (.inl (F.1.2.2.1 1000, 10, .inl (fun s => if s < k then -1 else 0)))) r7 (.inl (F.1.2.2.1 1000, 10, .inl (fun _ => 0)))) r8 (.inl (F.1.2.2.1 1000, 100, .inl (fun _ => 0)))) r9 (xAl 0 (F.1.2.2.1 301) 0)) rB (xBn (.ref (ad9 r6)) (.ref (ad9 r7)) (.ref (ad9 r8)) (.ref (ad9 r9)) 0 0)) 4 123 41 [(3, .int (nI k)), (0, .ref (ad9 rB)), (1, .int sh), (2, .int ta)] [] := by
    intro n
    induction n with
    | zero =>
      intro k hk
      obtain rfl : k = 10 := by omega
      refine x_iload_n C dX4_init_2_41 rfl 0 rfl ?_
      refine x_bipush (v := 10) C dX4_init_2_42 (by decide) ?_
      refine x_icmp_ge (tgt := 60) C dX4_init_2_44 (by decide) (fun _ => ?_) (fun h => absurd (by decide) h)
      refine x_aload_n C dX4_init_2_60 rfl 1 rfl ?_
      refine x_iload_n C dX4_init_2_61 rfl 2 rfl ?_
      refine x_putF C fl_X4_31 (by decide) (r := rB) rfl xu_s rfl rfl (Nat.le_of_ble_eq_true rfl) dX4_init_2_62 ?_
      refine x_aload_n C dX4_init_2_65 rfl 1 rfl ?_
      refine x_iload_n C dX4_init_2_66 rfl 3 rfl ?_
      refine x_putF C fl_X4_35 (by decide) (r := rB) rfl xu_s rfl rfl (Nat.le_of_ble_eq_true rfl) dX4_init_2_67 ?_
      exact x_vret C dX4_init_2_70 (Nat.le_of_ble_eq_true rfl) (Nat.le_of_ble_eq_true rfl) ⟨rfl, fun x n6 n7 n8 n9 => by rw [had9 x n9, had8 x n8, had7 x n7, had6 x n6], by
          funext x
          unfold xBx
          by_cases e0 : x = rB
          · subst e0; simp [xu]
          · by_cases e6 : x = r6
            · subst e6; simp [xu, e0, d67, d68, d69]
            · by_cases e7 : x = r7
              · subst e7; simp [xu, e0, e6, d78, d79]
              · by_cases e8 : x = r8
                · subst e8; simp [xu, e0, e6, e7, d89]
                · by_cases e9 : x = r9
                  · subst e9; simp [xu, e0, e6, e7, e8]
                  · simp [xu, e0, e6, e7, e8, e9]⟩
    | succ n ih =>
      intro k hk
      refine x_iload_n C dX4_init_2_41 rfl 0 rfl ?_
      refine x_bipush (v := 10) C dX4_init_2_42 (by decide) ?_
      refine x_icmp_ge (tgt := 60) C dX4_init_2_44 (by decide) (fun h => absurd ((nI_le_iff (a := 10) (by omega) (by omega)).mp h) (by omega)) (fun _ => ?_)
      refine x_aload_n C dX4_init_2_47 rfl 1 rfl ?_
      refine x_get C fl_X4_14 (r := rB) rfl xu_s (v := .ref (ad9 r6)) rfl dX4_init_2_48 ?_
      refine x_iload_n C dX4_init_2_51 rfl 0 rfl ?_
      refine x_iconst (v := -1) C dX4_init_2_52 (by decide) ?_
      refine xi_ast C k (r := r6) rfl (xu_n (Ne.symm b6) (xu_n d69 (xu_n d68 (xu_n d67 xu_s)))) rfl (show k < 10 by omega) rfl dX4_init_2_53 ?_
      refine x_iinc (k := 0) (v := nI (k + 1)) (lv' := [(3, .int (nI (k + 1))), (0, .ref (ad9 rB)), (1, .int sh), (2, .int ta)]) C dX4_init_2_54 rfl (nI_1 k) (by decide) rfl ?_
      refine x_goto (tgt := 41) C dX4_init_2_57 (by decide) ?_
      have h9 := ih (k + 1) (by omega)
      refine x_eq ?_ h9
      funext x
      by_cases e6 : x = r6
      · subst e6
        simp only [xu, if_true, if_neg (Ne.symm b6), if_neg d67, if_neg d68, if_neg d69]
        refine congrArg (fun z => some (Sum.inl (F.1.2.2.1 1000, 10, Sum.inl z))) ?_
        funext q
        unfold upd
        by_cases hq : q = k
        · subst hq; rw [if_pos rfl, if_pos (by omega)]
        · rw [if_neg hq]
          show (if q < k then (-1 : Int32) else 0) = if q < k + 1 then -1 else 0
          by_cases hq2 : q < k
          · rw [if_pos hq2, if_pos (by omega)]
          · rw [if_neg hq2, if_neg (by omega)]
      · simp only [xu, if_neg e6]
  refine x_lv (lv' := [(3, .int 0), (0, .ref (ad9 rB)), (1, .int sh), (2, .int ta)]) [0, 1, 2, 3] rfl ?_
  exact loop 10 0 (by omega)
set_option maxHeartbeats 4000000 in
theorem k4_init1 {G : xG} {ad : Nat → Nat} {ct : xCt} {rB r6 r7 r8 r9 : Nat} (h : ct rB = some (xBn .null .null .null .null 0 0)) (h6 : ct r6 = none) (h7 : ct r7 = none) (h8 : ct r8 = none) (h9 : ct r9 = none) (hd : (r6 ≠ r7 ∧ r6 ≠ r8 ∧ r6 ≠ r9) ∧ (r7 ≠ r8 ∧ r7 ≠ r9) ∧ r8 ≠ r9) (ta : Int32) : xM G yX4_init (ws_ yX4_init cX4_init 2 none) 9 180 4 123 [.ref (ad rB), .int ta] ad ct (fun v ad' ct' => v = none ∧ (∀ x, x ≠ r6 → x ≠ r7 → x ≠ r8 → x ≠ r9 → ad' x = ad x) ∧ ct' = xBx G ad' ct rB r6 r7 r8 r9 0 ta) xN := by
  refine xM_of (cc := cX4_init) (by decide) rfl (fun F hF C => ?_)
  subst hF
  show xX F _ _ _ 0 0 0 [(0, .ref (ad rB)), (1, .int ta)] []
  refine x_aload_n C dX4_init_0 rfl 0 rfl ?_
  refine x_iconst (v := 0) C dX4_init_1 (by decide) ?_
  refine x_iload_n C dX4_init_2 rfl 1 rfl ?_
  refine x_callI (rest := []) C (k4_init2 h h6 h7 h8 h9 hd 0 ta) q502 q39 q500 q501 rfl hd_X4_init_2 ⟨Nat.le_of_ble_eq_true rfl, Nat.le_of_ble_eq_true rfl⟩ rfl (Nat.le_of_ble_eq_true rfl) ⟨Nat.le_of_ble_eq_true rfl, Nat.le_of_ble_eq_true rfl⟩ dX4_init_3 (fun v ad' ct' q => ?_) xN_e
  obtain ⟨rfl, had, rfl⟩ := q
  exact x_vret C dX4_init_6 (Nat.le_of_ble_eq_true rfl) (Nat.le_of_ble_eq_true rfl) ⟨rfl, had, rfl⟩
set_option maxHeartbeats 4000000 in
theorem k1_init {G : xG} {ad : Nat → Nat} {ct : xCt} {rS r1 r3 : Nat} (h : ct rS = some (.inr (0, [.null, .null, .int 0, .int 0, .int 0, .int 0, .long 0]))) (h1 : ct r1 = none) (h3 : ct r3 = none) (d13 : r1 ≠ r3) : xM G yX1_init (ws_ yX1_init cX1_init 1 none) 8 150 2 6 [.ref (ad rS)] ad ct (fun v ad' ct' => v = none ∧ (∀ x, x ≠ r1 → x ≠ r3 → ad' x = ad x) ∧ ct' = xu (xu (xu ct r1 (xAl 0 (G.2.2.1 301) 0)) r3 (xAl 0 (G.2.2.1 301) 0)) rS (.inr (0, [.ref (ad' r1), .ref (ad' r3), .int 0, .int 600, .int 0, .int 0, .long 1]))) xN := by
  refine xM_of (cc := cX1_init) (by decide) rfl (fun F hF C => ?_)
  subst hF
  show xX F _ _ _ 0 0 0 [(0, .ref (ad rS))] []
  have b1 : rS ≠ r1 := fun e => by rw [e, h1] at h; cases h
  have b3 : rS ≠ r3 := fun e => by rw [e, h3] at h; cases h
  refine x_aload_n C dX1_init_0 rfl 0 rfl ?_
  refine x_objInit C q61 q62 q63 ⟨Nat.le_of_ble_eq_true rfl, Nat.le_of_ble_eq_true rfl⟩ dX1_init_1 ?_
  refine x_aload_n C dX1_init_4 rfl 0 rfl ?_
  refine x_new C (r := r1) (fs := [.int 0, .null, .int 0]) xci1 q64 q65 q27 h1 (by decide) ⟨Nat.le_of_ble_eq_true rfl, Nat.le_of_ble_eq_true rfl⟩ dX1_init_5 (fun ad1 had1 => ?_)
  rw [← had1 rS b1]
  refine x_dup C dX1_init_8 rfl ?_
  refine x_callI (rest := [.ref (ad1 r1), .ref (ad1 rS)]) C (k_AL_init xu_s) q68 q27 q66 q67 rfl hd_J2_init ⟨Nat.le_of_ble_eq_true rfl, Nat.le_of_ble_eq_true rfl⟩ rfl (Nat.le_of_ble_eq_true rfl) ⟨Nat.le_of_ble_eq_true rfl, Nat.le_of_ble_eq_true rfl⟩ dX1_init_9 (xPv_i ?_) xN_e
  refine x_putF C fl_X1_28 (by decide) (r := rS) rfl (xu_n b1 (xu_n b1 h)) rfl rfl (Nat.le_of_ble_eq_true rfl) dX1_init_12 ?_
  refine x_aload_n C dX1_init_15 rfl 0 rfl ?_
  refine x_new C (r := r3) (fs := [.int 0, .null, .int 0]) xci1 q64 q65 q27 (xu_n (Ne.symm b3) (xu_n d13.symm (xu_n d13.symm h3))) (by decide) ⟨Nat.le_of_ble_eq_true rfl, Nat.le_of_ble_eq_true rfl⟩ dX1_init_16 (fun ad3 had3 => ?_)
  rw [← had3 rS b3, ← had3 r1 d13]
  refine x_dup C dX1_init_19 rfl ?_
  refine x_callI (rest := [.ref (ad3 r3), .ref (ad3 rS)]) C (k_AL_init xu_s) q68 q27 q66 q67 rfl hd_J2_init ⟨Nat.le_of_ble_eq_true rfl, Nat.le_of_ble_eq_true rfl⟩ rfl (Nat.le_of_ble_eq_true rfl) ⟨Nat.le_of_ble_eq_true rfl, Nat.le_of_ble_eq_true rfl⟩ dX1_init_20 (xPv_i ?_) xN_e
  refine x_putF C fl_X1_34 (by decide) (r := rS) rfl (xu_n b3 (xu_n b3 xu_s)) rfl rfl (Nat.le_of_ble_eq_true rfl) dX1_init_23 ?_
  refine x_eq (ct' := xu (xu (xu ct r1 (xAl 0 (F.1.2.2.1 301) 0)) r3 (xAl 0 (F.1.2.2.1 301) 0)) rS (.inr (0, [.ref (ad3 r1), .ref (ad3 r3), .int 0, .int 0, .int 0, .int 0, .long 0]))) ?_ ?_
  · funext x
    by_cases e0 : x = rS
    · subst e0; simp [xu]
    · by_cases e1 : x = r1
      · subst e1; simp [xu, e0, d13]
      · by_cases e3 : x = r3
        · subst e3; simp [xu, e0]
        · simp [xu, e0, e1, e3]
  refine x_aload_n C dX1_init_26 rfl 0 rfl ?_
  refine x_sipush (v := 600) C dX1_init_27 (by decide) ?_
  refine x_put C fl_X1_37 (r := rS) rfl xu_s rfl rfl (Nat.le_of_ble_eq_true rfl) dX1_init_30 ?_
  refine x_aload_n C dX1_init_33 rfl 0 rfl ?_
  refine x_lconst (v := 1) C dX1_init_34 (by decide) ?_
  refine x_put C fl_X1_41 (r := rS) rfl xu_s rfl rfl (Nat.le_of_ble_eq_true rfl) dX1_init_35 ?_
  exact x_vret C dX1_init_38 (Nat.le_of_ble_eq_true rfl) (Nat.le_of_ble_eq_true rfl) ⟨rfl, fun x n1 n3 => by rw [had3 x n3, had1 x n1], by simp only [xu_xu]; rfl⟩
