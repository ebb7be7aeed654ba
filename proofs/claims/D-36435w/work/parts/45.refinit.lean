/-! ===== THE REFERENCE is made ===== -/
def xmObj (ad : Nat → Nat) (n : Nat) : List Value := (List.range 30).map (fun f => if xmArr f then (if f < n then .ref (ad (ro 17 f)) else .null) else .int 0)
theorem xmObj_ad {ad ad2 : Nat → Nat} {n : Nat} (h : ∀ f, f < n → ad2 (ro 17 f) = ad (ro 17 f)) : xmObj ad2 n = xmObj ad n := by
  unfold xmObj
  refine List.map_congr_left (fun f _ => ?_)
  by_cases a : xmArr f = true
  · rw [if_pos a, if_pos a]
    by_cases b : f < n
    · rw [if_pos b, if_pos b, h f b]
    · rw [if_neg b, if_neg b]
  · rw [if_neg a, if_neg a]
/-- the reference with its first arrays made -/
def xkI (g ad : Nat → Nat) (n : Nat) : xK := fun k i => if k = 16 ∧ i = 0 then some (.inr (4, xmObj ad n)) else if k = 17 ∧ xmArr i = true ∧ i < n then some (.inl (if xmBool i then g 1001 else g 1000, xmLen i, .inl (fun _ => 0))) else none
theorem xkI_0 {g ad : Nat → Nat} {n : Nat} : xkI g ad n 16 0 = some (.inr (4, xmObj ad n)) := if_pos ⟨rfl, rfl⟩
theorem xkI_n {g ad : Nat → Nat} {n : Nat} : xkI g ad n 17 n = none := (if_neg (by omega)).trans (if_neg (by omega))
theorem m_mk {g ad ad2 : Nat → Nat} {c t : xK} {f : Nat} {e : va_E} (hf : xmArr f = true) (he : e = .inl (if xmBool f then g 1001 else g 1000, xmLen f, .inl (fun _ => 0))) (had : ∀ x, x ≠ ro 17 f → ad2 x = ad x) (hset : (xmObj ad2 f).set f (.ref (ad2 (ro 17 f))) = xmObj ad2 (f + 1)) : xu (xu (xj c (xkI g ad f) t) (ro 17 f) e) (ro 16 0) (.inr (4, (xmObj ad f).set f (.ref (ad2 (ro 17 f))))) = xj c (xkI g ad2 (f + 1)) t := by
  subst he
  rw [xj_um (by decide) (by decide), xj_um (by decide) (by decide), ← xmObj_ad (ad := ad) (ad2 := ad2) (fun f' h => had _ (ro_ne (by decide) (by decide) (by omega))), hset]
  refine congrArg (fun z => xj c z t) ?_
  funext k i
  unfold cu xkI
  by_cases h1 : k = 16 ∧ i = 0
  · simp only [if_pos h1]
  · simp only [if_neg h1]
    by_cases h2 : k = 17 ∧ i = f
    · simp only [if_pos h2]
      obtain ⟨rfl, rfl⟩ := h2
      rw [if_pos (show 17 = 17 ∧ xmArr i = true ∧ i < i + 1 from ⟨rfl, hf, Nat.lt_succ_self _⟩)]
    · simp only [if_neg h2]
      by_cases h3 : k = 17 ∧ xmArr i = true ∧ i < f
      · rw [if_pos h3, if_pos (show k = 17 ∧ xmArr i = true ∧ i < f + 1 from ⟨h3.1, h3.2.1, by omega⟩)]
      · rw [if_neg h3, if_neg (show ¬ (k = 17 ∧ xmArr i = true ∧ i < f + 1) from fun z => h3 ⟨z.1, z.2.1, by have h8 := z.1; have h9 := z.2.2; omega⟩)]
theorem m_skip {g ad : Nat → Nat} {c t : xK} {n : Nat} (h : xmArr n = false) : xj c (xkI g ad n) t = xj c (xkI g ad (n + 1)) t := by
  refine congrArg (fun z => xj c z t) ?_
  have ho : xmObj ad n = xmObj ad (n + 1) := by
    unfold xmObj
    refine List.map_congr_left (fun f _ => ?_)
    by_cases a : xmArr f = true
    · rw [if_pos a, if_pos a]
      have : f ≠ n := fun e => by rw [e, h] at a; cases a
      by_cases b : f < n
      · rw [if_pos b, if_pos (by omega)]
      · rw [if_neg b, if_neg (by omega)]
    · rw [if_neg a, if_neg a]
  funext k i
  unfold xkI
  rw [ho]
  by_cases h1 : k = 16 ∧ i = 0
  · simp only [if_pos h1]
  · simp only [if_neg h1]
    by_cases h3 : k = 17 ∧ xmArr i = true ∧ i < n
    · rw [if_pos h3, if_pos (show k = 17 ∧ xmArr i = true ∧ i < n + 1 from ⟨h3.1, h3.2.1, by omega⟩)]
    · rw [if_neg h3, if_neg (show ¬ (k = 17 ∧ xmArr i = true ∧ i < n + 1) from fun z => h3 ⟨z.1, z.2.1, by
        have h9 : i ≠ n := fun e => by
          have h8 := z.2.1
          rw [e, h] at h8
          cases h8
        have h7 := z.2.2
        omega⟩)]
def xμ0 : xSg := fun f i _ => if f = 25 ∧ i = 0 then 1 else if f = 27 ∧ i = 0 then 600 else 0
theorem xmArr_lt {f : Nat} (h : xmArr f = true) : f < 25 ∧ f ≠ 25 ∧ f ≠ 27 := by
  unfold xmArr at h
  simp only [Bool.and_eq_true, decide_eq_true_eq] at h
  omega
theorem m_done {g ad : Nat → Nat} {c t : xK} : xu (xu (xj c (xkI g ad 25) t) (ro 16 0) (.inr (4, (xmObj ad 25).set 25 (.int 1)))) (ro 16 0) (.inr (4, ((xmObj ad 25).set 25 (.int 1)).set 27 (.int 600))) = xj c (xkM g ad xμ0) t := by
  rw [xu_xu, xj_um (by decide) (by decide)]
  refine congrArg (fun z => xj c z t) ?_
  funext k i
  unfold cu
  by_cases h1 : k = 16 ∧ i = 0
  · obtain ⟨rfl, rfl⟩ := h1
    rw [if_pos ⟨rfl, rfl⟩]
    rfl
  · rw [if_neg h1]
    by_cases h17 : k = 17
    · subst h17
      unfold xkI
      rw [if_neg h1]
      show (if 17 = 17 ∧ xmArr i = true ∧ i < 25 then some (Sum.inl (if xmBool i then g 1001 else g 1000, xmLen i, Sum.inl (fun _ => 0))) else none) = if xmArr i then some (Sum.inl (if xmBool i then g 1001 else g 1000, xmLen i, Sum.inl (fun a => xμ0 i a 0))) else none
      by_cases a : xmArr i = true
      · have := xmArr_lt a
        rw [if_pos (show 17 = 17 ∧ xmArr i = true ∧ i < 25 from ⟨rfl, a, this.1⟩), if_pos a]
        have e : (fun a => xμ0 i a 0) = fun _ => 0 := by
          funext q
          unfold xμ0
          rw [if_neg (show ¬ (i = 25 ∧ q = 0) from fun z => this.2.1 z.1), if_neg (show ¬ (i = 27 ∧ q = 0) from fun z => this.2.2 z.1)]
        rw [e]
      · rw [if_neg a, if_neg (show ¬ (17 = 17 ∧ xmArr i = true ∧ i < 25) from fun z => a z.2.1)]
    · unfold xkI
      rw [if_neg h1, if_neg (show ¬ (k = 17 ∧ xmArr i = true ∧ i < 25) from fun z => h17 z.1)]
      by_cases h16 : k = 16
      · subst h16
        have : ¬ i = 0 := fun e => h1 ⟨rfl, e⟩
        show none = if i = 0 then _ else none
        rw [if_neg this]
      · unfold xkM
        split
        · exact absurd rfl h16
        · exact absurd rfl h17
        · rfl
set_option maxHeartbeats 4000000 in
theorem k2_init {G : xG} {ad : Nat → Nat} {c t : xK} : xM G yX2_init (ws_ yX2_init cX2_init 1 none) 2 40 23 760 [.ref (ad (ro 16 0))] ad (xj c (xkI G.2.2.1 ad 0) t) (fun v ad' ct' => v = none ∧ (∀ x, (∀ f, f < 25 → x ≠ ro 17 f) → ad' x = ad x) ∧ ct' = xj c (xkM G.2.2.1 ad' xμ0) t) xN := by
  refine xM_of (cc := cX2_init) (by decide) rfl (fun F hF C => ?_)
  subst hF
  show xX F _ _ _ 0 0 0 [(0, .ref (ad (ro 16 0)))] []
  refine x_aload_n C dX2_init_0 rfl 0 rfl ?_
  refine x_objInit C q972 q62 q63 ⟨Nat.le_of_ble_eq_true rfl, Nat.le_of_ble_eq_true rfl⟩ dX2_init_1 ?_
  refine x_aload_n C dX2_init_4 rfl 0 rfl ?_
  refine x_bipush (v := 30) C dX2_init_5 (by decide) ?_
  refine x_newI C 30 (r := ro 17 0) (xj_m (by decide) (by decide) xkI_n) (by decide) (by decide) (by decide) ⟨Nat.le_of_ble_eq_true rfl, Nat.le_of_ble_eq_true rfl⟩ dX2_init_7 (fun ad0 had0 => ?_)
  rw [← had0 (ro 16 0) (ro_ne (by decide) (by decide) (by decide))]
  refine x_putF C fl_X2_7 (by decide) (r := ro 16 0) rfl (xu_n (ro_ne (by decide) (by decide) (by decide)) (xj_m (by decide) (by decide) xkI_0)) rfl rfl (Nat.le_of_ble_eq_true rfl) dX2_init_9 ?_
  refine x_eq (m_mk (f := 0) rfl rfl had0 rfl) ?_
  refine x_aload_n C dX2_init_12 rfl 0 rfl ?_
  refine x_bipush (v := 30) C dX2_init_13 (by decide) ?_
  refine x_newI C 30 (r := ro 17 1) (xj_m (by decide) (by decide) xkI_n) (by decide) (by decide) (by decide) ⟨Nat.le_of_ble_eq_true rfl, Nat.le_of_ble_eq_true rfl⟩ dX2_init_15 (fun ad1 had1 => ?_)
  rw [← had1 (ro 16 0) (ro_ne (by decide) (by decide) (by decide))]
  refine x_putF C fl_X2_13 (by decide) (r := ro 16 0) rfl (xu_n (ro_ne (by decide) (by decide) (by decide)) (xj_m (by decide) (by decide) xkI_0)) rfl rfl (Nat.le_of_ble_eq_true rfl) dX2_init_17 ?_
  refine x_eq (m_mk (f := 1) rfl rfl had1 rfl) ?_
  refine x_aload_n C dX2_init_20 rfl 0 rfl ?_
  refine x_bipush (v := 30) C dX2_init_21 (by decide) ?_
  refine x_newI C 30 (r := ro 17 2) (xj_m (by decide) (by decide) xkI_n) (by decide) (by decide) (by decide) ⟨Nat.le_of_ble_eq_true rfl, Nat.le_of_ble_eq_true rfl⟩ dX2_init_23 (fun ad2 had2 => ?_)
  rw [← had2 (ro 16 0) (ro_ne (by decide) (by decide) (by decide))]
  refine x_putF C fl_X2_16 (by decide) (r := ro 16 0) rfl (xu_n (ro_ne (by decide) (by decide) (by decide)) (xj_m (by decide) (by decide) xkI_0)) rfl rfl (Nat.le_of_ble_eq_true rfl) dX2_init_25 ?_
  refine x_eq (m_mk (f := 2) rfl rfl had2 rfl) ?_
  refine x_aload_n C dX2_init_28 rfl 0 rfl ?_
  refine x_bipush (v := 30) C dX2_init_29 (by decide) ?_
  refine x_newI C 30 (r := ro 17 3) (xj_m (by decide) (by decide) xkI_n) (by decide) (by decide) (by decide) ⟨Nat.le_of_ble_eq_true rfl, Nat.le_of_ble_eq_true rfl⟩ dX2_init_31 (fun ad3 had3 => ?_)
  rw [← had3 (ro 16 0) (ro_ne (by decide) (by decide) (by decide))]
  refine x_putF C fl_X2_19 (by decide) (r := ro 16 0) rfl (xu_n (ro_ne (by decide) (by decide) (by decide)) (xj_m (by decide) (by decide) xkI_0)) rfl rfl (Nat.le_of_ble_eq_true rfl) dX2_init_33 ?_
  refine x_eq (m_mk (f := 3) rfl rfl had3 rfl) ?_
  refine x_aload_n C dX2_init_36 rfl 0 rfl ?_
  refine x_bipush (v := 30) C dX2_init_37 (by decide) ?_
  refine x_newI C 30 (r := ro 17 4) (xj_m (by decide) (by decide) xkI_n) (by decide) (by decide) (by decide) ⟨Nat.le_of_ble_eq_true rfl, Nat.le_of_ble_eq_true rfl⟩ dX2_init_39 (fun ad4 had4 => ?_)
  rw [← had4 (ro 16 0) (ro_ne (by decide) (by decide) (by decide))]
  refine x_putF C fl_X2_22 (by decide) (r := ro 16 0) rfl (xu_n (ro_ne (by decide) (by decide) (by decide)) (xj_m (by decide) (by decide) xkI_0)) rfl rfl (Nat.le_of_ble_eq_true rfl) dX2_init_41 ?_
  refine x_eq (m_mk (f := 4) rfl rfl had4 rfl) ?_
  refine x_eq (m_skip (n := 5) rfl) ?_
  refine x_aload_n C dX2_init_44 rfl 0 rfl ?_
  refine x_iconst (v := 4) C dX2_init_45 (by decide) ?_
  refine x_newI C 4 (r := ro 17 6) (xj_m (by decide) (by decide) xkI_n) (by decide) (by decide) (by decide) ⟨Nat.le_of_ble_eq_true rfl, Nat.le_of_ble_eq_true rfl⟩ dX2_init_46 (fun ad6 had6 => ?_)
  rw [← had6 (ro 16 0) (ro_ne (by decide) (by decide) (by decide))]
  refine x_putF C fl_X2_25 (by decide) (r := ro 16 0) rfl (xu_n (ro_ne (by decide) (by decide) (by decide)) (xj_m (by decide) (by decide) xkI_0)) rfl rfl (Nat.le_of_ble_eq_true rfl) dX2_init_48 ?_
  refine x_eq (m_mk (f := 6) rfl rfl had6 rfl) ?_
  refine x_aload_n C dX2_init_51 rfl 0 rfl ?_
  refine x_iconst (v := 4) C dX2_init_52 (by decide) ?_
  refine x_newI C 4 (r := ro 17 7) (xj_m (by decide) (by decide) xkI_n) (by decide) (by decide) (by decide) ⟨Nat.le_of_ble_eq_true rfl, Nat.le_of_ble_eq_true rfl⟩ dX2_init_53 (fun ad7 had7 => ?_)
  rw [← had7 (ro 16 0) (ro_ne (by decide) (by decide) (by decide))]
  refine x_putF C fl_X2_28 (by decide) (r := ro 16 0) rfl (xu_n (ro_ne (by decide) (by decide) (by decide)) (xj_m (by decide) (by decide) xkI_0)) rfl rfl (Nat.le_of_ble_eq_true rfl) dX2_init_55 ?_
  refine x_eq (m_mk (f := 7) rfl rfl had7 rfl) ?_
  refine x_aload_n C dX2_init_58 rfl 0 rfl ?_
  refine x_iconst (v := 4) C dX2_init_59 (by decide) ?_
  refine x_newI C 4 (r := ro 17 8) (xj_m (by decide) (by decide) xkI_n) (by decide) (by decide) (by decide) ⟨Nat.le_of_ble_eq_true rfl, Nat.le_of_ble_eq_true rfl⟩ dX2_init_60 (fun ad8 had8 => ?_)
  rw [← had8 (ro 16 0) (ro_ne (by decide) (by decide) (by decide))]
  refine x_putF C fl_X2_31 (by decide) (r := ro 16 0) rfl (xu_n (ro_ne (by decide) (by decide) (by decide)) (xj_m (by decide) (by decide) xkI_0)) rfl rfl (Nat.le_of_ble_eq_true rfl) dX2_init_62 ?_
  refine x_eq (m_mk (f := 8) rfl rfl had8 rfl) ?_
  refine x_aload_n C dX2_init_65 rfl 0 rfl ?_
  refine x_iconst (v := 4) C dX2_init_66 (by decide) ?_
  refine x_newI C 4 (r := ro 17 9) (xj_m (by decide) (by decide) xkI_n) (by decide) (by decide) (by decide) ⟨Nat.le_of_ble_eq_true rfl, Nat.le_of_ble_eq_true rfl⟩ dX2_init_67 (fun ad9 had9 => ?_)
  rw [← had9 (ro 16 0) (ro_ne (by decide) (by decide) (by decide))]
  refine x_putF C fl_X2_34 (by decide) (r := ro 16 0) rfl (xu_n (ro_ne (by decide) (by decide) (by decide)) (xj_m (by decide) (by decide) xkI_0)) rfl rfl (Nat.le_of_ble_eq_true rfl) dX2_init_69 ?_
  refine x_eq (m_mk (f := 9) rfl rfl had9 rfl) ?_
  refine x_aload_n C dX2_init_72 rfl 0 rfl ?_
  refine x_iconst (v := 4) C dX2_init_73 (by decide) ?_
  refine x_newI C 4 (r := ro 17 10) (xj_m (by decide) (by decide) xkI_n) (by decide) (by decide) (by decide) ⟨Nat.le_of_ble_eq_true rfl, Nat.le_of_ble_eq_true rfl⟩ dX2_init_74 (fun ad10 had10 => ?_)
  rw [← had10 (ro 16 0) (ro_ne (by decide) (by decide) (by decide))]
  refine x_putF C fl_X2_37 (by decide) (r := ro 16 0) rfl (xu_n (ro_ne (by decide) (by decide) (by decide)) (xj_m (by decide) (by decide) xkI_0)) rfl rfl (Nat.le_of_ble_eq_true rfl) dX2_init_76 ?_
  refine x_eq (m_mk (f := 10) rfl rfl had10 rfl) ?_
  refine x_aload_n C dX2_init_79 rfl 0 rfl ?_
  refine x_iconst (v := 4) C dX2_init_80 (by decide) ?_
  refine x_newI C 4 (r := ro 17 11) (xj_m (by decide) (by decide) xkI_n) (by decide) (by decide) (by decide) ⟨Nat.le_of_ble_eq_true rfl, Nat.le_of_ble_eq_true rfl⟩ dX2_init_81 (fun ad11 had11 => ?_)
  rw [← had11 (ro 16 0) (ro_ne (by decide) (by decide) (by decide))]
  refine x_putF C fl_X2_40 (by decide) (r := ro 16 0) rfl (xu_n (ro_ne (by decide) (by decide) (by decide)) (xj_m (by decide) (by decide) xkI_0)) rfl rfl (Nat.le_of_ble_eq_true rfl) dX2_init_83 ?_
  refine x_eq (m_mk (f := 11) rfl rfl had11 rfl) ?_
  refine x_aload_n C dX2_init_86 rfl 0 rfl ?_
  refine x_iconst (v := 4) C dX2_init_87 (by decide) ?_
  refine x_newI C 4 (r := ro 17 12) (xj_m (by decide) (by decide) xkI_n) (by decide) (by decide) (by decide) ⟨Nat.le_of_ble_eq_true rfl, Nat.le_of_ble_eq_true rfl⟩ dX2_init_88 (fun ad12 had12 => ?_)
  rw [← had12 (ro 16 0) (ro_ne (by decide) (by decide) (by decide))]
  refine x_putF C fl_X2_43 (by decide) (r := ro 16 0) rfl (xu_n (ro_ne (by decide) (by decide) (by decide)) (xj_m (by decide) (by decide) xkI_0)) rfl rfl (Nat.le_of_ble_eq_true rfl) dX2_init_90 ?_
  refine x_eq (m_mk (f := 12) rfl rfl had12 rfl) ?_
  refine x_aload_n C dX2_init_93 rfl 0 rfl ?_
  refine x_bipush (v := 32) C dX2_init_94 (by decide) ?_
  refine x_newI C 32 (r := ro 17 13) (xj_m (by decide) (by decide) xkI_n) (by decide) (by decide) (by decide) ⟨Nat.le_of_ble_eq_true rfl, Nat.le_of_ble_eq_true rfl⟩ dX2_init_96 (fun ad13 had13 => ?_)
  rw [← had13 (ro 16 0) (ro_ne (by decide) (by decide) (by decide))]
  refine x_putF C fl_X2_46 (by decide) (r := ro 16 0) rfl (xu_n (ro_ne (by decide) (by decide) (by decide)) (xj_m (by decide) (by decide) xkI_0)) rfl rfl (Nat.le_of_ble_eq_true rfl) dX2_init_98 ?_
  refine x_eq (m_mk (f := 13) rfl rfl had13 rfl) ?_
  refine x_aload_n C dX2_init_101 rfl 0 rfl ?_
  refine x_iconst (v := 4) C dX2_init_102 (by decide) ?_
  refine x_newI C 4 (r := ro 17 14) (xj_m (by decide) (by decide) xkI_n) (by decide) (by decide) (by decide) ⟨Nat.le_of_ble_eq_true rfl, Nat.le_of_ble_eq_true rfl⟩ dX2_init_103 (fun ad14 had14 => ?_)
  rw [← had14 (ro 16 0) (ro_ne (by decide) (by decide) (by decide))]
  refine x_putF C fl_X2_49 (by decide) (r := ro 16 0) rfl (xu_n (ro_ne (by decide) (by decide) (by decide)) (xj_m (by decide) (by decide) xkI_0)) rfl rfl (Nat.le_of_ble_eq_true rfl) dX2_init_105 ?_
  refine x_eq (m_mk (f := 14) rfl rfl had14 rfl) ?_
  refine x_aload_n C dX2_init_108 rfl 0 rfl ?_
  refine x_iconst (v := 4) C dX2_init_109 (by decide) ?_
  refine x_newI C 4 (r := ro 17 15) (xj_m (by decide) (by decide) xkI_n) (by decide) (by decide) (by decide) ⟨Nat.le_of_ble_eq_true rfl, Nat.le_of_ble_eq_true rfl⟩ dX2_init_110 (fun ad15 had15 => ?_)
  rw [← had15 (ro 16 0) (ro_ne (by decide) (by decide) (by decide))]
  refine x_putF C fl_X2_52 (by decide) (r := ro 16 0) rfl (xu_n (ro_ne (by decide) (by decide) (by decide)) (xj_m (by decide) (by decide) xkI_0)) rfl rfl (Nat.le_of_ble_eq_true rfl) dX2_init_112 ?_
  refine x_eq (m_mk (f := 15) rfl rfl had15 rfl) ?_
  refine x_aload_n C dX2_init_115 rfl 0 rfl ?_
  refine x_iconst (v := 4) C dX2_init_116 (by decide) ?_
  refine x_newI C 4 (r := ro 17 16) (xj_m (by decide) (by decide) xkI_n) (by decide) (by decide) (by decide) ⟨Nat.le_of_ble_eq_true rfl, Nat.le_of_ble_eq_true rfl⟩ dX2_init_117 (fun ad16 had16 => ?_)
  rw [← had16 (ro 16 0) (ro_ne (by decide) (by decide) (by decide))]
  refine x_putF C fl_X2_55 (by decide) (r := ro 16 0) rfl (xu_n (ro_ne (by decide) (by decide) (by decide)) (xj_m (by decide) (by decide) xkI_0)) rfl rfl (Nat.le_of_ble_eq_true rfl) dX2_init_119 ?_
  refine x_eq (m_mk (f := 16) rfl rfl had16 rfl) ?_
  refine x_aload_n C dX2_init_122 rfl 0 rfl ?_
  refine x_iconst (v := 4) C dX2_init_123 (by decide) ?_
  refine x_newZ C 4 (r := ro 17 17) (xj_m (by decide) (by decide) xkI_n) (by decide) (by decide) (by decide) ⟨Nat.le_of_ble_eq_true rfl, Nat.le_of_ble_eq_true rfl⟩ dX2_init_124 (fun ad17 had17 => ?_)
  rw [← had17 (ro 16 0) (ro_ne (by decide) (by decide) (by decide))]
  refine x_putF C fl_X2_58 (by decide) (r := ro 16 0) rfl (xu_n (ro_ne (by decide) (by decide) (by decide)) (xj_m (by decide) (by decide) xkI_0)) rfl rfl (Nat.le_of_ble_eq_true rfl) dX2_init_126 ?_
  refine x_eq (m_mk (f := 17) rfl rfl had17 rfl) ?_
  refine x_aload_n C dX2_init_129 rfl 0 rfl ?_
  refine x_iconst (v := 4) C dX2_init_130 (by decide) ?_
  refine x_newZ C 4 (r := ro 17 18) (xj_m (by decide) (by decide) xkI_n) (by decide) (by decide) (by decide) ⟨Nat.le_of_ble_eq_true rfl, Nat.le_of_ble_eq_true rfl⟩ dX2_init_131 (fun ad18 had18 => ?_)
  rw [← had18 (ro 16 0) (ro_ne (by decide) (by decide) (by decide))]
  refine x_putF C fl_X2_62 (by decide) (r := ro 16 0) rfl (xu_n (ro_ne (by decide) (by decide) (by decide)) (xj_m (by decide) (by decide) xkI_0)) rfl rfl (Nat.le_of_ble_eq_true rfl) dX2_init_133 ?_
  refine x_eq (m_mk (f := 18) rfl rfl had18 rfl) ?_
  refine x_eq (m_skip (n := 19) rfl) ?_
  refine x_aload_n C dX2_init_136 rfl 0 rfl ?_
  refine x_bipush (v := 40) C dX2_init_137 (by decide) ?_
  refine x_newI C 40 (r := ro 17 20) (xj_m (by decide) (by decide) xkI_n) (by decide) (by decide) (by decide) ⟨Nat.le_of_ble_eq_true rfl, Nat.le_of_ble_eq_true rfl⟩ dX2_init_139 (fun ad20 had20 => ?_)
  rw [← had20 (ro 16 0) (ro_ne (by decide) (by decide) (by decide))]
  refine x_putF C fl_X2_65 (by decide) (r := ro 16 0) rfl (xu_n (ro_ne (by decide) (by decide) (by decide)) (xj_m (by decide) (by decide) xkI_0)) rfl rfl (Nat.le_of_ble_eq_true rfl) dX2_init_141 ?_
  refine x_eq (m_mk (f := 20) rfl rfl had20 rfl) ?_
  refine x_aload_n C dX2_init_144 rfl 0 rfl ?_
  refine x_bipush (v := 40) C dX2_init_145 (by decide) ?_
  refine x_newI C 40 (r := ro 17 21) (xj_m (by decide) (by decide) xkI_n) (by decide) (by decide) (by decide) ⟨Nat.le_of_ble_eq_true rfl, Nat.le_of_ble_eq_true rfl⟩ dX2_init_147 (fun ad21 had21 => ?_)
  rw [← had21 (ro 16 0) (ro_ne (by decide) (by decide) (by decide))]
  refine x_putF C fl_X2_68 (by decide) (r := ro 16 0) rfl (xu_n (ro_ne (by decide) (by decide) (by decide)) (xj_m (by decide) (by decide) xkI_0)) rfl rfl (Nat.le_of_ble_eq_true rfl) dX2_init_149 ?_
  refine x_eq (m_mk (f := 21) rfl rfl had21 rfl) ?_
  refine x_aload_n C dX2_init_152 rfl 0 rfl ?_
  refine x_sipush (v := 400) C dX2_init_153 (by decide) ?_
  refine x_newI C 400 (r := ro 17 22) (xj_m (by decide) (by decide) xkI_n) (by decide) (by decide) (by decide) ⟨Nat.le_of_ble_eq_true rfl, Nat.le_of_ble_eq_true rfl⟩ dX2_init_156 (fun ad22 had22 => ?_)
  rw [← had22 (ro 16 0) (ro_ne (by decide) (by decide) (by decide))]
  refine x_putF C fl_X2_71 (by decide) (r := ro 16 0) rfl (xu_n (ro_ne (by decide) (by decide) (by decide)) (xj_m (by decide) (by decide) xkI_0)) rfl rfl (Nat.le_of_ble_eq_true rfl) dX2_init_158 ?_
  refine x_eq (m_mk (f := 22) rfl rfl had22 rfl) ?_
  refine x_aload_n C dX2_init_161 rfl 0 rfl ?_
  refine x_bipush (v := 30) C dX2_init_162 (by decide) ?_
  refine x_newZ C 30 (r := ro 17 23) (xj_m (by decide) (by decide) xkI_n) (by decide) (by decide) (by decide) ⟨Nat.le_of_ble_eq_true rfl, Nat.le_of_ble_eq_true rfl⟩ dX2_init_164 (fun ad23 had23 => ?_)
  rw [← had23 (ro 16 0) (ro_ne (by decide) (by decide) (by decide))]
  refine x_putF C fl_X2_74 (by decide) (r := ro 16 0) rfl (xu_n (ro_ne (by decide) (by decide) (by decide)) (xj_m (by decide) (by decide) xkI_0)) rfl rfl (Nat.le_of_ble_eq_true rfl) dX2_init_166 ?_
  refine x_eq (m_mk (f := 23) rfl rfl had23 rfl) ?_
  refine x_aload_n C dX2_init_169 rfl 0 rfl ?_
  refine x_bipush (v := 10) C dX2_init_170 (by decide) ?_
  refine x_newZ C 10 (r := ro 17 24) (xj_m (by decide) (by decide) xkI_n) (by decide) (by decide) (by decide) ⟨Nat.le_of_ble_eq_true rfl, Nat.le_of_ble_eq_true rfl⟩ dX2_init_172 (fun ad24 had24 => ?_)
  rw [← had24 (ro 16 0) (ro_ne (by decide) (by decide) (by decide))]
  refine x_putF C fl_X2_77 (by decide) (r := ro 16 0) rfl (xu_n (ro_ne (by decide) (by decide) (by decide)) (xj_m (by decide) (by decide) xkI_0)) rfl rfl (Nat.le_of_ble_eq_true rfl) dX2_init_174 ?_
  refine x_eq (m_mk (f := 24) rfl rfl had24 rfl) ?_
  refine x_aload_n C dX2_init_177 rfl 0 rfl ?_
  refine x_iconst (v := 1) C dX2_init_178 (by decide) ?_
  refine x_put C fl_X2_80 (r := ro 16 0) rfl (xj_m (by decide) (by decide) xkI_0) rfl rfl (Nat.le_of_ble_eq_true rfl) dX2_init_179 ?_
  refine x_aload_n C dX2_init_182 rfl 0 rfl ?_
  refine x_sipush (v := 600) C dX2_init_183 (by decide) ?_
  refine x_put C fl_X2_84 (r := ro 16 0) rfl xu_s rfl rfl (Nat.le_of_ble_eq_true rfl) dX2_init_186 ?_
  refine x_eq m_done ?_
  exact x_vret C dX2_init_189 (Nat.le_of_ble_eq_true rfl) (Nat.le_of_ble_eq_true rfl) ⟨rfl, fun x hx => by rw [had24 x (hx 24 (by decide)), had23 x (hx 23 (by decide)), had22 x (hx 22 (by decide)), had21 x (hx 21 (by decide)), had20 x (hx 20 (by decide)), had18 x (hx 18 (by decide)), had17 x (hx 17 (by decide)), had16 x (hx 16 (by decide)), had15 x (hx 15 (by decide)), had14 x (hx 14 (by decide)), had13 x (hx 13 (by decide)), had12 x (hx 12 (by decide)), had11 x (hx 11 (by decide)), had10 x (hx 10 (by decide)), had9 x (hx 9 (by decide)), had8 x (hx 8 (by decide)), had7 x (hx 7 (by decide)), had6 x (hx 6 (by decide)), had4 x (hx 4 (by decide)), had3 x (hx 3 (by decide)), had2 x (hx 2 (by decide)), had1 x (hx 1 (by decide)), had0 x (hx 0 (by decide))], rfl⟩
