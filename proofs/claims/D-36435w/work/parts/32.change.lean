/-! ===== CHANGE ===== -/
/-- songs are between 0 and 99 -/
def xIg (κ : xKp) (σ : xSg) : Prop := ∀ d, d < κ 0 → ∃ q, q < 100 ∧ σ 0 d 0 = nI q
/-- the disc that was there goes back to the van -/
def sC1 (σ : xSg) (j s : Nat) : xSg := if σ 17 j s = -1 then xup σ 22 0 0 (σ 22 0 0 - 10) else xup (xup σ 22 0 0 (σ 22 0 0 - 10)) 4 (σ 17 j s).toNatClampNeg 0 (-1)
def sC2 (σ : xSg) (j s : Nat) (c : Int32) : xSg := xup (xup (sC1 σ j s) 17 j s c) 18 j s 0
def sCh (σ : xSg) (j s : Nat) (c : Int32) : xSg := if c = -1 then sC2 σ j s c else xup (xup (sC2 σ j s c) 4 c.toNatClampNeg 0 (nI (10 * j + s))) 19 j (σ 0 c.toNatClampNeg 0).toNatClampNeg 0
theorem up2 {x y : Int32} : (∀ i, i < 2 → ¬ upd (upd (fun _ => 0) 0 x) 1 y i = 0) ↔ ¬ x = 0 ∧ ¬ y = 0 := by
  refine ⟨fun h => ⟨fun e => h 0 (by decide) (by rw [pk_un (by decide), pk_us]; exact e), fun e => h 1 (by decide) (by rw [pk_us]; exact e)⟩, fun h i hi => ?_⟩
  rcases (show i = 0 ∨ i = 1 by omega) with rfl | rfl
  · rw [pk_un (by decide), pk_us]; exact h.1
  · rw [pk_us]; exact h.2
theorem nI_at {j s : Nat} : 10 * nI j + nI s = nI (10 * j + s) := by
  rw [show (10 : Int32) = nI 10 from rfl, pk_mul, nI_add]
theorem sC1_n {σ : xSg} {j s f i k : Nat} (h : f ≠ 4 ∧ f ≠ 22) : sC1 σ j s f i k = σ f i k := by
  unfold sC1
  split
  · rw [xup_n (by omega)]
  · rw [xup_n (by omega), xup_n (by omega)]
set_option maxHeartbeats 4000000 in
theorem k1_change {G : xG} {ad0 : Nat → Nat} {κ : xKp} {σ : xSg} {m t : xK} (hI : xIk κ) (hS : xIs κ σ) (hG : xIg κ σ) (hV : ∀ j, j < κ 1 → vp_nar .boolean (σ 15 j 0) = σ 15 j 0) (ht60 : t 60 0 = none) (ht61 : t 61 0 = none) (ht62 : t 62 0 = none) (b sl c : Int32) : xM G yX1_change (wsW_ yX1_change cX1_change 7 (some Jvm.ClassFile.FieldType.int) [(24, 63, 66, 202)]) 20 600 20 90 [.ref (ad0 (ro 0 0)), .int b, .int sl, .int c] ad0 (xj (xkC G.2.2.1 ad0 κ σ) m t) (fun v ad' ct' => ad' = ad0 ∧ ∃ j0, j0 < κ 1 ∧ ∃ s0, s0 < 10 ∧ b = nI j0 ∧ sl = nI s0 ∧ (c = -1 ∨ ∃ d0, d0 < κ 0 ∧ c = nI d0) ∧ ((¬ σ 15 j0 0 = 0 ∧ (c = -1 ∨ σ 4 c.toNatClampNeg 0 = -1)) ∧ ¬ σ 22 0 0 < 10) ∧ v = some (.int (σ 17 j0 s0)) ∧ ct' = xj (xkC G.2.2.1 ad0 κ (sCh σ j0 s0 c)) m t) (fun E ad' ct' => ad' = ad0 ∧ ct' = xj (xkC G.2.2.1 ad0 κ σ) m t ∧ (E = xIOB ∧ ¬ ((xIx b (κ 1) ∧ xIx sl 10) ∧ (c = -1 ∨ xIx c (κ 0))) ∨ E = xUOE ∧ ∃ j0, j0 < κ 1 ∧ ∃ s0, s0 < 10 ∧ b = nI j0 ∧ sl = nI s0 ∧ (c = -1 ∨ ∃ d0, d0 < κ 0 ∧ c = nI d0) ∧ ¬ ((¬ σ 15 j0 0 = 0 ∧ (c = -1 ∨ σ 4 c.toNatClampNeg 0 = -1)) ∧ ¬ σ 22 0 0 < 10))) := by
  refine xMW_of (hh := [(24, 63, 66, 202)]) (cc := cX1_change) (by decide) rfl (fun F hF C => ?_)
  subst hF
  show xX F _ _ _ 0 0 0 [(0, .ref (ad0 (ro 0 0))), (1, .int b), (2, .int sl), (3, .int c)] []
  refine x_aload_n C dX1_change_0 rfl 0 rfl ?_
  refine x_iload_n C dX1_change_1 rfl 1 rfl ?_
  refine x_iload_n C dX1_change_2 rfl 2 rfl ?_
  refine x_callV (rest := []) C (k1_boxAt2 hI b sl) cf_X1_114 ⟨rfl, hd_X1_boxAt_2⟩ ⟨Nat.le_of_ble_eq_true rfl, Nat.le_of_ble_eq_true rfl⟩ (xR_o xci0 rfl (xj_c (by decide) xkC_sr)) rfl (Nat.le_of_ble_eq_true rfl) ⟨Nat.le_of_ble_eq_true rfl, Nat.le_of_ble_eq_true rfl⟩ dX1_change_3 (fun v ad' ct' q => ?_) (fun E ad' ct' q => ?_)
  rotate_left
  · obtain ⟨rfl, e9, rfl, hx⟩ := q; obtain rfl := e9.symm
    exact x_out C (by decide) (Nat.le_of_ble_eq_true rfl) (Nat.le_of_ble_eq_true rfl) ⟨rfl, rfl, Or.inl ⟨rfl, fun z => hx z.1⟩⟩
  obtain ⟨e9, rfl, j, hj, s, hs, rfl, rfl, rfl⟩ := q; obtain rfl := e9.symm
  refine x_astore (lv' := [(4, .ref (ad0 (ro 5 j))), (0, .ref (ad0 (ro 0 0))), (1, .int (nI j)), (2, .int (nI s)), (3, .int c)]) C dX1_change_6 (by decide) rfl ?_
  refine x_iload_n C dX1_change_8 rfl 4 rfl ?_
  refine x_iconst (v := -1) C dX1_change_9 (by decide) ?_
  refine x_icmp_ne (tgt := 17) C dX1_change_10 (by decide) (fun c1 => ?_) (fun c1 => ?_)
  · refine x_aload_n C dX1_change_17 rfl 1 rfl ?_
    refine x_iload_n C dX1_change_18 rfl 4 rfl ?_
    refine x_callV (rest := []) C (k1_discAt hI c) cf_X1_162 ⟨rfl, hd_X1_discAt⟩ ⟨Nat.le_of_ble_eq_true rfl, Nat.le_of_ble_eq_true rfl⟩ (xR_o xci0 rfl (xj_c (by decide) xkC_sr)) rfl (Nat.le_of_ble_eq_true rfl) ⟨Nat.le_of_ble_eq_true rfl, Nat.le_of_ble_eq_true rfl⟩ dX1_change_19 (fun v ad' ct' q => ?_) (fun E ad' ct' q => ?_)
    rotate_left
    · obtain ⟨rfl, e9, rfl, hx⟩ := q; obtain rfl := e9.symm
      exact x_out C (by decide) (Nat.le_of_ble_eq_true rfl) (Nat.le_of_ble_eq_true rfl) ⟨rfl, rfl, Or.inl ⟨rfl, fun z => z.2.elim c1 hx⟩⟩
    obtain ⟨e9, rfl, d, hd, rfl, rfl⟩ := q; obtain rfl := e9.symm
    refine x_astore (lv' := [(5, .ref (ad0 (ro 11 d))), (4, .ref (ad0 (ro 5 j))), (0, .ref (ad0 (ro 0 0))), (1, .int (nI j)), (2, .int (nI s)), (3, .int (nI d))]) C dX1_change_22 (by decide) rfl ?_
    refine x_aload_n C dX1_change_24 rfl 2 rfl ?_
    refine x_bipush (v := 10) C dX1_change_25 (by decide) ?_
    refine x_iconst (v := 2) C dX1_change_27 (by decide) ?_
    refine x_newMu C (N := 2) rfl (by decide) ht60 ⟨Nat.le_of_ble_eq_true rfl, Nat.le_of_ble_eq_true rfl⟩ dX1_change_28 (fun ad had => ?_)
    rw [← had (ro 0 0) (ro_ne (by decide) (by decide) (by decide)), ← had (ro 5 j) (ro_ne (by decide) (by decide) (by omega)), ← had (ro 11 d) (ro_ne (by decide) (by decide) (by omega))]
    refine x_dup C dX1_change_30 rfl ?_
    refine x_iconst (v := 0) C dX1_change_31 (by decide) ?_
    refine x_aload C dX1_change_32 1 rfl ?_
    refine x_get C fl_X1_199 (r := ro 5 j) rfl (xj_c (by decide) (xkC_box hj)) (v := .int (σ 15 j 0)) rfl dX1_change_34 ?_
    refine xi_zst C 0 rfl (xj_t (by decide) (by decide) cu_s) rfl (by decide) rfl (hV j hj) dX1_change_37 ?_
    refine x_pt (k := 60) (by decide) (by decide) cu_cu ?_
    refine x_dup C dX1_change_38 rfl ?_
    refine x_iconst (v := 1) C dX1_change_39 (by decide) ?_
    refine x_aload C dX1_change_40 0 rfl ?_
    refine x_ifnull C dX1_change_42 ?_
    refine x_aload C dX1_change_45 0 rfl ?_
    refine x_get C fl_X1_169 (r := ro 11 d) rfl (xj_c (by decide) (xkC_disc hd)) (v := .int (σ 4 d 0)) rfl dX1_change_47 ?_
    refine x_iconst (v := -1) C dX1_change_50 (by decide) ?_
    refine x_icmp_ne (tgt := 58) C dX1_change_51 (by decide) (fun c2 => ?_) (fun c2 => ?_)
    · refine x_iconst (v := 0) C dX1_change_58 (by decide) ?_
      refine xi_zst C 1 rfl (xj_t (by decide) (by decide) cu_s) rfl (by decide) rfl rfl dX1_change_59 ?_
      refine x_pt (k := 60) (by decide) (by decide) cu_cu ?_
      refine x_callV (rest := []) C (k1_works (L := 2) (f := (upd (upd (fun _ => 0) 0 (σ 15 j 0)) 1 0)) (cu_n (by decide) ht61) (by decide) cu_s 10) cf_X1_211 ⟨rfl, hd_X1_works⟩ ⟨Nat.le_of_ble_eq_true rfl, Nat.le_of_ble_eq_true rfl⟩ (xR_o xci0 rfl (xj_c (by decide) xkC_sr)) rfl (Nat.le_of_ble_eq_true rfl) ⟨Nat.le_of_ble_eq_true rfl, Nat.le_of_ble_eq_true rfl⟩ dX1_change_60 (fun v ad' ct' q => ?_) (fun E ad' ct' q => ?_)
      rotate_left
      · obtain ⟨rfl, e9, rfl, hno⟩ := q; obtain rfl := e9.symm
        refine x_catch C [] ⟨24, 63, 66, 202⟩ [] rfl (fun z hz => nomatch hz) (by decide) (by decide) q827 (by decide) (fun qe => ?_)
        refine x_astore (lv' := [(6, .ref qe), (5, .ref (ad (ro 11 d))), (4, .ref (ad (ro 5 j))), (0, .ref (ad (ro 0 0))), (1, .int (nI j)), (2, .int (nI s)), (3, .int (nI d))]) C dX1_change_66 (by decide) rfl ?_
        refine x_throwUOE C (r := ro 62 0) (a := qe) (w4 := 2) (fun h0 k => lv_aload C.hx C.hb dX1_change_73 (lv_at h0 0 rfl) k) (xj_t (by decide) (by decide) (cu_n (by decide) ht62)) ⟨Nat.le_of_ble_eq_true rfl, Nat.le_of_ble_eq_true rfl⟩ ⟨Nat.le_of_ble_eq_true rfl, Nat.le_of_ble_eq_true rfl⟩ dX1_change_68 dX1_change_71 dX1_change_72 dX1_change_75 dX1_change_78 ?_
        refine xT_backMu had ht60 ?_
        exact x_out C (by decide) (Nat.le_of_ble_eq_true rfl) (Nat.le_of_ble_eq_true rfl) ⟨rfl, rfl, Or.inr ⟨rfl, j, hj, s, hs, rfl, rfl, Or.inr ⟨d, hd, rfl⟩, fun z => z.1.2.elim (fun e => nI_ne1 (by have := hI.2.2.2.2.1; omega) e) (fun e => by rw [nI_clamp (by have := hI.2.2.2.2.1; omega)] at e; exact c2 e)⟩⟩
      obtain ⟨rfl, e9, hyes, rfl⟩ := q; obtain rfl := e9.symm
      exact absurd rfl (up2.mp hyes.1).2
    · refine x_iconst (v := 1) C dX1_change_54 (by decide) ?_
      refine x_goto (tgt := 59) C dX1_change_55 (by decide) ?_
      refine xi_zst C 1 rfl (xj_t (by decide) (by decide) cu_s) rfl (by decide) rfl rfl dX1_change_59 ?_
      refine x_pt (k := 60) (by decide) (by decide) cu_cu ?_
      refine x_callV (rest := []) C (k1_works (L := 2) (f := (upd (upd (fun _ => 0) 0 (σ 15 j 0)) 1 1)) (cu_n (by decide) ht61) (by decide) cu_s 10) cf_X1_211 ⟨rfl, hd_X1_works⟩ ⟨Nat.le_of_ble_eq_true rfl, Nat.le_of_ble_eq_true rfl⟩ (xR_o xci0 rfl (xj_c (by decide) xkC_sr)) rfl (Nat.le_of_ble_eq_true rfl) ⟨Nat.le_of_ble_eq_true rfl, Nat.le_of_ble_eq_true rfl⟩ dX1_change_60 (fun v ad' ct' q => ?_) (fun E ad' ct' q => ?_)
      rotate_left
      · obtain ⟨rfl, e9, rfl, hno⟩ := q; obtain rfl := e9.symm
        refine x_catch C [] ⟨24, 63, 66, 202⟩ [] rfl (fun z hz => nomatch hz) (by decide) (by decide) q827 (by decide) (fun qe => ?_)
        refine x_astore (lv' := [(6, .ref qe), (5, .ref (ad (ro 11 d))), (4, .ref (ad (ro 5 j))), (0, .ref (ad (ro 0 0))), (1, .int (nI j)), (2, .int (nI s)), (3, .int (nI d))]) C dX1_change_66 (by decide) rfl ?_
        refine x_throwUOE C (r := ro 62 0) (a := qe) (w4 := 2) (fun h0 k => lv_aload C.hx C.hb dX1_change_73 (lv_at h0 0 rfl) k) (xj_t (by decide) (by decide) (cu_n (by decide) ht62)) ⟨Nat.le_of_ble_eq_true rfl, Nat.le_of_ble_eq_true rfl⟩ ⟨Nat.le_of_ble_eq_true rfl, Nat.le_of_ble_eq_true rfl⟩ dX1_change_68 dX1_change_71 dX1_change_72 dX1_change_75 dX1_change_78 ?_
        refine xT_backMu had ht60 ?_
        exact x_out C (by decide) (Nat.le_of_ble_eq_true rfl) (Nat.le_of_ble_eq_true rfl) ⟨rfl, rfl, Or.inr ⟨rfl, j, hj, s, hs, rfl, rfl, Or.inr ⟨d, hd, rfl⟩, fun z => hno ⟨up2.mpr ⟨z.1.1, by decide⟩, z.2⟩⟩⟩
      obtain ⟨rfl, e9, hyes, rfl⟩ := q; obtain rfl := e9.symm
      refine x_goto (tgt := 79) C dX1_change_63 (by decide) ?_
      refine x_aload C dX1_change_79 1 rfl ?_
      refine x_getR C fl_X1_117 (r := ro 5 j) rfl (xj_c (by decide) (xkC_box hj)) (v := .ref (ad (ro 6 j))) rfl dX1_change_81 ?_
      refine x_iload_n C dX1_change_84 rfl 4 rfl ?_
      refine xi_ald C s rfl (xj_c (by decide) (xkC_slots hj)) rfl hs rfl dX1_change_85 ?_
      refine x_top (y := σ 17 j s) rfl ?_
      refine x_istore (lv' := [(6, .int (σ 17 j s)), (5, .ref (ad (ro 11 d))), (4, .ref (ad (ro 5 j))), (0, .ref (ad (ro 0 0))), (1, .int (nI j)), (2, .int (nI s)), (3, .int (nI d))]) C dX1_change_86 (by decide) rfl ?_
      refine x_iload C dX1_change_88 0 rfl ?_
      refine x_iconst (v := -1) C dX1_change_90 (by decide) ?_
      refine x_icmp_eq (tgt := 110) C dX1_change_91 (by decide) (fun c3 => ?_) (fun c3 => ?_)
      · have e8 : sC1 σ j s = (xup σ 22 0 0 (σ 22 0 0 - 10)) := by unfold sC1; rw [if_pos c3]
        refine x_eq (congrArg (fun g => xj (xkC F.1.2.2.1 ad κ g) m _) e8.symm) ?_
        refine x_aload C dX1_change_110 2 rfl ?_
        refine x_getR C fl_X1_117 (r := ro 5 j) rfl (xj_c (by decide) (xkC_box hj)) (v := .ref (ad (ro 6 j))) rfl dX1_change_112 ?_
        refine x_iload_n C dX1_change_115 rfl 5 rfl ?_
        refine x_iload_n C dX1_change_116 rfl 6 rfl ?_
        refine xi_ast C s rfl (xj_c (by decide) (xkC_slots hj)) rfl hs rfl dX1_change_117 ?_
        refine x_pc (k := 6) (by decide) (pc_arr17 hj) ?_
        refine x_aload C dX1_change_118 2 rfl ?_
        refine x_getR C fl_X1_156 (r := ro 5 j) rfl (xj_c (by decide) (xkC_box hj)) (v := .ref (ad (ro 7 j))) rfl dX1_change_120 ?_
        refine x_iload_n C dX1_change_123 rfl 5 rfl ?_
        refine x_iconst (v := 0) C dX1_change_124 (by decide) ?_
        refine xi_ast C s rfl (xj_c (by decide) (xkC_wheels hj)) rfl hs rfl dX1_change_125 ?_
        refine x_pc (k := 7) (by decide) (pc_arr18 hj) ?_
        refine x_aload C dX1_change_126 1 rfl ?_
        refine x_ifnull C dX1_change_128 ?_
        refine x_aload C dX1_change_131 1 rfl ?_
        refine x_bipush (v := 10) C dX1_change_133 (by decide) ?_
        refine x_iload_n C dX1_change_135 rfl 4 rfl ?_
        refine x_imul C dX1_change_136 ?_
        refine x_iload_n C dX1_change_137 rfl 5 rfl ?_
        refine x_iadd C dX1_change_138 ?_
        refine x_top (y := nI (10 * j + s)) (nI_at) ?_
        obtain ⟨q9, hq9, e0⟩ := hG d hd
        refine x_put C fl_X1_169 (r := ro 11 d) rfl (xj_c (by decide) (xkC_disc hd)) rfl rfl (Nat.le_of_ble_eq_true rfl) dX1_change_139 ?_
        refine x_pc (k := 11) (by decide) (pc_disc4 hd) ?_
        refine x_aload C dX1_change_142 2 rfl ?_
        refine x_getR C fl_X1_235 (r := ro 5 j) rfl (xj_c (by decide) (xkC_box hj)) (v := .ref (ad (ro 8 j))) rfl dX1_change_144 ?_
        refine x_aload C dX1_change_147 1 rfl ?_
        refine x_getR C fl_X1_238 (r := ro 11 d) rfl (xj_c (by decide) (xkC_disc hd)) (v := .int ((sC1 σ j s) 0 d 0)) rfl dX1_change_149 ?_
        refine x_top (y := nI q9) ((by first | exact (sC1_n (by decide)).trans e0 | (simp only [xup]; exact (sC1_n (by decide)).trans e0))) ?_
        refine x_iconst (v := 0) C dX1_change_152 (by decide) ?_
        refine xi_ast C q9 rfl (xj_c (by decide) (xkC_asked hj)) rfl hq9 rfl dX1_change_153 ?_
        refine x_pc (k := 8) (by decide) (pc_arr19 hj) ?_
        refine x_iload C dX1_change_154 0 rfl ?_
        refine x_backMu had ht60 ?_
        exact x_iret C dX1_change_156 (Nat.le_of_ble_eq_true rfl) (Nat.le_of_ble_eq_true rfl) ⟨rfl, j, hj, s, hs, rfl, rfl, Or.inr ⟨d, hd, rfl⟩, ⟨⟨(up2.mp hyes.1).1, Or.inr (by rw [nI_clamp (by have := hI.2.2.2.2.1; omega)]; exact c2)⟩, hyes.2⟩, rfl, by unfold sCh; rw [if_neg (nI_ne1 (by have := hI.2.2.2.2.1; omega)), nI_clamp (by have := hI.2.2.2.2.1; omega), e0, nI_clamp (by omega)]; rfl⟩
      · obtain ⟨d2, hd2, e17⟩ := (hS j hj s hs).resolve_left c3
        refine x_aload_n C dX1_change_94 rfl 3 rfl ?_
        refine x_get C fl_X1_28 (r := ro 0 0) rfl (xj_c (by decide) xkC_sr) (v := .ref (ad (ro 1 0))) rfl dX1_change_95 ?_
        refine x_iload C dX1_change_98 0 rfl ?_
        refine x_top (y := nI d2) (e17) ?_
        refine x_callV (rest := []) C (k_getD hI hd2) cf_X1_80 ⟨rfl, hd_J2_get⟩ ⟨Nat.le_of_ble_eq_true rfl, Nat.le_of_ble_eq_true rfl⟩ (xR_o xci1 rfl (xj_c (by decide) xkC_L1)) rfl (Nat.le_of_ble_eq_true rfl) ⟨Nat.le_of_ble_eq_true rfl, Nat.le_of_ble_eq_true rfl⟩ dX1_change_100 (xPv_i ?_) xN_e
        refine x_cast C (xR_o xci2 rfl (xj_c (by decide) (xkC_disc hd2))) q247 dX1_change_103 ?_
        refine x_iconst (v := -1) C dX1_change_106 (by decide) ?_
        refine x_put C fl_X1_169 (r := ro 11 d2) rfl (xj_c (by decide) (xkC_disc hd2)) rfl rfl (Nat.le_of_ble_eq_true rfl) dX1_change_107 ?_
        refine x_pc (k := 11) (by decide) (pc_disc4 hd2) ?_
        have e8 : sC1 σ j s = xup (xup σ 22 0 0 (σ 22 0 0 - 10)) 4 d2 0 (-1) := by unfold sC1; rw [if_neg c3, e17, nI_clamp (by have := hI.2.2.2.2.1; omega)]
        refine x_eq (congrArg (fun g => xj (xkC F.1.2.2.1 ad κ g) m _) e8.symm) ?_
        refine x_aload C dX1_change_110 2 rfl ?_
        refine x_getR C fl_X1_117 (r := ro 5 j) rfl (xj_c (by decide) (xkC_box hj)) (v := .ref (ad (ro 6 j))) rfl dX1_change_112 ?_
        refine x_iload_n C dX1_change_115 rfl 5 rfl ?_
        refine x_iload_n C dX1_change_116 rfl 6 rfl ?_
        refine xi_ast C s rfl (xj_c (by decide) (xkC_slots hj)) rfl hs rfl dX1_change_117 ?_
        refine x_pc (k := 6) (by decide) (pc_arr17 hj) ?_
        refine x_aload C dX1_change_118 2 rfl ?_
        refine x_getR C fl_X1_156 (r := ro 5 j) rfl (xj_c (by decide) (xkC_box hj)) (v := .ref (ad (ro 7 j))) rfl dX1_change_120 ?_
        refine x_iload_n C dX1_change_123 rfl 5 rfl ?_
        refine x_iconst (v := 0) C dX1_change_124 (by decide) ?_
        refine xi_ast C s rfl (xj_c (by decide) (xkC_wheels hj)) rfl hs rfl dX1_change_125 ?_
        refine x_pc (k := 7) (by decide) (pc_arr18 hj) ?_
        refine x_aload C dX1_change_126 1 rfl ?_
        refine x_ifnull C dX1_change_128 ?_
        refine x_aload C dX1_change_131 1 rfl ?_
        refine x_bipush (v := 10) C dX1_change_133 (by decide) ?_
        refine x_iload_n C dX1_change_135 rfl 4 rfl ?_
        refine x_imul C dX1_change_136 ?_
        refine x_iload_n C dX1_change_137 rfl 5 rfl ?_
        refine x_iadd C dX1_change_138 ?_
        refine x_top (y := nI (10 * j + s)) (nI_at) ?_
        obtain ⟨q9, hq9, e0⟩ := hG d hd
        refine x_put C fl_X1_169 (r := ro 11 d) rfl (xj_c (by decide) (xkC_disc hd)) rfl rfl (Nat.le_of_ble_eq_true rfl) dX1_change_139 ?_
        refine x_pc (k := 11) (by decide) (pc_disc4 hd) ?_
        refine x_aload C dX1_change_142 2 rfl ?_
        refine x_getR C fl_X1_235 (r := ro 5 j) rfl (xj_c (by decide) (xkC_box hj)) (v := .ref (ad (ro 8 j))) rfl dX1_change_144 ?_
        refine x_aload C dX1_change_147 1 rfl ?_
        refine x_getR C fl_X1_238 (r := ro 11 d) rfl (xj_c (by decide) (xkC_disc hd)) (v := .int ((sC1 σ j s) 0 d 0)) rfl dX1_change_149 ?_
        refine x_top (y := nI q9) ((by first | exact (sC1_n (by decide)).trans e0 | (simp only [xup]; exact (sC1_n (by decide)).trans e0))) ?_
        refine x_iconst (v := 0) C dX1_change_152 (by decide) ?_
        refine xi_ast C q9 rfl (xj_c (by decide) (xkC_asked hj)) rfl hq9 rfl dX1_change_153 ?_
        refine x_pc (k := 8) (by decide) (pc_arr19 hj) ?_
        refine x_iload C dX1_change_154 0 rfl ?_
        refine x_backMu had ht60 ?_
        exact x_iret C dX1_change_156 (Nat.le_of_ble_eq_true rfl) (Nat.le_of_ble_eq_true rfl) ⟨rfl, j, hj, s, hs, rfl, rfl, Or.inr ⟨d, hd, rfl⟩, ⟨⟨(up2.mp hyes.1).1, Or.inr (by rw [nI_clamp (by have := hI.2.2.2.2.1; omega)]; exact c2)⟩, hyes.2⟩, rfl, by unfold sCh; rw [if_neg (nI_ne1 (by have := hI.2.2.2.2.1; omega)), nI_clamp (by have := hI.2.2.2.2.1; omega), e0, nI_clamp (by omega)]; rfl⟩
  · subst c1
    refine x_null C dX1_change_13 ?_
    refine x_goto (tgt := 22) C dX1_change_14 (by decide) ?_
    refine x_astoreN (lv' := [(5, .null), (4, .ref (ad0 (ro 5 j))), (0, .ref (ad0 (ro 0 0))), (1, .int (nI j)), (2, .int (nI s)), (3, .int ((-1)))]) C dX1_change_22 (by decide) rfl ?_
    refine x_aload_n C dX1_change_24 rfl 2 rfl ?_
    refine x_bipush (v := 10) C dX1_change_25 (by decide) ?_
    refine x_iconst (v := 2) C dX1_change_27 (by decide) ?_
    refine x_newMu C (N := 2) rfl (by decide) ht60 ⟨Nat.le_of_ble_eq_true rfl, Nat.le_of_ble_eq_true rfl⟩ dX1_change_28 (fun ad had => ?_)
    rw [← had (ro 0 0) (ro_ne (by decide) (by decide) (by decide)), ← had (ro 5 j) (ro_ne (by decide) (by decide) (by omega))]
    refine x_dup C dX1_change_30 rfl ?_
    refine x_iconst (v := 0) C dX1_change_31 (by decide) ?_
    refine x_aload C dX1_change_32 1 rfl ?_
    refine x_get C fl_X1_199 (r := ro 5 j) rfl (xj_c (by decide) (xkC_box hj)) (v := .int (σ 15 j 0)) rfl dX1_change_34 ?_
    refine xi_zst C 0 rfl (xj_t (by decide) (by decide) cu_s) rfl (by decide) rfl (hV j hj) dX1_change_37 ?_
    refine x_pt (k := 60) (by decide) (by decide) cu_cu ?_
    refine x_dup C dX1_change_38 rfl ?_
    refine x_iconst (v := 1) C dX1_change_39 (by decide) ?_
    refine x_aloadN C dX1_change_40 0 rfl ?_
    refine x_ifnullN (tgt := 54) C dX1_change_42 (by decide) ?_
    refine x_iconst (v := 1) C dX1_change_54 (by decide) ?_
    refine x_goto (tgt := 59) C dX1_change_55 (by decide) ?_
    refine xi_zst C 1 rfl (xj_t (by decide) (by decide) cu_s) rfl (by decide) rfl rfl dX1_change_59 ?_
    refine x_pt (k := 60) (by decide) (by decide) cu_cu ?_
    refine x_callV (rest := []) C (k1_works (L := 2) (f := (upd (upd (fun _ => 0) 0 (σ 15 j 0)) 1 1)) (cu_n (by decide) ht61) (by decide) cu_s 10) cf_X1_211 ⟨rfl, hd_X1_works⟩ ⟨Nat.le_of_ble_eq_true rfl, Nat.le_of_ble_eq_true rfl⟩ (xR_o xci0 rfl (xj_c (by decide) xkC_sr)) rfl (Nat.le_of_ble_eq_true rfl) ⟨Nat.le_of_ble_eq_true rfl, Nat.le_of_ble_eq_true rfl⟩ dX1_change_60 (fun v ad' ct' q => ?_) (fun E ad' ct' q => ?_)
    rotate_left
    · obtain ⟨rfl, e9, rfl, hno⟩ := q; obtain rfl := e9.symm
      refine x_catch C [] ⟨24, 63, 66, 202⟩ [] rfl (fun z hz => nomatch hz) (by decide) (by decide) q827 (by decide) (fun qe => ?_)
      refine x_astore (lv' := [(6, .ref qe), (5, .null), (4, .ref (ad (ro 5 j))), (0, .ref (ad (ro 0 0))), (1, .int (nI j)), (2, .int (nI s)), (3, .int ((-1)))]) C dX1_change_66 (by decide) rfl ?_
      refine x_throwUOE C (r := ro 62 0) (a := qe) (w4 := 2) (fun h0 k => lv_aload C.hx C.hb dX1_change_73 (lv_at h0 0 rfl) k) (xj_t (by decide) (by decide) (cu_n (by decide) ht62)) ⟨Nat.le_of_ble_eq_true rfl, Nat.le_of_ble_eq_true rfl⟩ ⟨Nat.le_of_ble_eq_true rfl, Nat.le_of_ble_eq_true rfl⟩ dX1_change_68 dX1_change_71 dX1_change_72 dX1_change_75 dX1_change_78 ?_
      refine xT_backMu had ht60 ?_
      exact x_out C (by decide) (Nat.le_of_ble_eq_true rfl) (Nat.le_of_ble_eq_true rfl) ⟨rfl, rfl, Or.inr ⟨rfl, j, hj, s, hs, rfl, rfl, Or.inl rfl, fun z => hno ⟨up2.mpr ⟨z.1.1, by decide⟩, z.2⟩⟩⟩
    obtain ⟨rfl, e9, hyes, rfl⟩ := q; obtain rfl := e9.symm
    refine x_goto (tgt := 79) C dX1_change_63 (by decide) ?_
    refine x_aload C dX1_change_79 1 rfl ?_
    refine x_getR C fl_X1_117 (r := ro 5 j) rfl (xj_c (by decide) (xkC_box hj)) (v := .ref (ad (ro 6 j))) rfl dX1_change_81 ?_
    refine x_iload_n C dX1_change_84 rfl 4 rfl ?_
    refine xi_ald C s rfl (xj_c (by decide) (xkC_slots hj)) rfl hs rfl dX1_change_85 ?_
    refine x_top (y := σ 17 j s) rfl ?_
    refine x_istore (lv' := [(6, .int (σ 17 j s)), (5, .null), (4, .ref (ad (ro 5 j))), (0, .ref (ad (ro 0 0))), (1, .int (nI j)), (2, .int (nI s)), (3, .int ((-1)))]) C dX1_change_86 (by decide) rfl ?_
    refine x_iload C dX1_change_88 0 rfl ?_
    refine x_iconst (v := -1) C dX1_change_90 (by decide) ?_
    refine x_icmp_eq (tgt := 110) C dX1_change_91 (by decide) (fun c3 => ?_) (fun c3 => ?_)
    · have e8 : sC1 σ j s = (xup σ 22 0 0 (σ 22 0 0 - 10)) := by unfold sC1; rw [if_pos c3]
      refine x_eq (congrArg (fun g => xj (xkC F.1.2.2.1 ad κ g) m _) e8.symm) ?_
      refine x_aload C dX1_change_110 2 rfl ?_
      refine x_getR C fl_X1_117 (r := ro 5 j) rfl (xj_c (by decide) (xkC_box hj)) (v := .ref (ad (ro 6 j))) rfl dX1_change_112 ?_
      refine x_iload_n C dX1_change_115 rfl 5 rfl ?_
      refine x_iload_n C dX1_change_116 rfl 6 rfl ?_
      refine xi_ast C s rfl (xj_c (by decide) (xkC_slots hj)) rfl hs rfl dX1_change_117 ?_
      refine x_pc (k := 6) (by decide) (pc_arr17 hj) ?_
      refine x_aload C dX1_change_118 2 rfl ?_
      refine x_getR C fl_X1_156 (r := ro 5 j) rfl (xj_c (by decide) (xkC_box hj)) (v := .ref (ad (ro 7 j))) rfl dX1_change_120 ?_
      refine x_iload_n C dX1_change_123 rfl 5 rfl ?_
      refine x_iconst (v := 0) C dX1_change_124 (by decide) ?_
      refine xi_ast C s rfl (xj_c (by decide) (xkC_wheels hj)) rfl hs rfl dX1_change_125 ?_
      refine x_pc (k := 7) (by decide) (pc_arr18 hj) ?_
      refine x_aloadN C dX1_change_126 1 rfl ?_
      refine x_ifnullN (tgt := 154) C dX1_change_128 (by decide) ?_
      refine x_iload C dX1_change_154 0 rfl ?_
      refine x_backMu had ht60 ?_
      exact x_iret C dX1_change_156 (Nat.le_of_ble_eq_true rfl) (Nat.le_of_ble_eq_true rfl) ⟨rfl, j, hj, s, hs, rfl, rfl, Or.inl rfl, ⟨⟨(up2.mp hyes.1).1, Or.inl rfl⟩, hyes.2⟩, rfl, by unfold sCh; rw [if_pos rfl]; rfl⟩
    · obtain ⟨d2, hd2, e17⟩ := (hS j hj s hs).resolve_left c3
      refine x_aload_n C dX1_change_94 rfl 3 rfl ?_
      refine x_get C fl_X1_28 (r := ro 0 0) rfl (xj_c (by decide) xkC_sr) (v := .ref (ad (ro 1 0))) rfl dX1_change_95 ?_
      refine x_iload C dX1_change_98 0 rfl ?_
      refine x_top (y := nI d2) (e17) ?_
      refine x_callV (rest := []) C (k_getD hI hd2) cf_X1_80 ⟨rfl, hd_J2_get⟩ ⟨Nat.le_of_ble_eq_true rfl, Nat.le_of_ble_eq_true rfl⟩ (xR_o xci1 rfl (xj_c (by decide) xkC_L1)) rfl (Nat.le_of_ble_eq_true rfl) ⟨Nat.le_of_ble_eq_true rfl, Nat.le_of_ble_eq_true rfl⟩ dX1_change_100 (xPv_i ?_) xN_e
      refine x_cast C (xR_o xci2 rfl (xj_c (by decide) (xkC_disc hd2))) q247 dX1_change_103 ?_
      refine x_iconst (v := -1) C dX1_change_106 (by decide) ?_
      refine x_put C fl_X1_169 (r := ro 11 d2) rfl (xj_c (by decide) (xkC_disc hd2)) rfl rfl (Nat.le_of_ble_eq_true rfl) dX1_change_107 ?_
      refine x_pc (k := 11) (by decide) (pc_disc4 hd2) ?_
      have e8 : sC1 σ j s = xup (xup σ 22 0 0 (σ 22 0 0 - 10)) 4 d2 0 (-1) := by unfold sC1; rw [if_neg c3, e17, nI_clamp (by have := hI.2.2.2.2.1; omega)]
      refine x_eq (congrArg (fun g => xj (xkC F.1.2.2.1 ad κ g) m _) e8.symm) ?_
      refine x_aload C dX1_change_110 2 rfl ?_
      refine x_getR C fl_X1_117 (r := ro 5 j) rfl (xj_c (by decide) (xkC_box hj)) (v := .ref (ad (ro 6 j))) rfl dX1_change_112 ?_
      refine x_iload_n C dX1_change_115 rfl 5 rfl ?_
      refine x_iload_n C dX1_change_116 rfl 6 rfl ?_
      refine xi_ast C s rfl (xj_c (by decide) (xkC_slots hj)) rfl hs rfl dX1_change_117 ?_
      refine x_pc (k := 6) (by decide) (pc_arr17 hj) ?_
      refine x_aload C dX1_change_118 2 rfl ?_
      refine x_getR C fl_X1_156 (r := ro 5 j) rfl (xj_c (by decide) (xkC_box hj)) (v := .ref (ad (ro 7 j))) rfl dX1_change_120 ?_
      refine x_iload_n C dX1_change_123 rfl 5 rfl ?_
      refine x_iconst (v := 0) C dX1_change_124 (by decide) ?_
      refine xi_ast C s rfl (xj_c (by decide) (xkC_wheels hj)) rfl hs rfl dX1_change_125 ?_
      refine x_pc (k := 7) (by decide) (pc_arr18 hj) ?_
      refine x_aloadN C dX1_change_126 1 rfl ?_
      refine x_ifnullN (tgt := 154) C dX1_change_128 (by decide) ?_
      refine x_iload C dX1_change_154 0 rfl ?_
      refine x_backMu had ht60 ?_
      exact x_iret C dX1_change_156 (Nat.le_of_ble_eq_true rfl) (Nat.le_of_ble_eq_true rfl) ⟨rfl, j, hj, s, hs, rfl, rfl, Or.inl rfl, ⟨⟨(up2.mp hyes.1).1, Or.inl rfl⟩, hyes.2⟩, rfl, by unfold sCh; rw [if_pos rfl]; rfl⟩
