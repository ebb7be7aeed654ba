/-! ===== THE CONSTRUCTORS OF VanException AND OF UnsupportedOperationException(String, Throwable), AND THEIR THROWS ===== -/
theorem x_zq {C n d : String} {A : Nat → Prop} {U : State} {H : Heap} (h : va_Zq C n d A U H) : ∃ u : RefV, va_Z C n d u.v A U H := by
  rcases h with h | ⟨t, h⟩
  · exact ⟨⟨.null, rfl⟩, h⟩
  · exact ⟨⟨.ref t, rfl⟩, h⟩
abbrev xMade (ad : Nat → Nat) (ct : xCt) (r ci : Nat) : Option Value → (Nat → Nat) → xCt → Prop := fun v ad' ct' => v = none ∧ ad' = ad ∧ ∃ fs, ct' = xu ct r (.inr (ci, fs))
theorem xw_same {G : xG} {ad : Nat → Nat} {ct : xCt} {r : Nat} {e : va_E} (h : ct r = some e) : xu ct r e = ct := by
  funext q
  by_cases hq : q = r
  · subst hq; rw [xu_s, h]
  · exact if_neg hq
set_option maxHeartbeats 4000000 in
theorem k_T_init7 {G : xG} {ad : Nat → Nat} {ct : xCt} {r : Nat} {v0 v1 v2 v3 v5 : Value} {a1 : Nat} (h : ct r = some (.inr (7, [v0, v1, v2, v3, .null, v5]))) : xMm G yJ3_init_2 (ws_ yJ3_init_2 cJ3_init_2 2 none) 3 80 0 0 [.ref (ad r), .ref a1] ad ct (ad r) (xMade ad ct r 7) xN := by
  refine xMm_of (cc := cJ3_init_2) (by decide) rfl (fun F hF C hm => ?_)
  subst hF
  show xX F _ _ _ 0 0 0 [(0, .ref (ad r)), (1, .ref a1)] []
  obtain ⟨u, hu⟩ := x_zq C.S.2.1.1
  obtain ⟨sn, hsn⟩ := x_zq C.S.2.2.1.1
  refine x_aload_n C dJ3_init_2_0 rfl 0 rfl ?_
  refine x_objInit C q203 q62 q63 ⟨Nat.le_of_ble_eq_true rfl, Nat.le_of_ble_eq_true rfl⟩ dJ3_init_2_1 ?_
  refine x_aload_n C dJ3_init_2_4 rfl 0 rfl ?_
  refine x_aload_n C dJ3_init_2_5 rfl 0 rfl ?_
  refine x_put C fl_J3_7_7 rfl h rfl rfl (Nat.le_of_ble_eq_true rfl) dJ3_init_2_6 ?_
  refine x_aload_n C dJ3_init_2_9 rfl 0 rfl ?_
  refine (fun kk H locs ls w hS h0 => va_gets C.hx C.hb hu hS C.hown (C.hts _ q204) (fun _ h => h) dJ3_init_2_10 (kk H locs ls w hS h0) : xX F _ _ _ _ _ _ _ _ → xX F _ _ _ _ _ _ _ _) ?_
  refine x_put C fl_J3_17_7 rfl xu_s (narrow_refV _ u) (fits_refV_array _ u) (Nat.le_of_ble_eq_true rfl) dJ3_init_2_13 ?_
  refine x_aload_n C dJ3_init_2_16 rfl 0 rfl ?_
  refine (fun kk H locs ls w hS h0 => va_gets C.hx C.hb hsn hS C.hown (C.hts _ q206) (fun _ h => h) dJ3_init_2_17 (kk H locs ls w hS h0) : xX F _ _ _ _ _ _ _ _ → xX F _ _ _ _ _ _ _ _) ?_
  refine x_put C fl_J3_24_7 rfl xu_s (narrow_refV _ sn) (fits_refV_object _ sn) (Nat.le_of_ble_eq_true rfl) dJ3_init_2_20 ?_
  refine x_aload_n C dJ3_init_2_23 rfl 0 rfl ?_
  refine x_fill C xci7 rfl rfl q211 q834 u xu_s hm hu ⟨Nat.le_of_ble_eq_true rfl, Nat.le_of_ble_eq_true rfl⟩ dJ3_init_2_24 ?_
  refine x_pop C dJ3_init_2_27 rfl ?_
  refine x_aload_n C dJ3_init_2_28 rfl 0 rfl ?_
  refine x_aload_n C dJ3_init_2_29 rfl 1 rfl ?_
  refine x_put C fl_J3_31_7 rfl xu_s rfl rfl (Nat.le_of_ble_eq_true rfl) dJ3_init_2_30 ?_
  exact x_vret C dJ3_init_2_33 (Nat.le_of_ble_eq_true rfl) (Nat.le_of_ble_eq_true rfl) ⟨rfl, rfl, _, by simp only [xu_xu]; rfl⟩
set_option maxHeartbeats 4000000 in
theorem k_E_init7 {G : xG} {ad : Nat → Nat} {ct : xCt} {r : Nat} {v0 v1 v2 v3 v5 : Value} {a1 : Nat} (h : ct r = some (.inr (7, [v0, v1, v2, v3, .null, v5]))) : xMm G yJ4_init_2 (ws_ yJ4_init_2 cJ4_init_2 2 none) 4 110 0 0 [.ref (ad r), .ref a1] ad ct (ad r) (xMade ad ct r 7) xN := by
  refine xMm_of (cc := cJ4_init_2) (by decide) rfl (fun F hF C hm => ?_)
  subst hF
  show xX F _ _ _ 0 0 0 [(0, .ref (ad r)), (1, .ref a1)] []
  refine x_aload_n C dJ4_init_2_0 rfl 0 rfl ?_
  refine x_aload_n C dJ4_init_2_1 rfl 1 rfl ?_
  refine x_callM (rest := []) C hm (k_T_init7 h) q580 q29 q578 q579 rfl hd_J3_init_2 ⟨Nat.le_of_ble_eq_true rfl, Nat.le_of_ble_eq_true rfl⟩ rfl (Nat.le_of_ble_eq_true rfl) ⟨Nat.le_of_ble_eq_true rfl, Nat.le_of_ble_eq_true rfl⟩ dJ4_init_2_2 (fun v ad' ct' q => ?_) xN_e
  obtain ⟨rfl, rfl, fs, rfl⟩ := q
  exact x_vret C dJ4_init_2_5 (Nat.le_of_ble_eq_true rfl) (Nat.le_of_ble_eq_true rfl) ⟨rfl, rfl, fs, rfl⟩
set_option maxHeartbeats 4000000 in
theorem k_V_init7 {G : xG} {ad : Nat → Nat} {ct : xCt} {r : Nat} {v0 v1 v2 v3 v5 : Value} {a1 : Nat} (h : ct r = some (.inr (7, [v0, v1, v2, v3, .null, v5]))) : xMm G yX7_init (ws_ yX7_init cX7_init 2 none) 5 140 0 0 [.ref (ad r), .ref a1] ad ct (ad r) (xMade ad ct r 7) xN := by
  refine xMm_of (cc := cX7_init) (by decide) rfl (fun F hF C hm => ?_)
  subst hF
  show xX F _ _ _ 0 0 0 [(0, .ref (ad r)), (1, .ref a1)] []
  refine x_aload_n C dX7_init_0 rfl 0 rfl ?_
  refine x_aload_n C dX7_init_1 rfl 1 rfl ?_
  refine x_callM (rest := []) C hm (k_E_init7 h) q577 q30 q844 q576 rfl hd_J4_init_2 ⟨Nat.le_of_ble_eq_true rfl, Nat.le_of_ble_eq_true rfl⟩ rfl (Nat.le_of_ble_eq_true rfl) ⟨Nat.le_of_ble_eq_true rfl, Nat.le_of_ble_eq_true rfl⟩ dX7_init_2 (fun v ad' ct' q => ?_) xN_e
  obtain ⟨rfl, rfl, fs, rfl⟩ := q
  exact x_vret C dX7_init_5 (Nat.le_of_ble_eq_true rfl) (Nat.le_of_ble_eq_true rfl) ⟨rfl, rfl, fs, rfl⟩
set_option maxHeartbeats 4000000 in
theorem k_T_init6 {G : xG} {ad : Nat → Nat} {ct : xCt} {r : Nat} {v0 v1 v2 v3 v5 : Value} {a2 : Nat} (h : ct r = some (.inr (6, [v0, v1, v2, v3, .null, v5]))) : xMm G yJ3_init_3 (ws_ yJ3_init_3 cJ3_init_3 3 none) 3 80 0 0 [.ref (ad r), .null, .ref a2] ad ct (ad r) (xMade ad ct r 6) xN := by
  refine xMm_of (cc := cJ3_init_3) (by decide) rfl (fun F hF C hm => ?_)
  subst hF
  show xX F _ _ _ 0 0 0 [(0, .ref (ad r)), (1, .null), (2, .ref a2)] []
  obtain ⟨u, hu⟩ := x_zq C.S.2.1.1
  obtain ⟨sn, hsn⟩ := x_zq C.S.2.2.1.1
  refine x_aload_n C dJ3_init_3_0 rfl 0 rfl ?_
  refine x_objInit C q203 q62 q63 ⟨Nat.le_of_ble_eq_true rfl, Nat.le_of_ble_eq_true rfl⟩ dJ3_init_3_1 ?_
  refine x_aload_n C dJ3_init_3_4 rfl 0 rfl ?_
  refine x_aload_n C dJ3_init_3_5 rfl 0 rfl ?_
  refine x_put C fl_J3_7_6 rfl h rfl rfl (Nat.le_of_ble_eq_true rfl) dJ3_init_3_6 ?_
  refine x_aload_n C dJ3_init_3_9 rfl 0 rfl ?_
  refine (fun kk H locs ls w hS h0 => va_gets C.hx C.hb hu hS C.hown (C.hts _ q204) (fun _ h => h) dJ3_init_3_10 (kk H locs ls w hS h0) : xX F _ _ _ _ _ _ _ _ → xX F _ _ _ _ _ _ _ _) ?_
  refine x_put C fl_J3_17_6 rfl xu_s (narrow_refV _ u) (fits_refV_array _ u) (Nat.le_of_ble_eq_true rfl) dJ3_init_3_13 ?_
  refine x_aload_n C dJ3_init_3_16 rfl 0 rfl ?_
  refine (fun kk H locs ls w hS h0 => va_gets C.hx C.hb hsn hS C.hown (C.hts _ q206) (fun _ h => h) dJ3_init_3_17 (kk H locs ls w hS h0) : xX F _ _ _ _ _ _ _ _ → xX F _ _ _ _ _ _ _ _) ?_
  refine x_put C fl_J3_24_6 rfl xu_s (narrow_refV _ sn) (fits_refV_object _ sn) (Nat.le_of_ble_eq_true rfl) dJ3_init_3_20 ?_
  refine x_aload_n C dJ3_init_3_23 rfl 0 rfl ?_
  refine x_fill C xci6 rfl rfl q217 q663 u xu_s hm hu ⟨Nat.le_of_ble_eq_true rfl, Nat.le_of_ble_eq_true rfl⟩ dJ3_init_3_24 ?_
  refine x_pop C dJ3_init_3_27 rfl ?_
  refine x_aload_n C dJ3_init_3_28 rfl 0 rfl ?_
  refine x_aload_nN C dJ3_init_3_29 rfl 1 rfl ?_
  refine x_put C fl_J3_31_6 rfl xu_s rfl rfl (Nat.le_of_ble_eq_true rfl) dJ3_init_3_30 ?_
  refine x_aload_n C dJ3_init_3_33 rfl 0 rfl ?_
  refine x_aload_n C dJ3_init_3_34 rfl 2 rfl ?_
  refine x_put C fl_J3_7_6 rfl xu_s rfl rfl (Nat.le_of_ble_eq_true rfl) dJ3_init_3_35 ?_
  exact x_vret C dJ3_init_3_38 (Nat.le_of_ble_eq_true rfl) (Nat.le_of_ble_eq_true rfl) ⟨rfl, rfl, _, by simp only [xu_xu]; rfl⟩
set_option maxHeartbeats 4000000 in
theorem k_E_init6 {G : xG} {ad : Nat → Nat} {ct : xCt} {r : Nat} {v0 v1 v2 v3 v5 : Value} {a2 : Nat} (h : ct r = some (.inr (6, [v0, v1, v2, v3, .null, v5]))) : xMm G yJ4_init_3 (ws_ yJ4_init_3 cJ4_init_3 3 none) 4 110 0 0 [.ref (ad r), .null, .ref a2] ad ct (ad r) (xMade ad ct r 6) xN := by
  refine xMm_of (cc := cJ4_init_3) (by decide) rfl (fun F hF C hm => ?_)
  subst hF
  show xX F _ _ _ 0 0 0 [(0, .ref (ad r)), (1, .null), (2, .ref a2)] []
  refine x_aload_n C dJ4_init_3_0 rfl 0 rfl ?_
  refine x_aload_nN C dJ4_init_3_1 rfl 1 rfl ?_
  refine x_aload_n C dJ4_init_3_2 rfl 2 rfl ?_
  refine x_callM (rest := []) C hm (k_T_init6 h) q860 q29 q858 q859 rfl hd_J3_init_3 ⟨Nat.le_of_ble_eq_true rfl, Nat.le_of_ble_eq_true rfl⟩ rfl (Nat.le_of_ble_eq_true rfl) ⟨Nat.le_of_ble_eq_true rfl, Nat.le_of_ble_eq_true rfl⟩ dJ4_init_3_3 (fun v ad' ct' q => ?_) xN_e
  obtain ⟨rfl, rfl, fs, rfl⟩ := q
  exact x_vret C dJ4_init_3_6 (Nat.le_of_ble_eq_true rfl) (Nat.le_of_ble_eq_true rfl) ⟨rfl, rfl, fs, rfl⟩
set_option maxHeartbeats 4000000 in
theorem k_R_init6 {G : xG} {ad : Nat → Nat} {ct : xCt} {r : Nat} {v0 v1 v2 v3 v5 : Value} {a2 : Nat} (h : ct r = some (.inr (6, [v0, v1, v2, v3, .null, v5]))) : xMm G yJ5_init_3 (ws_ yJ5_init_3 cJ5_init_3 3 none) 5 140 0 0 [.ref (ad r), .null, .ref a2] ad ct (ad r) (xMade ad ct r 6) xN := by
  refine xMm_of (cc := cJ5_init_3) (by decide) rfl (fun F hF C hm => ?_)
  subst hF
  show xX F _ _ _ 0 0 0 [(0, .ref (ad r)), (1, .null), (2, .ref a2)] []
  refine x_aload_n C dJ5_init_3_0 rfl 0 rfl ?_
  refine x_aload_nN C dJ5_init_3_1 rfl 1 rfl ?_
  refine x_aload_n C dJ5_init_3_2 rfl 2 rfl ?_
  refine x_callM (rest := []) C hm (k_E_init6 h) q857 q30 q855 q856 rfl hd_J4_init_3 ⟨Nat.le_of_ble_eq_true rfl, Nat.le_of_ble_eq_true rfl⟩ rfl (Nat.le_of_ble_eq_true rfl) ⟨Nat.le_of_ble_eq_true rfl, Nat.le_of_ble_eq_true rfl⟩ dJ5_init_3_3 (fun v ad' ct' q => ?_) xN_e
  obtain ⟨rfl, rfl, fs, rfl⟩ := q
  exact x_vret C dJ5_init_3_6 (Nat.le_of_ble_eq_true rfl) (Nat.le_of_ble_eq_true rfl) ⟨rfl, rfl, fs, rfl⟩
set_option maxHeartbeats 4000000 in
theorem k_U_init6 {G : xG} {ad : Nat → Nat} {ct : xCt} {r : Nat} {v0 v1 v2 v3 v5 : Value} {a2 : Nat} (h : ct r = some (.inr (6, [v0, v1, v2, v3, .null, v5]))) : xMm G yJ16_init_2 (ws_ yJ16_init_2 cJ16_init_2 3 none) 6 170 0 0 [.ref (ad r), .null, .ref a2] ad ct (ad r) (xMade ad ct r 6) xN := by
  refine xMm_of (cc := cJ16_init_2) (by decide) rfl (fun F hF C hm => ?_)
  subst hF
  show xX F _ _ _ 0 0 0 [(0, .ref (ad r)), (1, .null), (2, .ref a2)] []
  refine x_aload_n C dJ16_init_2_0 rfl 0 rfl ?_
  refine x_aload_nN C dJ16_init_2_1 rfl 1 rfl ?_
  refine x_aload_n C dJ16_init_2_2 rfl 2 rfl ?_
  refine x_callM (rest := []) C hm (k_R_init6 h) q854 q31 q852 q853 rfl hd_J5_init_3 ⟨Nat.le_of_ble_eq_true rfl, Nat.le_of_ble_eq_true rfl⟩ rfl (Nat.le_of_ble_eq_true rfl) ⟨Nat.le_of_ble_eq_true rfl, Nat.le_of_ble_eq_true rfl⟩ dJ16_init_2_3 (fun v ad' ct' q => ?_) xN_e
  obtain ⟨rfl, rfl, fs, rfl⟩ := q
  exact x_vret C dJ16_init_2_6 (Nat.le_of_ble_eq_true rfl) (Nat.le_of_ble_eq_true rfl) ⟨rfl, rfl, fs, rfl⟩
section XTHR
variable {F : xFr} {cc : ByteArray} {nL : Nat} {own : String} {ret : Option FieldType} {rm : Room} {nm : String} {tb : List ExceptionTableEntry} {Q : State → Prop} {ad : Nat → Nat} {ct : xCt} {cells slots pc : Nat} {lv : List (Nat × Value)} {rest st : List Value}
theorem xT_sub {E : String} {ad' : Nat → Nat} {ct' : xCt} (hs : ∀ r e, ct' r = some e → ct r = some e ∧ ad' r = ad r) (k : xT F Q ad' ct' cells slots pc lv E) : xT F Q ad ct cells slots pc lv E :=
  fun H locs ls q ce rest w hS h0 => k H locs ls q ce rest (xw_sub w hs) hS h0
theorem x_athrow (C : xC F cc nL own ret rm nm tb) {r ci N : Nat} {E : String} {T : u_T} {fs : List Value} (h : ct r = some (.inr (ci, fs))) (hc : xcl[ci]? = some (E, T, N)) (hdg : decode cc pc = .ok (.athrow, 1)) (kx : xT F Q ad ct cells slots pc lv E) : xX F Q ad ct cells slots pc lv (.ref (ad r) :: rest) := by
  intro H locs ls w hS h0
  obtain ⟨rr, e1, cell, q1, q2, q3, q4⟩ := (w.2.1 r _ h).1
  refine vx_athrow C.hx C.hb hdg (kx H locs ls (ad r) cell rest w hS h0 q1 q3 ?_)
  rw [q2]
  exact (C.K.1 ci _ hc).2.1
/-- 'new', with the new object's monitor known to be free -/
theorem x_newM (C : xC F cc nL own ret rm nm tb) {r idx ci N : Nat} {Cn : String} {T : u_T} {ty : Nat → FieldType} {fs : List Value} (hc : xCi ci Cn T N ty) (hl : Cond.classLink own idx Cn ∈ lw_all) (hi : Cond.instantiable Cn N ∈ lw_all) (hini : Cond.initialized Cn ∈ lw_all) (hr : ct r = none) (hfs : ∀ j, j < N → defaultValue (ty j) = vp_V fs j) (hcs : cells + 1 ≤ rm.cells ∧ slots + N ≤ rm.slots) (hdg : decode cc pc = .ok (.new idx, 3))
    (kk : ∀ (ad' : Nat → Nat), (∀ x, x ≠ r → ad' x = ad x) → ∀ (H : Heap) (locs : List Loc) (ls : Array Slot), xw F.1 ad' (xu ct r (.inr (ci, fs))) H → va_S (xA F.1) F.2.2.1.1.heap H locs → lv_has ls F.2.2.2.2.maxLocals lv → xMon (ad' r) H → W F.2.1.1 F.1.1 F.2.1.2.1 F.2.1.2.2 F.2.2.1.1 F.2.2.1.2.1 F.2.2.1.2.2.1 F.2.2.1.2.2.2 F.2.2.2.1 F.2.2.2.2 H locs (cells + 1) (slots + N) Q (F0 F.2.2.1.2.1 (pc + 3) ls (.ref (ad' r) :: rest))) : xX F Q ad ct cells slots pc lv rest := by
  intro H locs ls w hS h0
  obtain ⟨ws, hP, hD, hws⟩ := xw_list w
  have hKn := C.K.1 ci _ hc.1
  refine W.newcK C.hx C.hb C.hown (C.hts _ hl) (C.hts _ hi) (C.hts _ hini) rfl hdg (by rw [C.hR]; exact hcs.1) (by rw [C.hR]; exact hcs.2) hKn.2.1 rfl fun H1 kC hkC e1 z1 o1 => ?_
  have hk : ∀ (k : Nat) (x : Nat × va_E), ws[k]? = some x → H1[x.1]? = H[x.1]? := fun k x hx => o1 x.1 ((hP k x hx).lt)
  have hP1 : va_P F.1.2.1 xcl (ws ++ [(H.size, .inr (ci, fs))]) H1 := (hP.kept hk).app (fun k x hx => by
    have hz : k < 1 := (List.getElem?_eq_some_iff.mp hx).1
    rw [show k = 0 by omega] at hx
    cases hx
    exact ⟨_, hc.1, (u_born ty C.hts hc.2.1 hKn hkC e1 hc.2.2.1).to hfs⟩)
  have hD1 : va_D (xA F.1) (ws ++ [(H.size, .inr (ci, fs))]) := hD.push hP rfl (C.hA _ hS.1)
  have h := kk (xa ad r H.size) (fun x hx => xa_n hx) H1 locs ls (xw_push w hws hr hP1 hD1) ⟨Nat.le_trans hS.1 (by omega), fun x h1 h2 => (o1 x (Nat.lt_of_lt_of_le h1 hS.1)).trans (hS.2.1 x h1 h2), hS.2.2⟩ h0 (by rw [xa_s]; exact ⟨_, e1, rfl, rfl⟩)
  rw [xa_s] at h
  exact h
/-- throw new VanException("..") -/
theorem x_throwVan (C : xC F cc nL "SelectoRoute" ret rm nm tb) {r is sa : Nat} {text : String} (hstr : vk_R "SelectoRoute" is text sa F.2.2.1.1) (hr : ct r = none) (hR : 6 ≤ rm.frames ∧ 8 + (2 + 11) + 140 ≤ rm.locals) (hcs : cells + 1 ≤ rm.cells ∧ slots + 6 ≤ rm.slots)
    (d0 : decode cc pc = .ok (.new 202, 3)) (d3 : decode cc (pc + 3) = .ok (.dup, 1)) (d4 : decode cc (pc + 4) = .ok (.ldc is, 2)) (d6 : decode cc (pc + 6) = .ok (.invokespecial 206, 3)) (d9 : decode cc (pc + 9) = .ok (.athrow, 1))
    (kx : xT F Q ad ct (cells + 1) (slots + 6) (pc + 9) lv "SelectoRoute$VanException") : xX F Q ad ct cells slots pc lv [] := by
  refine x_newM C (r := r) (fs := [.null, .null, .null, .null, .null, .int 0]) xci7 q827 q832 q54 hr (by decide) hcs d0 (fun ad' had H locs ls w hS h0 hm => ?_)
  refine lv_dup C.hx C.hb d3 rfl ?_
  refine va_ldcS C.hx C.hb C.hown hstr d4 ?_
  refine x_callMW (As := [.ref sa]) (rest := [.ref (ad' r)]) C (k_V_init7 xu_s) q843 q54 q841 q842 rfl hd_X7_init hR rfl (Nat.le_of_ble_eq_true rfl) ⟨hcs.1, hcs.2⟩ d6 (fun v ad2 ct2 q => ?_) xN_e w hS h0 hm
  obtain ⟨rfl, rfl, fs, rfl⟩ := q
  refine x_athrow C xu_s xci7.1 d9 (xT_sub (fun x e he => ?_) kx)
  have hne : x ≠ r := fun e9 => by rw [e9, hr] at he; cases he
  exact ⟨xu_n hne (xu_n hne he), (had x hne).symm⟩
/-- throw new UnsupportedOperationException(null, e), e out of the local k -/
theorem x_throwUOE (C : xC F cc nL "SelectoRoute" ret rm nm tb) {r a w4 : Nat} (hld : ∀ {H : Heap} {locs : List Loc} {cells slots : Nat} {ls : Array Slot} {rest : List Value}, lv_has ls F.2.2.2.2.maxLocals lv → W F.2.1.1 F.1.1 F.2.1.2.1 F.2.1.2.2 F.2.2.1.1 F.2.2.1.2.1 F.2.2.1.2.2.1 F.2.2.1.2.2.2 F.2.2.2.1 F.2.2.2.2 H locs cells slots Q (F0 F.2.2.1.2.1 (pc + 5 + w4) ls (.ref a :: rest)) → W F.2.1.1 F.1.1 F.2.1.2.1 F.2.1.2.2 F.2.2.1.1 F.2.2.1.2.1 F.2.2.1.2.2.1 F.2.2.1.2.2.2 F.2.2.2.1 F.2.2.2.2 H locs cells slots Q (F0 F.2.2.1.2.1 (pc + 5) ls rest))
    (hr : ct r = none) (hR : 7 ≤ rm.frames ∧ 8 + (3 + 11) + 170 ≤ rm.locals) (hcs : cells + 1 ≤ rm.cells ∧ slots + 6 ≤ rm.slots)
    (d0 : decode cc pc = .ok (.new 16, 3)) (d3 : decode cc (pc + 3) = .ok (.dup, 1)) (d4 : decode cc (pc + 4) = .ok (.aconst_null, 1)) (d6 : decode cc (pc + 5 + w4) = .ok (.invokespecial 215, 3)) (d9 : decode cc (pc + 5 + w4 + 3) = .ok (.athrow, 1))
    (kx : xT F Q ad ct (cells + 1) (slots + 6) (pc + 5 + w4 + 3) lv "java/lang/UnsupportedOperationException") : xX F Q ad ct cells slots pc lv [] := by
  refine x_newM C (r := r) (fs := [.null, .null, .null, .null, .null, .int 0]) xci6 q660 q661 q47 hr (by decide) hcs d0 (fun ad' had H locs ls w hS h0 hm => ?_)
  refine lv_dup C.hx C.hb d3 rfl ?_
  refine lv_null C.hx C.hb d4 ?_
  refine hld h0 ?_
  refine x_callMW (As := [.null, .ref a]) (rest := [.ref (ad' r)]) C (k_U_init6 xu_s) q851 q47 q849 q850 rfl hd_J16_init_2 hR rfl (Nat.le_of_ble_eq_true rfl) ⟨hcs.1, hcs.2⟩ d6 (fun v ad2 ct2 q => ?_) xN_e w hS h0 hm
  obtain ⟨rfl, rfl, fs, rfl⟩ := q
  refine x_athrow C xu_s xci6.1 d9 (xT_sub (fun x e he => ?_) kx)
  have hne : x ≠ r := fun e9 => by rw [e9, hr] at he; cases he
  exact ⟨xu_n hne (xu_n hne he), (had x hne).symm⟩
end XTHR
