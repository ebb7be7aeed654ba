/-! ===== COIN: credits, values, of; insert ===== -/
set_option maxHeartbeats 4000000 in
theorem k5_credits {G : xG} {ad : Nat → Nat} {ct : xCt} {i : Nat} (hi : i < 4) : xM G yX5_credits (ws_ yX5_credits cX5_credits 1 (some Jvm.ClassFile.FieldType.int)) 1 0 0 0 [.ref (G.2.2.1 (310 + i))] ad ct (xPv (some (.int (xcoinP i / 5))) ad ct) xN := by
  refine xM_of (cc := cX5_credits) (by decide) rfl (fun F hF C => ?_)
  subst hF
  show xX F _ _ _ 0 0 0 [(0, .ref (F.1.2.2.1 (310 + i)))] []
  refine x_aload_n C dX5_credits_0 rfl 0 rfl ?_
  refine x_coinP C hi q1303 dX5_credits_1 ?_
  refine x_iconst (v := 5) C dX5_credits_4 (by decide) ?_
  refine x_idiv C dX5_credits_5 (by decide) ?_
  exact x_iret C dX5_credits_6 (Nat.le_of_ble_eq_true rfl) (Nat.le_of_ble_eq_true rfl) ⟨rfl, rfl, rfl⟩
theorem x_supG : GoodIn lw_all (va_wsSU yX8_credits.cls 7 yX5_credits (ws_ yX5_credits cX5_credits 1 (some Jvm.ClassFile.FieldType.int))) := by
  unfold va_wsSU
  have h : ∀ w ∈ ([.methodLink yX8_credits.cls 7 yX5_credits, .sameMethod yX5_credits.cls yX5_credits.cls yX5_credits.name yX5_credits.desc, .superclass yX8_credits.cls yX5_credits.cls, .instanceMethod yX5_credits, .initialized yX5_credits.cls] : List Cond), w ∈ lw_all := List.forall_mem_cons.mpr ⟨q682, List.forall_mem_cons.mpr ⟨q678, List.forall_mem_cons.mpr ⟨q683, List.forall_mem_cons.mpr ⟨q676, List.forall_mem_cons.mpr ⟨q46, fun _ h => nomatch h⟩⟩⟩⟩⟩
  exact goodIn_app (goodIn_sub h rfl) (lw_meth q684)
set_option maxHeartbeats 4000000 in
theorem k8_body {ad : Nat → Nat} {ct : xCt} (F : xFr) (C : xC F cX8_credits 1 yX8_credits.cls (some Jvm.ClassFile.FieldType.int) ({ frames := 2, cells := 0, slots := 0, locals := 30 } : Room) yX8_credits.name []) : xX F (xQ F (xPv (some (.int 6)) ad ct) xN 0 0) ad ct 0 0 0 (lv_args 0 [.ref (F.1.2.2.1 312)]) [] := by
  show xX F _ _ _ 0 0 0 [(0, .ref (F.1.2.2.1 312))] []
  refine x_aload_n C dX8_credits_0 rfl 0 rfl ?_
  refine x_callSup (Cn := "SelectoRoute$Coin$1") (rest := []) C (k5_credits (i := 2) (by decide)) x_supG ⟨by decide, by decide +kernel⟩ ⟨Nat.le_of_ble_eq_true rfl, Nat.le_of_ble_eq_true rfl⟩ (xR_c (i := 2) (by decide)) rfl (Nat.le_of_ble_eq_true rfl) ⟨Nat.le_of_ble_eq_true rfl, Nat.le_of_ble_eq_true rfl⟩ dX8_credits_1 (xPv_i ?_) xN_e
  refine x_iconst (v := 1) C dX8_credits_4 (by decide) ?_
  refine x_iadd C dX8_credits_5 ?_
  exact x_iret C dX8_credits_6 (Nat.le_of_ble_eq_true rfl) (Nat.le_of_ble_eq_true rfl) ⟨by decide, rfl, rfl⟩
set_option maxHeartbeats 4000000 in
theorem k6_credits {G : xG} {ad : Nat → Nat} {ct : xCt} : xM G yX6_credits (ws_ yX6_credits cX6_credits 1 (some Jvm.ClassFile.FieldType.int)) 4 60 0 0 [.ref (G.2.2.1 313)] ad ct (xPv (some (.int 6)) ad ct) xN := by
  refine xM_of (cc := cX6_credits) (by decide) rfl (fun F hF C => ?_)
  subst hF
  show xX F _ _ _ 0 0 0 [(0, .ref (F.1.2.2.1 313))] []
  refine x_quarter C dX6_credits_0 ?_
  refine x_callUB (x := yX5_credits) (Cn := "SelectoRoute$Coin$1") (y := yX8_credits) (rest := []) C (by decide) rfl (fun F' hF' C' => by have := k8_body (ad := ad) (ct := ct) F' C'; rw [hF'] at this; exact this) q691 q678 q676 q684 q679 q680 q681 ⟨by decide +kernel, by decide +kernel, by decide +kernel⟩ ⟨Nat.le_of_ble_eq_true rfl, Nat.le_of_ble_eq_true rfl⟩ (xR_c (i := 2) (by decide)) rfl (Nat.le_of_ble_eq_true rfl) ⟨Nat.le_of_ble_eq_true rfl, Nat.le_of_ble_eq_true rfl⟩ dX6_credits_3 (xPv_i ?_) xN_e
  exact x_iret C dX6_credits_6 (Nat.le_of_ble_eq_true rfl) (Nat.le_of_ble_eq_true rfl) ⟨rfl, rfl, rfl⟩
/-- the credits of a coin, as it is inserted -/
def sCr (i : Nat) : Int32 := if i = 0 then 1 else if i = 1 then 2 else 6
section XCR
variable {F : xFr} {cc : ByteArray} {nL : Nat} {ret : Option FieldType} {rm : Room} {nm : String} {tb : List ExceptionTableEntry} {Q : State → Prop} {ad : Nat → Nat} {ct : xCt} {cells slots pc : Nat} {lv : List (Nat × Value)} {rest : List Value}
theorem x_wsO : GoodIn lw_all (va_wsO "SelectoRoute" 108 "SelectoRoute$Coin$2" "SelectoRoute$Coin" yX5_credits yX6_credits (ws_ yX6_credits cX6_credits 1 (some Jvm.ClassFile.FieldType.int))) := by
  unfold va_wsO
  have h : ∀ w ∈ ([.methodLink "SelectoRoute" 108 yX5_credits, .sameMethod yX5_credits.cls "SelectoRoute$Coin" yX5_credits.name yX5_credits.desc, .instanceMethod ⟨"SelectoRoute$Coin", yX5_credits.name, yX5_credits.desc⟩, .selects "SelectoRoute$Coin$2" yX5_credits yX6_credits, .instanceMethod yX6_credits, .initialized yX6_credits.cls] : List Cond), w ∈ lw_all := List.forall_mem_cons.mpr ⟨q675, List.forall_mem_cons.mpr ⟨q678, List.forall_mem_cons.mpr ⟨q676, List.forall_mem_cons.mpr ⟨q685, List.forall_mem_cons.mpr ⟨q686, List.forall_mem_cons.mpr ⟨q48, fun _ h => nomatch h⟩⟩⟩⟩⟩⟩
  exact goodIn_app (goodIn_sub h rfl) (lw_meth q687)
theorem x_credits (C : xC F cc nL "SelectoRoute" ret rm nm tb) {i : Nat} (hi : i < 4) (hw : (rest.map fun v => v.category).sum ≤ 8) (hR : 5 ≤ rm.frames ∧ 80 ≤ rm.locals) (hf : cells ≤ rm.cells ∧ slots ≤ rm.slots) (hdg : decode cc pc = .ok (.invokevirtual 108, 3)) (kk : xX F Q ad ct cells slots (pc + 3) lv (.int (sCr i) :: rest)) : xX F Q ad ct cells slots pc lv (.ref (F.1.2.2.1 (310 + i)) :: rest) := by
  obtain ⟨h1, h2⟩ := hR
  match i, hi, kk with
  | 0, _, kk => exact x_callV (rest := rest) C (k5_credits (i := 0) (by decide)) cf_X1_108 ⟨rfl, hd_X5_credits⟩ ⟨show 1 + 1 ≤ _ by omega, show 8 + (1 + 11) + 0 ≤ _ by omega⟩ (xR_c (i := 0) (by decide)) rfl hw hf hdg (xPv_i kk) xN_e
  | 1, _, kk => exact x_callV (rest := rest) C (k5_credits (i := 1) (by decide)) cf_X1_108 ⟨rfl, hd_X5_credits⟩ ⟨show 1 + 1 ≤ _ by omega, show 8 + (1 + 11) + 0 ≤ _ by omega⟩ (xR_c (i := 1) (by decide)) rfl hw hf hdg (xPv_i kk) xN_e
  | 2, _, kk => exact x_callUB (x := yX5_credits) (Cn := "SelectoRoute$Coin$1") (y := yX8_credits) (rest := rest) C (by decide) rfl (fun F' hF' C' => by have := k8_body (ad := ad) (ct := ct) F' C'; rw [hF'] at this; exact this) q675 q678 q676 q684 q679 q680 q681 ⟨by decide +kernel, by decide +kernel, by decide +kernel⟩ ⟨show 2 + 1 ≤ _ by omega, show 8 + (1 + 11) + 30 ≤ _ by omega⟩ (xR_c (i := 2) (by decide)) rfl hw hf hdg (xPv_i kk) xN_e
  | 3, _, kk => exact x_callU (rest := rest) (x := yX5_credits) (Cn := "SelectoRoute$Coin$2") (owner := "SelectoRoute$Coin") C (k6_credits) (va_cwO 0 C.hts x_wsO rfl rfl rfl q684 ⟨by decide +kernel, by decide +kernel, by decide +kernel⟩ (by rw [C.hR]; exact ⟨show 4 + 1 ≤ _ by omega, show 8 + (1 + 11) + 60 ≤ _ by omega⟩)) (xR_c (i := 3) (by decide)) rfl hw hf hdg (xPv_i kk) xN_e
end XCR
section XCA
variable {F : xFr} {cc : ByteArray} {nL : Nat} {ret : Option FieldType} {rm : Room} {nm : String} {tb : List ExceptionTableEntry} {Q : State → Prop} {ad : Nat → Nat} {ct : xCt} {cells slots pc : Nat} {lv : List (Nat × Value)} {rest : List Value}
theorem x_castAr (C : xC F cc nL "SelectoRoute$Coin" ret rm nm tb) {r idx : Nat} {x : vp_A} (h : ct r = some (.inl (F.1.2.2.1 1005, x))) (hl : Cond.classLink "SelectoRoute$Coin" idx "[LSelectoRoute$Coin;" ∈ lw_all) (hdg : decode cc pc = .ok (.checkcast idx, 3)) (kk : xX F Q ad ct cells slots (pc + 3) lv (.ref (ad r) :: rest)) : xX F Q ad ct cells slots pc lv (.ref (ad r) :: rest) := by
  intro H locs ls w hS h0
  obtain ⟨hAr, hRA⟩ := C.K.2 5 (F.1.2.2.1 1005, .object "SelectoRoute$Coin") rfl
  obtain ⟨kS, compS, hkS, hkindS, -, hfc⟩ := hRA
  exact va_castA C.hx C.hb C.hown (C.hts _ hl) (xw_at w h) 0 rfl hfc hdg (kk H locs ls w hS h0)
end XCA
set_option maxHeartbeats 4000000 in
theorem k5_values {G : xG} {ad : Nat → Nat} {ct : xCt} {r : Nat} (hr : ct r = none) : xM G yX5_values (ws_ yX5_values cX5_values 0 (some (Jvm.ClassFile.FieldType.array (Jvm.ClassFile.FieldType.object "SelectoRoute$Coin")))) 1 30 1 4 [] ad ct (fun v ad' ct' => (∀ x, x ≠ r → ad' x = ad x) ∧ v = some (.ref (ad' r)) ∧ ct' = xu ct r (.inl (G.2.2.1 1005, 4, .inr (.inr (.inr (.inr (fun k => if k < 4 then some (G.2.2.1 (310 + k)) else none))))))) xN := by
  refine xM_of (cc := cX5_values) (by decide) rfl (fun F hF C => ?_)
  subst hF
  show xX F _ _ _ 0 0 0 [] []
  refine x_values C dX5_values_0 ?_
  refine x_cloneV C hr ⟨Nat.le_of_ble_eq_true rfl, Nat.le_of_ble_eq_true rfl⟩ ⟨Nat.le_of_ble_eq_true rfl, Nat.le_of_ble_eq_true rfl⟩ dX5_values_3 (fun ad' had => ?_)
  refine x_castAr C xu_s q655 dX5_values_6 ?_
  exact x_aret C (Or.inr ⟨_, rfl⟩) (Or.inr ⟨_, rfl⟩) dX5_values_9 (Nat.le_of_ble_eq_true rfl) (Nat.le_of_ble_eq_true rfl) ⟨had, rfl, rfl⟩
set_option maxHeartbeats 4000000 in
theorem k5_of {G : xG} {ad : Nat → Nat} {ct : xCt} {r : Nat} (hr : ct r = none) (c : Int32) : xM G yX5_of (ws_ yX5_of cX5_of 6 (some (Jvm.ClassFile.FieldType.object "SelectoRoute$Coin"))) 9 150 2 10 [.int c] ad ct (fun v ad' ct' => ad' = ad ∧ ct' = ct ∧ ∃ i, i < 4 ∧ c = xcoinL i ∧ v = some (.ref (G.2.2.1 (310 + i)))) (fun E ad' ct' => E = xIAE ∧ ad' = ad ∧ ct' = ct ∧ ∀ i, i < 4 → ¬ c = xcoinL i) := by
  refine xM_of (cc := cX5_of) (by decide) rfl (fun F hF C => ?_)
  subst hF
  show xX F _ _ _ 0 0 0 [(0, .int c)] []
  refine x_null C dX5_of_0 ?_
  refine x_astore_nN (lv' := [(1, .null), (0, .int c)]) C dX5_of_1 rfl (by decide) rfl ?_
  refine x_callS (rest := []) C (k5_values hr) cf_X5_43 hd_X5_values ⟨Nat.le_of_ble_eq_true rfl, Nat.le_of_ble_eq_true rfl⟩ rfl (Nat.le_of_ble_eq_true rfl) ⟨Nat.le_of_ble_eq_true rfl, Nat.le_of_ble_eq_true rfl⟩ dX5_of_2 (fun v ad' ct' q9 => ?_) xN_e
  obtain ⟨had, rfl, rfl⟩ := q9
  refine x_astore_n (lv' := [(2, .ref (ad' r)), (1, .null), (0, .int c)]) C dX5_of_5 rfl (by decide) rfl ?_
  refine x_aload_n C dX5_of_6 rfl 0 rfl ?_
  refine x_alen C 5 rfl rfl xu_s rfl dX5_of_7 ?_
  refine x_istore_n (lv' := [(3, .int 4), (2, .ref (ad' r)), (1, .null), (0, .int c)]) C dX5_of_8 rfl (by decide) rfl ?_
  refine x_iconst (v := 0) C dX5_of_9 (by decide) ?_
  refine x_istore (lv' := [(4, .int 0), (3, .int 4), (2, .ref (ad' r)), (1, .null), (0, .int c)]) C dX5_of_10 (by decide) rfl ?_
  refine x_iload C dX5_of_12 0 rfl ?_
  refine x_iload_n C dX5_of_14 rfl 1 rfl ?_
  refine x_icmp_ge (tgt := 46) C dX5_of_15 (by decide) (fun h => absurd h (by decide)) (fun _ => ?_)
  refine x_aload_n C dX5_of_18 rfl 2 rfl ?_
  refine x_iload C dX5_of_19 0 rfl ?_
  refine x_aald C 5 rfl rfl xu_s (xi_in (s := 0) (n := 4) rfl (by decide) rfl).1 (o := some (F.1.2.2.1 (310 + 0))) rfl dX5_of_21 ?_
  show xX F _ _ _ _ _ _ _ [.ref (F.1.2.2.1 (310 + 0))]
  refine x_astore (lv' := [(5, .ref (F.1.2.2.1 (310 + 0))), (4, .int 0), (3, .int 4), (2, .ref (ad' r)), (1, .null), (0, .int c)]) C dX5_of_22 (by decide) rfl ?_
  refine x_aload C dX5_of_24 0 rfl ?_
  refine x_coinL C (i := 0) (by decide) q1302 dX5_of_26 ?_
  refine x_iload_n C dX5_of_29 rfl 5 rfl ?_
  refine x_icmp_ne (tgt := 38) C dX5_of_30 (by decide) (fun c0 => ?_) (fun c0 => ?_)
  · refine x_aload_nN C dX5_of_38 rfl 4 rfl ?_
    refine x_astore_nN (lv' := [(1, .null), (5, .ref (F.1.2.2.1 (310 + 0))), (4, .int 0), (3, .int 4), (2, .ref (ad' r)), (0, .int c)]) C dX5_of_39 rfl (by decide) rfl ?_
    refine x_iinc (k := 2) (v := 1) (lv' := [(4, .int 1), (1, .null), (5, .ref (F.1.2.2.1 (310 + 0))), (3, .int 4), (2, .ref (ad' r)), (0, .int c)]) C dX5_of_40 rfl (by decide) (by decide) rfl ?_
    refine x_goto (tgt := 12) C dX5_of_43 (by decide) ?_
    refine x_iload C dX5_of_12 0 rfl ?_
    refine x_iload_n C dX5_of_14 rfl 3 rfl ?_
    refine x_icmp_ge (tgt := 46) C dX5_of_15 (by decide) (fun h => absurd h (by decide)) (fun _ => ?_)
    refine x_aload_n C dX5_of_18 rfl 4 rfl ?_
    refine x_iload C dX5_of_19 0 rfl ?_
    refine x_aald C 5 rfl rfl xu_s (xi_in (s := 1) (n := 4) rfl (by decide) rfl).1 (o := some (F.1.2.2.1 (310 + 1))) rfl dX5_of_21 ?_
    show xX F _ _ _ _ _ _ _ [.ref (F.1.2.2.1 (310 + 1))]
    refine x_astore (lv' := [(5, .ref (F.1.2.2.1 (310 + 1))), (4, .int 1), (1, .null), (3, .int 4), (2, .ref (ad' r)), (0, .int c)]) C dX5_of_22 (by decide) rfl ?_
    refine x_aload C dX5_of_24 0 rfl ?_
    refine x_coinL C (i := 1) (by decide) q1302 dX5_of_26 ?_
    refine x_iload_n C dX5_of_29 rfl 5 rfl ?_
    refine x_icmp_ne (tgt := 38) C dX5_of_30 (by decide) (fun c1 => ?_) (fun c1 => ?_)
    · refine x_aload_nN C dX5_of_38 rfl 2 rfl ?_
      refine x_astore_nN (lv' := [(1, .null), (5, .ref (F.1.2.2.1 (310 + 1))), (4, .int 1), (3, .int 4), (2, .ref (ad' r)), (0, .int c)]) C dX5_of_39 rfl (by decide) rfl ?_
      refine x_iinc (k := 2) (v := 2) (lv' := [(4, .int 2), (1, .null), (5, .ref (F.1.2.2.1 (310 + 1))), (3, .int 4), (2, .ref (ad' r)), (0, .int c)]) C dX5_of_40 rfl (by decide) (by decide) rfl ?_
      refine x_goto (tgt := 12) C dX5_of_43 (by decide) ?_
      refine x_iload C dX5_of_12 0 rfl ?_
      refine x_iload_n C dX5_of_14 rfl 3 rfl ?_
      refine x_icmp_ge (tgt := 46) C dX5_of_15 (by decide) (fun h => absurd h (by decide)) (fun _ => ?_)
      refine x_aload_n C dX5_of_18 rfl 4 rfl ?_
      refine x_iload C dX5_of_19 0 rfl ?_
      refine x_aald C 5 rfl rfl xu_s (xi_in (s := 2) (n := 4) rfl (by decide) rfl).1 (o := some (F.1.2.2.1 (310 + 2))) rfl dX5_of_21 ?_
      show xX F _ _ _ _ _ _ _ [.ref (F.1.2.2.1 (310 + 2))]
      refine x_astore (lv' := [(5, .ref (F.1.2.2.1 (310 + 2))), (4, .int 2), (1, .null), (3, .int 4), (2, .ref (ad' r)), (0, .int c)]) C dX5_of_22 (by decide) rfl ?_
      refine x_aload C dX5_of_24 0 rfl ?_
      refine x_coinL C (i := 2) (by decide) q1302 dX5_of_26 ?_
      refine x_iload_n C dX5_of_29 rfl 5 rfl ?_
      refine x_icmp_ne (tgt := 38) C dX5_of_30 (by decide) (fun c2 => ?_) (fun c2 => ?_)
      · refine x_aload_nN C dX5_of_38 rfl 2 rfl ?_
        refine x_astore_nN (lv' := [(1, .null), (5, .ref (F.1.2.2.1 (310 + 2))), (4, .int 2), (3, .int 4), (2, .ref (ad' r)), (0, .int c)]) C dX5_of_39 rfl (by decide) rfl ?_
        refine x_iinc (k := 2) (v := 3) (lv' := [(4, .int 3), (1, .null), (5, .ref (F.1.2.2.1 (310 + 2))), (3, .int 4), (2, .ref (ad' r)), (0, .int c)]) C dX5_of_40 rfl (by decide) (by decide) rfl ?_
        refine x_goto (tgt := 12) C dX5_of_43 (by decide) ?_
        refine x_iload C dX5_of_12 0 rfl ?_
        refine x_iload_n C dX5_of_14 rfl 3 rfl ?_
        refine x_icmp_ge (tgt := 46) C dX5_of_15 (by decide) (fun h => absurd h (by decide)) (fun _ => ?_)
        refine x_aload_n C dX5_of_18 rfl 4 rfl ?_
        refine x_iload C dX5_of_19 0 rfl ?_
        refine x_aald C 5 rfl rfl xu_s (xi_in (s := 3) (n := 4) rfl (by decide) rfl).1 (o := some (F.1.2.2.1 (310 + 3))) rfl dX5_of_21 ?_
        show xX F _ _ _ _ _ _ _ [.ref (F.1.2.2.1 (310 + 3))]
        refine x_astore (lv' := [(5, .ref (F.1.2.2.1 (310 + 3))), (4, .int 3), (1, .null), (3, .int 4), (2, .ref (ad' r)), (0, .int c)]) C dX5_of_22 (by decide) rfl ?_
        refine x_aload C dX5_of_24 0 rfl ?_
        refine x_coinL C (i := 3) (by decide) q1302 dX5_of_26 ?_
        refine x_iload_n C dX5_of_29 rfl 5 rfl ?_
        refine x_icmp_ne (tgt := 38) C dX5_of_30 (by decide) (fun c3 => ?_) (fun c3 => ?_)
        · refine x_aload_nN C dX5_of_38 rfl 2 rfl ?_
          refine x_astore_nN (lv' := [(1, .null), (5, .ref (F.1.2.2.1 (310 + 3))), (4, .int 3), (3, .int 4), (2, .ref (ad' r)), (0, .int c)]) C dX5_of_39 rfl (by decide) rfl ?_
          refine x_iinc (k := 2) (v := 4) (lv' := [(4, .int 4), (1, .null), (5, .ref (F.1.2.2.1 (310 + 3))), (3, .int 4), (2, .ref (ad' r)), (0, .int c)]) C dX5_of_40 rfl (by decide) (by decide) rfl ?_
          refine x_goto (tgt := 12) C dX5_of_43 (by decide) ?_
          refine x_iload C dX5_of_12 0 rfl ?_
          refine x_iload_n C dX5_of_14 rfl 3 rfl ?_
          refine x_icmp_ge (tgt := 46) C dX5_of_15 (by decide) (fun _ => ?_) (fun h => absurd (by decide) h)
          refine x_sub (ad' := ad) (ct' := ct) (fun x e he => by
            have hne : x ≠ r := fun e9 => by rw [e9, hr] at he; cases he
            exact ⟨xu_n hne he, (had x hne).symm⟩) ?_
          refine x_aload_nN C dX5_of_46 rfl 1 rfl ?_
          refine x_ifnullN (tgt := 54) C dX5_of_47 (by decide) ?_
          refine x_iconst (v := 0) C dX5_of_54 (by decide) ?_
          refine x_callSN (rest := []) C (k_require 0) q430 q24 q429 C.S.1.2.2.2.2.2.1 hd_X1_require ⟨Nat.le_of_ble_eq_true rfl, Nat.le_of_ble_eq_true rfl⟩ rfl (Nat.le_of_ble_eq_true rfl) ⟨Nat.le_of_ble_eq_true rfl, Nat.le_of_ble_eq_true rfl⟩ dX5_of_55 (fun v ad' ct' q => absurd rfl q.1) (fun E ad' ct' q => ?_)
          obtain ⟨-, rfl, e9, rfl⟩ := q; obtain rfl := e9.symm
          exact x_out C (fun _ h => nomatch h) (Nat.le_of_ble_eq_true rfl) (Nat.le_of_ble_eq_true rfl) ⟨rfl, rfl, rfl, fun i hi => match i, hi with | 0, _ => fun e => c0 e.symm | 1, _ => fun e => c1 e.symm | 2, _ => fun e => c2 e.symm | 3, _ => fun e => c3 e.symm⟩
        · refine x_aload C dX5_of_33 0 rfl ?_
          refine x_goto (tgt := 39) C dX5_of_35 (by decide) ?_
          refine x_astore_n (lv' := [(1, .ref (F.1.2.2.1 (310 + 3))), (5, .ref (F.1.2.2.1 (310 + 3))), (4, .int 3), (3, .int 4), (2, .ref (ad' r)), (0, .int c)]) C dX5_of_39 rfl (by decide) rfl ?_
          refine x_iinc (k := 2) (v := 4) (lv' := [(4, .int 4), (1, .ref (F.1.2.2.1 (310 + 3))), (5, .ref (F.1.2.2.1 (310 + 3))), (3, .int 4), (2, .ref (ad' r)), (0, .int c)]) C dX5_of_40 rfl (by decide) (by decide) rfl ?_
          refine x_goto (tgt := 12) C dX5_of_43 (by decide) ?_
          refine x_iload C dX5_of_12 0 rfl ?_
          refine x_iload_n C dX5_of_14 rfl 3 rfl ?_
          refine x_icmp_ge (tgt := 46) C dX5_of_15 (by decide) (fun _ => ?_) (fun h => absurd (by decide) h)
          refine x_sub (ad' := ad) (ct' := ct) (fun x e he => by
            have hne : x ≠ r := fun e9 => by rw [e9, hr] at he; cases he
            exact ⟨xu_n hne he, (had x hne).symm⟩) ?_
          refine x_aload_n C dX5_of_46 rfl 1 rfl ?_
          refine x_ifnull C dX5_of_47 ?_
          refine x_iconst (v := 1) C dX5_of_50 (by decide) ?_
          refine x_goto (tgt := 55) C dX5_of_51 (by decide) ?_
          refine x_callSN (rest := []) C (k_require 1) q430 q24 q429 C.S.1.2.2.2.2.2.1 hd_X1_require ⟨Nat.le_of_ble_eq_true rfl, Nat.le_of_ble_eq_true rfl⟩ rfl (Nat.le_of_ble_eq_true rfl) ⟨Nat.le_of_ble_eq_true rfl, Nat.le_of_ble_eq_true rfl⟩ dX5_of_55 (fun v ad' ct' q => ?_) (fun E ad' ct' q => absurd q.1 (by decide))
          obtain ⟨-, rfl, e9, rfl⟩ := q; obtain rfl := e9.symm
          refine x_aload_n C dX5_of_58 rfl 1 rfl ?_
          exact x_aret C (Or.inl ⟨_, rfl⟩) (Or.inr ⟨_, rfl⟩) dX5_of_59 (Nat.le_of_ble_eq_true rfl) (Nat.le_of_ble_eq_true rfl) ⟨rfl, rfl, 3, by decide, c3.symm, rfl⟩
      · refine x_aload C dX5_of_33 0 rfl ?_
        refine x_goto (tgt := 39) C dX5_of_35 (by decide) ?_
        refine x_astore_n (lv' := [(1, .ref (F.1.2.2.1 (310 + 2))), (5, .ref (F.1.2.2.1 (310 + 2))), (4, .int 2), (3, .int 4), (2, .ref (ad' r)), (0, .int c)]) C dX5_of_39 rfl (by decide) rfl ?_
        refine x_iinc (k := 2) (v := 3) (lv' := [(4, .int 3), (1, .ref (F.1.2.2.1 (310 + 2))), (5, .ref (F.1.2.2.1 (310 + 2))), (3, .int 4), (2, .ref (ad' r)), (0, .int c)]) C dX5_of_40 rfl (by decide) (by decide) rfl ?_
        refine x_goto (tgt := 12) C dX5_of_43 (by decide) ?_
        refine x_iload C dX5_of_12 0 rfl ?_
        refine x_iload_n C dX5_of_14 rfl 3 rfl ?_
        refine x_icmp_ge (tgt := 46) C dX5_of_15 (by decide) (fun h => absurd h (by decide)) (fun _ => ?_)
        refine x_aload_n C dX5_of_18 rfl 4 rfl ?_
        refine x_iload C dX5_of_19 0 rfl ?_
        refine x_aald C 5 rfl rfl xu_s (xi_in (s := 3) (n := 4) rfl (by decide) rfl).1 (o := some (F.1.2.2.1 (310 + 3))) rfl dX5_of_21 ?_
        show xX F _ _ _ _ _ _ _ [.ref (F.1.2.2.1 (310 + 3))]
        refine x_astore (lv' := [(5, .ref (F.1.2.2.1 (310 + 3))), (4, .int 3), (1, .ref (F.1.2.2.1 (310 + 2))), (3, .int 4), (2, .ref (ad' r)), (0, .int c)]) C dX5_of_22 (by decide) rfl ?_
        refine x_aload C dX5_of_24 0 rfl ?_
        refine x_coinL C (i := 3) (by decide) q1302 dX5_of_26 ?_
        refine x_iload_n C dX5_of_29 rfl 5 rfl ?_
        refine x_icmp_ne (tgt := 38) C dX5_of_30 (by decide) (fun c3 => ?_) (fun c3 => ?_)
        · refine x_aload_n C dX5_of_38 rfl 2 rfl ?_
          refine x_astore_n (lv' := [(1, .ref (F.1.2.2.1 (310 + 2))), (5, .ref (F.1.2.2.1 (310 + 3))), (4, .int 3), (3, .int 4), (2, .ref (ad' r)), (0, .int c)]) C dX5_of_39 rfl (by decide) rfl ?_
          refine x_iinc (k := 2) (v := 4) (lv' := [(4, .int 4), (1, .ref (F.1.2.2.1 (310 + 2))), (5, .ref (F.1.2.2.1 (310 + 3))), (3, .int 4), (2, .ref (ad' r)), (0, .int c)]) C dX5_of_40 rfl (by decide) (by decide) rfl ?_
          refine x_goto (tgt := 12) C dX5_of_43 (by decide) ?_
          refine x_iload C dX5_of_12 0 rfl ?_
          refine x_iload_n C dX5_of_14 rfl 3 rfl ?_
          refine x_icmp_ge (tgt := 46) C dX5_of_15 (by decide) (fun _ => ?_) (fun h => absurd (by decide) h)
          refine x_sub (ad' := ad) (ct' := ct) (fun x e he => by
            have hne : x ≠ r := fun e9 => by rw [e9, hr] at he; cases he
            exact ⟨xu_n hne he, (had x hne).symm⟩) ?_
          refine x_aload_n C dX5_of_46 rfl 1 rfl ?_
          refine x_ifnull C dX5_of_47 ?_
          refine x_iconst (v := 1) C dX5_of_50 (by decide) ?_
          refine x_goto (tgt := 55) C dX5_of_51 (by decide) ?_
          refine x_callSN (rest := []) C (k_require 1) q430 q24 q429 C.S.1.2.2.2.2.2.1 hd_X1_require ⟨Nat.le_of_ble_eq_true rfl, Nat.le_of_ble_eq_true rfl⟩ rfl (Nat.le_of_ble_eq_true rfl) ⟨Nat.le_of_ble_eq_true rfl, Nat.le_of_ble_eq_true rfl⟩ dX5_of_55 (fun v ad' ct' q => ?_) (fun E ad' ct' q => absurd q.1 (by decide))
          obtain ⟨-, rfl, e9, rfl⟩ := q; obtain rfl := e9.symm
          refine x_aload_n C dX5_of_58 rfl 1 rfl ?_
          exact x_aret C (Or.inl ⟨_, rfl⟩) (Or.inr ⟨_, rfl⟩) dX5_of_59 (Nat.le_of_ble_eq_true rfl) (Nat.le_of_ble_eq_true rfl) ⟨rfl, rfl, 2, by decide, c2.symm, rfl⟩
        · exact absurd (c3.trans c2.symm) (by decide)
    · refine x_aload C dX5_of_33 0 rfl ?_
      refine x_goto (tgt := 39) C dX5_of_35 (by decide) ?_
      refine x_astore_n (lv' := [(1, .ref (F.1.2.2.1 (310 + 1))), (5, .ref (F.1.2.2.1 (310 + 1))), (4, .int 1), (3, .int 4), (2, .ref (ad' r)), (0, .int c)]) C dX5_of_39 rfl (by decide) rfl ?_
      refine x_iinc (k := 2) (v := 2) (lv' := [(4, .int 2), (1, .ref (F.1.2.2.1 (310 + 1))), (5, .ref (F.1.2.2.1 (310 + 1))), (3, .int 4), (2, .ref (ad' r)), (0, .int c)]) C dX5_of_40 rfl (by decide) (by decide) rfl ?_
      refine x_goto (tgt := 12) C dX5_of_43 (by decide) ?_
      refine x_iload C dX5_of_12 0 rfl ?_
      refine x_iload_n C dX5_of_14 rfl 3 rfl ?_
      refine x_icmp_ge (tgt := 46) C dX5_of_15 (by decide) (fun h => absurd h (by decide)) (fun _ => ?_)
      refine x_aload_n C dX5_of_18 rfl 4 rfl ?_
      refine x_iload C dX5_of_19 0 rfl ?_
      refine x_aald C 5 rfl rfl xu_s (xi_in (s := 2) (n := 4) rfl (by decide) rfl).1 (o := some (F.1.2.2.1 (310 + 2))) rfl dX5_of_21 ?_
      show xX F _ _ _ _ _ _ _ [.ref (F.1.2.2.1 (310 + 2))]
      refine x_astore (lv' := [(5, .ref (F.1.2.2.1 (310 + 2))), (4, .int 2), (1, .ref (F.1.2.2.1 (310 + 1))), (3, .int 4), (2, .ref (ad' r)), (0, .int c)]) C dX5_of_22 (by decide) rfl ?_
      refine x_aload C dX5_of_24 0 rfl ?_
      refine x_coinL C (i := 2) (by decide) q1302 dX5_of_26 ?_
      refine x_iload_n C dX5_of_29 rfl 5 rfl ?_
      refine x_icmp_ne (tgt := 38) C dX5_of_30 (by decide) (fun c2 => ?_) (fun c2 => ?_)
      · refine x_aload_n C dX5_of_38 rfl 2 rfl ?_
        refine x_astore_n (lv' := [(1, .ref (F.1.2.2.1 (310 + 1))), (5, .ref (F.1.2.2.1 (310 + 2))), (4, .int 2), (3, .int 4), (2, .ref (ad' r)), (0, .int c)]) C dX5_of_39 rfl (by decide) rfl ?_
        refine x_iinc (k := 2) (v := 3) (lv' := [(4, .int 3), (1, .ref (F.1.2.2.1 (310 + 1))), (5, .ref (F.1.2.2.1 (310 + 2))), (3, .int 4), (2, .ref (ad' r)), (0, .int c)]) C dX5_of_40 rfl (by decide) (by decide) rfl ?_
        refine x_goto (tgt := 12) C dX5_of_43 (by decide) ?_
        refine x_iload C dX5_of_12 0 rfl ?_
        refine x_iload_n C dX5_of_14 rfl 3 rfl ?_
        refine x_icmp_ge (tgt := 46) C dX5_of_15 (by decide) (fun h => absurd h (by decide)) (fun _ => ?_)
        refine x_aload_n C dX5_of_18 rfl 4 rfl ?_
        refine x_iload C dX5_of_19 0 rfl ?_
        refine x_aald C 5 rfl rfl xu_s (xi_in (s := 3) (n := 4) rfl (by decide) rfl).1 (o := some (F.1.2.2.1 (310 + 3))) rfl dX5_of_21 ?_
        show xX F _ _ _ _ _ _ _ [.ref (F.1.2.2.1 (310 + 3))]
        refine x_astore (lv' := [(5, .ref (F.1.2.2.1 (310 + 3))), (4, .int 3), (1, .ref (F.1.2.2.1 (310 + 1))), (3, .int 4), (2, .ref (ad' r)), (0, .int c)]) C dX5_of_22 (by decide) rfl ?_
        refine x_aload C dX5_of_24 0 rfl ?_
        refine x_coinL C (i := 3) (by decide) q1302 dX5_of_26 ?_
        refine x_iload_n C dX5_of_29 rfl 5 rfl ?_
        refine x_icmp_ne (tgt := 38) C dX5_of_30 (by decide) (fun c3 => ?_) (fun c3 => ?_)
        · refine x_aload_n C dX5_of_38 rfl 2 rfl ?_
          refine x_astore_n (lv' := [(1, .ref (F.1.2.2.1 (310 + 1))), (5, .ref (F.1.2.2.1 (310 + 3))), (4, .int 3), (3, .int 4), (2, .ref (ad' r)), (0, .int c)]) C dX5_of_39 rfl (by decide) rfl ?_
          refine x_iinc (k := 2) (v := 4) (lv' := [(4, .int 4), (1, .ref (F.1.2.2.1 (310 + 1))), (5, .ref (F.1.2.2.1 (310 + 3))), (3, .int 4), (2, .ref (ad' r)), (0, .int c)]) C dX5_of_40 rfl (by decide) (by decide) rfl ?_
          refine x_goto (tgt := 12) C dX5_of_43 (by decide) ?_
          refine x_iload C dX5_of_12 0 rfl ?_
          refine x_iload_n C dX5_of_14 rfl 3 rfl ?_
          refine x_icmp_ge (tgt := 46) C dX5_of_15 (by decide) (fun _ => ?_) (fun h => absurd (by decide) h)
          refine x_sub (ad' := ad) (ct' := ct) (fun x e he => by
            have hne : x ≠ r := fun e9 => by rw [e9, hr] at he; cases he
            exact ⟨xu_n hne he, (had x hne).symm⟩) ?_
          refine x_aload_n C dX5_of_46 rfl 1 rfl ?_
          refine x_ifnull C dX5_of_47 ?_
          refine x_iconst (v := 1) C dX5_of_50 (by decide) ?_
          refine x_goto (tgt := 55) C dX5_of_51 (by decide) ?_
          refine x_callSN (rest := []) C (k_require 1) q430 q24 q429 C.S.1.2.2.2.2.2.1 hd_X1_require ⟨Nat.le_of_ble_eq_true rfl, Nat.le_of_ble_eq_true rfl⟩ rfl (Nat.le_of_ble_eq_true rfl) ⟨Nat.le_of_ble_eq_true rfl, Nat.le_of_ble_eq_true rfl⟩ dX5_of_55 (fun v ad' ct' q => ?_) (fun E ad' ct' q => absurd q.1 (by decide))
          obtain ⟨-, rfl, e9, rfl⟩ := q; obtain rfl := e9.symm
          refine x_aload_n C dX5_of_58 rfl 1 rfl ?_
          exact x_aret C (Or.inl ⟨_, rfl⟩) (Or.inr ⟨_, rfl⟩) dX5_of_59 (Nat.le_of_ble_eq_true rfl) (Nat.le_of_ble_eq_true rfl) ⟨rfl, rfl, 1, by decide, c1.symm, rfl⟩
        · exact absurd (c3.trans c1.symm) (by decide)
      · exact absurd (c2.trans c1.symm) (by decide)
  · refine x_aload C dX5_of_33 0 rfl ?_
    refine x_goto (tgt := 39) C dX5_of_35 (by decide) ?_
    refine x_astore_n (lv' := [(1, .ref (F.1.2.2.1 (310 + 0))), (5, .ref (F.1.2.2.1 (310 + 0))), (4, .int 0), (3, .int 4), (2, .ref (ad' r)), (0, .int c)]) C dX5_of_39 rfl (by decide) rfl ?_
    refine x_iinc (k := 2) (v := 1) (lv' := [(4, .int 1), (1, .ref (F.1.2.2.1 (310 + 0))), (5, .ref (F.1.2.2.1 (310 + 0))), (3, .int 4), (2, .ref (ad' r)), (0, .int c)]) C dX5_of_40 rfl (by decide) (by decide) rfl ?_
    refine x_goto (tgt := 12) C dX5_of_43 (by decide) ?_
    refine x_iload C dX5_of_12 0 rfl ?_
    refine x_iload_n C dX5_of_14 rfl 3 rfl ?_
    refine x_icmp_ge (tgt := 46) C dX5_of_15 (by decide) (fun h => absurd h (by decide)) (fun _ => ?_)
    refine x_aload_n C dX5_of_18 rfl 4 rfl ?_
    refine x_iload C dX5_of_19 0 rfl ?_
    refine x_aald C 5 rfl rfl xu_s (xi_in (s := 1) (n := 4) rfl (by decide) rfl).1 (o := some (F.1.2.2.1 (310 + 1))) rfl dX5_of_21 ?_
    show xX F _ _ _ _ _ _ _ [.ref (F.1.2.2.1 (310 + 1))]
    refine x_astore (lv' := [(5, .ref (F.1.2.2.1 (310 + 1))), (4, .int 1), (1, .ref (F.1.2.2.1 (310 + 0))), (3, .int 4), (2, .ref (ad' r)), (0, .int c)]) C dX5_of_22 (by decide) rfl ?_
    refine x_aload C dX5_of_24 0 rfl ?_
    refine x_coinL C (i := 1) (by decide) q1302 dX5_of_26 ?_
    refine x_iload_n C dX5_of_29 rfl 5 rfl ?_
    refine x_icmp_ne (tgt := 38) C dX5_of_30 (by decide) (fun c1 => ?_) (fun c1 => ?_)
    · refine x_aload_n C dX5_of_38 rfl 2 rfl ?_
      refine x_astore_n (lv' := [(1, .ref (F.1.2.2.1 (310 + 0))), (5, .ref (F.1.2.2.1 (310 + 1))), (4, .int 1), (3, .int 4), (2, .ref (ad' r)), (0, .int c)]) C dX5_of_39 rfl (by decide) rfl ?_
      refine x_iinc (k := 2) (v := 2) (lv' := [(4, .int 2), (1, .ref (F.1.2.2.1 (310 + 0))), (5, .ref (F.1.2.2.1 (310 + 1))), (3, .int 4), (2, .ref (ad' r)), (0, .int c)]) C dX5_of_40 rfl (by decide) (by decide) rfl ?_
      refine x_goto (tgt := 12) C dX5_of_43 (by decide) ?_
      refine x_iload C dX5_of_12 0 rfl ?_
      refine x_iload_n C dX5_of_14 rfl 3 rfl ?_
      refine x_icmp_ge (tgt := 46) C dX5_of_15 (by decide) (fun h => absurd h (by decide)) (fun _ => ?_)
      refine x_aload_n C dX5_of_18 rfl 4 rfl ?_
      refine x_iload C dX5_of_19 0 rfl ?_
      refine x_aald C 5 rfl rfl xu_s (xi_in (s := 2) (n := 4) rfl (by decide) rfl).1 (o := some (F.1.2.2.1 (310 + 2))) rfl dX5_of_21 ?_
      show xX F _ _ _ _ _ _ _ [.ref (F.1.2.2.1 (310 + 2))]
      refine x_astore (lv' := [(5, .ref (F.1.2.2.1 (310 + 2))), (4, .int 2), (1, .ref (F.1.2.2.1 (310 + 0))), (3, .int 4), (2, .ref (ad' r)), (0, .int c)]) C dX5_of_22 (by decide) rfl ?_
      refine x_aload C dX5_of_24 0 rfl ?_
      refine x_coinL C (i := 2) (by decide) q1302 dX5_of_26 ?_
      refine x_iload_n C dX5_of_29 rfl 5 rfl ?_
      refine x_icmp_ne (tgt := 38) C dX5_of_30 (by decide) (fun c2 => ?_) (fun c2 => ?_)
      · refine x_aload_n C dX5_of_38 rfl 2 rfl ?_
        refine x_astore_n (lv' := [(1, .ref (F.1.2.2.1 (310 + 0))), (5, .ref (F.1.2.2.1 (310 + 2))), (4, .int 2), (3, .int 4), (2, .ref (ad' r)), (0, .int c)]) C dX5_of_39 rfl (by decide) rfl ?_
        refine x_iinc (k := 2) (v := 3) (lv' := [(4, .int 3), (1, .ref (F.1.2.2.1 (310 + 0))), (5, .ref (F.1.2.2.1 (310 + 2))), (3, .int 4), (2, .ref (ad' r)), (0, .int c)]) C dX5_of_40 rfl (by decide) (by decide) rfl ?_
        refine x_goto (tgt := 12) C dX5_of_43 (by decide) ?_
        refine x_iload C dX5_of_12 0 rfl ?_
        refine x_iload_n C dX5_of_14 rfl 3 rfl ?_
        refine x_icmp_ge (tgt := 46) C dX5_of_15 (by decide) (fun h => absurd h (by decide)) (fun _ => ?_)
        refine x_aload_n C dX5_of_18 rfl 4 rfl ?_
        refine x_iload C dX5_of_19 0 rfl ?_
        refine x_aald C 5 rfl rfl xu_s (xi_in (s := 3) (n := 4) rfl (by decide) rfl).1 (o := some (F.1.2.2.1 (310 + 3))) rfl dX5_of_21 ?_
        show xX F _ _ _ _ _ _ _ [.ref (F.1.2.2.1 (310 + 3))]
        refine x_astore (lv' := [(5, .ref (F.1.2.2.1 (310 + 3))), (4, .int 3), (1, .ref (F.1.2.2.1 (310 + 0))), (3, .int 4), (2, .ref (ad' r)), (0, .int c)]) C dX5_of_22 (by decide) rfl ?_
        refine x_aload C dX5_of_24 0 rfl ?_
        refine x_coinL C (i := 3) (by decide) q1302 dX5_of_26 ?_
        refine x_iload_n C dX5_of_29 rfl 5 rfl ?_
        refine x_icmp_ne (tgt := 38) C dX5_of_30 (by decide) (fun c3 => ?_) (fun c3 => ?_)
        · refine x_aload_n C dX5_of_38 rfl 2 rfl ?_
          refine x_astore_n (lv' := [(1, .ref (F.1.2.2.1 (310 + 0))), (5, .ref (F.1.2.2.1 (310 + 3))), (4, .int 3), (3, .int 4), (2, .ref (ad' r)), (0, .int c)]) C dX5_of_39 rfl (by decide) rfl ?_
          refine x_iinc (k := 2) (v := 4) (lv' := [(4, .int 4), (1, .ref (F.1.2.2.1 (310 + 0))), (5, .ref (F.1.2.2.1 (310 + 3))), (3, .int 4), (2, .ref (ad' r)), (0, .int c)]) C dX5_of_40 rfl (by decide) (by decide) rfl ?_
          refine x_goto (tgt := 12) C dX5_of_43 (by decide) ?_
          refine x_iload C dX5_of_12 0 rfl ?_
          refine x_iload_n C dX5_of_14 rfl 3 rfl ?_
          refine x_icmp_ge (tgt := 46) C dX5_of_15 (by decide) (fun _ => ?_) (fun h => absurd (by decide) h)
          refine x_sub (ad' := ad) (ct' := ct) (fun x e he => by
            have hne : x ≠ r := fun e9 => by rw [e9, hr] at he; cases he
            exact ⟨xu_n hne he, (had x hne).symm⟩) ?_
          refine x_aload_n C dX5_of_46 rfl 1 rfl ?_
          refine x_ifnull C dX5_of_47 ?_
          refine x_iconst (v := 1) C dX5_of_50 (by decide) ?_
          refine x_goto (tgt := 55) C dX5_of_51 (by decide) ?_
          refine x_callSN (rest := []) C (k_require 1) q430 q24 q429 C.S.1.2.2.2.2.2.1 hd_X1_require ⟨Nat.le_of_ble_eq_true rfl, Nat.le_of_ble_eq_true rfl⟩ rfl (Nat.le_of_ble_eq_true rfl) ⟨Nat.le_of_ble_eq_true rfl, Nat.le_of_ble_eq_true rfl⟩ dX5_of_55 (fun v ad' ct' q => ?_) (fun E ad' ct' q => absurd q.1 (by decide))
          obtain ⟨-, rfl, e9, rfl⟩ := q; obtain rfl := e9.symm
          refine x_aload_n C dX5_of_58 rfl 1 rfl ?_
          exact x_aret C (Or.inl ⟨_, rfl⟩) (Or.inr ⟨_, rfl⟩) dX5_of_59 (Nat.le_of_ble_eq_true rfl) (Nat.le_of_ble_eq_true rfl) ⟨rfl, rfl, 0, by decide, c0.symm, rfl⟩
        · exact absurd (c3.trans c0.symm) (by decide)
      · exact absurd (c2.trans c0.symm) (by decide)
    · exact absurd (c1.trans c0.symm) (by decide)
set_option maxHeartbeats 4000000 in
theorem k1_insert {G : xG} {ad : Nat → Nat} {κ : xKp} {σ : xSg} {m t : xK} (hI : xIk κ) (ht : t 57 0 = none) (b c : Int32) : xM G yX1_insert (ws_ yX1_insert cX1_insert 5 (some Jvm.ClassFile.FieldType.int)) 20 600 10 60 [.ref (ad (ro 0 0)), .int b, .int c] ad (xj (xkC G.2.2.1 ad κ σ) m t) (fun v ad' ct' => ad' = ad ∧ ∃ j, j < κ 1 ∧ ∃ i, i < 4 ∧ b = nI j ∧ c = xcoinL i ∧ σ 14 j 0 = 0 ∧ σ 8 j 0 + sCr i ≤ 99 ∧ v = some (.int (σ 8 j 0 + sCr i)) ∧ ct' = xj (xkC G.2.2.1 ad κ (xup (xup σ 8 j 0 (σ 8 j 0 + sCr i)) 9 j 0 (σ 9 j 0 + xcoinP i))) m t) (fun E ad' ct' => ad' = ad ∧ ct' = xj (xkC G.2.2.1 ad κ σ) m t ∧ (E = xIOB ∧ ¬ xIx b (κ 1) ∨ E = xIAE ∧ xIx b (κ 1) ∧ (∀ i, i < 4 → ¬ c = xcoinL i) ∨ (E = xUOE ∧ ∃ j, j < κ 1 ∧ ∃ i, i < 4 ∧ b = nI j ∧ c = xcoinL i ∧ ¬ σ 14 j 0 = 0) ∨ E = xISE ∧ ∃ j, j < κ 1 ∧ ∃ i, i < 4 ∧ b = nI j ∧ c = xcoinL i ∧ σ 14 j 0 = 0 ∧ ¬ σ 8 j 0 + sCr i ≤ 99)) := by
  refine xM_of (cc := cX1_insert) (by decide) rfl (fun F hF C => ?_)
  subst hF
  show xX F _ _ _ 0 0 0 [(0, .ref (ad (ro 0 0))), (1, .int b), (2, .int c)] []
  refine x_aload_n C dX1_insert_0 rfl 0 rfl ?_
  refine x_iload_n C dX1_insert_1 rfl 1 rfl ?_
  refine x_callV (rest := []) C (k1_boxAt hI b) cf_X1_84 ⟨rfl, hd_X1_boxAt⟩ ⟨Nat.le_of_ble_eq_true rfl, Nat.le_of_ble_eq_true rfl⟩ (xR_o xci0 rfl (xj_c (by decide) xkC_sr)) rfl (Nat.le_of_ble_eq_true rfl) ⟨Nat.le_of_ble_eq_true rfl, Nat.le_of_ble_eq_true rfl⟩ dX1_insert_2 (fun v ad' ct' q => ?_) (fun E ad' ct' q => ?_)
  rotate_left
  · obtain ⟨rfl, e9, rfl, hx⟩ := q; obtain rfl := e9.symm
    exact x_out C (fun _ h => nomatch h) (Nat.le_of_ble_eq_true rfl) (Nat.le_of_ble_eq_true rfl) ⟨rfl, rfl, Or.inl ⟨rfl, hx⟩⟩
  obtain ⟨e9, rfl, j, hj, rfl, rfl⟩ := q; obtain rfl := e9.symm
  refine x_astore_n (lv' := [(3, .ref (ad (ro 5 j))), (0, .ref (ad (ro 0 0))), (1, .int (nI j)), (2, .int c)]) C dX1_insert_5 rfl (by decide) rfl ?_
  refine x_iload_n C dX1_insert_6 rfl 3 rfl ?_
  refine x_callS (rest := []) C (k5_of (r := ro 57 0) (xj_t (by decide) (by decide) ht) c) cf_X1_92 hd_X5_of ⟨Nat.le_of_ble_eq_true rfl, Nat.le_of_ble_eq_true rfl⟩ rfl (Nat.le_of_ble_eq_true rfl) ⟨Nat.le_of_ble_eq_true rfl, Nat.le_of_ble_eq_true rfl⟩ dX1_insert_7 (fun v ad' ct' q => ?_) (fun E ad' ct' q => ?_)
  rotate_left
  · obtain ⟨rfl, e9, rfl, hx⟩ := q; obtain rfl := e9.symm
    exact x_out C (fun _ h => nomatch h) (Nat.le_of_ble_eq_true rfl) (Nat.le_of_ble_eq_true rfl) ⟨rfl, rfl, Or.inr (Or.inl ⟨rfl, xIx_of (by have := hI.2.2.2.2; omega) hj, hx⟩)⟩
  obtain ⟨e9, rfl, i, hi, rfl, rfl⟩ := q; obtain rfl := e9.symm
  refine x_astore (lv' := [(4, .ref (F.1.2.2.1 (310 + i))), (3, .ref (ad (ro 5 j))), (0, .ref (ad (ro 0 0))), (1, .int (nI j)), (2, .int (xcoinL i))]) C dX1_insert_10 (by decide) rfl ?_
  refine x_aload_n C dX1_insert_12 rfl 1 rfl ?_
  refine x_get C fl_X1_98 (r := ro 5 j) rfl (xj_c (by decide) (xkC_box hj)) (v := .int (σ 14 j 0)) rfl dX1_insert_13 ?_
  refine x_if_ne (tgt := 23) C dX1_insert_16 (by decide) (fun c1 => ?_) (fun c1 => ?_)
  · refine x_iconst (v := 0) C dX1_insert_23 (by decide) ?_
    refine x_callS (rest := []) C (k_requireSupported 0) cf_X1_102 hd_X1_requireSupported ⟨Nat.le_of_ble_eq_true rfl, Nat.le_of_ble_eq_true rfl⟩ rfl (Nat.le_of_ble_eq_true rfl) ⟨Nat.le_of_ble_eq_true rfl, Nat.le_of_ble_eq_true rfl⟩ dX1_insert_24 (fun v ad' ct' q => absurd rfl q.1) (fun E ad' ct' q => ?_)
    obtain ⟨-, rfl, e9, rfl⟩ := q; obtain rfl := e9.symm
    exact x_out C (fun _ h => nomatch h) (Nat.le_of_ble_eq_true rfl) (Nat.le_of_ble_eq_true rfl) ⟨rfl, rfl, Or.inr (Or.inr (Or.inl ⟨rfl, j, hj, i, hi, rfl, rfl, c1⟩))⟩
  · refine x_iconst (v := 1) C dX1_insert_19 (by decide) ?_
    refine x_goto (tgt := 24) C dX1_insert_20 (by decide) ?_
    refine x_callS (rest := []) C (k_requireSupported 1) cf_X1_102 hd_X1_requireSupported ⟨Nat.le_of_ble_eq_true rfl, Nat.le_of_ble_eq_true rfl⟩ rfl (Nat.le_of_ble_eq_true rfl) ⟨Nat.le_of_ble_eq_true rfl, Nat.le_of_ble_eq_true rfl⟩ dX1_insert_24 (fun v ad' ct' q => ?_) (fun E ad' ct' q => absurd q.1 (by decide))
    obtain ⟨-, rfl, e9, rfl⟩ := q; obtain rfl := e9.symm
    refine x_aload_n C dX1_insert_27 rfl 1 rfl ?_
    refine x_get C fl_X1_105 (r := ro 5 j) rfl (xj_c (by decide) (xkC_box hj)) (v := .int (σ 8 j 0)) rfl dX1_insert_28 ?_
    refine x_aload C dX1_insert_31 0 rfl ?_
    refine x_credits C hi (Nat.le_of_ble_eq_true rfl) ⟨Nat.le_of_ble_eq_true rfl, Nat.le_of_ble_eq_true rfl⟩ ⟨Nat.le_of_ble_eq_true rfl, Nat.le_of_ble_eq_true rfl⟩ dX1_insert_33 ?_
    refine x_iadd C dX1_insert_36 ?_
    refine x_bipush (v := 99) C dX1_insert_37 (by decide) ?_
    refine x_icmp_gt (tgt := 46) C dX1_insert_39 (by decide) (fun c2 => ?_) (fun c2 => ?_)
    · refine x_iconst (v := 0) C dX1_insert_46 (by decide) ?_
      refine x_callS (rest := []) C (k_requireState 0) cf_X1_57 hd_X1_requireState ⟨Nat.le_of_ble_eq_true rfl, Nat.le_of_ble_eq_true rfl⟩ rfl (Nat.le_of_ble_eq_true rfl) ⟨Nat.le_of_ble_eq_true rfl, Nat.le_of_ble_eq_true rfl⟩ dX1_insert_47 (fun v ad' ct' q => absurd rfl q.1) (fun E ad' ct' q => ?_)
      obtain ⟨-, rfl, e9, rfl⟩ := q; obtain rfl := e9.symm
      exact x_out C (fun _ h => nomatch h) (Nat.le_of_ble_eq_true rfl) (Nat.le_of_ble_eq_true rfl) ⟨rfl, rfl, Or.inr (Or.inr (Or.inr ⟨rfl, j, hj, i, hi, rfl, rfl, c1, Int32.not_le.mpr c2⟩))⟩
    · refine x_iconst (v := 1) C dX1_insert_42 (by decide) ?_
      refine x_goto (tgt := 47) C dX1_insert_43 (by decide) ?_
      refine x_callS (rest := []) C (k_requireState 1) cf_X1_57 hd_X1_requireState ⟨Nat.le_of_ble_eq_true rfl, Nat.le_of_ble_eq_true rfl⟩ rfl (Nat.le_of_ble_eq_true rfl) ⟨Nat.le_of_ble_eq_true rfl, Nat.le_of_ble_eq_true rfl⟩ dX1_insert_47 (fun v ad' ct' q => ?_) (fun E ad' ct' q => absurd q.1 (by decide))
      obtain ⟨-, rfl, e9, rfl⟩ := q; obtain rfl := e9.symm
      refine x_aload_n C dX1_insert_50 rfl 1 rfl ?_
      refine x_dup C dX1_insert_51 rfl ?_
      refine x_get C fl_X1_105 (r := ro 5 j) rfl (xj_c (by decide) (xkC_box hj)) (v := .int (σ 8 j 0)) rfl dX1_insert_52 ?_
      refine x_aload C dX1_insert_55 0 rfl ?_
      refine x_credits C hi (Nat.le_of_ble_eq_true rfl) ⟨Nat.le_of_ble_eq_true rfl, Nat.le_of_ble_eq_true rfl⟩ ⟨Nat.le_of_ble_eq_true rfl, Nat.le_of_ble_eq_true rfl⟩ dX1_insert_57 ?_
      refine x_iadd C dX1_insert_60 ?_
      refine x_put C fl_X1_105 (r := ro 5 j) rfl (xj_c (by decide) (xkC_box hj)) rfl rfl (Nat.le_of_ble_eq_true rfl) dX1_insert_61 ?_
      refine x_pc (k := 5) (by decide) (pc_box8 hj) ?_
      refine x_aload_n C dX1_insert_64 rfl 1 rfl ?_
      refine x_dup C dX1_insert_65 rfl ?_
      refine x_get C fl_X1_110 (r := ro 5 j) rfl (xj_c (by decide) (xkC_box hj)) (v := .int (σ 9 j 0)) rfl dX1_insert_66 ?_
      refine x_aload C dX1_insert_69 0 rfl ?_
      refine x_coinPN C hi dX1_insert_71 ?_
      refine x_iadd C dX1_insert_74 ?_
      refine x_put C fl_X1_110 (r := ro 5 j) rfl (xj_c (by decide) (xkC_box hj)) rfl rfl (Nat.le_of_ble_eq_true rfl) dX1_insert_75 ?_
      refine x_pc (k := 5) (by decide) (pc_box9 hj) ?_
      refine x_aload_n C dX1_insert_78 rfl 1 rfl ?_
      refine x_get C fl_X1_105 (r := ro 5 j) rfl (xj_c (by decide) (xkC_box hj)) (v := .int ((xup (xup σ 8 j 0 ((σ 8 j 0) + (sCr i))) 9 j 0 ((σ 9 j 0) + (xcoinP i))) 8 j 0)) rfl dX1_insert_79 ?_
      refine x_top (y := (σ 8 j 0) + (sCr i)) (by first | exact xup_s | simp [xup]) ?_
      exact x_iret C dX1_insert_82 (Nat.le_of_ble_eq_true rfl) (Nat.le_of_ble_eq_true rfl) ⟨rfl, j, hj, i, hi, rfl, rfl, c1, Int32.not_lt.mp c2, rfl, rfl⟩
