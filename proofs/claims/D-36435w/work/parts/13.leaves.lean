section XINT
variable {F : xFr} {cc : ByteArray} {nL : Nat} {own : String} {ret : Option FieldType} {rm : Room} {nm : String} {tb : List ExceptionTableEntry} {Q : State → Prop} {ad : Nat → Nat} {ct : xCt} {cells slots pc : Nat} {lv : List (Nat × Value)} {rest : List Value}
theorem x_getHigh (C : xC F cc nL own ret rm nm tb) {idx : Nat} (hl : Cond.fieldLink own idx "java/lang/Integer$IntegerCache" "high" "I" ∈ lw_all) (hdg : decode cc pc = .ok (.getstatic idx, 3))
    (kk : xX F Q ad ct cells slots (pc + 3) lv (.int 127 :: rest)) : xX F Q ad ct cells slots pc lv rest :=
  fun H locs ls w hS h0 => va_gets C.hx C.hb C.S.2.2.2.2.1 hS C.hown (C.hts _ hl) (fun _ h => h) hdg (kk H locs ls w hS h0)
theorem x_getCache (C : xC F cc nL own ret rm nm tb) {idx : Nat} (hl : Cond.fieldLink own idx "java/lang/Integer$IntegerCache" "cache" "[Ljava/lang/Integer;" ∈ lw_all) (hdg : decode cc pc = .ok (.getstatic idx, 3))
    (kk : xX F Q ad ct cells slots (pc + 3) lv (.ref (F.1.2.2.1 300) :: rest)) : xX F Q ad ct cells slots pc lv rest :=
  fun H locs ls w hS h0 => va_gets C.hx C.hb C.S.2.2.2.2.2.1 hS C.hown (C.hts _ hl) (fun _ h => h) hdg (kk H locs ls w hS h0)
theorem x_cacheAt (C : xC F cc nL own ret rm nm tb) (s : Nat) {i : Int32} (hs : s < 256) (hi : i = nI s) (hdg : decode cc pc = .ok (.aaload, 1))
    (kk : xX F Q ad ct cells slots (pc + 1) lv (.ref (F.1.2.2.1 s) :: rest)) : xX F Q ad ct cells slots pc lv (.int i :: .ref (F.1.2.2.1 300) :: rest) := by
  obtain ⟨h1, h2⟩ := xi_in hi hs rfl
  exact fun H locs ls w hS h0 => vb_tq C.hx C.hb (C := "java/lang/Integer") C.S.2.2.2.2.2.2.1 hS h1 (by rw [h2]) hdg (kk H locs ls w hS h0)
theorem x_boxed (C : xC F cc nL own ret rm nm tb) {k idx : Nat} (hk : k < 256) (hl : Cond.fieldLink own idx "java/lang/Integer" "value" "I" ∈ lw_all) {v : Int32} (hv : vb_c k = v) (hdg : decode cc pc = .ok (.getfield idx, 3))
    (kk : xX F Q ad ct cells slots (pc + 3) lv (.int v :: rest)) : xX F Q ad ct cells slots pc lv (.ref (F.1.2.2.1 k) :: rest) := by
  subst hv
  exact fun H locs ls w hS h0 => va_getX (i := k) (v := fun k => .int (vb_c k)) C.hx C.hb C.S.2.2.2.1.2 hk hS C.hown (C.hts _ hl) (fun _ h => h) hdg (kk H locs ls w hS h0)
end XINT
/-! ===== LEAVES: checks, the lists, the discs ===== -/
set_option maxHeartbeats 4000000 in
theorem k_isBetween {G : xG} {ad : Nat → Nat} {ct : xCt} (v lo hi : Int32) : xM G yX1_isBetween (ws_ yX1_isBetween cX1_isBetween 3 (some Jvm.ClassFile.FieldType.boolean)) 1 0 0 0 [.int v, .int lo, .int hi] ad ct (xPv (some (.int (if lo ≤ v ∧ v ≤ hi then 1 else 0))) ad ct) xN := by
  refine xM_of (cc := cX1_isBetween) (by decide) rfl (fun F hF C => ?_)
  subst hF
  show xX F _ _ _ 0 0 0 [(0, .int v), (1, .int lo), (2, .int hi)] []
  refine x_iload_n C dX1_isBetween_0 rfl 0 rfl ?_
  refine x_iload_n C dX1_isBetween_1 rfl 1 rfl ?_
  refine x_icmp_lt (tgt := 14) C dX1_isBetween_2 (by decide) (fun c1 => ?_) (fun c1 => ?_)
  · refine x_iconst (v := 0) C dX1_isBetween_14 (by decide) ?_
    exact x_zret C rfl dX1_isBetween_15 (Nat.le_of_ble_eq_true rfl) (Nat.le_of_ble_eq_true rfl) ⟨by rw [if_neg (fun q => Int32.not_le.mpr c1 q.1)], rfl, rfl⟩
  · refine x_iload_n C dX1_isBetween_5 rfl 0 rfl ?_
    refine x_iload_n C dX1_isBetween_6 rfl 2 rfl ?_
    refine x_icmp_gt (tgt := 14) C dX1_isBetween_7 (by decide) (fun c2 => ?_) (fun c2 => ?_)
    · refine x_iconst (v := 0) C dX1_isBetween_14 (by decide) ?_
      exact x_zret C rfl dX1_isBetween_15 (Nat.le_of_ble_eq_true rfl) (Nat.le_of_ble_eq_true rfl) ⟨by rw [if_neg (fun q => Int32.not_le.mpr c2 q.2)], rfl, rfl⟩
    · refine x_iconst (v := 1) C dX1_isBetween_10 (by decide) ?_
      refine x_goto (tgt := 15) C dX1_isBetween_11 (by decide) ?_
      exact x_zret C rfl dX1_isBetween_15 (Nat.le_of_ble_eq_true rfl) (Nat.le_of_ble_eq_true rfl) ⟨by rw [if_pos ⟨Int32.not_lt.mp c1, Int32.not_lt.mp c2⟩], rfl, rfl⟩
set_option maxHeartbeats 4000000 in
theorem k_require {G : xG} {ad : Nat → Nat} {ct : xCt} (b : Int32) : xM G yX1_require (ws_ yX1_require cX1_require 1 none) 8 90 1 6 [.int b] ad ct (fun v ad' ct' => ¬ b = 0 ∧ v = none ∧ ad' = ad ∧ ct' = ct) (fun E ad' ct' => b = 0 ∧ E = "java/lang/IllegalArgumentException" ∧ ad' = ad ∧ ct' = ct) := by
  refine xM_of (cc := cX1_require) (by decide) rfl (fun F hF C => ?_)
  subst hF
  show xX F _ _ _ 0 0 0 [(0, .int b)] []
  refine x_iload_n C dX1_require_0 rfl 0 rfl ?_
  refine x_if_ne (tgt := 12) C dX1_require_1 (by decide) (fun c1 => ?_) (fun c1 => ?_)
  · exact x_vret C dX1_require_12 (Nat.le_of_ble_eq_true rfl) (Nat.le_of_ble_eq_true rfl) ⟨c1, rfl, rfl, rfl⟩
  · exact x_throw0 C xth_IAE dX1_require_4 dX1_require_7 dX1_require_8 dX1_require_11 (fun _ h => nomatch h) ⟨⟨Nat.le_of_ble_eq_true rfl, Nat.le_of_ble_eq_true rfl⟩, Nat.le_of_ble_eq_true rfl, Nat.le_of_ble_eq_true rfl⟩ (Nat.le_of_ble_eq_true rfl) (Nat.le_of_ble_eq_true rfl) ⟨c1, rfl, rfl, rfl⟩
set_option maxHeartbeats 4000000 in
theorem k_requireIndex {G : xG} {ad : Nat → Nat} {ct : xCt} (b : Int32) : xM G yX1_requireIndex (ws_ yX1_requireIndex cX1_requireIndex 1 none) 8 90 1 6 [.int b] ad ct (fun v ad' ct' => ¬ b = 0 ∧ v = none ∧ ad' = ad ∧ ct' = ct) (fun E ad' ct' => b = 0 ∧ E = "java/lang/IndexOutOfBoundsException" ∧ ad' = ad ∧ ct' = ct) := by
  refine xM_of (cc := cX1_requireIndex) (by decide) rfl (fun F hF C => ?_)
  subst hF
  show xX F _ _ _ 0 0 0 [(0, .int b)] []
  refine x_iload_n C dX1_requireIndex_0 rfl 0 rfl ?_
  refine x_if_ne (tgt := 12) C dX1_requireIndex_1 (by decide) (fun c1 => ?_) (fun c1 => ?_)
  · exact x_vret C dX1_requireIndex_12 (Nat.le_of_ble_eq_true rfl) (Nat.le_of_ble_eq_true rfl) ⟨c1, rfl, rfl, rfl⟩
  · exact x_throw0 C xth_IOB dX1_requireIndex_4 dX1_requireIndex_7 dX1_requireIndex_8 dX1_requireIndex_11 (fun _ h => nomatch h) ⟨⟨Nat.le_of_ble_eq_true rfl, Nat.le_of_ble_eq_true rfl⟩, Nat.le_of_ble_eq_true rfl, Nat.le_of_ble_eq_true rfl⟩ (Nat.le_of_ble_eq_true rfl) (Nat.le_of_ble_eq_true rfl) ⟨c1, rfl, rfl, rfl⟩
set_option maxHeartbeats 4000000 in
theorem k_requireState {G : xG} {ad : Nat → Nat} {ct : xCt} (b : Int32) : xM G yX1_requireState (ws_ yX1_requireState cX1_requireState 1 none) 8 90 1 6 [.int b] ad ct (fun v ad' ct' => ¬ b = 0 ∧ v = none ∧ ad' = ad ∧ ct' = ct) (fun E ad' ct' => b = 0 ∧ E = "java/lang/IllegalStateException" ∧ ad' = ad ∧ ct' = ct) := by
  refine xM_of (cc := cX1_requireState) (by decide) rfl (fun F hF C => ?_)
  subst hF
  show xX F _ _ _ 0 0 0 [(0, .int b)] []
  refine x_iload_n C dX1_requireState_0 rfl 0 rfl ?_
  refine x_if_ne (tgt := 12) C dX1_requireState_1 (by decide) (fun c1 => ?_) (fun c1 => ?_)
  · exact x_vret C dX1_requireState_12 (Nat.le_of_ble_eq_true rfl) (Nat.le_of_ble_eq_true rfl) ⟨c1, rfl, rfl, rfl⟩
  · exact x_throw0 C xth_ISE dX1_requireState_4 dX1_requireState_7 dX1_requireState_8 dX1_requireState_11 (fun _ h => nomatch h) ⟨⟨Nat.le_of_ble_eq_true rfl, Nat.le_of_ble_eq_true rfl⟩, Nat.le_of_ble_eq_true rfl, Nat.le_of_ble_eq_true rfl⟩ (Nat.le_of_ble_eq_true rfl) (Nat.le_of_ble_eq_true rfl) ⟨c1, rfl, rfl, rfl⟩
set_option maxHeartbeats 4000000 in
theorem k_requireThere {G : xG} {ad : Nat → Nat} {ct : xCt} (b : Int32) : xM G yX1_requireThere (ws_ yX1_requireThere cX1_requireThere 1 none) 8 90 1 6 [.int b] ad ct (fun v ad' ct' => ¬ b = 0 ∧ v = none ∧ ad' = ad ∧ ct' = ct) (fun E ad' ct' => b = 0 ∧ E = "java/util/NoSuchElementException" ∧ ad' = ad ∧ ct' = ct) := by
  refine xM_of (cc := cX1_requireThere) (by decide) rfl (fun F hF C => ?_)
  subst hF
  show xX F _ _ _ 0 0 0 [(0, .int b)] []
  refine x_iload_n C dX1_requireThere_0 rfl 0 rfl ?_
  refine x_if_ne (tgt := 12) C dX1_requireThere_1 (by decide) (fun c1 => ?_) (fun c1 => ?_)
  · exact x_vret C dX1_requireThere_12 (Nat.le_of_ble_eq_true rfl) (Nat.le_of_ble_eq_true rfl) ⟨c1, rfl, rfl, rfl⟩
  · exact x_throw0 C xth_NSE dX1_requireThere_4 dX1_requireThere_7 dX1_requireThere_8 dX1_requireThere_11 (fun _ h => nomatch h) ⟨⟨Nat.le_of_ble_eq_true rfl, Nat.le_of_ble_eq_true rfl⟩, Nat.le_of_ble_eq_true rfl, Nat.le_of_ble_eq_true rfl⟩ (Nat.le_of_ble_eq_true rfl) (Nat.le_of_ble_eq_true rfl) ⟨c1, rfl, rfl, rfl⟩
set_option maxHeartbeats 4000000 in
theorem k_requireSupported {G : xG} {ad : Nat → Nat} {ct : xCt} (b : Int32) : xM G yX1_requireSupported (ws_ yX1_requireSupported cX1_requireSupported 1 none) 8 90 1 6 [.int b] ad ct (fun v ad' ct' => ¬ b = 0 ∧ v = none ∧ ad' = ad ∧ ct' = ct) (fun E ad' ct' => b = 0 ∧ E = "java/lang/UnsupportedOperationException" ∧ ad' = ad ∧ ct' = ct) := by
  refine xM_of (cc := cX1_requireSupported) (by decide) rfl (fun F hF C => ?_)
  subst hF
  show xX F _ _ _ 0 0 0 [(0, .int b)] []
  refine x_iload_n C dX1_requireSupported_0 rfl 0 rfl ?_
  refine x_if_ne (tgt := 12) C dX1_requireSupported_1 (by decide) (fun c1 => ?_) (fun c1 => ?_)
  · exact x_vret C dX1_requireSupported_12 (Nat.le_of_ble_eq_true rfl) (Nat.le_of_ble_eq_true rfl) ⟨c1, rfl, rfl, rfl⟩
  · exact x_throw0 C xth_UOE dX1_requireSupported_4 dX1_requireSupported_7 dX1_requireSupported_8 dX1_requireSupported_11 (fun _ h => nomatch h) ⟨⟨Nat.le_of_ble_eq_true rfl, Nat.le_of_ble_eq_true rfl⟩, Nat.le_of_ble_eq_true rfl, Nat.le_of_ble_eq_true rfl⟩ (Nat.le_of_ble_eq_true rfl) (Nat.le_of_ble_eq_true rfl) ⟨c1, rfl, rfl, rfl⟩
set_option maxHeartbeats 4000000 in
theorem k_requireSome {G : xG} {ad : Nat → Nat} {ct : xCt} (b : Int32) : xM G yX1_requireSome (ws_ yX1_requireSome cX1_requireSome 1 none) 8 90 1 6 [.int b] ad ct (fun v ad' ct' => ¬ b = 0 ∧ v = none ∧ ad' = ad ∧ ct' = ct) (fun E ad' ct' => b = 0 ∧ E = "java/lang/ArithmeticException" ∧ ad' = ad ∧ ct' = ct) := by
  refine xM_of (cc := cX1_requireSome) (by decide) rfl (fun F hF C => ?_)
  subst hF
  show xX F _ _ _ 0 0 0 [(0, .int b)] []
  refine x_iload_n C dX1_requireSome_0 rfl 0 rfl ?_
  refine x_if_ne (tgt := 12) C dX1_requireSome_1 (by decide) (fun c1 => ?_) (fun c1 => ?_)
  · exact x_vret C dX1_requireSome_12 (Nat.le_of_ble_eq_true rfl) (Nat.le_of_ble_eq_true rfl) ⟨c1, rfl, rfl, rfl⟩
  · exact x_throw0 C xth_ARE dX1_requireSome_4 dX1_requireSome_7 dX1_requireSome_8 dX1_requireSome_11 (fun _ h => nomatch h) ⟨⟨Nat.le_of_ble_eq_true rfl, Nat.le_of_ble_eq_true rfl⟩, Nat.le_of_ble_eq_true rfl, Nat.le_of_ble_eq_true rfl⟩ (Nat.le_of_ble_eq_true rfl) (Nat.le_of_ble_eq_true rfl) ⟨c1, rfl, rfl, rfl⟩
set_option maxHeartbeats 4000000 in
theorem k_checkIndex3 {G : xG} {ad : Nat → Nat} {ct : xCt} {k n : Nat} (hk : k < n) (hn : n < 2147483648) : xM G yJ15_checkIndex (ws_ yJ15_checkIndex cJ15_checkIndex 3 (some Jvm.ClassFile.FieldType.int)) 1 0 0 0 [.int (nI k), .int (nI n), .null] ad ct (xPv (some (.int (nI k))) ad ct) xN := by
  refine xM_of (cc := cJ15_checkIndex) (by decide) rfl (fun F hF C => ?_)
  subst hF
  show xX F _ _ _ 0 0 0 [(0, .int (nI k)), (1, .int (nI n)), (2, .null)] []
  refine x_iload_n C dJ15_checkIndex_0 rfl 0 rfl ?_
  refine x_if_lt (tgt := 9) C dJ15_checkIndex_1 (by decide) (fun h => absurd h (nI_pos (by omega))) (fun _ => ?_)
  refine x_iload_n C dJ15_checkIndex_4 rfl 0 rfl ?_
  refine x_iload_n C dJ15_checkIndex_5 rfl 1 rfl ?_
  refine x_icmp_lt (tgt := 16) C dJ15_checkIndex_6 (by decide) (fun _ => ?_) (fun h => absurd (nI_lt hk (by omega)) h)
  refine x_iload_n C dJ15_checkIndex_16 rfl 0 rfl ?_
  exact x_iret C dJ15_checkIndex_17 (Nat.le_of_ble_eq_true rfl) (Nat.le_of_ble_eq_true rfl) ⟨rfl, rfl, rfl⟩
set_option maxHeartbeats 4000000 in
theorem k_checkIndex {G : xG} {ad : Nat → Nat} {ct : xCt} {k n : Nat} (hk : k < n) (hn : n < 2147483648) : xM G yJ14_checkIndex (ws_ yJ14_checkIndex cJ14_checkIndex 2 (some Jvm.ClassFile.FieldType.int)) 3 40 0 0 [.int (nI k), .int (nI n)] ad ct (xPv (some (.int (nI k))) ad ct) xN := by
  refine xM_of (cc := cJ14_checkIndex) (by decide) rfl (fun F hF C => ?_)
  subst hF
  show xX F _ _ _ 0 0 0 [(0, .int (nI k)), (1, .int (nI n))] []
  refine x_iload_n C dJ14_checkIndex_0 rfl 0 rfl ?_
  refine x_iload_n C dJ14_checkIndex_1 rfl 1 rfl ?_
  refine x_null C dJ14_checkIndex_2 ?_
  refine x_callS (rest := []) C (k_checkIndex3 hk hn) cf_J14_105 hd_J15_checkIndex ⟨Nat.le_of_ble_eq_true rfl, Nat.le_of_ble_eq_true rfl⟩ rfl (Nat.le_of_ble_eq_true rfl) ⟨Nat.le_of_ble_eq_true rfl, Nat.le_of_ble_eq_true rfl⟩ dJ14_checkIndex_3 (xPv_i ?_) xN_e
  exact x_iret C dJ14_checkIndex_6 (Nat.le_of_ble_eq_true rfl) (Nat.le_of_ble_eq_true rfl) ⟨rfl, rfl, rfl⟩
set_option maxHeartbeats 4000000 in
theorem k_size {G : xG} {ad : Nat → Nat} {ct : xCt} {rL aA n : Nat} {md : Int32} (hL : ct rL = some (.inr (1, [.int md, .ref aA, .int (nI n)]))) : xM G yJ2_size (ws_ yJ2_size cJ2_size 1 (some Jvm.ClassFile.FieldType.int)) 1 0 0 0 [.ref (ad rL)] ad ct (xPv (some (.int (nI n))) ad ct) xN := by
  refine xM_of (cc := cJ2_size) (by decide) rfl (fun F hF C => ?_)
  subst hF
  show xX F _ _ _ 0 0 0 [(0, .ref (ad rL))] []
  refine x_aload_n C dJ2_size_0 rfl 0 rfl ?_
  refine x_get C fl_J2_48 (r := rL) rfl hL (v := .int (nI n)) rfl dJ2_size_1 ?_
  exact x_iret C dJ2_size_4 (Nat.le_of_ble_eq_true rfl) (Nat.le_of_ble_eq_true rfl) ⟨rfl, rfl, rfl⟩
set_option maxHeartbeats 4000000 in
theorem k_isEmpty {G : xG} {ad : Nat → Nat} {ct : xCt} {rL aA n : Nat} {md : Int32} (hL : ct rL = some (.inr (1, [.int md, .ref aA, .int (nI n)]))) (hn : n < 2147483648) : xM G yJ2_isEmpty (ws_ yJ2_isEmpty cJ2_isEmpty 1 (some Jvm.ClassFile.FieldType.boolean)) 1 0 0 0 [.ref (ad rL)] ad ct (xPv (some (.int (if n = 0 then 1 else 0))) ad ct) xN := by
  refine xM_of (cc := cJ2_isEmpty) (by decide) rfl (fun F hF C => ?_)
  subst hF
  show xX F _ _ _ 0 0 0 [(0, .ref (ad rL))] []
  refine x_aload_n C dJ2_isEmpty_0 rfl 0 rfl ?_
  refine x_get C fl_J2_48 (r := rL) rfl hL (v := .int (nI n)) rfl dJ2_isEmpty_1 ?_
  refine x_if_ne (tgt := 11) C dJ2_isEmpty_4 (by decide) (fun c1 => ?_) (fun c1 => ?_)
  · refine x_iconst (v := 0) C dJ2_isEmpty_11 (by decide) ?_
    exact x_zret C rfl dJ2_isEmpty_12 (Nat.le_of_ble_eq_true rfl) (Nat.le_of_ble_eq_true rfl) ⟨by rw [if_neg (fun q => c1 (by rw [q]; rfl))], rfl, rfl⟩
  · refine x_iconst (v := 1) C dJ2_isEmpty_7 (by decide) ?_
    refine x_goto (tgt := 12) C dJ2_isEmpty_8 (by decide) ?_
    exact x_zret C rfl dJ2_isEmpty_12 (Nat.le_of_ble_eq_true rfl) (Nat.le_of_ble_eq_true rfl) ⟨by rw [if_pos (Nat.eq_zero_of_not_pos (fun q => nI_ne0 q (by omega) c1))], rfl, rfl⟩
set_option maxHeartbeats 4000000 in
theorem k_elementData {G : xG} {ad : Nat → Nat} {ct : xCt} {rL aA n : Nat} {md : Int32} (hL : ct rL = some (.inr (1, [.int md, .ref aA, .int (nI n)]))) {rA cap : Nat} {f : Nat → Option Nat} (hA : ct rA = some (.inl (G.2.2.1 1004, cap, .inr (.inr (.inr (.inr f)))))) (ha : ad rA = aA) (hc : Nat.ble cap 2147483647 = true) {k b : Nat} (hk : k < cap) (hb : f k = some b) : xM G yJ2_elementData (ws_ yJ2_elementData cJ2_elementData 2 (some (Jvm.ClassFile.FieldType.object "java/lang/Object"))) 1 0 0 0 [.ref (ad rL), .int (nI k)] ad ct (xPv (some (.ref b)) ad ct) xN := by
  refine xM_of (cc := cJ2_elementData) (by decide) rfl (fun F hF C => ?_)
  subst hF
  show xX F _ _ _ 0 0 0 [(0, .ref (ad rL)), (1, .int (nI k))] []
  refine x_aload_n C dJ2_elementData_0 rfl 0 rfl ?_
  refine x_get C fl_J2_9 (r := rL) rfl hL (v := .ref aA) rfl dJ2_elementData_1 ?_
  refine x_iload_n C dJ2_elementData_4 rfl 1 rfl ?_
  refine xi_aldR C k ha hA rfl hk hc hb dJ2_elementData_5 ?_
  exact x_aret C (Or.inl ⟨_, rfl⟩) (Or.inr ⟨_, rfl⟩) dJ2_elementData_6 (Nat.le_of_ble_eq_true rfl) (Nat.le_of_ble_eq_true rfl) ⟨rfl, rfl, rfl⟩
set_option maxHeartbeats 4000000 in
theorem k_get {G : xG} {ad : Nat → Nat} {ct : xCt} {rL aA n : Nat} {md : Int32} (hL : ct rL = some (.inr (1, [.int md, .ref aA, .int (nI n)]))) {rA cap : Nat} {f : Nat → Option Nat} (hA : ct rA = some (.inl (G.2.2.1 1004, cap, .inr (.inr (.inr (.inr f)))))) (ha : ad rA = aA) (hc : Nat.ble cap 2147483647 = true) {k b : Nat} (hk : k < n) (hn : n ≤ cap) (hb : f k = some b) : xM G yJ2_get (ws_ yJ2_get cJ2_get 2 (some (Jvm.ClassFile.FieldType.object "java/lang/Object"))) 5 100 0 0 [.ref (ad rL), .int (nI k)] ad ct (xPv (some (.ref b)) ad ct) xN := by
  refine xM_of (cc := cJ2_get) (by decide) rfl (fun F hF C => ?_)
  subst hF
  show xX F _ _ _ 0 0 0 [(0, .ref (ad rL)), (1, .int (nI k))] []
  refine x_iload_n C dJ2_get_0 rfl 1 rfl ?_
  refine x_aload_n C dJ2_get_1 rfl 0 rfl ?_
  refine x_get C fl_J2_48 (r := rL) rfl hL (v := .int (nI n)) rfl dJ2_get_2 ?_
  refine x_callS (rest := []) C (k_checkIndex hk (by have := Nat.le_of_ble_eq_true hc; omega)) cf_J2_118 hd_J14_checkIndex ⟨Nat.le_of_ble_eq_true rfl, Nat.le_of_ble_eq_true rfl⟩ rfl (Nat.le_of_ble_eq_true rfl) ⟨Nat.le_of_ble_eq_true rfl, Nat.le_of_ble_eq_true rfl⟩ dJ2_get_5 (xPv_i ?_) xN_e
  refine x_pop C dJ2_get_8 rfl ?_
  refine x_aload_n C dJ2_get_9 rfl 0 rfl ?_
  refine x_iload_n C dJ2_get_10 rfl 1 rfl ?_
  refine x_callV (rest := []) C (k_elementData hL hA ha hc (by omega) hb) cf_J2_123 ⟨rfl, hd_J2_elementData⟩ ⟨Nat.le_of_ble_eq_true rfl, Nat.le_of_ble_eq_true rfl⟩ (xR_o xci1 rfl hL) rfl (Nat.le_of_ble_eq_true rfl) ⟨Nat.le_of_ble_eq_true rfl, Nat.le_of_ble_eq_true rfl⟩ dJ2_get_11 (xPv_i ?_) xN_e
  exact x_aret C (Or.inl ⟨_, rfl⟩) (Or.inr ⟨_, rfl⟩) dJ2_get_14 (Nat.le_of_ble_eq_true rfl) (Nat.le_of_ble_eq_true rfl) ⟨rfl, rfl, rfl⟩
set_option maxHeartbeats 4000000 in
theorem k_valueOf {G : xG} {ad : Nat → Nat} {ct : xCt} {k : Nat} (hk : k < 128) : xM G yJ18_valueOf (ws_ yJ18_valueOf cJ18_valueOf 1 (some (Jvm.ClassFile.FieldType.object "java/lang/Integer"))) 1 0 0 0 [.int (nI k)] ad ct (xPv (some (.ref (G.2.2.1 (128 + k)))) ad ct) xN := by
  refine xM_of (cc := cJ18_valueOf) (by decide) rfl (fun F hF C => ?_)
  subst hF
  show xX F _ _ _ 0 0 0 [(0, .int (nI k))] []
  refine x_iload_n C dJ18_valueOf_0 rfl 0 rfl ?_
  refine x_bipush (v := -128) C dJ18_valueOf_1 (by decide) ?_
  refine x_icmp_lt (tgt := 23) C dJ18_valueOf_3 (by decide) (fun h => absurd h (by rw [Int32.lt_iff_toInt_lt, nI_toInt (by omega)]; show ¬ _ < (-128 : Int); omega)) (fun _ => ?_)
  refine x_iload_n C dJ18_valueOf_6 rfl 0 rfl ?_
  refine x_getHigh C q294 dJ18_valueOf_7 ?_
  refine x_icmp_gt (tgt := 23) C dJ18_valueOf_10 (by decide) (fun h => absurd h (by rw [Int32.lt_iff_toInt_lt, nI_toInt (by omega)]; show ¬ (127 : Int) < _; omega)) (fun _ => ?_)
  refine x_getCache C q296 dJ18_valueOf_13 ?_
  refine x_iload_n C dJ18_valueOf_16 rfl 0 rfl ?_
  refine x_sipush (v := 128) C dJ18_valueOf_17 (by decide) ?_
  refine x_iadd C dJ18_valueOf_20 ?_
  refine x_cacheAt C (128 + k) (by omega) (by rw [show (128 : Int32) = nI 128 from rfl, nI_add, Nat.add_comm]) dJ18_valueOf_21 ?_
  exact x_aret C (Or.inl ⟨_, rfl⟩) (Or.inr ⟨_, rfl⟩) dJ18_valueOf_22 (Nat.le_of_ble_eq_true rfl) (Nat.le_of_ble_eq_true rfl) ⟨rfl, rfl, rfl⟩
set_option maxHeartbeats 4000000 in
theorem k_intValue {G : xG} {ad : Nat → Nat} {ct : xCt} {k : Nat} (hk : k < 128) : xM G yJ18_intValue (ws_ yJ18_intValue cJ18_intValue 1 (some Jvm.ClassFile.FieldType.int)) 1 0 0 0 [.ref (G.2.2.1 (128 + k))] ad ct (xPv (some (.int (nI k))) ad ct) xN := by
  refine xM_of (cc := cJ18_intValue) (by decide) rfl (fun F hF C => ?_)
  subst hF
  show xX F _ _ _ 0 0 0 [(0, .ref (F.1.2.2.1 (128 + k)))] []
  refine x_aload_n C dJ18_intValue_0 rfl 0 rfl ?_
  refine x_boxed C (k := 128 + k) (by omega) q307 (v := nI k) (by unfold vb_c; show nI (128 + k) - nI 128 = _; rw [pk_sub (by omega), Nat.add_sub_cancel_left]) dJ18_intValue_1 ?_
  exact x_iret C dJ18_intValue_4 (Nat.le_of_ble_eq_true rfl) (Nat.le_of_ble_eq_true rfl) ⟨rfl, rfl, rfl⟩
set_option maxHeartbeats 4000000 in
theorem k_isWornOut {G : xG} {ad : Nat → Nat} {ct : xCt} {rD : Nat} {x0 x1 x2 x3 x4 : Int32} (hD : ct rD = some (.inr (2, [.int x0, .int x1, .int x2, .int x3, .int x4]))) : xM G yX3_isWornOut (ws_ yX3_isWornOut cX3_isWornOut 1 (some Jvm.ClassFile.FieldType.boolean)) 1 0 0 0 [.ref (ad rD)] ad ct (xPv (some (.int (if x3 < 60 then 0 else 1))) ad ct) xN := by
  refine xM_of (cc := cX3_isWornOut) (by decide) rfl (fun F hF C => ?_)
  subst hF
  show xX F _ _ _ 0 0 0 [(0, .ref (ad rD))] []
  refine x_aload_n C dX3_isWornOut_0 rfl 0 rfl ?_
  refine x_get C fl_X3_30 (r := rD) rfl hD (v := .int x3) rfl dX3_isWornOut_1 ?_
  refine x_bipush (v := 60) C dX3_isWornOut_4 (by decide) ?_
  refine x_icmp_lt (tgt := 13) C dX3_isWornOut_6 (by decide) (fun c1 => ?_) (fun c1 => ?_)
  · refine x_iconst (v := 0) C dX3_isWornOut_13 (by decide) ?_
    exact x_zret C rfl dX3_isWornOut_14 (Nat.le_of_ble_eq_true rfl) (Nat.le_of_ble_eq_true rfl) ⟨by rw [if_pos c1], rfl, rfl⟩
  · refine x_iconst (v := 1) C dX3_isWornOut_9 (by decide) ?_
    refine x_goto (tgt := 14) C dX3_isWornOut_10 (by decide) ?_
    exact x_zret C rfl dX3_isWornOut_14 (Nat.le_of_ble_eq_true rfl) (Nat.le_of_ble_eq_true rfl) ⟨by rw [if_neg c1], rfl, rfl⟩
/-- a disc's pull: its song, strength, week, wear, place; the week now, the taste -/
def sPull (x0 x1 x2 x3 x4 now taste : Int32) : Int32 := if x4 = -2 ∨ now < x2 then 0 else
  let a := if x1 / 5 < x1 - 2 * (now - x2) then x1 - 2 * (now - x2) else x1 / 5
  let b := a + (if x0 - x0 / 10 * 10 = taste then a / 2 else 0)
  if 0 < b - x3 / 10 then b - x3 / 10 else 0
set_option maxHeartbeats 4000000 in
theorem k_dpull {G : xG} {ad : Nat → Nat} {ct : xCt} {rD : Nat} {x0 x1 x2 x3 x4 : Int32} (hD : ct rD = some (.inr (2, [.int x0, .int x1, .int x2, .int x3, .int x4]))) (now taste : Int32) : xM G yX3_pull (ws_ yX3_pull cX3_pull 4 (some Jvm.ClassFile.FieldType.int)) 2 40 0 0 [.ref (ad rD), .int now, .int taste] ad ct (xPv (some (.int (sPull x0 x1 x2 x3 x4 now taste))) ad ct) xN := by
  refine xM_of (cc := cX3_pull) (by decide) rfl (fun F hF C => ?_)
  subst hF
  show xX F _ _ _ 0 0 0 [(0, .ref (ad rD)), (1, .int now), (2, .int taste)] []
  refine x_aload_n C dX3_pull_0 rfl 0 rfl ?_
  refine x_get C fl_X3_9 (r := rD) rfl hD (v := .int x4) rfl dX3_pull_1 ?_
  refine x_bipush (v := -2) C dX3_pull_4 (by decide) ?_
  refine x_icmp_eq (tgt := 17) C dX3_pull_6 (by decide) (fun c1 => ?_) (fun c1 => ?_)
  · refine x_iconst (v := 0) C dX3_pull_17 (by decide) ?_
    exact x_iret C dX3_pull_18 (Nat.le_of_ble_eq_true rfl) (Nat.le_of_ble_eq_true rfl) ⟨by unfold sPull; rw [if_pos (Or.inl c1)], rfl, rfl⟩
  · refine x_iload_n C dX3_pull_9 rfl 1 rfl ?_
    refine x_aload_n C dX3_pull_10 rfl 0 rfl ?_
    refine x_get C fl_X3_21 (r := rD) rfl hD (v := .int x2) rfl dX3_pull_11 ?_
    refine x_icmp_ge (tgt := 19) C dX3_pull_14 (by decide) (fun c2 => ?_) (fun c2 => ?_)
    · refine x_aload_n C dX3_pull_19 rfl 0 rfl ?_
      refine x_get C fl_X3_18 (r := rD) rfl hD (v := .int x1) rfl dX3_pull_20 ?_
      refine x_iconst (v := 5) C dX3_pull_23 (by decide) ?_
      refine x_idiv C dX3_pull_24 (by decide) ?_
      refine x_aload_n C dX3_pull_25 rfl 0 rfl ?_
      refine x_get C fl_X3_18 (r := rD) rfl hD (v := .int x1) rfl dX3_pull_26 ?_
      refine x_iconst (v := 2) C dX3_pull_29 (by decide) ?_
      refine x_iload_n C dX3_pull_30 rfl 1 rfl ?_
      refine x_aload_n C dX3_pull_31 rfl 0 rfl ?_
      refine x_get C fl_X3_21 (r := rD) rfl hD (v := .int x2) rfl dX3_pull_32 ?_
      refine x_isub C dX3_pull_35 ?_
      refine x_imul C dX3_pull_36 ?_
      refine x_isub C dX3_pull_37 ?_
      refine x_mmax C q288 q289 q36 cfM_max ⟨⟨Nat.le_of_ble_eq_true rfl, Nat.le_of_ble_eq_true rfl⟩, Nat.le_of_ble_eq_true rfl, Nat.le_of_ble_eq_true rfl⟩ dX3_pull_38 ?_
      refine x_istore_n (lv' := [(3, .int (if x1 / 5 < x1 - (2 * (now - x2)) then x1 - (2 * (now - x2)) else x1 / 5)), (0, .ref (ad rD)), (1, .int now), (2, .int taste)]) C dX3_pull_41 rfl (by decide) rfl ?_
      refine x_iload_n C dX3_pull_42 rfl 0 rfl ?_
      refine x_aload_n C dX3_pull_43 rfl 1 rfl ?_
      refine x_get C fl_X3_15 (r := rD) rfl hD (v := .int x0) rfl dX3_pull_44 ?_
      refine x_bipush (v := 10) C dX3_pull_47 (by decide) ?_
      refine x_irem C dX3_pull_49 (by decide) ?_
      refine x_iload_n C dX3_pull_50 rfl 3 rfl ?_
      refine x_icmp_ne (tgt := 60) C dX3_pull_51 (by decide) (fun c3 => ?_) (fun c3 => ?_)
      · refine x_iconst (v := 0) C dX3_pull_60 (by decide) ?_
        refine x_iadd C dX3_pull_61 ?_
        refine x_istore_n (lv' := [(3, .int ((if x1 / 5 < x1 - (2 * (now - x2)) then x1 - (2 * (now - x2)) else x1 / 5) + 0)), (0, .ref (ad rD)), (1, .int now), (2, .int taste)]) C dX3_pull_62 rfl (by decide) rfl ?_
        refine x_iconst (v := 0) C dX3_pull_63 (by decide) ?_
        refine x_iload_n C dX3_pull_64 rfl 0 rfl ?_
        refine x_aload_n C dX3_pull_65 rfl 1 rfl ?_
        refine x_get C fl_X3_30 (r := rD) rfl hD (v := .int x3) rfl dX3_pull_66 ?_
        refine x_bipush (v := 10) C dX3_pull_69 (by decide) ?_
        refine x_idiv C dX3_pull_71 (by decide) ?_
        refine x_isub C dX3_pull_72 ?_
        refine x_mmax C q288 q289 q36 cfM_max ⟨⟨Nat.le_of_ble_eq_true rfl, Nat.le_of_ble_eq_true rfl⟩, Nat.le_of_ble_eq_true rfl, Nat.le_of_ble_eq_true rfl⟩ dX3_pull_73 ?_
        exact x_iret C dX3_pull_76 (Nat.le_of_ble_eq_true rfl) (Nat.le_of_ble_eq_true rfl) ⟨by unfold sPull; rw [if_neg (show ¬ (x4 = -2 ∨ now < x2) from fun q => q.elim c1 (Int32.not_lt.mpr c2))]; simp only [if_neg c3], rfl, rfl⟩
      · refine x_iload_n C dX3_pull_54 rfl 0 rfl ?_
        refine x_iconst (v := 2) C dX3_pull_55 (by decide) ?_
        refine x_idiv C dX3_pull_56 (by decide) ?_
        refine x_goto (tgt := 61) C dX3_pull_57 (by decide) ?_
        refine x_iadd C dX3_pull_61 ?_
        refine x_istore_n (lv' := [(3, .int ((if x1 / 5 < x1 - (2 * (now - x2)) then x1 - (2 * (now - x2)) else x1 / 5) + ((if x1 / 5 < x1 - (2 * (now - x2)) then x1 - (2 * (now - x2)) else x1 / 5) / 2))), (0, .ref (ad rD)), (1, .int now), (2, .int taste)]) C dX3_pull_62 rfl (by decide) rfl ?_
        refine x_iconst (v := 0) C dX3_pull_63 (by decide) ?_
        refine x_iload_n C dX3_pull_64 rfl 0 rfl ?_
        refine x_aload_n C dX3_pull_65 rfl 1 rfl ?_
        refine x_get C fl_X3_30 (r := rD) rfl hD (v := .int x3) rfl dX3_pull_66 ?_
        refine x_bipush (v := 10) C dX3_pull_69 (by decide) ?_
        refine x_idiv C dX3_pull_71 (by decide) ?_
        refine x_isub C dX3_pull_72 ?_
        refine x_mmax C q288 q289 q36 cfM_max ⟨⟨Nat.le_of_ble_eq_true rfl, Nat.le_of_ble_eq_true rfl⟩, Nat.le_of_ble_eq_true rfl, Nat.le_of_ble_eq_true rfl⟩ dX3_pull_73 ?_
        exact x_iret C dX3_pull_76 (Nat.le_of_ble_eq_true rfl) (Nat.le_of_ble_eq_true rfl) ⟨by unfold sPull; rw [if_neg (show ¬ (x4 = -2 ∨ now < x2) from fun q => q.elim c1 (Int32.not_lt.mpr c2))]; simp only [if_pos c3], rfl, rfl⟩
    · refine x_iconst (v := 0) C dX3_pull_17 (by decide) ?_
      exact x_iret C dX3_pull_18 (Nat.le_of_ble_eq_true rfl) (Nat.le_of_ble_eq_true rfl) ⟨by unfold sPull; rw [if_pos (Or.inr (Int32.not_le.mp c2))], rfl, rfl⟩
