/-! ===== THE QUEUES: play ===== -/
theorem xl_rem {x m : Int64} {M : Int} (hx : 0 ≤ x.toInt) (hm : m.toInt = M) (hM : 0 < M) : (x - x / m * m).toInt = x.toInt % M := by
  have hlt : x.toInt < 9223372036854775808 := Int64.toInt_lt x
  have hne : m ≠ -1 := fun e => by
    rw [e] at hm
    have : (-1 : Int) = M := hm
    omega
  have h0 : (x / m).toInt = x.toInt / M := by rw [Int64.toInt_div_of_ne_right _ _ hne, hm, Int.tdiv_eq_ediv_of_nonneg hx]
  have h1 : x.toInt / M * M ≤ x.toInt := Int.ediv_mul_le _ (by omega)
  have h2 : 0 ≤ x.toInt / M * M := Int.mul_nonneg (Int.ediv_nonneg hx (by omega)) (by omega)
  have h3 : (x / m * m).toInt = x.toInt / M * M := by
    rw [Int64.toInt_mul, h0, hm]
    exact Int.bmod_eq_of_le (by omega) (by omega)
  rw [Int64.toInt_sub, h3, Int.emod_def, Int.mul_comm M]
  exact Int.bmod_eq_of_le (by omega) (by omega)
theorem xi_rem {x m : Int32} {M : Int} (hx : 0 ≤ x.toInt) (hm : m.toInt = M) (hM : 0 < M) : (x - x / m * m).toInt = x.toInt % M := by
  have hlt : x.toInt < 2147483648 := Int32.toInt_lt x
  have hne : m ≠ -1 := fun e => by
    rw [e] at hm
    have : (-1 : Int) = M := hm
    omega
  have h0 : (x / m).toInt = x.toInt / M := by rw [Int32.toInt_div_of_ne_right _ _ hne, hm, Int.tdiv_eq_ediv_of_nonneg hx]
  have h1 : x.toInt / M * M ≤ x.toInt := Int.ediv_mul_le _ (by omega)
  have h2 : 0 ≤ x.toInt / M * M := Int.mul_nonneg (Int.ediv_nonneg hx (by omega)) (by omega)
  have h3 : (x / m * m).toInt = x.toInt / M * M := by
    rw [Int32.toInt_mul, h0, hm]
    exact Int.bmod_eq_of_le (by omega) (by omega)
  rw [Int32.toInt_sub, h3, Int.emod_def, Int.mul_comm M]
  exact Int.bmod_eq_of_le (by omega) (by omega)
theorem x_topl {F : xFr} {Q : State → Prop} {ad : Nat → Nat} {ct : xCt} {cells slots pc : Nat} {lv : List (Nat × Value)} {rest : List Value} {x y : Int64} (e : x = y) (k : xX F Q ad ct cells slots pc lv (.long y :: rest)) : xX F Q ad ct cells slots pc lv (.long x :: rest) := e ▸ k
/-- the next number of the seed -/
def sZn (z : Int32) : Int32 := (z.toInt64 * 48271 - z.toInt64 * 48271 / 2147483647 * 2147483647).toInt32
theorem sZn_ok {z : Int32} (hz : 0 ≤ z) : (sZn z).toInt64 = z.toInt64 * 48271 - z.toInt64 * 48271 / 2147483647 * 2147483647 ∧ 0 ≤ sZn z := by
  have h0 : (0 : Int) ≤ z.toInt := by rw [Int32.le_iff_toInt_le] at hz; exact hz
  have h1 : z.toInt < 2147483648 := Int32.toInt_lt z
  have h2 : (z.toInt64 * 48271).toInt = z.toInt * 48271 := by
    rw [Int64.toInt_mul, Int32.toInt_toInt64, show (48271 : Int64).toInt = 48271 from rfl]
    exact Int.bmod_eq_of_le (by omega) (by omega)
  have h3 := xl_rem (x := z.toInt64 * 48271) (m := 2147483647) (M := 2147483647) (by rw [h2]; omega) rfl (by decide)
  have h4 : (sZn z).toInt = (z.toInt * 48271) % 2147483647 := by
    unfold sZn
    rw [Int64.toInt_toInt32, h3, h2]
    exact Int.bmod_eq_of_le (by omega) (by omega)
  refine ⟨?_, ?_⟩
  · apply Int64.toInt_inj.mp
    rw [Int32.toInt_toInt64, h4, h3, h2]
  · rw [Int32.le_iff_toInt_le, h4]; show (0 : Int) ≤ _; omega
/-- the box jams at this number of the seed -/
abbrev sJam (z ri : Int32) : Prop := z - z / 100 * 100 < ri
theorem sJam_l {z ri : Int32} (hz : 0 ≤ z) : z.toInt64 - z.toInt64 / 100 * 100 < ri.toInt64 ↔ sJam z ri := by
  have h0 : (0 : Int) ≤ z.toInt := by rw [Int32.le_iff_toInt_le] at hz; exact hz
  rw [Int64.lt_iff_toInt_lt, xl_rem (M := 100) (by rw [Int32.toInt_toInt64]; exact h0) rfl (by decide), Int32.toInt_toInt64, Int32.toInt_toInt64]
  unfold sJam
  rw [Int32.lt_iff_toInt_lt, xi_rem (M := 100) h0 rfl (by decide)]
/-- the queue without its first -/
def sR (σ : xSg) (j : Nat) : xSg := fun f i k => if f = 20 ∧ i = j then σ 20 j (k + 1) else if f = 28 ∧ i = j ∧ k = 0 then σ 28 j 0 + 1 else σ f i k
theorem sR_n {σ : xSg} {j f i k : Nat} (h : ¬ (i = j ∧ (f = 20 ∨ f = 28))) : sR σ j f i k = σ f i k := by unfold sR; rw [if_neg (by omega), if_neg (by omega)]
theorem sR_28 {σ : xSg} {j : Nat} : sR σ j 28 j 0 = σ 28 j 0 + 1 := by unfold sR; rw [if_neg (by omega), if_pos ⟨rfl, rfl, rfl⟩]
theorem sR_20 {σ : xSg} {j k : Nat} : sR σ j 20 j k = σ 20 j (k + 1) := by unfold sR; rw [if_pos ⟨rfl, rfl⟩]
abbrev kR (κ : xKp) (j : Nat) : xKp := kup κ (10 + j) (κ (10 + j) - 1)
theorem kR_1 {κ : xKp} {j : Nat} : kR κ j 1 = κ 1 := kup_n (by omega)
theorem kR_I {κ : xKp} {j : Nat} (h : xIk κ) : xIk (kR κ j) := by
  have e : ∀ f, f < 4 → kR κ j f = κ f := fun f hf => kup_n (by omega)
  unfold xIk
  rw [e 0 (by decide), e 1 (by decide), e 2 (by decide), e 3 (by decide)]
  exact h
theorem pc_qrem {g ad : Nat → Nat} {κ : xKp} {σ : xSg} {m t : xK} (hI : xIk κ) {j : Nat} (hj : j < κ 1) (hc : κ (20 + j) ≠ 0) (hn : 0 < κ (10 + j)) :
    xu (xu (xj (xkC g ad κ σ) m t) (ro 10 j) (.inl (g 1004, κ (20 + j), .inr (.inr (.inr (.inr (xcont (fun k => if k < 0 then g (128 + (σ 20 j k).toNatClampNeg) else g (128 + (σ 20 j (k + 1)).toNatClampNeg)) (κ (10 + j) - 1)))))))) (ro 9 j) (xAl (σ 28 j 0 + 1) (ad (ro 10 j)) (κ (10 + j) - 1))
      = xj (xkC g ad (kR κ j) (sR σ j)) m t := by
  rw [xj_uc (by decide), xj_uc (by decide)]
  have h4 : κ 1 ≤ 4 := hI.2.2.2.2.2
  refine xj_eq (fun k i hk => ?_) (fun _ _ _ _ => rfl) (fun _ _ _ _ => rfl)
  have hk0 : ∀ f, f < 10 → kR κ j f = κ f := fun f hf => kup_n (by omega)
  have hk1 : kR κ j (10 + j) = κ (10 + j) - 1 := kup_s
  have hk2 : kR κ j (20 + j) = κ (20 + j) := kup_n (by omega)
  have hk3 : ∀ i, i < κ 1 → i ≠ j → kR κ j (10 + i) = κ (10 + i) := fun i h1 h2 => kup_n (by omega)
  have hk4 : ∀ i, i < κ 1 → kR κ j (20 + i) = κ (20 + i) := fun i h1 => kup_n (by omega)
  have hs0 : ∀ f i' j', f ≠ 20 → f ≠ 28 → sR σ j f i' j' = σ f i' j' := fun f i' j' h1 h2 => sR_n (by omega)
  have hs1 : ∀ f i' j', i' ≠ j → sR σ j f i' j' = σ f i' j' := fun f i' j' h1 => sR_n (by omega)
  unfold cu
  by_cases h9 : k = 9 ∧ i = j
  · obtain ⟨rfl, rfl⟩ := h9
    rw [if_pos ⟨rfl, rfl⟩, xkC_q (by rw [hk0 1 (by decide)]; exact hj), hk1, hk2, xL_ne hc, sR_28]
  · rw [if_neg h9]
    by_cases h10 : k = 10 ∧ i = j
    · obtain ⟨rfl, rfl⟩ := h10
      rw [if_pos ⟨rfl, rfl⟩, xkC_qa (by rw [hk0 1 (by decide)]; exact hj) (by rw [hk2]; exact hc), hk1, hk2]
      refine congrArg (fun z => some (Sum.inl (g 1004, κ (20 + i), Sum.inr (Sum.inr (Sum.inr (Sum.inr z)))))) ?_
      funext k
      unfold xcont
      by_cases hk9 : k < κ (10 + i) - 1
      · rw [if_pos hk9, if_pos hk9, sR_20]
        show some (if k < 0 then _ else _) = _
        rw [if_neg (by omega)]
      · rw [if_neg hk9, if_neg hk9]
    · rw [if_neg h10]
      rcases (show k = 0 ∨ k = 1 ∨ k = 2 ∨ k = 3 ∨ k = 4 ∨ k = 5 ∨ k = 6 ∨ k = 7 ∨ k = 8 ∨ k = 9 ∨ k = 10 ∨ k = 11 ∨ 12 ≤ k by omega) with rfl | rfl | rfl | rfl | rfl | rfl | rfl | rfl | rfl | rfl | rfl | rfl | hk12
      · exact (xkE0 rfl rfl (fun f h1 h2 => hs0 f _ _ (by omega) (by omega))).symm
      · exact (xkE1 rfl (hk0 2 (by decide)) (hk0 0 (by decide)) (hs0 26 _ _ (by decide) (by decide))).symm
      · exact (xkE2 (hk0 2 (by decide)) (hk0 0 (by decide)) (fun k => rfl)).symm
      · exact (xkE3 rfl (hk0 3 (by decide)) (hk0 1 (by decide)) (hs0 27 _ _ (by decide) (by decide))).symm
      · exact (xkE4 (hk0 3 (by decide)) (hk0 1 (by decide)) (fun k => rfl)).symm
      · exact (xkE5 (hk0 1 (by decide)) (fun f h1 h2 => rfl) (fun f h1 h2 => hs0 f _ _ (by omega) (by omega))).symm
      · exact (xkE6 (hk0 1 (by decide)) (fun s => hs0 17 _ _ (by decide) (by decide))).symm
      · exact (xkE7 (hk0 1 (by decide)) (fun s => hs0 18 _ _ (by decide) (by decide))).symm
      · exact (xkE8 (hk0 1 (by decide)) (fun s => hs0 19 _ _ (by decide) (by decide))).symm
      · have hi : i ≠ j := fun e => h9 ⟨rfl, e⟩
        exact (xkE9 (hk0 1 (by decide)) (fun hi1 => ⟨rfl, hk4 i hi1, hk3 i hi1 hi, hs1 28 i 0 hi⟩)).symm
      · have hi : i ≠ j := fun e => h10 ⟨rfl, e⟩
        exact (xkE10 (hk0 1 (by decide)) (fun hi1 => ⟨hk4 i hi1, hk3 i hi1 hi, fun k => hs1 20 i k hi⟩)).symm
      · exact (xkE11 (hk0 0 (by decide)) (fun f h1 => hs0 f _ _ (by omega) (by omega))).symm
      · rw [xkE12 hk12, xkE12 hk12]
theorem k_getQ {G : xG} {ad : Nat → Nat} {κ : xKp} {σ : xSg} {m t : xK} {j k s : Nat} (hj : j < κ 1) (hq2 : κ (10 + j) ≤ κ (20 + j)) (hq3 : κ (20 + j) ≤ 40) (hk : k < κ (10 + j)) (hs : s < 10) (e : σ 20 j k = nI s) : xM G yJ2_get (ws_ yJ2_get cJ2_get 2 (some (Jvm.ClassFile.FieldType.object "java/lang/Object"))) 5 100 0 0 [.ref (ad (ro 9 j)), .int (nI k)] ad (xj (xkC G.2.2.1 ad κ σ) m t) (xPv (some (.ref (G.2.2.1 (128 + s)))) ad (xj (xkC G.2.2.1 ad κ σ) m t)) xN := by
  have hc0 : κ (20 + j) ≠ 0 := by omega
  refine k_get (rL := ro 9 j) (rA := ro 10 j) (cap := κ (20 + j)) (aA := ad (ro 10 j)) (n := κ (10 + j)) (md := σ 28 j 0) (xj_c (by decide) ((xkC_q hj).trans (congrArg some (xL_ne hc0)))) (xj_c (by decide) (xkC_qa hj hc0)) rfl (Nat.ble_eq_true_of_le (by omega)) hk hq2 ?_
  show (if k < κ (10 + j) then some (G.2.2.1 (128 + (σ 20 j k).toNatClampNeg)) else none) = _
  rw [if_pos hk, e, nI_clamp (by omega)]
theorem k_remQ {G : xG} {ad : Nat → Nat} {κ : xKp} {σ : xSg} {m t : xK} (hI : xIk κ) (hQ : xIq κ σ) {j s : Nat} (hj : j < κ 1) (hn : 0 < κ (10 + j)) (hs : s < 10) (e : σ 20 j 0 = nI s) : xM G yJ2_remove (ws_ yJ2_remove cJ2_remove 4 (some (Jvm.ClassFile.FieldType.object "java/lang/Object"))) 5 120 0 0 [.ref (ad (ro 9 j)), .int (nI 0)] ad (xj (xkC G.2.2.1 ad κ σ) m t) (xPv (some (.ref (G.2.2.1 (128 + s)))) ad (xj (xkC G.2.2.1 ad (kR κ j) (sR σ j)) m t)) xN := by
  obtain ⟨hq1, hq2, hq3, hq4⟩ := hQ j hj
  have hc0 : κ (20 + j) ≠ 0 := by omega
  have h := k_remove (G := G) (ad := ad) (ct := xj (xkC G.2.2.1 ad κ σ) m t) (rL := ro 9 j) (rA := ro 10 j) (cap := κ (20 + j)) (n := κ (10 + j)) (md := σ 28 j 0) (i := 0) (Cn := "java/lang/Integer") (el := fun k => G.2.2.1 (128 + (σ 20 j k).toNatClampNeg)) (xj_c (by decide) ((xkC_q hj).trans (congrArg some (xL_ne hc0)))) (xj_c (by decide) (xkC_qa hj hc0)) hn hq2 (by omega) (fun k hk => xR_i (by obtain ⟨s', hs', e'⟩ := hq4 k hk; rw [e', nI_clamp (by omega)]; omega)) (by decide)
  rw [pc_qrem hI hj hc0 hn] at h
  have e2 : G.2.2.1 (128 + (σ 20 j 0).toNatClampNeg) = G.2.2.1 (128 + s) := by rw [e, nI_clamp (by omega)]
  rw [e2] at h
  exact h
set_option maxHeartbeats 4000000 in
theorem k1_play {G : xG} {ad : Nat → Nat} {κ : xKp} {σ : xSg} {m t : xK} (hI : xIk κ) (hQ : xIq κ σ) (hS : xIs κ σ) (hz : 0 ≤ σ 24 0 0) (b : Int32) : xM G yX1_play (ws_ yX1_play cX1_play 5 (some Jvm.ClassFile.FieldType.char)) 20 600 10 60 [.ref (ad (ro 0 0)), .int b] ad (xj (xkC G.2.2.1 ad κ σ) m t) (fun v ad' ct' => ad' = ad ∧ ∃ j, j < κ 1 ∧ b = nI j ∧ σ 14 j 0 = 0 ∧ 0 < κ (10 + j) ∧ ((sJam (sZn (σ 24 0 0)) (σ 7 j 0) ∧ v = some (.int 106) ∧ ct' = xj (xkC G.2.2.1 ad κ (xup (xup σ 24 0 0 (sZn (σ 24 0 0))) 14 j 0 1)) m t) ∨ (¬ sJam (sZn (σ 24 0 0)) (σ 7 j 0) ∧ ∃ s, s < 10 ∧ σ 20 j 0 = nI s ∧ (((σ 17 j s = -1 ∨ ∃ d, d < κ 0 ∧ σ 17 j s = nI d ∧ ¬ σ 3 d 0 < 60) ∧ v = some (.int 98) ∧ ct' = xj (xkC G.2.2.1 ad (kR κ j) (xup (sR (xup σ 24 0 0 (sZn (σ 24 0 0))) j) 8 j 0 (σ 8 j 0 + 1))) m t) ∨ (∃ d, d < κ 0 ∧ σ 17 j s = nI d ∧ σ 3 d 0 < 60 ∧ v = some (.int 112) ∧ ct' = xj (xkC G.2.2.1 ad (kR κ j) (sPlays (sR (xup σ 24 0 0 (sZn (σ 24 0 0))) j) j s d 1)) m t))))) (fun E ad' ct' => ad' = ad ∧ ct' = xj (xkC G.2.2.1 ad κ σ) m t ∧ (E = xIOB ∧ ¬ xIx b (κ 1) ∨ E = xUOE ∧ (∃ j, j < κ 1 ∧ b = nI j ∧ ¬ σ 14 j 0 = 0) ∨ E = xNSE ∧ ∃ j, j < κ 1 ∧ b = nI j ∧ σ 14 j 0 = 0 ∧ ¬ 0 < κ (10 + j))) := by
  refine xM_of (cc := cX1_play) (by decide) rfl (fun F hF C => ?_)
  subst hF
  show xX F _ _ _ 0 0 0 [(0, .ref (ad (ro 0 0))), (1, .int b)] []
  refine x_aload_n C dX1_play_0 rfl 0 rfl ?_
  refine x_iload_n C dX1_play_1 rfl 1 rfl ?_
  refine x_callV (rest := []) C (k1_boxAt hI b) cf_X1_84 ⟨rfl, hd_X1_boxAt⟩ ⟨Nat.le_of_ble_eq_true rfl, Nat.le_of_ble_eq_true rfl⟩ (xR_o xci0 rfl (xj_c (by decide) xkC_sr)) rfl (Nat.le_of_ble_eq_true rfl) ⟨Nat.le_of_ble_eq_true rfl, Nat.le_of_ble_eq_true rfl⟩ dX1_play_2 (fun v ad' ct' q => ?_) (fun E ad' ct' q => ?_)
  rotate_left
  · obtain ⟨rfl, e9, rfl, hx⟩ := q; obtain rfl := e9.symm
    exact x_out C (fun _ h => nomatch h) (Nat.le_of_ble_eq_true rfl) (Nat.le_of_ble_eq_true rfl) ⟨rfl, rfl, Or.inl ⟨rfl, hx⟩⟩
  obtain ⟨e9, rfl, j, hj, rfl, rfl⟩ := q; obtain rfl := e9.symm
  refine x_astore_n (lv' := [(2, .ref (ad (ro 5 j))), (0, .ref (ad (ro 0 0))), (1, .int (nI j))]) C dX1_play_5 rfl (by decide) rfl ?_
  refine x_aload_n C dX1_play_6 rfl 0 rfl ?_
  refine x_get C fl_X1_98 (r := ro 5 j) rfl (xj_c (by decide) (xkC_box hj)) (v := .int (σ 14 j 0)) rfl dX1_play_7 ?_
  refine x_if_ne (tgt := 17) C dX1_play_10 (by decide) (fun c1 => ?_) (fun c1 => ?_)
  · refine x_iconst (v := 0) C dX1_play_17 (by decide) ?_
    refine x_callS (rest := []) C (k_requireSupported 0) cf_X1_102 hd_X1_requireSupported ⟨Nat.le_of_ble_eq_true rfl, Nat.le_of_ble_eq_true rfl⟩ rfl (Nat.le_of_ble_eq_true rfl) ⟨Nat.le_of_ble_eq_true rfl, Nat.le_of_ble_eq_true rfl⟩ dX1_play_18 (fun v ad' ct' q => absurd rfl q.1) (fun E ad' ct' q => ?_)
    obtain ⟨-, rfl, e9, rfl⟩ := q; obtain rfl := e9.symm
    exact x_out C (fun _ h => nomatch h) (Nat.le_of_ble_eq_true rfl) (Nat.le_of_ble_eq_true rfl) ⟨rfl, rfl, Or.inr (Or.inl ⟨rfl, j, hj, rfl, c1⟩)⟩
  · refine x_iconst (v := 1) C dX1_play_13 (by decide) ?_
    refine x_goto (tgt := 18) C dX1_play_14 (by decide) ?_
    refine x_callS (rest := []) C (k_requireSupported 1) cf_X1_102 hd_X1_requireSupported ⟨Nat.le_of_ble_eq_true rfl, Nat.le_of_ble_eq_true rfl⟩ rfl (Nat.le_of_ble_eq_true rfl) ⟨Nat.le_of_ble_eq_true rfl, Nat.le_of_ble_eq_true rfl⟩ dX1_play_18 (fun v ad' ct' q => ?_) (fun E ad' ct' q => absurd q.1 (by decide))
    obtain ⟨-, rfl, e9, rfl⟩ := q; obtain rfl := e9.symm
    refine x_aload_n C dX1_play_21 rfl 0 rfl ?_
    refine x_getR C fl_X1_121 (r := ro 5 j) rfl (xj_c (by decide) (xkC_box hj)) (v := .ref (ad (ro 9 j))) rfl dX1_play_22 ?_
    obtain ⟨hq1, hq2, hq3, hq4⟩ := hQ j hj
    by_cases hn0 : κ (10 + j) = 0
    · refine x_callV (rest := []) C (k_isEmpty (rL := ro 9 j) (aA := if κ (20 + j) = 0 then F.1.2.2.1 301 else ad (ro 10 j)) (md := σ 28 j 0) (xj_c (by decide) (xkC_q hj)) (by omega)) cf_X1_130 ⟨rfl, hd_J2_isEmpty⟩ ⟨Nat.le_of_ble_eq_true rfl, Nat.le_of_ble_eq_true rfl⟩ (xR_o xci1 rfl (xj_c (by decide) (xkC_q hj))) rfl (Nat.le_of_ble_eq_true rfl) ⟨Nat.le_of_ble_eq_true rfl, Nat.le_of_ble_eq_true rfl⟩ dX1_play_25 (xPv_i ?_) xN_e
      refine x_top (y := 1) (if_pos hn0) ?_
      refine x_if_ne (tgt := 35) C dX1_play_28 (by decide) (fun _ => ?_) (fun h => absurd h (by decide))
      refine x_iconst (v := 0) C dX1_play_35 (by decide) ?_
      refine x_callS (rest := []) C (k_requireThere 0) cf_X1_134 hd_X1_requireThere ⟨Nat.le_of_ble_eq_true rfl, Nat.le_of_ble_eq_true rfl⟩ rfl (Nat.le_of_ble_eq_true rfl) ⟨Nat.le_of_ble_eq_true rfl, Nat.le_of_ble_eq_true rfl⟩ dX1_play_36 (fun v ad' ct' q => absurd rfl q.1) (fun E ad' ct' q => ?_)
      obtain ⟨-, rfl, e9, rfl⟩ := q; obtain rfl := e9.symm
      exact x_out C (fun _ h => nomatch h) (Nat.le_of_ble_eq_true rfl) (Nat.le_of_ble_eq_true rfl) ⟨rfl, rfl, Or.inr (Or.inr ⟨rfl, j, hj, rfl, c1, by omega⟩)⟩
    · refine x_callV (rest := []) C (k_isEmpty (rL := ro 9 j) (aA := if κ (20 + j) = 0 then F.1.2.2.1 301 else ad (ro 10 j)) (md := σ 28 j 0) (xj_c (by decide) (xkC_q hj)) (by omega)) cf_X1_130 ⟨rfl, hd_J2_isEmpty⟩ ⟨Nat.le_of_ble_eq_true rfl, Nat.le_of_ble_eq_true rfl⟩ (xR_o xci1 rfl (xj_c (by decide) (xkC_q hj))) rfl (Nat.le_of_ble_eq_true rfl) ⟨Nat.le_of_ble_eq_true rfl, Nat.le_of_ble_eq_true rfl⟩ dX1_play_25 (xPv_i ?_) xN_e
      refine x_top (y := 0) (if_neg hn0) ?_
      refine x_if_ne (tgt := 35) C dX1_play_28 (by decide) (fun h => absurd rfl h) (fun _ => ?_)
      refine x_iconst (v := 1) C dX1_play_31 (by decide) ?_
      refine x_goto (tgt := 36) C dX1_play_32 (by decide) ?_
      refine x_callS (rest := []) C (k_requireThere 1) cf_X1_134 hd_X1_requireThere ⟨Nat.le_of_ble_eq_true rfl, Nat.le_of_ble_eq_true rfl⟩ rfl (Nat.le_of_ble_eq_true rfl) ⟨Nat.le_of_ble_eq_true rfl, Nat.le_of_ble_eq_true rfl⟩ dX1_play_36 (fun v ad' ct' q => ?_) (fun E ad' ct' q => absurd q.1 (by decide))
      obtain ⟨-, rfl, e9, rfl⟩ := q; obtain rfl := e9.symm
      refine x_aload_n C dX1_play_39 rfl 1 rfl ?_
      refine x_aload_n C dX1_play_40 rfl 1 rfl ?_
      refine x_get C fl_X1_41 (r := ro 0 0) rfl (xj_c (by decide) xkC_sr) (v := .long ((σ 24 0 0).toInt64)) rfl dX1_play_41 ?_
      refine x_ldc2 (v := 48271) C q716 dX1_play_44 ?_
      refine x_lmul C dX1_play_47 ?_
      refine x_ldc2 (v := 2147483647) C q717 dX1_play_48 ?_
      refine x_lrem C dX1_play_51 (by decide) ?_
      refine x_topl (y := (sZn (σ 24 0 0)).toInt64) (sZn_ok hz).1.symm ?_
      refine x_put C fl_X1_41 (r := ro 0 0) rfl (xj_c (by decide) xkC_sr) rfl rfl (Nat.le_of_ble_eq_true rfl) dX1_play_52 ?_
      refine x_pc (k := 0) (by decide) (pc_sr24) ?_
      refine x_aload_n C dX1_play_55 rfl 1 rfl ?_
      refine x_get C fl_X1_41 (r := ro 0 0) rfl (xj_c (by decide) xkC_sr) (v := .long (xup σ 24 0 0 (sZn (σ 24 0 0)) 24 0 0).toInt64) rfl dX1_play_56 ?_
      refine x_topl (y := (sZn (σ 24 0 0)).toInt64) (by rw [xup_s]) ?_
      refine x_ldc2 (v := 100) C q718 dX1_play_59 ?_
      refine x_lrem C dX1_play_62 (by decide) ?_
      refine x_aload_n C dX1_play_63 rfl 0 rfl ?_
      refine x_get C fl_X1_88 (r := ro 5 j) rfl (xj_c (by decide) (xkC_box hj)) (v := .int (σ 7 j 0)) rfl dX1_play_64 ?_
      refine x_i2l C dX1_play_67 rfl ?_
      refine x_lcmp C dX1_play_68 ?_
      refine x_if_ge (tgt := 80) C dX1_play_69 (by decide) (fun c2 => ?_) (fun c2 => ?_)
      · have hnj : ¬ sJam (sZn (σ 24 0 0)) (σ 7 j 0) := fun z => absurd ((sJam_l (sZn_ok hz).2).mpr z) (Int64.not_lt.mpr ((lg_cmp_ge _ _).mp c2))
        have hc0 : κ (20 + j) ≠ 0 := by omega
        obtain ⟨s, hs, e20⟩ := hq4 0 (by omega)
        refine x_aload_n C dX1_play_80 rfl 0 rfl ?_
        refine x_getR C fl_X1_121 (r := ro 5 j) rfl (xj_c (by decide) (xkC_box hj)) (v := .ref (ad (ro 9 j))) rfl dX1_play_81 ?_
        refine x_iconst (v := 0) C dX1_play_84 (by decide) ?_
        refine x_top (y := nI 0) (rfl) ?_
        refine x_callV (rest := []) C (k_getQ (s := s) hj hq2 hq3 (by omega) hs e20) cf_X1_80 ⟨rfl, hd_J2_get⟩ ⟨Nat.le_of_ble_eq_true rfl, Nat.le_of_ble_eq_true rfl⟩ (xR_o xci1 rfl (xj_c (by decide) (xkC_q hj))) rfl (Nat.le_of_ble_eq_true rfl) ⟨Nat.le_of_ble_eq_true rfl, Nat.le_of_ble_eq_true rfl⟩ dX1_play_85 (xPv_i ?_) xN_e
        refine x_cast C (xR_i (by omega)) q396 dX1_play_88 ?_
        refine x_callV (rest := []) C (k_intValue (k := s) (by omega)) cf_X1_143 ⟨rfl, hd_J18_intValue⟩ ⟨Nat.le_of_ble_eq_true rfl, Nat.le_of_ble_eq_true rfl⟩ (xR_i (by omega)) rfl (Nat.le_of_ble_eq_true rfl) ⟨Nat.le_of_ble_eq_true rfl, Nat.le_of_ble_eq_true rfl⟩ dX1_play_91 (xPv_i ?_) xN_e
        refine x_istore_n (lv' := [(3, .int (nI s)), (2, .ref (ad (ro 5 j))), (0, .ref (ad (ro 0 0))), (1, .int (nI j))]) C dX1_play_94 rfl (by decide) rfl ?_
        refine x_aload_n C dX1_play_95 rfl 1 rfl ?_
        refine x_getR C fl_X1_121 (r := ro 5 j) rfl (xj_c (by decide) (xkC_box hj)) (v := .ref (ad (ro 9 j))) rfl dX1_play_96 ?_
        refine x_iconst (v := 0) C dX1_play_99 (by decide) ?_
        refine x_top (y := nI 0) (rfl) ?_
        refine x_callV (rest := []) C (k_remQ (s := s) hI (show xIq κ (xup σ 24 0 0 (sZn (σ 24 0 0))) from hQ) hj (by omega) hs e20) cf_X1_146 ⟨rfl, hd_J2_remove⟩ ⟨Nat.le_of_ble_eq_true rfl, Nat.le_of_ble_eq_true rfl⟩ (xR_o xci1 rfl (xj_c (by decide) (xkC_q hj))) rfl (Nat.le_of_ble_eq_true rfl) ⟨Nat.le_of_ble_eq_true rfl, Nat.le_of_ble_eq_true rfl⟩ dX1_play_100 (xPv_i ?_) xN_e
        have hI2 : xIk (kR κ j) := kR_I hI
        have hj2 : j < kR κ j 1 := kR_1.symm ▸ hj
        refine x_pop C dX1_play_103 rfl ?_
        refine x_aload_n C dX1_play_104 rfl 1 rfl ?_
        refine x_getR C fl_X1_117 (r := ro 5 j) rfl (xj_c (by decide) (xkC_box hj2)) (v := .ref (ad (ro 6 j))) rfl dX1_play_105 ?_
        refine x_iload_n C dX1_play_108 rfl 0 rfl ?_
        refine xi_ald C s rfl (xj_c (by decide) (xkC_slots hj2)) rfl hs rfl dX1_play_109 ?_
        refine x_top (y := (sR (xup σ 24 0 0 (sZn (σ 24 0 0))) j) 17 j s) rfl ?_
        refine x_iconst (v := -1) C dX1_play_110 (by decide) ?_
        refine x_icmp_ne (tgt := 118) C dX1_play_111 (by decide) (fun c3 => ?_) (fun c3 => ?_)
        · obtain ⟨d, hd, e17⟩ := (hS j hj s hs).resolve_left c3
          have hd2 : d < kR κ j 0 := by rw [show kR κ j 0 = κ 0 from kup_n (by omega)]; exact hd
          refine x_aload_n C dX1_play_118 rfl 2 rfl ?_
          refine x_get C fl_X1_28 (r := ro 0 0) rfl (xj_c (by decide) xkC_sr) (v := .ref (ad (ro 1 0))) rfl dX1_play_119 ?_
          refine x_aload_n C dX1_play_122 rfl 1 rfl ?_
          refine x_getR C fl_X1_117 (r := ro 5 j) rfl (xj_c (by decide) (xkC_box hj2)) (v := .ref (ad (ro 6 j))) rfl dX1_play_123 ?_
          refine x_iload_n C dX1_play_126 rfl 0 rfl ?_
          refine xi_ald C s rfl (xj_c (by decide) (xkC_slots hj2)) rfl hs rfl dX1_play_127 ?_
          refine x_top (y := (sR (xup σ 24 0 0 (sZn (σ 24 0 0))) j) 17 j s) rfl ?_
          refine x_top (y := nI d) (e17) ?_
          refine x_callV (rest := []) C (k_getD hI2 hd2) cf_X1_80 ⟨rfl, hd_J2_get⟩ ⟨Nat.le_of_ble_eq_true rfl, Nat.le_of_ble_eq_true rfl⟩ (xR_o xci1 rfl (xj_c (by decide) xkC_L1)) rfl (Nat.le_of_ble_eq_true rfl) ⟨Nat.le_of_ble_eq_true rfl, Nat.le_of_ble_eq_true rfl⟩ dX1_play_128 (xPv_i ?_) xN_e
          refine x_cast C (xR_o xci2 rfl (xj_c (by decide) (xkC_disc hd2))) q247 dX1_play_131 ?_
          refine x_astore (lv' := [(4, .ref (ad (ro 11 d))), (3, .int (nI s)), (2, .ref (ad (ro 5 j))), (0, .ref (ad (ro 0 0))), (1, .int (nI j))]) C dX1_play_134 (by decide) rfl ?_
          refine x_aload C dX1_play_136 0 rfl ?_
          refine x_ifnull C dX1_play_138 ?_
          refine x_aload C dX1_play_141 0 rfl ?_
          refine x_callV (rest := []) C (k_isWornOut (xj_c (by decide) (xkC_disc hd2))) cf_X1_149 ⟨rfl, hd_X3_isWornOut⟩ ⟨Nat.le_of_ble_eq_true rfl, Nat.le_of_ble_eq_true rfl⟩ (xR_o xci2 rfl (xj_c (by decide) (xkC_disc hd2))) rfl (Nat.le_of_ble_eq_true rfl) ⟨Nat.le_of_ble_eq_true rfl, Nat.le_of_ble_eq_true rfl⟩ dX1_play_143 (xPv_i ?_) xN_e
          refine x_if_eq (tgt := 162) C dX1_play_146 (by decide) (fun c4 => ?_) (fun c4 => ?_)
          · refine x_eq rfl ?_
            have c5 : σ 3 d 0 < 60 := by
              by_cases h : σ 3 d 0 < 60
              · exact h
              · exact absurd ((if_neg h).symm.trans c4) (by decide)
            refine x_aload_n C dX1_play_162 rfl 2 rfl ?_
            refine x_iload_n C dX1_play_163 rfl 1 rfl ?_
            refine x_aload C dX1_play_164 0 rfl ?_
            refine x_iconst (v := 1) C dX1_play_166 (by decide) ?_
            refine x_callV (rest := []) C (k4_plays hj2 hs hd2 1) cf_X1_152 ⟨rfl, hd_X4_plays⟩ ⟨Nat.le_of_ble_eq_true rfl, Nat.le_of_ble_eq_true rfl⟩ (xR_o xci3 rfl (xj_c (by decide) (xkC_box hj2))) rfl (Nat.le_of_ble_eq_true rfl) ⟨Nat.le_of_ble_eq_true rfl, Nat.le_of_ble_eq_true rfl⟩ dX1_play_167 (xPv_i ?_) xN_e
            refine x_bipush (v := 112) C dX1_play_170 (by decide) ?_
            exact x_zret C rfl dX1_play_172 (Nat.le_of_ble_eq_true rfl) (Nat.le_of_ble_eq_true rfl) ⟨rfl, j, hj, rfl, c1, by omega, Or.inr ⟨hnj, s, hs, e20, Or.inr ⟨d, hd, e17, c5, rfl, rfl⟩⟩⟩
          · have c5 : ¬ σ 3 d 0 < 60 := fun h => c4 (if_pos h)
            refine x_aload_n C dX1_play_149 rfl 2 rfl ?_
            refine x_dup C dX1_play_150 rfl ?_
            refine x_get C fl_X1_105 (r := ro 5 j) rfl (xj_c (by decide) (xkC_box hj2)) (v := .int ((sR (xup σ 24 0 0 (sZn (σ 24 0 0))) j) 8 j 0)) rfl dX1_play_151 ?_
            refine x_iconst (v := 1) C dX1_play_154 (by decide) ?_
            refine x_iadd C dX1_play_155 ?_
            refine x_put C fl_X1_105 (r := ro 5 j) rfl (xj_c (by decide) (xkC_box hj2)) rfl rfl (Nat.le_of_ble_eq_true rfl) dX1_play_156 ?_
            refine x_pc (k := 5) (by decide) (pc_box8 hj2) ?_
            refine x_bipush (v := 98) C dX1_play_159 (by decide) ?_
            exact x_zret C rfl dX1_play_161 (Nat.le_of_ble_eq_true rfl) (Nat.le_of_ble_eq_true rfl) ⟨rfl, j, hj, rfl, c1, by omega, Or.inr ⟨hnj, s, hs, e20, Or.inl ⟨Or.inr ⟨d, hd, e17, c5⟩, rfl, rfl⟩⟩⟩
        · refine x_null C dX1_play_114 ?_
          refine x_goto (tgt := 134) C dX1_play_115 (by decide) ?_
          refine x_astoreN (lv' := [(4, .null), (3, .int (nI s)), (2, .ref (ad (ro 5 j))), (0, .ref (ad (ro 0 0))), (1, .int (nI j))]) C dX1_play_134 (by decide) rfl ?_
          refine x_aloadN C dX1_play_136 0 rfl ?_
          refine x_ifnullN (tgt := 149) C dX1_play_138 (by decide) ?_
          refine x_aload_n C dX1_play_149 rfl 2 rfl ?_
          refine x_dup C dX1_play_150 rfl ?_
          refine x_get C fl_X1_105 (r := ro 5 j) rfl (xj_c (by decide) (xkC_box hj2)) (v := .int ((sR (xup σ 24 0 0 (sZn (σ 24 0 0))) j) 8 j 0)) rfl dX1_play_151 ?_
          refine x_iconst (v := 1) C dX1_play_154 (by decide) ?_
          refine x_iadd C dX1_play_155 ?_
          refine x_put C fl_X1_105 (r := ro 5 j) rfl (xj_c (by decide) (xkC_box hj2)) rfl rfl (Nat.le_of_ble_eq_true rfl) dX1_play_156 ?_
          refine x_pc (k := 5) (by decide) (pc_box8 hj2) ?_
          refine x_bipush (v := 98) C dX1_play_159 (by decide) ?_
          exact x_zret C rfl dX1_play_161 (Nat.le_of_ble_eq_true rfl) (Nat.le_of_ble_eq_true rfl) ⟨rfl, j, hj, rfl, c1, by omega, Or.inr ⟨hnj, s, hs, e20, Or.inl ⟨Or.inl c3, rfl, rfl⟩⟩⟩
      · refine x_aload_n C dX1_play_72 rfl 0 rfl ?_
        refine x_iconst (v := 1) C dX1_play_73 (by decide) ?_
        refine x_put C fl_X1_98 (r := ro 5 j) rfl (xj_c (by decide) (xkC_box hj)) rfl rfl (Nat.le_of_ble_eq_true rfl) dX1_play_74 ?_
        refine x_pc (k := 5) (by decide) (pc_box14 hj) ?_
        refine x_bipush (v := 106) C dX1_play_77 (by decide) ?_
        exact x_zret C rfl dX1_play_79 (Nat.le_of_ble_eq_true rfl) (Nat.le_of_ble_eq_true rfl) ⟨rfl, j, hj, rfl, c1, by omega, Or.inl ⟨(sJam_l (sZn_ok hz).2).mp ((lg_cmp_lt _ _).mp (Int32.not_le.mp c2)), rfl, rfl⟩⟩
