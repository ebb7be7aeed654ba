/-! ===== out: the greatest or the least of a list, taken away ===== -/
def sRm (p : Nat → Nat) (i : Nat) : Nat → Nat := fun k => if k < i then p k else p (k + 1)
/-- the place of the greatest, of the least among the first k -/
def sOg (p : Nat → Nat) : Nat → Nat
  | 0 => 0
  | k + 1 => if p (sOg p k) < p k then k else sOg p k
def sOl (p : Nat → Nat) : Nat → Nat
  | 0 => 0
  | k + 1 => if p k < p (sOl p k) then k else sOl p k
theorem sOg_le {p : Nat → Nat} : ∀ k, sOg p (k + 1) ≤ k
  | 0 => by show (if p 0 < p 0 then 0 else 0) ≤ 0; split <;> omega
  | k + 1 => by
    have := sOg_le (p := p) k
    show (if p (sOg p (k + 1)) < p (k + 1) then k + 1 else sOg p (k + 1)) ≤ k + 1
    split <;> omega
theorem sOl_le {p : Nat → Nat} : ∀ k, sOl p (k + 1) ≤ k
  | 0 => by show (if p 0 < p 0 then 0 else 0) ≤ 0; split <;> omega
  | k + 1 => by
    have := sOl_le (p := p) k
    show (if p (k + 1) < p (sOl p (k + 1)) then k + 1 else sOl p (k + 1)) ≤ k + 1
    split <;> omega
theorem sOg_lt {p : Nat → Nat} {k n : Nat} (h : k < n) : sOg p k < n := by
  cases k with
  | zero => exact h
  | succ k => have := sOg_le (p := p) k; omega
theorem sOl_lt {p : Nat → Nat} {k n : Nat} (h : k < n) : sOl p k < n := by
  cases k with
  | zero => exact h
  | succ k => have := sOl_le (p := p) k; omega
theorem sOg_n {p : Nat → Nat} {n : Nat} (h : 0 < n) : sOg p n < n := by
  cases n with
  | zero => omega
  | succ k => have := sOg_le (p := p) k; omega
theorem sOl_n {p : Nat → Nat} {n : Nat} (h : 0 < n) : sOl p n < n := by
  cases n with
  | zero => omega
  | succ k => have := sOl_le (p := p) k; omega
theorem x_hdGet : ("java/util/List" ≠ "java/lang/invoke/MethodHandle") ∧ ("java/util/List" ≠ "java/lang/invoke/VarHandle") ∧ (parseMethodDescriptor "(I)Ljava/lang/Object;").map (fun d => d.parameters.length) = some 1 := ⟨by decide +kernel, by decide +kernel, by decide +kernel⟩

set_option maxHeartbeats 4000000 in
theorem k1_outG {G : xG} {ad : Nat → Nat} {ct : xCt} {rL rA cap n : Nat} {md : Int32} {p : Nat → Nat} (hL : ct rL = some (xAl md (ad rA) n)) (hA : ct rA = some (xOa G cap (xcont (fun k => G.2.2.1 (128 + p k)) n))) (h0 : 0 < n) (hn : n ≤ cap) (hc : cap ≤ 60) (hp : ∀ k, k < n → p k < 128) : xM G yX1_out (ws_ yX1_out cX1_out 5 (some Jvm.ClassFile.FieldType.int)) 8 250 0 0 [.ref (ad rL), .int 1] ad ct (xPv (some (.int (nI (p (sOg p n))))) ad (xu (xu ct rA (xOa G cap (xcont (fun k => G.2.2.1 (128 + sRm p (sOg p n) k)) (n - 1)))) rL (xAl (md + 1) (ad rA) (n - 1)))) xN := by
  refine xM_of (cc := cX1_out) (by decide) rfl (fun F hF C => ?_)
  subst hF
  show xX F _ _ _ 0 0 0 [(0, .ref (ad rL)), (1, .int 1)] []
  have hcap : Nat.ble cap 2147483647 = true := Nat.ble_eq_true_of_le (by omega)
  refine x_iconst (v := 0) C dX1_out_0 (by decide) ?_
  refine x_istore_n (lv' := [(2, .int 0), (0, .ref (ad rL)), (1, .int 1)]) C dX1_out_1 rfl (by decide) rfl ?_
  refine x_iconst (v := 0) C dX1_out_2 (by decide) ?_
  refine x_istore_n (lv' := [(3, .int 0), (2, .int 0), (0, .ref (ad rL)), (1, .int 1)]) C dX1_out_3 rfl (by decide) rfl ?_
  have loop : ∀ n2 k : Nat, k + n2 = n → xX F (xQ F (xPv (some (.int (nI (p (sOg p n))))) ad (xu (xu ct rA (xOa F.1 cap (xcont (fun k => F.1.2.2.1 (128 + sRm p (sOg p n) k)) (n - 1)))) rL (xAl (md + 1) (ad rA) (n - 1)))) xN 0 0) ad ct 0 0 4 [(3, .int (nI k)), (2, .int (nI (sOg p k))), (0, .ref (ad rL)), (1, .int 1)] [] := by
    intro n2
    induction n2 with
    | zero =>
      intro k hk
      obtain rfl : k = n := by omega
      have hb := sOg_n (p := p) h0
      refine x_iload_n C dX1_out_4 rfl 0 rfl ?_
      refine x_aload_n C dX1_out_5 rfl 2 rfl ?_
      refine x_callF (rest := [.int (nI k)]) (x := ⟨"java/util/List", "size", "()I"⟩) C (k_size hL) cfI_245 (by decide) ⟨by decide +kernel, by decide +kernel, by decide +kernel⟩ ⟨Nat.le_of_ble_eq_true rfl, Nat.le_of_ble_eq_true rfl⟩ xci1 (xR_o xci1 rfl hL) rfl (Nat.le_of_ble_eq_true rfl) ⟨Nat.le_of_ble_eq_true rfl, Nat.le_of_ble_eq_true rfl⟩ dX1_out_6 (xPv_i ?_) xN_e
      refine x_icmp_ge (tgt := 108) C dX1_out_11 (by decide) (fun _ => ?_) (fun h => absurd (Int32.le_refl _) h)
      refine x_aload_n C dX1_out_108 rfl 2 rfl ?_
      refine x_iload_n C dX1_out_109 rfl 1 rfl ?_
      refine x_callF (rest := []) (x := ⟨"java/util/List", "get", "(I)Ljava/lang/Object;"⟩) C (k_get (k := (sOg p k)) hL hA rfl hcap hb hn (xcont_at hb)) cfI_248 (by decide) x_hdGet ⟨Nat.le_of_ble_eq_true rfl, Nat.le_of_ble_eq_true rfl⟩ xci1 (xR_o xci1 rfl hL) rfl (Nat.le_of_ble_eq_true rfl) ⟨Nat.le_of_ble_eq_true rfl, Nat.le_of_ble_eq_true rfl⟩ dX1_out_110 (xPv_i ?_) xN_e
      refine x_cast C (xR_i (by have := hp _ hb; omega)) q396 dX1_out_115 ?_
      refine x_callV (rest := []) C (k_intValue (k := p (sOg p k)) (hp _ hb)) cf_X1_143 ⟨rfl, hd_J18_intValue⟩ ⟨Nat.le_of_ble_eq_true rfl, Nat.le_of_ble_eq_true rfl⟩ (xR_i (by have := hp _ hb; omega)) rfl (Nat.le_of_ble_eq_true rfl) ⟨Nat.le_of_ble_eq_true rfl, Nat.le_of_ble_eq_true rfl⟩ dX1_out_118 (xPv_i ?_) xN_e
      refine x_istore_n (lv' := [(3, .int (nI (p (sOg p k)))), (2, .int (nI (sOg p k))), (0, .ref (ad rL)), (1, .int 1)]) C dX1_out_121 rfl (by decide) rfl ?_
      refine x_aload_n C dX1_out_122 rfl 2 rfl ?_
      refine x_iload_n C dX1_out_123 rfl 1 rfl ?_
      have e9 : (fun q => if q < sOg p k then (fun q => F.1.2.2.1 (128 + p q)) q else (fun q => F.1.2.2.1 (128 + p q)) (q + 1)) = fun q => F.1.2.2.1 (128 + sRm p (sOg p k) q) := by funext q; unfold sRm; split <;> rfl
      refine x_callF (rest := []) (x := ⟨"java/util/List", "remove", "(I)Ljava/lang/Object;"⟩) C (k_remove (Cn := "java/lang/Integer") (el := fun q => F.1.2.2.1 (128 + p q)) (i := sOg p k) hL hA hb hn hc (fun q hq => xR_i (by have := hp q hq; omega)) (by decide)) cfI_249 (by decide) x_hdGet ⟨Nat.le_of_ble_eq_true rfl, Nat.le_of_ble_eq_true rfl⟩ xci1 (xR_o xci1 rfl hL) rfl (Nat.le_of_ble_eq_true rfl) ⟨Nat.le_of_ble_eq_true rfl, Nat.le_of_ble_eq_true rfl⟩ dX1_out_124 (xPv_i ?_) xN_e
      refine x_eq (congrArg (fun z => xu (xu ct rA (xOa F.1 cap (xcont z (k - 1)))) rL (xAl (md + 1) (ad rA) (k - 1))) e9) ?_
      refine x_pop C dX1_out_129 rfl ?_
      refine x_iload_n C dX1_out_130 rfl 0 rfl ?_
      exact x_iret C dX1_out_131 (Nat.le_of_ble_eq_true rfl) (Nat.le_of_ble_eq_true rfl) ⟨rfl, rfl, rfl⟩
    | succ n2 ih =>
      intro k hk
      have hk9 : k < n := by omega
      have hb : sOg p k < n := sOg_lt hk9
      refine x_iload_n C dX1_out_4 rfl 0 rfl ?_
      refine x_aload_n C dX1_out_5 rfl 2 rfl ?_
      refine x_callF (rest := [.int (nI k)]) (x := ⟨"java/util/List", "size", "()I"⟩) C (k_size hL) cfI_245 (by decide) ⟨by decide +kernel, by decide +kernel, by decide +kernel⟩ ⟨Nat.le_of_ble_eq_true rfl, Nat.le_of_ble_eq_true rfl⟩ xci1 (xR_o xci1 rfl hL) rfl (Nat.le_of_ble_eq_true rfl) ⟨Nat.le_of_ble_eq_true rfl, Nat.le_of_ble_eq_true rfl⟩ dX1_out_6 (xPv_i ?_) xN_e
      refine x_icmp_ge (tgt := 108) C dX1_out_11 (by decide) (fun h => absurd ((nI_le_iff (by omega) (by omega)).mp h) (by omega)) (fun _ => ?_)
      refine x_iload_n C dX1_out_14 rfl 3 rfl ?_
      refine x_if_eq (tgt := 55) C dX1_out_15 (by decide) (fun h => absurd h (by decide)) (fun _ => ?_)
      refine x_aload_n C dX1_out_18 rfl 2 rfl ?_
      refine x_iload_n C dX1_out_19 rfl 0 rfl ?_
      refine x_callF (rest := []) (x := ⟨"java/util/List", "get", "(I)Ljava/lang/Object;"⟩) C (k_get (k := k) hL hA rfl hcap hk9 hn (xcont_at hk9)) cfI_248 (by decide) x_hdGet ⟨Nat.le_of_ble_eq_true rfl, Nat.le_of_ble_eq_true rfl⟩ xci1 (xR_o xci1 rfl hL) rfl (Nat.le_of_ble_eq_true rfl) ⟨Nat.le_of_ble_eq_true rfl, Nat.le_of_ble_eq_true rfl⟩ dX1_out_20 (xPv_i ?_) xN_e
      refine x_cast C (xR_i (by have := hp _ hk9; omega)) q396 dX1_out_25 ?_
      refine x_callV (rest := []) C (k_intValue (k := p k) (hp _ hk9)) cf_X1_143 ⟨rfl, hd_J18_intValue⟩ ⟨Nat.le_of_ble_eq_true rfl, Nat.le_of_ble_eq_true rfl⟩ (xR_i (by have := hp _ hk9; omega)) rfl (Nat.le_of_ble_eq_true rfl) ⟨Nat.le_of_ble_eq_true rfl, Nat.le_of_ble_eq_true rfl⟩ dX1_out_28 (xPv_i ?_) xN_e
      refine x_aload_n C dX1_out_31 rfl 2 rfl ?_
      refine x_iload_n C dX1_out_32 rfl 1 rfl ?_
      refine x_callF (rest := [.int (nI (p k))]) (x := ⟨"java/util/List", "get", "(I)Ljava/lang/Object;"⟩) C (k_get (k := (sOg p k)) hL hA rfl hcap hb hn (xcont_at hb)) cfI_248 (by decide) x_hdGet ⟨Nat.le_of_ble_eq_true rfl, Nat.le_of_ble_eq_true rfl⟩ xci1 (xR_o xci1 rfl hL) rfl (Nat.le_of_ble_eq_true rfl) ⟨Nat.le_of_ble_eq_true rfl, Nat.le_of_ble_eq_true rfl⟩ dX1_out_33 (xPv_i ?_) xN_e
      refine x_cast C (xR_i (by have := hp _ hb; omega)) q396 dX1_out_38 ?_
      refine x_callV (rest := [.int (nI (p k))]) C (k_intValue (k := p (sOg p k)) (hp _ hb)) cf_X1_143 ⟨rfl, hd_J18_intValue⟩ ⟨Nat.le_of_ble_eq_true rfl, Nat.le_of_ble_eq_true rfl⟩ (xR_i (by have := hp _ hb; omega)) rfl (Nat.le_of_ble_eq_true rfl) ⟨Nat.le_of_ble_eq_true rfl, Nat.le_of_ble_eq_true rfl⟩ dX1_out_41 (xPv_i ?_) xN_e
      refine x_icmp_le (tgt := 51) C dX1_out_44 (by decide) (fun c1 => ?_) (fun c1 => ?_)
      · refine x_iconst (v := 0) C dX1_out_51 (by decide) ?_
        refine x_goto (tgt := 89) C dX1_out_52 (by decide) ?_
        refine x_istore (lv' := [(4, .int 0), (3, .int (nI k)), (2, .int (nI (sOg p k))), (0, .ref (ad rL)), (1, .int 1)]) C dX1_out_89 (by decide) rfl ?_
        refine x_iload C dX1_out_91 0 rfl ?_
        refine x_if_eq (tgt := 100) C dX1_out_93 (by decide) (fun _ => ?_) (fun h => absurd rfl h)
        refine x_iload_n C dX1_out_100 rfl 2 rfl ?_
        refine x_istore_n (lv' := [(2, .int (nI (sOg p k))), (4, .int 0), (3, .int (nI k)), (0, .ref (ad rL)), (1, .int 1)]) C dX1_out_101 rfl (by decide) rfl ?_
        refine x_iinc (k := 2) (v := nI (k + 1)) (lv' := [(3, .int (nI (k + 1))), (2, .int (nI (sOg p k))), (4, .int 0), (0, .ref (ad rL)), (1, .int 1)]) C dX1_out_102 rfl (nI_1 k) (by decide) rfl ?_
        refine x_goto (tgt := 4) C dX1_out_105 (by decide) ?_
        refine x_lv (lv' := [(3, .int (nI (k + 1))), (2, .int (nI (sOg p k))), (0, .ref (ad rL)), (1, .int 1)]) [0, 1, 3, 4] rfl ?_
        have e1 : sOg p (k + 1) = sOg p k := if_neg (fun h => absurd ((nI_lt_iff (by have := hp _ hb; have := hp _ hk9; omega) (by have := hp _ hb; have := hp _ hk9; omega)).mpr h) (Int32.not_lt.mpr c1))
        have h9 := ih (k + 1) (by omega)
        rw [e1] at h9
        exact h9
      · refine x_iconst (v := 1) C dX1_out_47 (by decide) ?_
        refine x_goto (tgt := 89) C dX1_out_48 (by decide) ?_
        refine x_istore (lv' := [(4, .int 1), (3, .int (nI k)), (2, .int (nI (sOg p k))), (0, .ref (ad rL)), (1, .int 1)]) C dX1_out_89 (by decide) rfl ?_
        refine x_iload C dX1_out_91 0 rfl ?_
        refine x_if_eq (tgt := 100) C dX1_out_93 (by decide) (fun h => absurd h (by decide)) (fun _ => ?_)
        refine x_iload_n C dX1_out_96 rfl 1 rfl ?_
        refine x_goto (tgt := 101) C dX1_out_97 (by decide) ?_
        refine x_istore_n (lv' := [(2, .int (nI k)), (4, .int 1), (3, .int (nI k)), (0, .ref (ad rL)), (1, .int 1)]) C dX1_out_101 rfl (by decide) rfl ?_
        refine x_iinc (k := 2) (v := nI (k + 1)) (lv' := [(3, .int (nI (k + 1))), (2, .int (nI k)), (4, .int 1), (0, .ref (ad rL)), (1, .int 1)]) C dX1_out_102 rfl (nI_1 k) (by decide) rfl ?_
        refine x_goto (tgt := 4) C dX1_out_105 (by decide) ?_
        refine x_lv (lv' := [(3, .int (nI (k + 1))), (2, .int (nI k)), (0, .ref (ad rL)), (1, .int 1)]) [0, 1, 3, 4] rfl ?_
        have e1 : sOg p (k + 1) = k := if_pos ((nI_lt_iff (by have := hp _ hb; have := hp _ hk9; omega) (by have := hp _ hb; have := hp _ hk9; omega)).mp (Int32.not_le.mp c1))
        have h9 := ih (k + 1) (by omega)
        rw [e1] at h9
        exact h9
  refine x_lv (lv' := [(3, .int 0), (2, .int 0), (0, .ref (ad rL)), (1, .int 1)]) [0, 1, 2, 3] rfl ?_
  exact loop n 0 (by omega)
set_option maxHeartbeats 4000000 in
theorem k1_outL {G : xG} {ad : Nat → Nat} {ct : xCt} {rL rA cap n : Nat} {md : Int32} {p : Nat → Nat} (hL : ct rL = some (xAl md (ad rA) n)) (hA : ct rA = some (xOa G cap (xcont (fun k => G.2.2.1 (128 + p k)) n))) (h0 : 0 < n) (hn : n ≤ cap) (hc : cap ≤ 60) (hp : ∀ k, k < n → p k < 128) : xM G yX1_out (ws_ yX1_out cX1_out 5 (some Jvm.ClassFile.FieldType.int)) 8 250 0 0 [.ref (ad rL), .int 0] ad ct (xPv (some (.int (nI (p (sOl p n))))) ad (xu (xu ct rA (xOa G cap (xcont (fun k => G.2.2.1 (128 + sRm p (sOl p n) k)) (n - 1)))) rL (xAl (md + 1) (ad rA) (n - 1)))) xN := by
  refine xM_of (cc := cX1_out) (by decide) rfl (fun F hF C => ?_)
  subst hF
  show xX F _ _ _ 0 0 0 [(0, .ref (ad rL)), (1, .int 0)] []
  have hcap : Nat.ble cap 2147483647 = true := Nat.ble_eq_true_of_le (by omega)
  refine x_iconst (v := 0) C dX1_out_0 (by decide) ?_
  refine x_istore_n (lv' := [(2, .int 0), (0, .ref (ad rL)), (1, .int 0)]) C dX1_out_1 rfl (by decide) rfl ?_
  refine x_iconst (v := 0) C dX1_out_2 (by decide) ?_
  refine x_istore_n (lv' := [(3, .int 0), (2, .int 0), (0, .ref (ad rL)), (1, .int 0)]) C dX1_out_3 rfl (by decide) rfl ?_
  have loop : ∀ n2 k : Nat, k + n2 = n → xX F (xQ F (xPv (some (.int (nI (p (sOl p n))))) ad (xu (xu ct rA (xOa F.1 cap (xcont (fun k => F.1.2.2.1 (128 + sRm p (sOl p n) k)) (n - 1)))) rL (xAl (md + 1) (ad rA) (n - 1)))) xN 0 0) ad ct 0 0 4 [(3, .int (nI k)), (2, .int (nI (sOl p k))), (0, .ref (ad rL)), (1, .int 0)] [] := by
    intro n2
    induction n2 with
    | zero =>
      intro k hk
      obtain rfl : k = n := by omega
      have hb := sOl_n (p := p) h0
      refine x_iload_n C dX1_out_4 rfl 0 rfl ?_
      refine x_aload_n C dX1_out_5 rfl 2 rfl ?_
      refine x_callF (rest := [.int (nI k)]) (x := ⟨"java/util/List", "size", "()I"⟩) C (k_size hL) cfI_245 (by decide) ⟨by decide +kernel, by decide +kernel, by decide +kernel⟩ ⟨Nat.le_of_ble_eq_true rfl, Nat.le_of_ble_eq_true rfl⟩ xci1 (xR_o xci1 rfl hL) rfl (Nat.le_of_ble_eq_true rfl) ⟨Nat.le_of_ble_eq_true rfl, Nat.le_of_ble_eq_true rfl⟩ dX1_out_6 (xPv_i ?_) xN_e
      refine x_icmp_ge (tgt := 108) C dX1_out_11 (by decide) (fun _ => ?_) (fun h => absurd (Int32.le_refl _) h)
      refine x_aload_n C dX1_out_108 rfl 2 rfl ?_
      refine x_iload_n C dX1_out_109 rfl 1 rfl ?_
      refine x_callF (rest := []) (x := ⟨"java/util/List", "get", "(I)Ljava/lang/Object;"⟩) C (k_get (k := (sOl p k)) hL hA rfl hcap hb hn (xcont_at hb)) cfI_248 (by decide) x_hdGet ⟨Nat.le_of_ble_eq_true rfl, Nat.le_of_ble_eq_true rfl⟩ xci1 (xR_o xci1 rfl hL) rfl (Nat.le_of_ble_eq_true rfl) ⟨Nat.le_of_ble_eq_true rfl, Nat.le_of_ble_eq_true rfl⟩ dX1_out_110 (xPv_i ?_) xN_e
      refine x_cast C (xR_i (by have := hp _ hb; omega)) q396 dX1_out_115 ?_
      refine x_callV (rest := []) C (k_intValue (k := p (sOl p k)) (hp _ hb)) cf_X1_143 ⟨rfl, hd_J18_intValue⟩ ⟨Nat.le_of_ble_eq_true rfl, Nat.le_of_ble_eq_true rfl⟩ (xR_i (by have := hp _ hb; omega)) rfl (Nat.le_of_ble_eq_true rfl) ⟨Nat.le_of_ble_eq_true rfl, Nat.le_of_ble_eq_true rfl⟩ dX1_out_118 (xPv_i ?_) xN_e
      refine x_istore_n (lv' := [(3, .int (nI (p (sOl p k)))), (2, .int (nI (sOl p k))), (0, .ref (ad rL)), (1, .int 0)]) C dX1_out_121 rfl (by decide) rfl ?_
      refine x_aload_n C dX1_out_122 rfl 2 rfl ?_
      refine x_iload_n C dX1_out_123 rfl 1 rfl ?_
      have e9 : (fun q => if q < sOl p k then (fun q => F.1.2.2.1 (128 + p q)) q else (fun q => F.1.2.2.1 (128 + p q)) (q + 1)) = fun q => F.1.2.2.1 (128 + sRm p (sOl p k) q) := by funext q; unfold sRm; split <;> rfl
      refine x_callF (rest := []) (x := ⟨"java/util/List", "remove", "(I)Ljava/lang/Object;"⟩) C (k_remove (Cn := "java/lang/Integer") (el := fun q => F.1.2.2.1 (128 + p q)) (i := sOl p k) hL hA hb hn hc (fun q hq => xR_i (by have := hp q hq; omega)) (by decide)) cfI_249 (by decide) x_hdGet ⟨Nat.le_of_ble_eq_true rfl, Nat.le_of_ble_eq_true rfl⟩ xci1 (xR_o xci1 rfl hL) rfl (Nat.le_of_ble_eq_true rfl) ⟨Nat.le_of_ble_eq_true rfl, Nat.le_of_ble_eq_true rfl⟩ dX1_out_124 (xPv_i ?_) xN_e
      refine x_eq (congrArg (fun z => xu (xu ct rA (xOa F.1 cap (xcont z (k - 1)))) rL (xAl (md + 1) (ad rA) (k - 1))) e9) ?_
      refine x_pop C dX1_out_129 rfl ?_
      refine x_iload_n C dX1_out_130 rfl 0 rfl ?_
      exact x_iret C dX1_out_131 (Nat.le_of_ble_eq_true rfl) (Nat.le_of_ble_eq_true rfl) ⟨rfl, rfl, rfl⟩
    | succ n2 ih =>
      intro k hk
      have hk9 : k < n := by omega
      have hb : sOl p k < n := sOl_lt hk9
      refine x_iload_n C dX1_out_4 rfl 0 rfl ?_
      refine x_aload_n C dX1_out_5 rfl 2 rfl ?_
      refine x_callF (rest := [.int (nI k)]) (x := ⟨"java/util/List", "size", "()I"⟩) C (k_size hL) cfI_245 (by decide) ⟨by decide +kernel, by decide +kernel, by decide +kernel⟩ ⟨Nat.le_of_ble_eq_true rfl, Nat.le_of_ble_eq_true rfl⟩ xci1 (xR_o xci1 rfl hL) rfl (Nat.le_of_ble_eq_true rfl) ⟨Nat.le_of_ble_eq_true rfl, Nat.le_of_ble_eq_true rfl⟩ dX1_out_6 (xPv_i ?_) xN_e
      refine x_icmp_ge (tgt := 108) C dX1_out_11 (by decide) (fun h => absurd ((nI_le_iff (by omega) (by omega)).mp h) (by omega)) (fun _ => ?_)
      refine x_iload_n C dX1_out_14 rfl 3 rfl ?_
      refine x_if_eq (tgt := 55) C dX1_out_15 (by decide) (fun _ => ?_) (fun h => absurd rfl h)
      refine x_aload_n C dX1_out_55 rfl 2 rfl ?_
      refine x_iload_n C dX1_out_56 rfl 0 rfl ?_
      refine x_callF (rest := []) (x := ⟨"java/util/List", "get", "(I)Ljava/lang/Object;"⟩) C (k_get (k := k) hL hA rfl hcap hk9 hn (xcont_at hk9)) cfI_248 (by decide) x_hdGet ⟨Nat.le_of_ble_eq_true rfl, Nat.le_of_ble_eq_true rfl⟩ xci1 (xR_o xci1 rfl hL) rfl (Nat.le_of_ble_eq_true rfl) ⟨Nat.le_of_ble_eq_true rfl, Nat.le_of_ble_eq_true rfl⟩ dX1_out_57 (xPv_i ?_) xN_e
      refine x_cast C (xR_i (by have := hp _ hk9; omega)) q396 dX1_out_62 ?_
      refine x_callV (rest := []) C (k_intValue (k := p k) (hp _ hk9)) cf_X1_143 ⟨rfl, hd_J18_intValue⟩ ⟨Nat.le_of_ble_eq_true rfl, Nat.le_of_ble_eq_true rfl⟩ (xR_i (by have := hp _ hk9; omega)) rfl (Nat.le_of_ble_eq_true rfl) ⟨Nat.le_of_ble_eq_true rfl, Nat.le_of_ble_eq_true rfl⟩ dX1_out_65 (xPv_i ?_) xN_e
      refine x_aload_n C dX1_out_68 rfl 2 rfl ?_
      refine x_iload_n C dX1_out_69 rfl 1 rfl ?_
      refine x_callF (rest := [.int (nI (p k))]) (x := ⟨"java/util/List", "get", "(I)Ljava/lang/Object;"⟩) C (k_get (k := (sOl p k)) hL hA rfl hcap hb hn (xcont_at hb)) cfI_248 (by decide) x_hdGet ⟨Nat.le_of_ble_eq_true rfl, Nat.le_of_ble_eq_true rfl⟩ xci1 (xR_o xci1 rfl hL) rfl (Nat.le_of_ble_eq_true rfl) ⟨Nat.le_of_ble_eq_true rfl, Nat.le_of_ble_eq_true rfl⟩ dX1_out_70 (xPv_i ?_) xN_e
      refine x_cast C (xR_i (by have := hp _ hb; omega)) q396 dX1_out_75 ?_
      refine x_callV (rest := [.int (nI (p k))]) C (k_intValue (k := p (sOl p k)) (hp _ hb)) cf_X1_143 ⟨rfl, hd_J18_intValue⟩ ⟨Nat.le_of_ble_eq_true rfl, Nat.le_of_ble_eq_true rfl⟩ (xR_i (by have := hp _ hb; omega)) rfl (Nat.le_of_ble_eq_true rfl) ⟨Nat.le_of_ble_eq_true rfl, Nat.le_of_ble_eq_true rfl⟩ dX1_out_78 (xPv_i ?_) xN_e
      refine x_icmp_ge (tgt := 88) C dX1_out_81 (by decide) (fun c1 => ?_) (fun c1 => ?_)
      · refine x_iconst (v := 0) C dX1_out_88 (by decide) ?_
        refine x_istore (lv' := [(4, .int 0), (3, .int (nI k)), (2, .int (nI (sOl p k))), (0, .ref (ad rL)), (1, .int 0)]) C dX1_out_89 (by decide) rfl ?_
        refine x_iload C dX1_out_91 0 rfl ?_
        refine x_if_eq (tgt := 100) C dX1_out_93 (by decide) (fun _ => ?_) (fun h => absurd rfl h)
        refine x_iload_n C dX1_out_100 rfl 2 rfl ?_
        refine x_istore_n (lv' := [(2, .int (nI (sOl p k))), (4, .int 0), (3, .int (nI k)), (0, .ref (ad rL)), (1, .int 0)]) C dX1_out_101 rfl (by decide) rfl ?_
        refine x_iinc (k := 2) (v := nI (k + 1)) (lv' := [(3, .int (nI (k + 1))), (2, .int (nI (sOl p k))), (4, .int 0), (0, .ref (ad rL)), (1, .int 0)]) C dX1_out_102 rfl (nI_1 k) (by decide) rfl ?_
        refine x_goto (tgt := 4) C dX1_out_105 (by decide) ?_
        refine x_lv (lv' := [(3, .int (nI (k + 1))), (2, .int (nI (sOl p k))), (0, .ref (ad rL)), (1, .int 0)]) [0, 1, 3, 4] rfl ?_
        have e1 : sOl p (k + 1) = sOl p k := if_neg (fun h => absurd ((nI_lt_iff (by have := hp _ hb; have := hp _ hk9; omega) (by have := hp _ hb; have := hp _ hk9; omega)).mpr h) (Int32.not_lt.mpr c1))
        have h9 := ih (k + 1) (by omega)
        rw [e1] at h9
        exact h9
      · refine x_iconst (v := 1) C dX1_out_84 (by decide) ?_
        refine x_goto (tgt := 89) C dX1_out_85 (by decide) ?_
        refine x_istore (lv' := [(4, .int 1), (3, .int (nI k)), (2, .int (nI (sOl p k))), (0, .ref (ad rL)), (1, .int 0)]) C dX1_out_89 (by decide) rfl ?_
        refine x_iload C dX1_out_91 0 rfl ?_
        refine x_if_eq (tgt := 100) C dX1_out_93 (by decide) (fun h => absurd h (by decide)) (fun _ => ?_)
        refine x_iload_n C dX1_out_96 rfl 1 rfl ?_
        refine x_goto (tgt := 101) C dX1_out_97 (by decide) ?_
        refine x_istore_n (lv' := [(2, .int (nI k)), (4, .int 1), (3, .int (nI k)), (0, .ref (ad rL)), (1, .int 0)]) C dX1_out_101 rfl (by decide) rfl ?_
        refine x_iinc (k := 2) (v := nI (k + 1)) (lv' := [(3, .int (nI (k + 1))), (2, .int (nI k)), (4, .int 1), (0, .ref (ad rL)), (1, .int 0)]) C dX1_out_102 rfl (nI_1 k) (by decide) rfl ?_
        refine x_goto (tgt := 4) C dX1_out_105 (by decide) ?_
        refine x_lv (lv' := [(3, .int (nI (k + 1))), (2, .int (nI k)), (0, .ref (ad rL)), (1, .int 0)]) [0, 1, 3, 4] rfl ?_
        have e1 : sOl p (k + 1) = k := if_pos ((nI_lt_iff (by have := hp _ hb; have := hp _ hk9; omega) (by have := hp _ hb; have := hp _ hk9; omega)).mp (Int32.not_le.mp c1))
        have h9 := ih (k + 1) (by omega)
        rw [e1] at h9
        exact h9
  refine x_lv (lv' := [(3, .int 0), (2, .int 0), (0, .ref (ad rL)), (1, .int 0)]) [0, 1, 2, 3] rfl ?_
  exact loop n 0 (by omega)
