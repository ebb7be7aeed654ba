/-! ===== FIGURES: wornShare, meanPull, checksum ===== -/
/-- discs that are not burnt, and worn ones among them, of the first k -/
def sAl (σ : xSg) : Nat → Int32
  | 0 => 0
  | k + 1 => sAl σ k + (if σ 4 k 0 = -2 then 0 else 1)
def sWo (σ : xSg) : Nat → Int32
  | 0 => 0
  | k + 1 => sWo σ k + (if σ 4 k 0 = -2 then 0 else if σ 3 k 0 < 60 then 0 else 1)
theorem sAl_nI {σ : xSg} : ∀ k, ∃ n, n ≤ k ∧ sAl σ k = nI n
  | 0 => ⟨0, Nat.le_refl _, rfl⟩
  | k + 1 => by
    obtain ⟨n, hn, e⟩ := sAl_nI (σ := σ) k
    by_cases h : σ 4 k 0 = -2
    · exact ⟨n, by omega, by show sAl σ k + _ = _; rw [if_pos h, e, Int32.add_zero]⟩
    · exact ⟨n + 1, by omega, by show sAl σ k + _ = _; rw [if_neg h, e, ← nI_add]; rfl⟩
/-- the pulls of the slots, and how many slots hold a disc; of the first k slots, ten a box -/
def sMp (σ : xSg) : Nat → Int32
  | 0 => 0
  | k + 1 => sMp σ k + sPo σ (k / 10) (k % 10)
def sMa (σ : xSg) : Nat → Int32
  | 0 => 0
  | k + 1 => sMa σ k + (if σ 17 (k / 10) (k % 10) = -1 then 0 else 1)
theorem sMa_nI {σ : xSg} : ∀ k, ∃ n, n ≤ k ∧ sMa σ k = nI n
  | 0 => ⟨0, Nat.le_refl _, rfl⟩
  | k + 1 => by
    obtain ⟨n, hn, e⟩ := sMa_nI (σ := σ) k
    by_cases h : σ 17 (k / 10) (k % 10) = -1
    · exact ⟨n, by omega, by show sMa σ k + _ = _; rw [if_pos h, e, Int32.add_zero]⟩
    · exact ⟨n + 1, by omega, by show sMa σ k + _ = _; rw [if_neg h, e, ← nI_add]; rfl⟩
theorem sMp_s {σ : xSg} {j s : Nat} (hs : s < 10) : sMp σ (10 * j + s + 1) = sMp σ (10 * j + s) + sPo σ j s := by
  show sMp σ (10 * j + s) + sPo σ ((10 * j + s) / 10) ((10 * j + s) % 10) = _
  rw [show (10 * j + s) / 10 = j by omega, show (10 * j + s) % 10 = s by omega]
theorem sMa_s {σ : xSg} {j s : Nat} (hs : s < 10) : sMa σ (10 * j + s + 1) = sMa σ (10 * j + s) + (if σ 17 j s = -1 then 0 else 1) := by
  show sMa σ (10 * j + s) + (if σ 17 ((10 * j + s) / 10) ((10 * j + s) % 10) = -1 then 0 else 1) = _
  rw [show (10 * j + s) / 10 = j by omega, show (10 * j + s) % 10 = s by omega]
/-- the checksum: discs, then boxes -/
def sCd (σ : xSg) : Nat → Int64
  | 0 => 7
  | k + 1 => 31 * sCd σ k + (σ 3 k 0).toInt64
def sCb (σ : xSg) (x : Int64) : Nat → Int64
  | 0 => x
  | k + 1 => 31 * (31 * (31 * sCb σ x k + (σ 9 k 0).toInt64) + (σ 8 k 0).toInt64) + (σ 10 k 0).toInt64
def sCk (κ : xKp) (σ : xSg) : Int64 := 31 * (31 * sCb σ (sCd σ (κ 0)) (κ 1) + (σ 23 0 0).toInt64) + (σ 24 0 0).toInt64
/-- the floating-point numbers that results are -/
def vOK (f : FP.Core.Fmt) : FP.Core.Datum → Prop
  | .nan => False
  | .inf _ => True
  | .fin _ c q => c < 2 ^ f.p ∧ f.qmin ≤ q ∧ q ≤ f.qmax
theorem vOK_rr {f : FP.Core.Fmt} (h1 : f.qmin ≤ f.qmax) (h2 : f.tails < 2 ^ f.p) (s : Bool) (n d : Nat) (e : Int) : vOK f (FP.Core.roundRatio f s n d e) := by
  unfold FP.Core.roundRatio
  split
  · exact ⟨Nat.two_pow_pos _, Int.le_refl _, h1⟩
  · unfold FP.Core.roundAt FP.Core.settle
    have hq : f.qmin ≤ FP.Core.quantum f n d e := Int.le_max_left _ _
    split
    · unfold FP.Core.bound
      split
      · exact ⟨by assumption, hq, by assumption⟩
      · trivial
    · unfold FP.Core.bound
      split
      · exact ⟨h2, by omega, by assumption⟩
      · trivial
theorem vBits32 {d : FP.Core.Datum} (h : vOK FP.Core.b32 d) : ∃ b e t : Nat, b ≤ 1 ∧ FP.Core.encode FP.Core.b32 d = (b * 256 + e) * 8388608 + t ∧ ((e ≤ 254 ∧ t < 8388608) ∨ (e = 255 ∧ t = 0)) := by
  have e1 : FP.Core.b32.tails = 8388608 := by decide
  have e2 : FP.Core.b32.exps = 256 := by decide
  have e3 : FP.Core.b32.qmin = -149 := by decide
  have e4 : FP.Core.b32.qmax = 104 := by decide
  have e5 : 2 ^ FP.Core.b32.p = 16777216 := by decide
  cases d with
  | nan => exact h.elim
  | inf s =>
    refine ⟨s.toNat, 255, 0, Bool.toNat_le s, ?_, Or.inr ⟨rfl, rfl⟩⟩
    show FP.Core.assemble _ s _ 0 = _
    unfold FP.Core.assemble
    rw [e1, e2]
  | fin s c q =>
    obtain ⟨h1, h2, h3⟩ := h
    rw [e5] at h1
    rw [e3] at h2
    rw [e4] at h3
    by_cases hc : c < 8388608
    · refine ⟨s.toNat, 0, c, Bool.toNat_le s, ?_, Or.inl ⟨by omega, hc⟩⟩
      show (if c < FP.Core.b32.tails then FP.Core.assemble FP.Core.b32 s 0 c else _) = _
      rw [e1, if_pos hc]
      unfold FP.Core.assemble
      rw [e1, e2]
    · refine ⟨s.toNat, (q - (-149)).toNat + 1, c - 8388608, Bool.toNat_le s, ?_, Or.inl ⟨by omega, by omega⟩⟩
      show (if c < FP.Core.b32.tails then _ else FP.Core.assemble FP.Core.b32 s ((q - FP.Core.b32.qmin).toNat + 1) (c - FP.Core.b32.tails)) = _
      rw [e1, if_neg hc, e3]
      unfold FP.Core.assemble
      rw [e1, e2]
theorem vNat32 {d : FP.Core.Datum} (h : vOK FP.Core.b32 d) : ∃ b e t : Nat, b ≤ 1 ∧ (UInt32.ofNat (FP.Core.encode FP.Core.b32 d)).toNat = (b * 256 + e) * 8388608 + t ∧ ((e ≤ 254 ∧ t < 8388608) ∨ (e = 255 ∧ t = 0)) := by
  obtain ⟨b, e, t, hb, he, ht⟩ := vBits32 h
  exact ⟨b, e, t, hb, by rw [UInt32.toNat_ofNat', he]; omega, ht⟩
theorem vDec32 {d : FP.Core.Datum} (h : vOK FP.Core.b32 d) : FP.Core.decode FP.Core.b32 (UInt32.ofNat (FP.Core.encode FP.Core.b32 d)).toNat ≠ .nan := by
  obtain ⟨b, e, t, hb, hn, ht⟩ := vNat32 h
  have e1 : FP.Core.b32.tails = 8388608 := by decide
  have e2 : FP.Core.b32.exps = 256 := by decide
  rw [hn]
  unfold FP.Core.decode FP.Core.fieldE FP.Core.fieldT
  rw [e1, e2]
  by_cases hE : ((b * 256 + e) * 8388608 + t) / 8388608 % 256 = 256 - 1
  · rw [if_pos hE, if_pos (by omega)]
    intro h9; cases h9
  · rw [if_neg hE]
    split <;> (intro h9; cases h9)
theorem vMask32 {d : FP.Core.Datum} (h : vOK FP.Core.b32 d) : vf_n32 (UInt32.ofNat (FP.Core.encode FP.Core.b32 d)) := by
  obtain ⟨b, e, t, hb, hn, ht⟩ := vNat32 h
  unfold vf_n32
  rw [UInt32.le_iff_toNat_le, UInt32.toNat_and, hn]
  have h1 : (0x7fffffff : UInt32).toNat = 2 ^ 31 - 1 := by decide
  have h2 : (0x7f800000 : UInt32).toNat = 2139095040 := by decide
  rw [h1, h2, Nat.and_two_pow_sub_one_eq_mod]
  omega
def vChk32 (n : Nat) : Bool := match FP.Core.decode FP.Core.b32 (FP.i2f (nI n)).toNat with
  | .fin _ c _ => c != 0
  | _ => false
theorem vChk32_all : ∀ n, n < 41 → n ≠ 0 → vChk32 n = true := by decide +kernel
theorem vf_f {a b : Int32} {n : Nat} (hb : b = nI n) (h0 : 0 < n) (h9 : n < 41) : vf_n32 (FP.fdiv (FP.i2f a) (FP.i2f b)) := by
  have hc := vChk32_all n h9 (by omega)
  unfold vChk32 at hc
  rw [← hb] at hc
  have ha : FP.Core.decode FP.Core.b32 (FP.i2f a).toNat ≠ .nan := vDec32 (vOK_rr (by decide) (by decide) _ _ _ _)
  show vf_n32 (UInt32.ofNat (FP.Core.encode FP.Core.b32 (FP.Core.quotient FP.Core.b32 (FP.Core.decode FP.Core.b32 (FP.i2f a).toNat) (FP.Core.decode FP.Core.b32 (FP.i2f b).toNat))))
  refine vMask32 ?_
  generalize FP.Core.decode FP.Core.b32 (FP.i2f a).toNat = x at *
  generalize FP.Core.decode FP.Core.b32 (FP.i2f b).toNat = y at *
  cases y with
  | nan => cases hc
  | inf s => cases hc
  | fin s c q =>
    have hc0 : c ≠ 0 := by simpa using hc
    cases x with
    | nan => exact absurd rfl ha
    | inf s2 => trivial
    | fin s2 c2 q2 =>
      show vOK _ (if c = 0 then _ else FP.Core.roundRatio _ _ _ _ _)
      rw [if_neg hc0]
      exact vOK_rr (by decide) (by decide) _ _ _ _
theorem vBits64 {d : FP.Core.Datum} (h : vOK FP.Core.b64 d) : ∃ b e t : Nat, b ≤ 1 ∧ FP.Core.encode FP.Core.b64 d = (b * 2048 + e) * 4503599627370496 + t ∧ ((e ≤ 2046 ∧ t < 4503599627370496) ∨ (e = 2047 ∧ t = 0)) := by
  have e1 : FP.Core.b64.tails = 4503599627370496 := by decide
  have e2 : FP.Core.b64.exps = 2048 := by decide
  have e3 : FP.Core.b64.qmin = -1074 := by decide
  have e4 : FP.Core.b64.qmax = 971 := by decide
  have e5 : 2 ^ FP.Core.b64.p = 9007199254740992 := by decide
  cases d with
  | nan => exact h.elim
  | inf s =>
    refine ⟨s.toNat, 2047, 0, Bool.toNat_le s, ?_, Or.inr ⟨rfl, rfl⟩⟩
    show FP.Core.assemble _ s _ 0 = _
    unfold FP.Core.assemble
    rw [e1, e2]
  | fin s c q =>
    obtain ⟨h1, h2, h3⟩ := h
    rw [e5] at h1
    rw [e3] at h2
    rw [e4] at h3
    by_cases hc : c < 4503599627370496
    · refine ⟨s.toNat, 0, c, Bool.toNat_le s, ?_, Or.inl ⟨by omega, hc⟩⟩
      show (if c < FP.Core.b64.tails then FP.Core.assemble FP.Core.b64 s 0 c else _) = _
      rw [e1, if_pos hc]
      unfold FP.Core.assemble
      rw [e1, e2]
    · refine ⟨s.toNat, (q - (-1074)).toNat + 1, c - 4503599627370496, Bool.toNat_le s, ?_, Or.inl ⟨by omega, by omega⟩⟩
      show (if c < FP.Core.b64.tails then _ else FP.Core.assemble FP.Core.b64 s ((q - FP.Core.b64.qmin).toNat + 1) (c - FP.Core.b64.tails)) = _
      rw [e1, if_neg hc, e3]
      unfold FP.Core.assemble
      rw [e1, e2]
theorem vNat64 {d : FP.Core.Datum} (h : vOK FP.Core.b64 d) : ∃ b e t : Nat, b ≤ 1 ∧ (UInt64.ofNat (FP.Core.encode FP.Core.b64 d)).toNat = (b * 2048 + e) * 4503599627370496 + t ∧ ((e ≤ 2046 ∧ t < 4503599627370496) ∨ (e = 2047 ∧ t = 0)) := by
  obtain ⟨b, e, t, hb, he, ht⟩ := vBits64 h
  exact ⟨b, e, t, hb, by rw [UInt64.toNat_ofNat', he]; omega, ht⟩
theorem vDec64 {d : FP.Core.Datum} (h : vOK FP.Core.b64 d) : FP.Core.decode FP.Core.b64 (UInt64.ofNat (FP.Core.encode FP.Core.b64 d)).toNat ≠ .nan := by
  obtain ⟨b, e, t, hb, hn, ht⟩ := vNat64 h
  have e1 : FP.Core.b64.tails = 4503599627370496 := by decide
  have e2 : FP.Core.b64.exps = 2048 := by decide
  rw [hn]
  unfold FP.Core.decode FP.Core.fieldE FP.Core.fieldT
  rw [e1, e2]
  by_cases hE : ((b * 2048 + e) * 4503599627370496 + t) / 4503599627370496 % 2048 = 2048 - 1
  · rw [if_pos hE, if_pos (by omega)]
    intro h9; cases h9
  · rw [if_neg hE]
    split <;> (intro h9; cases h9)
theorem vMask64 {d : FP.Core.Datum} (h : vOK FP.Core.b64 d) : vf_n64 (UInt64.ofNat (FP.Core.encode FP.Core.b64 d)) := by
  obtain ⟨b, e, t, hb, hn, ht⟩ := vNat64 h
  unfold vf_n64
  rw [UInt64.le_iff_toNat_le, UInt64.toNat_and, hn]
  have h1 : (0x7fffffffffffffff : UInt64).toNat = 2 ^ 63 - 1 := by decide
  have h2 : (0x7ff0000000000000 : UInt64).toNat = 9218868437227405312 := by decide
  rw [h1, h2, Nat.and_two_pow_sub_one_eq_mod]
  omega
def vChk64 (n : Nat) : Bool := match FP.Core.decode FP.Core.b64 (FP.i2d (nI n)).toNat with
  | .fin _ c _ => c != 0
  | _ => false
theorem vChk64_all : ∀ n, n < 41 → n ≠ 0 → vChk64 n = true := by decide +kernel
theorem vf_d {a b : Int32} {n : Nat} (hb : b = nI n) (h0 : 0 < n) (h9 : n < 41) : vf_n64 (FP.ddiv (FP.i2d a) (FP.i2d b)) := by
  have hc := vChk64_all n h9 (by omega)
  unfold vChk64 at hc
  rw [← hb] at hc
  have ha : FP.Core.decode FP.Core.b64 (FP.i2d a).toNat ≠ .nan := vDec64 (vOK_rr (by decide) (by decide) _ _ _ _)
  show vf_n64 (UInt64.ofNat (FP.Core.encode FP.Core.b64 (FP.Core.quotient FP.Core.b64 (FP.Core.decode FP.Core.b64 (FP.i2d a).toNat) (FP.Core.decode FP.Core.b64 (FP.i2d b).toNat))))
  refine vMask64 ?_
  generalize FP.Core.decode FP.Core.b64 (FP.i2d a).toNat = x at *
  generalize FP.Core.decode FP.Core.b64 (FP.i2d b).toNat = y at *
  cases y with
  | nan => cases hc
  | inf s => cases hc
  | fin s c q =>
    have hc0 : c ≠ 0 := by simpa using hc
    cases x with
    | nan => exact absurd rfl ha
    | inf s2 => trivial
    | fin s2 c2 q2 =>
      show vOK _ (if c = 0 then _ else FP.Core.roundRatio _ _ _ _ _)
      rw [if_neg hc0]
      exact vOK_rr (by decide) (by decide) _ _ _ _
set_option maxHeartbeats 4000000 in
theorem k1_wornShare {G : xG} {ad0 : Nat → Nat} {κ : xKp} {σ : xSg} {m t : xK} (hI : xIk κ) (ht : t 58 0 = none) : xM G yX1_wornShare (ws_ yX1_wornShare cX1_wornShare 5 (some Jvm.ClassFile.FieldType.float)) 20 600 10 60 [.ref (ad0 (ro 0 0))] ad0 (xj (xkC G.2.2.1 ad0 κ σ) m t) (fun v ad' ct' => ad' = ad0 ∧ ct' = xj (xkC G.2.2.1 ad0 κ σ) m t ∧ 0 < sAl σ (κ 0) ∧ v = some (.float (FP.fdiv (FP.i2f (sWo σ (κ 0))) (FP.i2f (sAl σ (κ 0)))))) (fun E ad' ct' => ad' = ad0 ∧ ct' = xj (xkC G.2.2.1 ad0 κ σ) m t ∧ E = xARE ∧ ¬ 0 < sAl σ (κ 0)) := by
  refine xM_of (cc := cX1_wornShare) (by decide) rfl (fun F hF C => ?_)
  subst hF
  show xX F _ _ _ 0 0 0 [(0, .ref (ad0 (ro 0 0)))] []
  refine x_iconst (v := 0) C dX1_wornShare_0 (by decide) ?_
  refine x_istore_n (lv' := [(1, .int 0), (0, .ref (ad0 (ro 0 0)))]) C dX1_wornShare_1 rfl (by decide) rfl ?_
  refine x_iconst (v := 0) C dX1_wornShare_2 (by decide) ?_
  refine x_istore_n (lv' := [(2, .int 0), (1, .int 0), (0, .ref (ad0 (ro 0 0)))]) C dX1_wornShare_3 rfl (by decide) rfl ?_
  refine x_aload_n C dX1_wornShare_4 rfl 2 rfl ?_
  refine x_get C fl_X1_28 (r := ro 0 0) rfl (xj_c (by decide) xkC_sr) (v := .ref (ad0 (ro 1 0))) rfl dX1_wornShare_5 ?_
  refine x_iter C (kL := 1) (by decide) xkC_L1 ht ⟨Nat.le_of_ble_eq_true rfl, Nat.le_of_ble_eq_true rfl⟩ (Nat.le_of_ble_eq_true rfl) ⟨Nat.le_of_ble_eq_true rfl, Nat.le_of_ble_eq_true rfl⟩ dX1_wornShare_8 (fun ad had => ?_)
  rw [← had (ro 0 0) (ro_ne (by decide) (by decide) (by decide))]
  refine x_astore_n (lv' := [(3, .ref (ad (ro 58 0))), (2, .int 0), (1, .int 0), (0, .ref (ad (ro 0 0)))]) C dX1_wornShare_11 rfl (by decide) rfl ?_
  have loop : ∀ (n c : Nat) (l : Int32), c + n = κ 0 → xX F (xQ F (fun v ad' ct' => ad' = ad0 ∧ ct' = xj (xkC F.1.2.2.1 ad0 κ σ) m t ∧ 0 < sAl σ (κ 0) ∧ v = some (.float (FP.fdiv (FP.i2f (sWo σ (κ 0))) (FP.i2f (sAl σ (κ 0)))))) (fun E ad' ct' => ad' = ad0 ∧ ct' = xj (xkC F.1.2.2.1 ad0 κ σ) m t ∧ E = xARE ∧ ¬ 0 < sAl σ (κ 0)) 10 60) ad (xj (xkC F.1.2.2.1 ad κ σ) m (cu t 58 0 (xIt c l (σ 26 0 0) (ad (ro 1 0))))) 1 4 12 [(3, .ref (ad (ro 58 0))), (0, .ref (ad (ro 0 0))), (1, .int (sWo σ c)), (2, .int (sAl σ c))] [] := by
    intro n
    induction n with
    | zero =>
      intro c l hk
      have h14 := hI.2.2.2.2.1
      have hL9 : xkC F.1.2.2.1 ad κ σ 1 0 = some (xAl (σ 26 0 0) (if κ 2 = 0 then F.1.2.2.1 301 else ad (ro 2 0)) (κ 0)) := rfl
      refine x_aload_n C dX1_wornShare_12 rfl 0 rfl ?_
      refine x_hasNext C (kL := 1) (by decide) hL9 (by omega) (by omega) ⟨Nat.le_of_ble_eq_true rfl, Nat.le_of_ble_eq_true rfl⟩ (Nat.le_of_ble_eq_true rfl) ⟨Nat.le_of_ble_eq_true rfl, Nat.le_of_ble_eq_true rfl⟩ dX1_wornShare_13 ?_
      refine x_top (y := 0) (if_neg (by omega)) ?_
      refine x_if_eq (tgt := 79) C dX1_wornShare_18 (by decide) (fun _ => ?_) (fun h => absurd rfl h)
      obtain rfl : c = κ 0 := by omega
      refine x_lv (lv' := [(1, .int (sWo σ (κ 0))), (2, .int (sAl σ (κ 0)))]) [2, 3] rfl ?_
      refine x_backAd had ht ?_
      refine x_iload_n C dX1_wornShare_79 rfl 1 rfl ?_
      refine x_if_le (tgt := 87) C dX1_wornShare_80 (by decide) (fun c0 => ?_) (fun c0 => ?_)
      · refine x_iconst (v := 0) C dX1_wornShare_87 (by decide) ?_
        refine x_callS (rest := []) C (k_requireSome 0) cf_X1_262 hd_X1_requireSome ⟨Nat.le_of_ble_eq_true rfl, Nat.le_of_ble_eq_true rfl⟩ rfl (Nat.le_of_ble_eq_true rfl) ⟨Nat.le_of_ble_eq_true rfl, Nat.le_of_ble_eq_true rfl⟩ dX1_wornShare_88 (fun v ad' ct' q => absurd rfl q.1) (fun E ad' ct' q => ?_)
        obtain ⟨-, rfl, e9, rfl⟩ := q; obtain rfl := e9.symm
        exact x_out C (fun _ h => nomatch h) (Nat.le_of_ble_eq_true rfl) (Nat.le_of_ble_eq_true rfl) ⟨rfl, rfl, rfl, Int32.not_lt.mpr c0⟩
      · refine x_iconst (v := 1) C dX1_wornShare_83 (by decide) ?_
        refine x_goto (tgt := 88) C dX1_wornShare_84 (by decide) ?_
        refine x_callS (rest := []) C (k_requireSome 1) cf_X1_262 hd_X1_requireSome ⟨Nat.le_of_ble_eq_true rfl, Nat.le_of_ble_eq_true rfl⟩ rfl (Nat.le_of_ble_eq_true rfl) ⟨Nat.le_of_ble_eq_true rfl, Nat.le_of_ble_eq_true rfl⟩ dX1_wornShare_88 (fun v ad' ct' q => ?_) (fun E ad' ct' q => absurd q.1 (by decide))
        obtain ⟨-, rfl, e9, rfl⟩ := q; obtain rfl := e9.symm
        obtain ⟨n9, hn9, e9⟩ := sAl_nI (σ := σ) (κ 0)
        have hp9 : 0 < n9 := Nat.pos_of_ne_zero (fun h => c0 (by rw [e9, h]; decide))
        refine x_iload_n C dX1_wornShare_91 rfl 0 rfl ?_
        refine x_i2f C dX1_wornShare_92 ?_
        refine x_iload_n C dX1_wornShare_93 rfl 1 rfl ?_
        refine x_i2f C dX1_wornShare_94 ?_
        refine x_fdiv C dX1_wornShare_95 (vf_f e9 hp9 (by omega)) ?_
        exact x_fret C dX1_wornShare_96 (Nat.le_of_ble_eq_true rfl) (Nat.le_of_ble_eq_true rfl) ⟨rfl, rfl, Int32.not_le.mp c0, rfl⟩
    | succ n ih =>
      intro c l hk
      have h14 := hI.2.2.2.2.1
      have hL9 : xkC F.1.2.2.1 ad κ σ 1 0 = some (xAl (σ 26 0 0) (if κ 2 = 0 then F.1.2.2.1 301 else ad (ro 2 0)) (κ 0)) := rfl
      refine x_aload_n C dX1_wornShare_12 rfl 0 rfl ?_
      refine x_hasNext C (kL := 1) (by decide) hL9 (by omega) (by omega) ⟨Nat.le_of_ble_eq_true rfl, Nat.le_of_ble_eq_true rfl⟩ (Nat.le_of_ble_eq_true rfl) ⟨Nat.le_of_ble_eq_true rfl, Nat.le_of_ble_eq_true rfl⟩ dX1_wornShare_13 ?_
      refine x_top (y := 1) (if_pos (by omega)) ?_
      refine x_if_eq (tgt := 79) C dX1_wornShare_18 (by decide) (fun h => absurd h (by decide)) (fun _ => ?_)
      have hc1 : c < κ 0 := by omega
      have h13 := hI.1
      have h33 := hI.2.1
      have hne : κ 2 ≠ 0 := by omega
      refine x_aload_n C dX1_wornShare_21 rfl 0 rfl ?_
      refine x_next C (kL := 1) (kA := 2) (by decide) (by decide) (hL9.trans (by rw [if_neg hne])) (xkC_da hne) hc1 h13 (by omega) (if_pos hc1) ⟨Nat.le_of_ble_eq_true rfl, Nat.le_of_ble_eq_true rfl⟩ (Nat.le_of_ble_eq_true rfl) ⟨Nat.le_of_ble_eq_true rfl, Nat.le_of_ble_eq_true rfl⟩ dX1_wornShare_22 ?_
      refine x_cast C (xR_o xci2 rfl (xj_c (by decide) (xkC_disc hc1))) q247 dX1_wornShare_27 ?_
      refine x_astore (lv' := [(4, .ref (ad (ro 11 c))), (3, .ref (ad (ro 58 0))), (0, .ref (ad (ro 0 0))), (1, .int (sWo σ c)), (2, .int (sAl σ c))]) C dX1_wornShare_30 (by decide) rfl ?_
      refine x_iload_n C dX1_wornShare_32 rfl 4 rfl ?_
      refine x_aload C dX1_wornShare_33 0 rfl ?_
      refine x_get C fl_X1_169 (r := ro 11 c) rfl (xj_c (by decide) (xkC_disc hc1)) (v := .int (σ 4 c 0)) rfl dX1_wornShare_35 ?_
      refine x_bipush (v := -2) C dX1_wornShare_38 (by decide) ?_
      refine x_icmp_ne (tgt := 47) C dX1_wornShare_40 (by decide) (fun c1 => ?_) (fun c1 => ?_)
      · refine x_iconst (v := 1) C dX1_wornShare_47 (by decide) ?_
        refine x_iadd C dX1_wornShare_48 ?_
        refine x_istore_n (lv' := [(2, .int ((sAl σ c) + 1)), (4, .ref (ad (ro 11 c))), (3, .ref (ad (ro 58 0))), (0, .ref (ad (ro 0 0))), (1, .int (sWo σ c))]) C dX1_wornShare_49 rfl (by decide) rfl ?_
        refine x_iload_n C dX1_wornShare_50 rfl 4 rfl ?_
        refine x_aload C dX1_wornShare_51 1 rfl ?_
        refine x_get C fl_X1_169 (r := ro 11 c) rfl (xj_c (by decide) (xkC_disc hc1)) (v := .int (σ 4 c 0)) rfl dX1_wornShare_53 ?_
        refine x_bipush (v := -2) C dX1_wornShare_56 (by decide) ?_
        refine x_icmp_eq (tgt := 73) C dX1_wornShare_58 (by decide) (fun h => absurd h c1) (fun _ => ?_)
        refine x_aload C dX1_wornShare_61 1 rfl ?_
        refine x_callV (rest := [.int (sWo σ c)]) C (k_isWornOut (xj_c (by decide) (xkC_disc hc1))) cf_X1_149 ⟨rfl, hd_X3_isWornOut⟩ ⟨Nat.le_of_ble_eq_true rfl, Nat.le_of_ble_eq_true rfl⟩ (xR_o xci2 rfl (xj_c (by decide) (xkC_disc hc1))) rfl (Nat.le_of_ble_eq_true rfl) ⟨Nat.le_of_ble_eq_true rfl, Nat.le_of_ble_eq_true rfl⟩ dX1_wornShare_63 (xPv_i ?_) xN_e
        refine x_if_eq (tgt := 73) C dX1_wornShare_66 (by decide) (fun c2 => ?_) (fun c2 => ?_)
        · refine x_iconst (v := 0) C dX1_wornShare_73 (by decide) ?_
          refine x_iadd C dX1_wornShare_74 ?_
          refine x_istore_n (lv' := [(1, .int ((sWo σ c) + 0)), (2, .int ((sAl σ c) + 1)), (4, .ref (ad (ro 11 c))), (3, .ref (ad (ro 58 0))), (0, .ref (ad (ro 0 0)))]) C dX1_wornShare_75 rfl (by decide) rfl ?_
          refine x_goto (tgt := 12) C dX1_wornShare_76 (by decide) ?_
          refine x_lv (lv' := [(3, .ref (ad (ro 58 0))), (0, .ref (ad (ro 0 0))), (1, .int ((sWo σ c) + 0)), (2, .int ((sAl σ c) + 1))]) [3, 4, 0, 1] rfl ?_
          have e1 : sAl σ (c + 1) = (sAl σ c) + 1 := by show sAl σ c + _ = _; rw [if_neg c1]
          have e2 : sWo σ (c + 1) = (sWo σ c) + 0 := by show sWo σ c + _ = _; rw [if_neg c1, if_pos (Decidable.byContradiction fun h => by rw [if_neg h] at c2; exact absurd c2 (by decide))]
          have h9 := ih (c + 1) (nI c) (by omega)
          rw [e1, e2] at h9
          exact h9
        · refine x_iconst (v := 1) C dX1_wornShare_69 (by decide) ?_
          refine x_goto (tgt := 74) C dX1_wornShare_70 (by decide) ?_
          refine x_iadd C dX1_wornShare_74 ?_
          refine x_istore_n (lv' := [(1, .int ((sWo σ c) + 1)), (2, .int ((sAl σ c) + 1)), (4, .ref (ad (ro 11 c))), (3, .ref (ad (ro 58 0))), (0, .ref (ad (ro 0 0)))]) C dX1_wornShare_75 rfl (by decide) rfl ?_
          refine x_goto (tgt := 12) C dX1_wornShare_76 (by decide) ?_
          refine x_lv (lv' := [(3, .ref (ad (ro 58 0))), (0, .ref (ad (ro 0 0))), (1, .int ((sWo σ c) + 1)), (2, .int ((sAl σ c) + 1))]) [3, 4, 0, 1] rfl ?_
          have e1 : sAl σ (c + 1) = (sAl σ c) + 1 := by show sAl σ c + _ = _; rw [if_neg c1]
          have e2 : sWo σ (c + 1) = (sWo σ c) + 1 := by show sWo σ c + _ = _; rw [if_neg c1, if_neg (fun h => c2 (if_pos h))]
          have h9 := ih (c + 1) (nI c) (by omega)
          rw [e1, e2] at h9
          exact h9
      · refine x_iconst (v := 0) C dX1_wornShare_43 (by decide) ?_
        refine x_goto (tgt := 48) C dX1_wornShare_44 (by decide) ?_
        refine x_iadd C dX1_wornShare_48 ?_
        refine x_istore_n (lv' := [(2, .int ((sAl σ c) + 0)), (4, .ref (ad (ro 11 c))), (3, .ref (ad (ro 58 0))), (0, .ref (ad (ro 0 0))), (1, .int (sWo σ c))]) C dX1_wornShare_49 rfl (by decide) rfl ?_
        refine x_iload_n C dX1_wornShare_50 rfl 4 rfl ?_
        refine x_aload C dX1_wornShare_51 1 rfl ?_
        refine x_get C fl_X1_169 (r := ro 11 c) rfl (xj_c (by decide) (xkC_disc hc1)) (v := .int (σ 4 c 0)) rfl dX1_wornShare_53 ?_
        refine x_bipush (v := -2) C dX1_wornShare_56 (by decide) ?_
        refine x_icmp_eq (tgt := 73) C dX1_wornShare_58 (by decide) (fun _ => ?_) (fun h => absurd c1 h)
        refine x_iconst (v := 0) C dX1_wornShare_73 (by decide) ?_
        refine x_iadd C dX1_wornShare_74 ?_
        refine x_istore_n (lv' := [(1, .int ((sWo σ c) + 0)), (2, .int ((sAl σ c) + 0)), (4, .ref (ad (ro 11 c))), (3, .ref (ad (ro 58 0))), (0, .ref (ad (ro 0 0)))]) C dX1_wornShare_75 rfl (by decide) rfl ?_
        refine x_goto (tgt := 12) C dX1_wornShare_76 (by decide) ?_
        refine x_lv (lv' := [(3, .ref (ad (ro 58 0))), (0, .ref (ad (ro 0 0))), (1, .int ((sWo σ c) + 0)), (2, .int ((sAl σ c) + 0))]) [3, 4, 0, 1] rfl ?_
        have e1 : sAl σ (c + 1) = (sAl σ c) + 0 := by show sAl σ c + _ = _; rw [if_pos c1]
        have e2 : sWo σ (c + 1) = (sWo σ c) + 0 := by show sWo σ c + _ = _; rw [if_pos c1]
        have h9 := ih (c + 1) (nI c) (by omega)
        rw [e1, e2] at h9
        exact h9
  refine x_lv (lv' := [(3, .ref (ad (ro 58 0))), (0, .ref (ad (ro 0 0))), (1, .int 0), (2, .int 0)]) [0, 3, 2, 1] rfl ?_
  exact loop (κ 0) 0 (-1) (by omega)
set_option maxHeartbeats 4000000 in
theorem k1_meanPull {G : xG} {ad0 : Nat → Nat} {κ : xKp} {σ : xSg} {m t : xK} (hI : xIk κ) (hS : xIs κ σ) (ht : t 58 0 = none) : xM G yX1_meanPull (ws_ yX1_meanPull cX1_meanPull 6 (some Jvm.ClassFile.FieldType.double)) 20 600 10 60 [.ref (ad0 (ro 0 0))] ad0 (xj (xkC G.2.2.1 ad0 κ σ) m t) (fun v ad' ct' => ad' = ad0 ∧ ct' = xj (xkC G.2.2.1 ad0 κ σ) m t ∧ 0 < sMa σ (10 * κ 1) ∧ v = some (.double (FP.ddiv (FP.i2d (sMp σ (10 * κ 1))) (FP.i2d (sMa σ (10 * κ 1)))))) (fun E ad' ct' => ad' = ad0 ∧ ct' = xj (xkC G.2.2.1 ad0 κ σ) m t ∧ E = xARE ∧ ¬ 0 < sMa σ (10 * κ 1)) := by
  refine xM_of (cc := cX1_meanPull) (by decide) rfl (fun F hF C => ?_)
  subst hF
  show xX F _ _ _ 0 0 0 [(0, .ref (ad0 (ro 0 0)))] []
  refine x_iconst (v := 0) C dX1_meanPull_0 (by decide) ?_
  refine x_istore_n (lv' := [(1, .int 0), (0, .ref (ad0 (ro 0 0)))]) C dX1_meanPull_1 rfl (by decide) rfl ?_
  refine x_iconst (v := 0) C dX1_meanPull_2 (by decide) ?_
  refine x_istore_n (lv' := [(2, .int 0), (1, .int 0), (0, .ref (ad0 (ro 0 0)))]) C dX1_meanPull_3 rfl (by decide) rfl ?_
  refine x_aload_n C dX1_meanPull_4 rfl 2 rfl ?_
  refine x_get C fl_X1_34 (r := ro 0 0) rfl (xj_c (by decide) xkC_sr) (v := .ref (ad0 (ro 3 0))) rfl dX1_meanPull_5 ?_
  refine x_iter C (kL := 3) (by decide) xkC_L3 ht ⟨Nat.le_of_ble_eq_true rfl, Nat.le_of_ble_eq_true rfl⟩ (Nat.le_of_ble_eq_true rfl) ⟨Nat.le_of_ble_eq_true rfl, Nat.le_of_ble_eq_true rfl⟩ dX1_meanPull_8 (fun ad had => ?_)
  rw [← had (ro 0 0) (ro_ne (by decide) (by decide) (by decide))]
  refine x_astore_n (lv' := [(3, .ref (ad (ro 58 0))), (2, .int 0), (1, .int 0), (0, .ref (ad (ro 0 0)))]) C dX1_meanPull_11 rfl (by decide) rfl ?_
  have loop : ∀ (n c : Nat) (l : Int32), c + n = κ 1 → xX F (xQ F (fun v ad' ct' => ad' = ad0 ∧ ct' = xj (xkC F.1.2.2.1 ad0 κ σ) m t ∧ 0 < sMa σ (10 * κ 1) ∧ v = some (.double (FP.ddiv (FP.i2d (sMp σ (10 * κ 1))) (FP.i2d (sMa σ (10 * κ 1)))))) (fun E ad' ct' => ad' = ad0 ∧ ct' = xj (xkC F.1.2.2.1 ad0 κ σ) m t ∧ E = xARE ∧ ¬ 0 < sMa σ (10 * κ 1)) 10 60) ad (xj (xkC F.1.2.2.1 ad κ σ) m (cu t 58 0 (xIt c l (σ 27 0 0) (ad (ro 3 0))))) 1 4 12 [(3, .ref (ad (ro 58 0))), (0, .ref (ad (ro 0 0))), (1, .int (sMp σ (10 * c))), (2, .int (sMa σ (10 * c)))] [] := by
    intro n
    induction n with
    | zero =>
      intro c l hk
      have h14 := hI.2.2.2.2.2
      have hL9 : xkC F.1.2.2.1 ad κ σ 3 0 = some (xAl (σ 27 0 0) (if κ 3 = 0 then F.1.2.2.1 301 else ad (ro 4 0)) (κ 1)) := rfl
      refine x_aload_n C dX1_meanPull_12 rfl 0 rfl ?_
      refine x_hasNext C (kL := 3) (by decide) hL9 (by omega) (by omega) ⟨Nat.le_of_ble_eq_true rfl, Nat.le_of_ble_eq_true rfl⟩ (Nat.le_of_ble_eq_true rfl) ⟨Nat.le_of_ble_eq_true rfl, Nat.le_of_ble_eq_true rfl⟩ dX1_meanPull_13 ?_
      refine x_top (y := 0) (if_neg (by omega)) ?_
      refine x_if_eq (tgt := 82) C dX1_meanPull_18 (by decide) (fun _ => ?_) (fun h => absurd rfl h)
      obtain rfl : c = κ 1 := by omega
      refine x_lv (lv' := [(1, .int (sMp σ (10 * κ 1))), (2, .int (sMa σ (10 * κ 1)))]) [2, 3] rfl ?_
      refine x_backAd had ht ?_
      refine x_iload_n C dX1_meanPull_82 rfl 1 rfl ?_
      refine x_if_le (tgt := 90) C dX1_meanPull_83 (by decide) (fun c0 => ?_) (fun c0 => ?_)
      · refine x_iconst (v := 0) C dX1_meanPull_90 (by decide) ?_
        refine x_callS (rest := []) C (k_requireSome 0) cf_X1_262 hd_X1_requireSome ⟨Nat.le_of_ble_eq_true rfl, Nat.le_of_ble_eq_true rfl⟩ rfl (Nat.le_of_ble_eq_true rfl) ⟨Nat.le_of_ble_eq_true rfl, Nat.le_of_ble_eq_true rfl⟩ dX1_meanPull_91 (fun v ad' ct' q => absurd rfl q.1) (fun E ad' ct' q => ?_)
        obtain ⟨-, rfl, e9, rfl⟩ := q; obtain rfl := e9.symm
        exact x_out C (fun _ h => nomatch h) (Nat.le_of_ble_eq_true rfl) (Nat.le_of_ble_eq_true rfl) ⟨rfl, rfl, rfl, Int32.not_lt.mpr c0⟩
      · refine x_iconst (v := 1) C dX1_meanPull_86 (by decide) ?_
        refine x_goto (tgt := 91) C dX1_meanPull_87 (by decide) ?_
        refine x_callS (rest := []) C (k_requireSome 1) cf_X1_262 hd_X1_requireSome ⟨Nat.le_of_ble_eq_true rfl, Nat.le_of_ble_eq_true rfl⟩ rfl (Nat.le_of_ble_eq_true rfl) ⟨Nat.le_of_ble_eq_true rfl, Nat.le_of_ble_eq_true rfl⟩ dX1_meanPull_91 (fun v ad' ct' q => ?_) (fun E ad' ct' q => absurd q.1 (by decide))
        obtain ⟨-, rfl, e9, rfl⟩ := q; obtain rfl := e9.symm
        obtain ⟨n9, hn9, e9⟩ := sMa_nI (σ := σ) (10 * κ 1)
        have hp9 : 0 < n9 := Nat.pos_of_ne_zero (fun h => c0 (by rw [e9, h]; decide))
        refine x_iload_n C dX1_meanPull_94 rfl 0 rfl ?_
        refine x_i2d C dX1_meanPull_95 ?_
        refine x_iload_n C dX1_meanPull_96 rfl 1 rfl ?_
        refine x_i2d C dX1_meanPull_97 ?_
        refine x_ddiv C dX1_meanPull_98 (vf_d e9 hp9 (by omega)) ?_
        exact x_dret C dX1_meanPull_99 (Nat.le_of_ble_eq_true rfl) (Nat.le_of_ble_eq_true rfl) ⟨rfl, rfl, Int32.not_le.mp c0, rfl⟩
    | succ n ih =>
      intro c l hk
      have h14 := hI.2.2.2.2.2
      have hL9 : xkC F.1.2.2.1 ad κ σ 3 0 = some (xAl (σ 27 0 0) (if κ 3 = 0 then F.1.2.2.1 301 else ad (ro 4 0)) (κ 1)) := rfl
      refine x_aload_n C dX1_meanPull_12 rfl 0 rfl ?_
      refine x_hasNext C (kL := 3) (by decide) hL9 (by omega) (by omega) ⟨Nat.le_of_ble_eq_true rfl, Nat.le_of_ble_eq_true rfl⟩ (Nat.le_of_ble_eq_true rfl) ⟨Nat.le_of_ble_eq_true rfl, Nat.le_of_ble_eq_true rfl⟩ dX1_meanPull_13 ?_
      refine x_top (y := 1) (if_pos (by omega)) ?_
      refine x_if_eq (tgt := 82) C dX1_meanPull_18 (by decide) (fun h => absurd h (by decide)) (fun _ => ?_)
      have hc1 : c < κ 1 := by omega
      have h13 := hI.2.2.1
      have h33 := hI.2.2.2.1
      have hne : κ 3 ≠ 0 := by omega
      refine x_aload_n C dX1_meanPull_21 rfl 0 rfl ?_
      refine x_next C (kL := 3) (kA := 4) (by decide) (by decide) (hL9.trans (by rw [if_neg hne])) (xkC_ba hne) hc1 h13 (by omega) (if_pos hc1) ⟨Nat.le_of_ble_eq_true rfl, Nat.le_of_ble_eq_true rfl⟩ (Nat.le_of_ble_eq_true rfl) ⟨Nat.le_of_ble_eq_true rfl, Nat.le_of_ble_eq_true rfl⟩ dX1_meanPull_22 ?_
      refine x_cast C (xR_o xci3 rfl (xj_c (by decide) (xkC_box hc1))) q249 dX1_meanPull_27 ?_
      refine x_astore (lv' := [(4, .ref (ad (ro 5 c))), (3, .ref (ad (ro 58 0))), (0, .ref (ad (ro 0 0))), (1, .int (sMp σ (10 * c))), (2, .int (sMa σ (10 * c)))]) C dX1_meanPull_30 (by decide) rfl ?_
      refine x_iconst (v := 0) C dX1_meanPull_32 (by decide) ?_
      refine x_istore (lv' := [(5, .int 0), (4, .ref (ad (ro 5 c))), (3, .ref (ad (ro 58 0))), (0, .ref (ad (ro 0 0))), (1, .int (sMp σ (10 * c))), (2, .int (sMa σ (10 * c)))]) C dX1_meanPull_33 (by decide) rfl ?_
      have inner : ∀ n2 s : Nat, s + n2 = 10 → xX F (xQ F (fun v ad' ct' => ad' = ad0 ∧ ct' = xj (xkC F.1.2.2.1 ad0 κ σ) m t ∧ 0 < sMa σ (10 * κ 1) ∧ v = some (.double (FP.ddiv (FP.i2d (sMp σ (10 * κ 1))) (FP.i2d (sMa σ (10 * κ 1)))))) (fun E ad' ct' => ad' = ad0 ∧ ct' = xj (xkC F.1.2.2.1 ad0 κ σ) m t ∧ E = xARE ∧ ¬ 0 < sMa σ (10 * κ 1)) 10 60) ad (xj (xkC F.1.2.2.1 ad κ σ) m (cu t 58 0 (xIt (c + 1) (nI c) (σ 27 0 0) (ad (ro 3 0))))) 1 4 35 [(5, .int (nI s)), (4, .ref (ad (ro 5 c))), (3, .ref (ad (ro 58 0))), (0, .ref (ad (ro 0 0))), (1, .int (sMp σ (10 * c + s))), (2, .int (sMa σ (10 * c + s)))] [] := by
        intro n2
        induction n2 with
        | zero =>
          intro s hs
          obtain rfl : s = 10 := by omega
          refine x_iload C dX1_meanPull_35 0 rfl ?_
          refine x_bipush (v := 10) C dX1_meanPull_37 (by decide) ?_
          refine x_icmp_ge (tgt := 79) C dX1_meanPull_39 (by decide) (fun _ => ?_) (fun h => absurd (by decide) h)
          refine x_goto (tgt := 12) C dX1_meanPull_79 (by decide) ?_
          refine x_lv (lv' := [(3, .ref (ad (ro 58 0))), (0, .ref (ad (ro 0 0))), (1, .int (sMp σ (10 * c + 10))), (2, .int (sMa σ (10 * c + 10)))]) [2, 3, 4, 5] rfl ?_
          have h9 := ih (c + 1) (nI c) (by omega)
          rw [show 10 * (c + 1) = 10 * c + 10 by omega] at h9
          exact h9
        | succ n2 ih2 =>
          intro s hs
          have hs9 : s < 10 := by omega
          refine x_iload C dX1_meanPull_35 0 rfl ?_
          refine x_bipush (v := 10) C dX1_meanPull_37 (by decide) ?_
          refine x_icmp_ge (tgt := 79) C dX1_meanPull_39 (by decide) (fun h => absurd ((nI_le_iff (a := 10) (by omega) (by omega)).mp h) (by omega)) (fun _ => ?_)
          refine x_iload_n C dX1_meanPull_42 rfl 4 rfl ?_
          refine x_aload_n C dX1_meanPull_43 rfl 3 rfl ?_
          refine x_aload C dX1_meanPull_44 1 rfl ?_
          refine x_iload C dX1_meanPull_46 0 rfl ?_
          refine x_callV (rest := [.int (sMp σ (10 * c + s))]) C (k1_pullOf hI hS hc1 hs9) cf_X1_241 ⟨rfl, hd_X1_pullOf⟩ ⟨Nat.le_of_ble_eq_true rfl, Nat.le_of_ble_eq_true rfl⟩ (xR_o xci0 rfl (xj_c (by decide) xkC_sr)) rfl (Nat.le_of_ble_eq_true rfl) ⟨Nat.le_of_ble_eq_true rfl, Nat.le_of_ble_eq_true rfl⟩ dX1_meanPull_48 (xPv_i ?_) xN_e
          refine x_iadd C dX1_meanPull_51 ?_
          refine x_istore_n (lv' := [(1, .int ((sMp σ (10 * c + s)) + (sPo σ c s))), (5, .int (nI s)), (4, .ref (ad (ro 5 c))), (3, .ref (ad (ro 58 0))), (0, .ref (ad (ro 0 0))), (2, .int (sMa σ (10 * c + s)))]) C dX1_meanPull_52 rfl (by decide) rfl ?_
          refine x_iload_n C dX1_meanPull_53 rfl 5 rfl ?_
          refine x_aload C dX1_meanPull_54 2 rfl ?_
          refine x_getR C fl_X1_117 (r := ro 5 c) rfl (xj_c (by decide) (xkC_box hc1)) (v := .ref (ad (ro 6 c))) rfl dX1_meanPull_56 ?_
          refine x_iload C dX1_meanPull_59 1 rfl ?_
          refine xi_ald C s rfl (xj_c (by decide) (xkC_slots hc1)) rfl hs9 rfl dX1_meanPull_61 ?_
          refine x_top (y := σ 17 c s) rfl ?_
          refine x_iconst (v := -1) C dX1_meanPull_62 (by decide) ?_
          refine x_icmp_ne (tgt := 70) C dX1_meanPull_63 (by decide) (fun c1 => ?_) (fun c1 => ?_)
          · refine x_iconst (v := 1) C dX1_meanPull_70 (by decide) ?_
            refine x_iadd C dX1_meanPull_71 ?_
            refine x_istore_n (lv' := [(2, .int ((sMa σ (10 * c + s)) + 1)), (1, .int ((sMp σ (10 * c + s)) + (sPo σ c s))), (5, .int (nI s)), (4, .ref (ad (ro 5 c))), (3, .ref (ad (ro 58 0))), (0, .ref (ad (ro 0 0)))]) C dX1_meanPull_72 rfl (by decide) rfl ?_
            refine x_iinc (k := 2) (v := nI (s + 1)) (lv' := [(5, .int (nI (s + 1))), (2, .int ((sMa σ (10 * c + s)) + 1)), (1, .int ((sMp σ (10 * c + s)) + (sPo σ c s))), (4, .ref (ad (ro 5 c))), (3, .ref (ad (ro 58 0))), (0, .ref (ad (ro 0 0)))]) C dX1_meanPull_73 rfl (nI_1 s) (by decide) rfl ?_
            refine x_goto (tgt := 35) C dX1_meanPull_76 (by decide) ?_
            refine x_lv (lv' := [(5, .int (nI (s + 1))), (4, .ref (ad (ro 5 c))), (3, .ref (ad (ro 58 0))), (0, .ref (ad (ro 0 0))), (1, .int ((sMp σ (10 * c + s)) + (sPo σ c s))), (2, .int ((sMa σ (10 * c + s)) + 1))]) [0, 3, 4, 5, 2, 1] rfl ?_
            have e1 : sMp σ (10 * c + (s + 1)) = (sMp σ (10 * c + s)) + (sPo σ c s) := sMp_s hs9
            have e2 : sMa σ (10 * c + (s + 1)) = (sMa σ (10 * c + s)) + 1 := (sMa_s hs9).trans (by rw [if_neg c1])
            have h9 := ih2 (s + 1) (by omega)
            rw [e1, e2] at h9
            exact h9
          · refine x_iconst (v := 0) C dX1_meanPull_66 (by decide) ?_
            refine x_goto (tgt := 71) C dX1_meanPull_67 (by decide) ?_
            refine x_iadd C dX1_meanPull_71 ?_
            refine x_istore_n (lv' := [(2, .int ((sMa σ (10 * c + s)) + 0)), (1, .int ((sMp σ (10 * c + s)) + (sPo σ c s))), (5, .int (nI s)), (4, .ref (ad (ro 5 c))), (3, .ref (ad (ro 58 0))), (0, .ref (ad (ro 0 0)))]) C dX1_meanPull_72 rfl (by decide) rfl ?_
            refine x_iinc (k := 2) (v := nI (s + 1)) (lv' := [(5, .int (nI (s + 1))), (2, .int ((sMa σ (10 * c + s)) + 0)), (1, .int ((sMp σ (10 * c + s)) + (sPo σ c s))), (4, .ref (ad (ro 5 c))), (3, .ref (ad (ro 58 0))), (0, .ref (ad (ro 0 0)))]) C dX1_meanPull_73 rfl (nI_1 s) (by decide) rfl ?_
            refine x_goto (tgt := 35) C dX1_meanPull_76 (by decide) ?_
            refine x_lv (lv' := [(5, .int (nI (s + 1))), (4, .ref (ad (ro 5 c))), (3, .ref (ad (ro 58 0))), (0, .ref (ad (ro 0 0))), (1, .int ((sMp σ (10 * c + s)) + (sPo σ c s))), (2, .int ((sMa σ (10 * c + s)) + 0))]) [0, 3, 4, 5, 2, 1] rfl ?_
            have e1 : sMp σ (10 * c + (s + 1)) = (sMp σ (10 * c + s)) + (sPo σ c s) := sMp_s hs9
            have e2 : sMa σ (10 * c + (s + 1)) = (sMa σ (10 * c + s)) + 0 := (sMa_s hs9).trans (by rw [if_pos c1])
            have h9 := ih2 (s + 1) (by omega)
            rw [e1, e2] at h9
            exact h9
      refine x_lv (lv' := [(5, .int 0), (4, .ref (ad (ro 5 c))), (3, .ref (ad (ro 58 0))), (0, .ref (ad (ro 0 0))), (1, .int (sMp σ (10 * c))), (2, .int (sMa σ (10 * c)))]) [0, 1, 2, 3, 4, 5] rfl ?_
      exact inner 10 0 (by omega)
  refine x_lv (lv' := [(3, .ref (ad (ro 58 0))), (0, .ref (ad (ro 0 0))), (1, .int 0), (2, .int 0)]) [0, 3, 2, 1] rfl ?_
  exact loop (κ 1) 0 (-1) (by omega)
set_option maxHeartbeats 4000000 in
theorem x_ckD {F : xFr} {Q : State → Prop} {ad0 : Nat → Nat} {κ : xKp} {σ : xSg} {m t : xK} (C : xC F cX1_checksum 5 "SelectoRoute" (some Jvm.ClassFile.FieldType.long) ({ frames := 20, cells := 10, slots := 60, locals := 600 } : Room) "checksum" []) (hI : xIk κ) (ht : t 58 0 = none) (kk : xX F Q ad0 (xj (xkC F.1.2.2.1 ad0 κ σ) m t) 1 4 48 [(1, .long (sCd σ (κ 0))), (0, .ref (ad0 (ro 0 0)))] []) : xX F Q ad0 (xj (xkC F.1.2.2.1 ad0 κ σ) m t) 0 0 4 [(1, .long 7), (0, .ref (ad0 (ro 0 0)))] [] := by
  refine x_aload_n C dX1_checksum_4 rfl 1 rfl ?_
  refine x_get C fl_X1_28 (r := ro 0 0) rfl (xj_c (by decide) xkC_sr) (v := .ref (ad0 (ro 1 0))) rfl dX1_checksum_5 ?_
  refine x_iter C (kL := 1) (by decide) xkC_L1 ht ⟨Nat.le_of_ble_eq_true rfl, Nat.le_of_ble_eq_true rfl⟩ (Nat.le_of_ble_eq_true rfl) ⟨Nat.le_of_ble_eq_true rfl, Nat.le_of_ble_eq_true rfl⟩ dX1_checksum_8 (fun ad had => ?_)
  rw [← had (ro 0 0) (ro_ne (by decide) (by decide) (by decide))]
  refine x_astore_n (lv' := [(3, .ref (ad (ro 58 0))), (1, .long 7), (0, .ref (ad (ro 0 0)))]) C dX1_checksum_11 rfl (by decide) rfl ?_
  have loop : ∀ (n c : Nat) (l : Int32), c + n = κ 0 → xX F (Q) ad (xj (xkC F.1.2.2.1 ad κ σ) m (cu t 58 0 (xIt c l (σ 26 0 0) (ad (ro 1 0))))) 1 4 12 [(3, .ref (ad (ro 58 0))), (0, .ref (ad (ro 0 0))), (1, .long (sCd σ c))] [] := by
    intro n
    induction n with
    | zero =>
      intro c l hk
      have h14 := hI.2.2.2.2.1
      have hL9 : xkC F.1.2.2.1 ad κ σ 1 0 = some (xAl (σ 26 0 0) (if κ 2 = 0 then F.1.2.2.1 301 else ad (ro 2 0)) (κ 0)) := rfl
      refine x_aload_n C dX1_checksum_12 rfl 0 rfl ?_
      refine x_hasNext C (kL := 1) (by decide) hL9 (by omega) (by omega) ⟨Nat.le_of_ble_eq_true rfl, Nat.le_of_ble_eq_true rfl⟩ (Nat.le_of_ble_eq_true rfl) ⟨Nat.le_of_ble_eq_true rfl, Nat.le_of_ble_eq_true rfl⟩ dX1_checksum_13 ?_
      refine x_top (y := 0) (if_neg (by omega)) ?_
      refine x_if_eq (tgt := 48) C dX1_checksum_18 (by decide) (fun _ => ?_) (fun h => absurd rfl h)
      obtain rfl : c = κ 0 := by omega
      refine x_lv (lv' := [(1, .long (sCd σ (κ 0))), (0, .ref (ad (ro 0 0)))]) [2, 1] rfl ?_
      refine x_backAd had ht ?_
      rw [had (ro 0 0) (ro_ne (by decide) (by decide) (by decide))]
      exact kk
    | succ n ih =>
      intro c l hk
      have h14 := hI.2.2.2.2.1
      have hL9 : xkC F.1.2.2.1 ad κ σ 1 0 = some (xAl (σ 26 0 0) (if κ 2 = 0 then F.1.2.2.1 301 else ad (ro 2 0)) (κ 0)) := rfl
      refine x_aload_n C dX1_checksum_12 rfl 0 rfl ?_
      refine x_hasNext C (kL := 1) (by decide) hL9 (by omega) (by omega) ⟨Nat.le_of_ble_eq_true rfl, Nat.le_of_ble_eq_true rfl⟩ (Nat.le_of_ble_eq_true rfl) ⟨Nat.le_of_ble_eq_true rfl, Nat.le_of_ble_eq_true rfl⟩ dX1_checksum_13 ?_
      refine x_top (y := 1) (if_pos (by omega)) ?_
      refine x_if_eq (tgt := 48) C dX1_checksum_18 (by decide) (fun h => absurd h (by decide)) (fun _ => ?_)
      have hc1 : c < κ 0 := by omega
      have h13 := hI.1
      have h33 := hI.2.1
      have hne : κ 2 ≠ 0 := by omega
      refine x_aload_n C dX1_checksum_21 rfl 0 rfl ?_
      refine x_next C (kL := 1) (kA := 2) (by decide) (by decide) (hL9.trans (by rw [if_neg hne])) (xkC_da hne) hc1 h13 (by omega) (if_pos hc1) ⟨Nat.le_of_ble_eq_true rfl, Nat.le_of_ble_eq_true rfl⟩ (Nat.le_of_ble_eq_true rfl) ⟨Nat.le_of_ble_eq_true rfl, Nat.le_of_ble_eq_true rfl⟩ dX1_checksum_22 ?_
      refine x_cast C (xR_o xci2 rfl (xj_c (by decide) (xkC_disc hc1))) q247 dX1_checksum_27 ?_
      refine x_astore (lv' := [(4, .ref (ad (ro 11 c))), (3, .ref (ad (ro 58 0))), (0, .ref (ad (ro 0 0))), (1, .long (sCd σ c))]) C dX1_checksum_30 (by decide) rfl ?_
      refine x_ldc2 (v := 31) C q248 dX1_checksum_32 ?_
      refine x_lload_n C dX1_checksum_35 rfl 3 rfl ?_
      refine x_lmul C dX1_checksum_36 ?_
      refine x_aload C dX1_checksum_37 0 rfl ?_
      refine x_get C fl_X1_166 (r := ro 11 c) rfl (xj_c (by decide) (xkC_disc hc1)) (v := .int (σ 3 c 0)) rfl dX1_checksum_39 ?_
      refine x_i2l C dX1_checksum_42 rfl ?_
      refine x_ladd C dX1_checksum_43 ?_
      refine x_lstore_n (lv' := [(1, .long ((31 * (sCd σ c)) + ((σ 3 c 0).toInt64))), (4, .ref (ad (ro 11 c))), (3, .ref (ad (ro 58 0))), (0, .ref (ad (ro 0 0)))]) C dX1_checksum_44 rfl (by decide) rfl ?_
      refine x_goto (tgt := 12) C dX1_checksum_45 (by decide) ?_
      refine x_lv (lv' := [(3, .ref (ad (ro 58 0))), (0, .ref (ad (ro 0 0))), (1, .long ((31 * (sCd σ c)) + ((σ 3 c 0).toInt64)))]) [2, 3, 0] rfl ?_
      exact ih (c + 1) (nI c) (by omega)
  refine x_lv (lv' := [(3, .ref (ad (ro 58 0))), (0, .ref (ad (ro 0 0))), (1, .long 7)]) [0, 2, 1] rfl ?_
  exact loop (κ 0) 0 (-1) (by omega)
set_option maxHeartbeats 4000000 in
theorem k1_checksum {G : xG} {ad0 : Nat → Nat} {κ : xKp} {σ : xSg} {m t : xK} (hI : xIk κ) (ht : t 58 0 = none) : xM G yX1_checksum (ws_ yX1_checksum cX1_checksum 5 (some Jvm.ClassFile.FieldType.long)) 20 600 10 60 [.ref (ad0 (ro 0 0))] ad0 (xj (xkC G.2.2.1 ad0 κ σ) m t) (fun v ad' ct' => ad' = ad0 ∧ ct' = xj (xkC G.2.2.1 ad0 κ σ) m t ∧ v = some (.long (sCk κ σ))) xN := by
  refine xM_of (cc := cX1_checksum) (by decide) rfl (fun F hF C => ?_)
  subst hF
  show xX F _ _ _ 0 0 0 [(0, .ref (ad0 (ro 0 0)))] []
  refine x_ldc2 (v := 7) C q131 dX1_checksum_0 ?_
  refine x_lstore_n (lv' := [(1, .long 7), (0, .ref (ad0 (ro 0 0)))]) C dX1_checksum_3 rfl (by decide) rfl ?_
  refine x_ckD C hI ht ?_
  refine x_aload_n C dX1_checksum_48 rfl 1 rfl ?_
  refine x_get C fl_X1_34 (r := ro 0 0) rfl (xj_c (by decide) xkC_sr) (v := .ref (ad0 (ro 3 0))) rfl dX1_checksum_49 ?_
  refine x_iter C (kL := 3) (by decide) xkC_L3 ht ⟨Nat.le_of_ble_eq_true rfl, Nat.le_of_ble_eq_true rfl⟩ (Nat.le_of_ble_eq_true rfl) ⟨Nat.le_of_ble_eq_true rfl, Nat.le_of_ble_eq_true rfl⟩ dX1_checksum_52 (fun ad had => ?_)
  rw [← had (ro 0 0) (ro_ne (by decide) (by decide) (by decide))]
  refine x_astore_n (lv' := [(3, .ref (ad (ro 58 0))), (1, .long (sCd σ (κ 0))), (0, .ref (ad (ro 0 0)))]) C dX1_checksum_55 rfl (by decide) rfl ?_
  have loop : ∀ (n c : Nat) (l : Int32), c + n = κ 1 → xX F (xQ F (fun v ad' ct' => ad' = ad0 ∧ ct' = xj (xkC F.1.2.2.1 ad0 κ σ) m t ∧ v = some (.long (sCk κ σ))) xN 10 60) ad (xj (xkC F.1.2.2.1 ad κ σ) m (cu t 58 0 (xIt c l (σ 27 0 0) (ad (ro 3 0))))) 2 8 56 [(3, .ref (ad (ro 58 0))), (0, .ref (ad (ro 0 0))), (1, .long (sCb σ (sCd σ (κ 0)) c))] [] := by
    intro n
    induction n with
    | zero =>
      intro c l hk
      have h14 := hI.2.2.2.2.2
      have hL9 : xkC F.1.2.2.1 ad κ σ 3 0 = some (xAl (σ 27 0 0) (if κ 3 = 0 then F.1.2.2.1 301 else ad (ro 4 0)) (κ 1)) := rfl
      refine x_aload_n C dX1_checksum_56 rfl 0 rfl ?_
      refine x_hasNext C (kL := 3) (by decide) hL9 (by omega) (by omega) ⟨Nat.le_of_ble_eq_true rfl, Nat.le_of_ble_eq_true rfl⟩ (Nat.le_of_ble_eq_true rfl) ⟨Nat.le_of_ble_eq_true rfl, Nat.le_of_ble_eq_true rfl⟩ dX1_checksum_57 ?_
      refine x_top (y := 0) (if_neg (by omega)) ?_
      refine x_if_eq (tgt := 114) C dX1_checksum_62 (by decide) (fun _ => ?_) (fun h => absurd rfl h)
      obtain rfl : c = κ 1 := by omega
      refine x_ldc2 (v := 31) C q248 dX1_checksum_114 ?_
      refine x_ldc2 (v := 31) C q248 dX1_checksum_117 ?_
      refine x_lload_n C dX1_checksum_120 rfl 2 rfl ?_
      refine x_lmul C dX1_checksum_121 ?_
      refine x_aload_n C dX1_checksum_122 rfl 1 rfl ?_
      refine x_get C fl_X1_229 (r := ro 0 0) rfl (xj_c (by decide) xkC_sr) (v := .int (σ 23 0 0)) rfl dX1_checksum_123 ?_
      refine x_i2l C dX1_checksum_126 rfl ?_
      refine x_ladd C dX1_checksum_127 ?_
      refine x_lmul C dX1_checksum_128 ?_
      refine x_aload_n C dX1_checksum_129 rfl 1 rfl ?_
      refine x_get C fl_X1_41 (r := ro 0 0) rfl (xj_c (by decide) xkC_sr) (v := .long ((σ 24 0 0).toInt64)) rfl dX1_checksum_130 ?_
      refine x_ladd C dX1_checksum_133 ?_
      refine x_backAd had ht ?_
      exact x_lret C dX1_checksum_134 (Nat.le_of_ble_eq_true rfl) (Nat.le_of_ble_eq_true rfl) ⟨rfl, rfl, rfl⟩
    | succ n ih =>
      intro c l hk
      have h14 := hI.2.2.2.2.2
      have hL9 : xkC F.1.2.2.1 ad κ σ 3 0 = some (xAl (σ 27 0 0) (if κ 3 = 0 then F.1.2.2.1 301 else ad (ro 4 0)) (κ 1)) := rfl
      refine x_aload_n C dX1_checksum_56 rfl 0 rfl ?_
      refine x_hasNext C (kL := 3) (by decide) hL9 (by omega) (by omega) ⟨Nat.le_of_ble_eq_true rfl, Nat.le_of_ble_eq_true rfl⟩ (Nat.le_of_ble_eq_true rfl) ⟨Nat.le_of_ble_eq_true rfl, Nat.le_of_ble_eq_true rfl⟩ dX1_checksum_57 ?_
      refine x_top (y := 1) (if_pos (by omega)) ?_
      refine x_if_eq (tgt := 114) C dX1_checksum_62 (by decide) (fun h => absurd h (by decide)) (fun _ => ?_)
      have hc1 : c < κ 1 := by omega
      have h13 := hI.2.2.1
      have h33 := hI.2.2.2.1
      have hne : κ 3 ≠ 0 := by omega
      refine x_aload_n C dX1_checksum_65 rfl 0 rfl ?_
      refine x_next C (kL := 3) (kA := 4) (by decide) (by decide) (hL9.trans (by rw [if_neg hne])) (xkC_ba hne) hc1 h13 (by omega) (if_pos hc1) ⟨Nat.le_of_ble_eq_true rfl, Nat.le_of_ble_eq_true rfl⟩ (Nat.le_of_ble_eq_true rfl) ⟨Nat.le_of_ble_eq_true rfl, Nat.le_of_ble_eq_true rfl⟩ dX1_checksum_66 ?_
      refine x_cast C (xR_o xci3 rfl (xj_c (by decide) (xkC_box hc1))) q249 dX1_checksum_71 ?_
      refine x_astore (lv' := [(4, .ref (ad (ro 5 c))), (3, .ref (ad (ro 58 0))), (0, .ref (ad (ro 0 0))), (1, .long (sCb σ (sCd σ (κ 0)) c))]) C dX1_checksum_74 (by decide) rfl ?_
      refine x_ldc2 (v := 31) C q248 dX1_checksum_76 ?_
      refine x_ldc2 (v := 31) C q248 dX1_checksum_79 ?_
      refine x_ldc2 (v := 31) C q248 dX1_checksum_82 ?_
      refine x_lload_n C dX1_checksum_85 rfl 3 rfl ?_
      refine x_lmul C dX1_checksum_86 ?_
      refine x_aload C dX1_checksum_87 0 rfl ?_
      refine x_get C fl_X1_110 (r := ro 5 c) rfl (xj_c (by decide) (xkC_box hc1)) (v := .int (σ 9 c 0)) rfl dX1_checksum_89 ?_
      refine x_i2l C dX1_checksum_92 rfl ?_
      refine x_ladd C dX1_checksum_93 ?_
      refine x_lmul C dX1_checksum_94 ?_
      refine x_aload C dX1_checksum_95 0 rfl ?_
      refine x_get C fl_X1_105 (r := ro 5 c) rfl (xj_c (by decide) (xkC_box hc1)) (v := .int (σ 8 c 0)) rfl dX1_checksum_97 ?_
      refine x_i2l C dX1_checksum_100 rfl ?_
      refine x_ladd C dX1_checksum_101 ?_
      refine x_lmul C dX1_checksum_102 ?_
      refine x_aload C dX1_checksum_103 0 rfl ?_
      refine x_get C fl_X1_159 (r := ro 5 c) rfl (xj_c (by decide) (xkC_box hc1)) (v := .int (σ 10 c 0)) rfl dX1_checksum_105 ?_
      refine x_i2l C dX1_checksum_108 rfl ?_
      refine x_ladd C dX1_checksum_109 ?_
      refine x_lstore_n (lv' := [(1, .long ((31 * ((31 * ((31 * (sCb σ (sCd σ (κ 0)) c)) + ((σ 9 c 0).toInt64))) + ((σ 8 c 0).toInt64))) + ((σ 10 c 0).toInt64))), (4, .ref (ad (ro 5 c))), (3, .ref (ad (ro 58 0))), (0, .ref (ad (ro 0 0)))]) C dX1_checksum_110 rfl (by decide) rfl ?_
      refine x_goto (tgt := 56) C dX1_checksum_111 (by decide) ?_
      refine x_lv (lv' := [(3, .ref (ad (ro 58 0))), (0, .ref (ad (ro 0 0))), (1, .long ((31 * ((31 * ((31 * (sCb σ (sCd σ (κ 0)) c)) + ((σ 9 c 0).toInt64))) + ((σ 8 c 0).toInt64))) + ((σ 10 c 0).toInt64)))]) [2, 3, 0] rfl ?_
      exact ih (c + 1) (nI c) (by omega)
  refine x_lv (lv' := [(3, .ref (ad (ro 58 0))), (0, .ref (ad (ro 0 0))), (1, .long (sCd σ (κ 0)))]) [0, 2, 1] rfl ?_
  exact loop (κ 1) 0 (-1) (by omega)
