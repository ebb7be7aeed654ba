/-! ===== THE LISTS: made, added to, taken from, gone through ===== -/
theorem xu_xu {ct : xCt} {r : Nat} {e e' : va_E} : xu (xu ct r e) r e' = xu ct r e' := by funext q; unfold xu; by_cases h : q = r <;> simp [h]
theorem xu_cc {ct : xCt} {r r' : Nat} {e e' : va_E} (h : r ≠ r') : xu (xu ct r e) r' e' = xu (xu ct r' e') r e := by
  funext q; unfold xu
  by_cases h1 : q = r
  · subst h1; simp [h]
  · simp [h1]
theorem xu_3 {ct : xCt} {r r' : Nat} {e e' e'' : va_E} (h : r ≠ r') : xu (xu (xu ct r e) r' e') r e'' = xu (xu ct r' e') r e'' := by rw [xu_cc h, xu_xu]
theorem xu_4 {ct : xCt} {r r' : Nat} {e e' e'' e3 : va_E} (h : r ≠ r') : xu (xu (xu (xu ct r e) r' e') r' e'') r e3 = xu (xu ct r' e'') r e3 := by rw [xu_xu, xu_3 h]
theorem xa_of {ad ad1 : Nat → Nat} {r : Nat} (h : ∀ x, x ≠ r → ad1 x = ad x) : ad1 = xa ad r (ad1 r) := by
  funext q; unfold xa
  by_cases h1 : q = r
  · subst h1; simp
  · simp [h1, h q h1]
theorem xa_self {ad : Nat → Nat} {r : Nat} : xa ad r (ad r) = ad := by funext q; unfold xa; by_cases h : q = r <;> simp [h]
/-- a cell goes by another role's name -/
theorem xw_mv {G : xG} {ad ad' : Nat → Nat} {ct ct' : xCt} {H : Heap} {rA rS : Nat} (h : xw G ad ct H) (hs : ∀ r e, ct' r = some e → (r = rA ∧ ct rS = some e ∧ ad' r = ad rS) ∨ (r ≠ rA ∧ r ≠ rS ∧ ct r = some e ∧ ad' r = ad r)) : xw G ad' ct' H := by
  obtain ⟨⟨N, hN⟩, h1, h2⟩ := h
  refine ⟨⟨max N (rA + 1), fun r hr => ?_⟩, fun r e hr => ?_, fun r r' e e' hr hr' hh => ?_⟩
  · cases hc : ct' r with
    | none => rfl
    | some e =>
      rcases hs r e hc with ⟨q, -⟩ | ⟨-, -, q, -⟩
      · omega
      · rw [hN r (by omega)] at q; cases q
  · rcases hs r e hr with ⟨-, a, b⟩ | ⟨-, -, a, b⟩
    · rw [b]; exact h1 _ e a
    · rw [b]; exact h1 _ e a
  · rcases hs r e hr with ⟨p, a, b⟩ | ⟨p, p', a, b⟩ <;> rcases hs r' e' hr' with ⟨q, c, d⟩ | ⟨q, q', c, d⟩
    · rw [p, q]
    · rw [b, d] at hh; exact absurd (h2 _ _ e e' a c hh).symm q'
    · rw [b, d] at hh; exact absurd (h2 _ _ e e' a c hh) p'
    · rw [b, d] at hh; exact h2 _ _ e e' a c hh
section XLIST
variable {F : xFr} {cc : ByteArray} {nL : Nat} {own : String} {ret : Option FieldType} {rm : Room} {nm : String} {tb : List ExceptionTableEntry} {Q : State → Prop} {ad : Nat → Nat} {ct : xCt} {cells slots pc : Nat} {lv : List (Nat × Value)} {rest st : List Value}
theorem x_mv {ad' : Nat → Nat} {ct' : xCt} (rA rS : Nat) (hs : ∀ r e, ct' r = some e → (r = rA ∧ ct rS = some e ∧ ad' r = ad rS) ∨ (r ≠ rA ∧ r ≠ rS ∧ ct r = some e ∧ ad' r = ad r)) (k : xX F Q ad' ct' cells slots pc lv st) : xX F Q ad ct cells slots pc lv st :=
  fun H locs ls w hS h0 => k H locs ls (xw_mv w hs) hS h0
theorem x_top {x y : Int32} (e : x = y) (k : xX F Q ad ct cells slots pc lv (.int y :: rest)) : xX F Q ad ct cells slots pc lv (.int x :: rest) := e ▸ k
theorem x_getC (C : xC F cc nL own ret rm nm tb) {idx r a : Nat} (hl : Cond.methodLink own idx ⟨"java/lang/Object", "getClass", "()Ljava/lang/Class;"⟩ ∈ lw_all) (ha : ad r = a) {x : vp_A} (h : ct r = some (.inl (F.1.2.2.1 1004, x))) (hR : 1 ≤ rm.frames ∧ (rest.map fun v => v.category).sum + 14 ≤ rm.locals) (hdg : decode cc pc = .ok (.invokevirtual idx, 3))
    (kk : xX F Q ad ct cells slots (pc + 3) lv (.ref (F.1.2.2.1 1010) :: rest)) : xX F Q ad ct cells slots pc lv (.ref a :: rest) := by
  subst ha
  intro H locs ls w hS h0
  have h9 : F.2.2.1.1.vm.findClass "[Ljava/lang/Object;" = some (F.1.2.2.1 1004) := va_nmO (C.K.2 4 (F.1.2.2.1 1004, .object "java/lang/Object") rfl).2 rfl
  refine va_getC C.hx C.hb h0.1.symm C.hown (C.hts _ hl) (va_Dc.use C.S.1.2.2.1) (C.hts _ q1293) (C.hts _ q339) (C.hts _ q359) C.S.1.2.2.2.1 ⟨_, xw_at w h 0 _ rfl, ?_, ?_⟩ (by rw [C.hR]; exact hR.1) (by rw [C.hR]; exact hR.2) hdg (kk H locs ls w hS h0)
  · obtain ⟨n, f | f | f | f | f⟩ := x <;> rfl
  · rw [h9]; obtain ⟨n, f | f | f | f | f⟩ := x <;> rfl
theorem x_ldcO (C : xC F cc nL own ret rm nm tb) {idx : Nat} (hl : Cond.classLink own idx "[Ljava/lang/Object;" ∈ lw_all) (hdg : decode cc pc = .ok (.ldc idx, 2)) (kk : xX F Q ad ct cells slots (pc + 2) lv (.ref (F.1.2.2.1 1010) :: rest)) : xX F Q ad ct cells slots pc lv rest :=
  fun H locs ls w hS h0 => va_ldcM C.hx C.hb C.hown (C.hts _ hl) C.S.1.2.2.2.1 hdg (kk H locs ls w hS h0)
/-- a thing with a class is one still when another thing of its kind is written -/
theorem xR_u {G : xG} {Cn : String} {b r ci : Nat} {fs fs' : List Value} (hr : ct r = some (.inr (ci, fs))) (h : xR G ad ct Cn b) : xR G ad (xu ct r (.inr (ci, fs'))) Cn b := by
  rcases h with ⟨r', ci', fs2, T, N, ha, h, hc⟩ | h
  · by_cases e : r' = r
    · subst e
      rw [hr] at h; cases h
      exact Or.inl ⟨r', ci, fs', T, N, ha, xu_s, hc⟩
    · exact Or.inl ⟨r', ci', fs2, T, N, ha, xu_n e h, hc⟩
  · exact Or.inr h
theorem xR_a {G : xG} {Cn : String} {b r : Nat} {x x' : ClassId × vp_A} (hr : ct r = some (.inl x)) (h : xR G ad ct Cn b) : xR G ad (xu ct r (.inl x')) Cn b := by
  rcases h with ⟨r', ci', fs2, T, N, ha, h, hc⟩ | h
  · have e : r' ≠ r := fun e => by subst e; rw [hr] at h; cases h
    exact Or.inl ⟨r', ci', fs2, T, N, ha, xu_n e h, hc⟩
  · exact Or.inr h
/-- .. and when something new is made -/
theorem xR_n {G : xG} {ad' : Nat → Nat} {Cn : String} {b r : Nat} {e : va_E} (hr : ct r = none) (hd : ∀ x, x ≠ r → ad' x = ad x) (h : xR G ad ct Cn b) : xR G ad' (xu ct r e) Cn b := by
  rcases h with ⟨r', ci', fs2, T, N, ha, h, hc⟩ | h
  · have e : r' ≠ r := fun e => by subst e; rw [hr] at h; cases h
    exact Or.inl ⟨r', ci', fs2, T, N, (hd _ e).trans ha, xu_n e h, hc⟩
  · exact Or.inr h
end XLIST
/-- an array's contents: n things, then nulls -/
def xcont (el : Nat → Nat) (n : Nat) : Nat → Option Nat := fun k => if k < n then some (el k) else none
theorem xcont_at {el : Nat → Nat} {n k : Nat} (h : k < n) : xcont el n k = some (el k) := if_pos h
theorem xcont_put {el : Nat → Nat} {n v : Nat} : va_up (xcont el n) n (some v) = xcont (fun k => if k = n then v else el k) (n + 1) := by
  funext k; unfold va_up xcont
  by_cases h : k = n
  · subst h; simp
  · by_cases h2 : k < n
    · simp [h, h2, Nat.lt_succ_of_lt h2]
    · have : ¬ k < n + 1 := by omega
      simp [h, h2, this]
theorem xcont_cpy {el : Nat → Nat} {n cap : Nat} (h : n ≤ cap) : va_cpy (xcont el n) (fun _ => none) 0 0 cap = xcont el n := by
  funext k; unfold va_cpy xcont
  by_cases h2 : k < cap
  · simp [h2]
  · have : ¬ k < n := by omega
    simp [h2, this]
theorem xcont_rem {el : Nat → Nat} {n i : Nat} (h : i < n) : va_up (va_cpy (xcont el n) (xcont el n) (i + 1) i (n - 1 - i)) (n - 1) none = xcont (fun k => if k < i then el k else el (k + 1)) (n - 1) := by
  funext k; unfold va_up va_cpy xcont
  by_cases h1 : k = n - 1
  · subst h1; simp
  · by_cases h2 : i ≤ k ∧ k < i + (n - 1 - i)
    · have e : i + 1 + (k - i) = k + 1 := by omega
      have a1 : k + 1 < n := by omega
      have a2 : k < n - 1 := by omega
      have a3 : ¬ k < i := by omega
      simp [h1, h2, e, a1, a2, a3]
    · rw [if_neg h1, if_neg h2]
      by_cases h3 : k < n
      · have a2 : k < n - 1 := by omega
        have a3 : k < i := by omega
        simp [h3, a2, a3]
      · have a2 : ¬ k < n - 1 := by omega
        simp [h3, a2]
theorem xcont_rem0 {el : Nat → Nat} {n : Nat} : va_up (xcont el (n + 1)) n none = xcont el n := by
  funext k; unfold va_up xcont
  by_cases h1 : k = n
  · subst h1; simp
  · by_cases h2 : k < n
    · simp [h1, h2, Nat.lt_succ_of_lt h2]
    · have : ¬ k < n + 1 := by omega
      simp [h1, h2, this]
theorem xcont_ex {el el' : Nat → Nat} {n : Nat} (h : ∀ k, k < n → el k = el' k) : xcont el n = xcont el' n := by
  funext k; unfold xcont
  by_cases h1 : k < n
  · simp [h1, h k h1]
  · simp [h1]
/-- an array's length behind one more thing -/
def xgrow (n cap : Nat) : Nat := if n < cap then cap else if cap = 0 then 10 else cap + max 1 (cap / 2)
abbrev xOa (G : xG) (cap : Nat) (f : Nat → Option Nat) : va_E := .inl (G.2.2.1 1004, cap, .inr (.inr (.inr (.inr f))))
abbrev xAl (md : Int32) (a n : Nat) : va_E := .inr (1, [.int md, .ref a, .int (nI n)])
theorem x_max1 {cap : Nat} (hc : cap ≤ 1000) : (if nI 1 < nI (cap / 2) then nI (cap / 2) else nI 1) = nI (max 1 (cap / 2)) := by
  by_cases h : 1 < cap / 2
  · rw [if_pos (nI_lt h (by omega)), Nat.max_eq_right (by omega)]
  · rw [if_neg (nI_nlt (by omega) (by omega)), Nat.max_eq_left (by omega)]
theorem x_nmax {n : Nat} (h : n ≤ 2147483639) : ¬ (2147483639 : Int32) < nI n := by
  rw [Int32.lt_iff_toInt_lt, nI_toInt (by omega)]; show ¬ (2147483639 : Int) < _; omega
theorem x_min {cap m : Nat} (h : cap ≤ m) (hm : m < 2147483648) : (if nI m < nI cap then nI m else nI cap) = nI cap := if_neg (nI_nlt h hm)

set_option maxHeartbeats 4000000 in
theorem k_AC_init {G : xG} {ad : Nat → Nat} {ct : xCt} (a : Nat) : xM G yJ0_init (ws_ yJ0_init cJ0_init 1 none) 2 20 0 0 [.ref a] ad ct (xPv none ad ct) xN := by
  refine xM_of (cc := cJ0_init) (by decide) rfl (fun F hF C => ?_)
  subst hF
  show xX F _ _ _ 0 0 0 [(0, .ref a)] []
  refine x_aload_n C dJ0_init_0 rfl 0 rfl ?_
  refine x_objInit C q75 q62 q63 ⟨Nat.le_of_ble_eq_true rfl, Nat.le_of_ble_eq_true rfl⟩ dJ0_init_1 ?_
  exact x_vret C dJ0_init_4 (Nat.le_of_ble_eq_true rfl) (Nat.le_of_ble_eq_true rfl) ⟨rfl, rfl, rfl⟩
set_option maxHeartbeats 4000000 in
theorem k_ABL_init {G : xG} {ad : Nat → Nat} {ct : xCt} {rL : Nat} {md : Int32} {v w : Value} (hL : ct rL = some (.inr (1, [.int md, v, w]))) : xM G yJ1_init (ws_ yJ1_init cJ1_init 1 none) 4 60 0 0 [.ref (ad rL)] ad ct (xPv none ad (xu ct rL (.inr (1, [.int 0, v, w])))) xN := by
  refine xM_of (cc := cJ1_init) (by decide) rfl (fun F hF C => ?_)
  subst hF
  show xX F _ _ _ 0 0 0 [(0, .ref (ad rL))] []
  refine x_aload_n C dJ1_init_0 rfl 0 rfl ?_
  refine x_callI (rest := []) C (k_AC_init (ad rL)) q74 q25 q72 q73 rfl hd_J0_init ⟨Nat.le_of_ble_eq_true rfl, Nat.le_of_ble_eq_true rfl⟩ rfl (Nat.le_of_ble_eq_true rfl) ⟨Nat.le_of_ble_eq_true rfl, Nat.le_of_ble_eq_true rfl⟩ dJ1_init_1 (xPv_i ?_) xN_e
  refine x_aload_n C dJ1_init_4 rfl 0 rfl ?_
  refine x_iconst (v := 0) C dJ1_init_5 (by decide) ?_
  refine x_put C fl_J1_7 rfl hL rfl rfl (Nat.le_of_ble_eq_true rfl) dJ1_init_6 ?_
  exact x_vret C dJ1_init_9 (Nat.le_of_ble_eq_true rfl) (Nat.le_of_ble_eq_true rfl) ⟨rfl, rfl, rfl⟩
set_option maxHeartbeats 4000000 in
theorem k_AL_init {G : xG} {ad : Nat → Nat} {ct : xCt} {rL : Nat} (hL : ct rL = some (.inr (1, [.int 0, .null, .int 0]))) : xM G yJ2_init (ws_ yJ2_init cJ2_init 1 none) 6 90 0 0 [.ref (ad rL)] ad ct (xPv none ad (xu ct rL (xAl 0 (G.2.2.1 301) 0))) xN := by
  refine xM_of (cc := cJ2_init) (by decide) rfl (fun F hF C => ?_)
  subst hF
  show xX F _ _ _ 0 0 0 [(0, .ref (ad rL))] []
  refine x_aload_n C dJ2_init_0 rfl 0 rfl ?_
  refine x_callI (rest := []) C (k_ABL_init hL) q71 q26 q69 q70 rfl hd_J1_init ⟨Nat.le_of_ble_eq_true rfl, Nat.le_of_ble_eq_true rfl⟩ rfl (Nat.le_of_ble_eq_true rfl) ⟨Nat.le_of_ble_eq_true rfl, Nat.le_of_ble_eq_true rfl⟩ dJ2_init_1 (xPv_i ?_) xN_e
  refine x_aload_n C dJ2_init_4 rfl 0 rfl ?_
  refine x_getEmpty C q76 dJ2_init_5 ?_
  refine x_put C fl_J2_9 rfl xu_s rfl rfl (Nat.le_of_ble_eq_true rfl) dJ2_init_8 ?_
  exact x_vret C dJ2_init_11 (Nat.le_of_ble_eq_true rfl) (Nat.le_of_ble_eq_true rfl) ⟨rfl, rfl, xu_xu⟩
set_option maxHeartbeats 4000000 in
theorem k_newLength {G : xG} {ad : Nat → Nat} {ct : xCt} {cap : Nat} (h0 : cap ≠ 0) (hc : cap ≤ 1000) : xM G yJ8_newLength (ws_ yJ8_newLength cJ8_newLength 4 (some Jvm.ClassFile.FieldType.int)) 2 40 0 0 [.int (nI cap), .int (nI 1), .int (nI (cap / 2))] ad ct (xPv (some (.int (nI (cap + max 1 (cap / 2))))) ad ct) xN := by
  refine xM_of (cc := cJ8_newLength) (by decide) rfl (fun F hF C => ?_)
  subst hF
  show xX F _ _ _ 0 0 0 [(0, .int (nI cap)), (1, .int (nI 1)), (2, .int (nI (cap / 2)))] []
  refine x_iload_n C dJ8_newLength_0 rfl 0 rfl ?_
  refine x_iload_n C dJ8_newLength_1 rfl 1 rfl ?_
  refine x_iload_n C dJ8_newLength_2 rfl 2 rfl ?_
  refine x_mmax C q330 q289 q36 cfM_max ⟨⟨Nat.le_of_ble_eq_true rfl, Nat.le_of_ble_eq_true rfl⟩, Nat.le_of_ble_eq_true rfl, Nat.le_of_ble_eq_true rfl⟩ dJ8_newLength_3 ?_
  refine x_top (y := nI (max 1 (cap / 2))) (x_max1 hc) ?_
  refine x_iadd C dJ8_newLength_6 ?_
  refine x_top (y := nI (cap + max 1 (cap / 2))) (nI_add _ _) ?_
  refine x_istore_n (lv' := [(3, .int (nI (cap + max 1 (cap / 2)))), (0, .int (nI cap)), (1, .int (nI 1)), (2, .int (nI (cap / 2)))]) C dJ8_newLength_7 rfl (by decide) rfl ?_
  refine x_iconst (v := 0) C dJ8_newLength_8 (by decide) ?_
  refine x_iload_n C dJ8_newLength_9 rfl 0 rfl ?_
  refine x_icmp_ge (tgt := 21) C dJ8_newLength_10 (by decide) (fun h => absurd h (nI_nle (by omega) (by omega))) (fun _ => ?_)
  refine x_iload_n C dJ8_newLength_13 rfl 0 rfl ?_
  refine x_ldc C q331 dJ8_newLength_14 ?_
  refine x_icmp_gt (tgt := 21) C dJ8_newLength_16 (by decide) (fun h => absurd h (x_nmax (by omega))) (fun _ => ?_)
  refine x_iload_n C dJ8_newLength_19 rfl 0 rfl ?_
  exact x_iret C dJ8_newLength_20 (Nat.le_of_ble_eq_true rfl) (Nat.le_of_ble_eq_true rfl) ⟨rfl, rfl, rfl⟩
set_option maxHeartbeats 4000000 in
theorem k_copyOf3 {G : xG} {ad : Nat → Nat} {ct : xCt} {rA rS cap m : Nat} {f : Nat → Option Nat} {Cn : String} (hA : ct rA = some (xOa G cap f)) (hS : ct rS = none) (hne : rA ≠ rS) (hc : cap ≤ m) (hm : m ≤ 60) (hel : ∀ i, i < cap → ∀ y, f i = some y → xR G ad ct Cn y) (hca : (Cn, "java/lang/Object") ∈ xcast) : xM G yJ10_copyOf_2 (ws_ yJ10_copyOf_2 cJ10_copyOf_2 4 (some (Jvm.ClassFile.FieldType.array (Jvm.ClassFile.FieldType.object "java/lang/Object")))) 3 60 1 60 [.ref (ad rA), .int (nI m), .ref (G.2.2.1 1010)] ad ct (fun v ad' ct' => ∃ a, v = some (.ref a) ∧ ad' = xa ad rS a ∧ ct' = xu ct rS (xOa G m (va_cpy f (fun _ => none) 0 0 cap))) xN := by
  refine xM_of (cc := cJ10_copyOf_2) (by decide) rfl (fun F hF C => ?_)
  subst hF
  show xX F _ _ _ 0 0 0 [(0, .ref (ad rA)), (1, .int (nI m)), (2, .ref (F.1.2.2.1 1010))] []
  refine x_aload_n C dJ10_copyOf_2_0 rfl 2 rfl ?_
  refine x_ldcO C q363 dJ10_copyOf_2_1 ?_
  refine x_acmp_ne (rx := some (F.1.2.2.1 1010)) (ry := some (F.1.2.2.1 1010)) (tgt := 13) C dJ10_copyOf_2_3 (by decide) (fun h => absurd rfl h) (fun _ => ?_)
  refine x_iload_n C dJ10_copyOf_2_6 rfl 1 rfl ?_
  refine x_newO C (r := rS) m q365 hS (nI_pos (by omega)) (nI_clamp (by omega)) (by omega) ⟨Nat.le_of_ble_eq_true rfl, (show 0 + m ≤ 60 by omega)⟩ dJ10_copyOf_2_7 (fun ad1 h1 => ?_)
  refine x_wid (c' := 1) (s' := 60) (by omega) (by omega) ?_
  refine x_goto (tgt := 24) C dJ10_copyOf_2_10 (by decide) ?_
  refine x_astore_n (lv' := [(3, .ref (ad1 rS)), (0, .ref (ad rA)), (1, .int (nI m)), (2, .ref (F.1.2.2.1 1010))]) C dJ10_copyOf_2_24 rfl (by decide) rfl ?_
  refine x_aload_n C dJ10_copyOf_2_25 rfl 1 rfl ?_
  refine x_iconst (v := 0) C dJ10_copyOf_2_26 (by decide) ?_
  refine x_aload_n C dJ10_copyOf_2_27 rfl 0 rfl ?_
  refine x_iconst (v := 0) C dJ10_copyOf_2_28 (by decide) ?_
  refine x_aload_n C dJ10_copyOf_2_29 rfl 1 rfl ?_
  have hA1 : xu ct rS (xOa F.1 m (fun _ => none)) rA = some (xOa F.1 cap f) := xu_n hne hA
  refine x_alen C 4 rfl (h1 _ hne) hA1 rfl dJ10_copyOf_2_30 ?_
  refine x_iload_n C dJ10_copyOf_2_31 rfl 2 rfl ?_
  refine x_mmin C q366 q367 q36 cfM_min ⟨⟨Nat.le_of_ble_eq_true rfl, Nat.le_of_ble_eq_true rfl⟩, Nat.le_of_ble_eq_true rfl, Nat.le_of_ble_eq_true rfl⟩ dJ10_copyOf_2_32 ?_
  refine x_top (y := nI cap) (x_min hc (by omega)) ?_
  refine x_copy C q369 (h1 _ hne) rfl hA1 xu_s 0 0 cap rfl rfl rfl (by omega) (by omega) (by omega) (by omega) (fun i hi y hy => ?_) hca ⟨Nat.le_of_ble_eq_true rfl, Nat.le_of_ble_eq_true rfl⟩ dJ10_copyOf_2_35 ?_
  · rw [Nat.zero_add] at hy
    exact xR_n hS h1 (hel i hi y hy)
  refine x_aload_n C dJ10_copyOf_2_38 rfl 0 rfl ?_
  exact x_aret C (Or.inr ⟨_, rfl⟩) (Or.inr ⟨_, rfl⟩) dJ10_copyOf_2_39 (Nat.le_of_ble_eq_true rfl) (Nat.le_of_ble_eq_true rfl) ⟨_, rfl, xa_of h1, xu_xu⟩
set_option maxHeartbeats 4000000 in
theorem k_copyOf {G : xG} {ad : Nat → Nat} {ct : xCt} {rA rS cap m : Nat} {f : Nat → Option Nat} {Cn : String} (hA : ct rA = some (xOa G cap f)) (hS : ct rS = none) (hne : rA ≠ rS) (hc : cap ≤ m) (hm : m ≤ 60) (hel : ∀ i, i < cap → ∀ y, f i = some y → xR G ad ct Cn y) (hca : (Cn, "java/lang/Object") ∈ xcast) : xM G yJ10_copyOf (ws_ yJ10_copyOf cJ10_copyOf 2 (some (Jvm.ClassFile.FieldType.array (Jvm.ClassFile.FieldType.object "java/lang/Object")))) 5 120 1 60 [.ref (ad rA), .int (nI m)] ad ct (fun v ad' ct' => ∃ a, v = some (.ref a) ∧ ad' = xa ad rS a ∧ ct' = xu ct rS (xOa G m (va_cpy f (fun _ => none) 0 0 cap))) xN := by
  refine xM_of (cc := cJ10_copyOf) (by decide) rfl (fun F hF C => ?_)
  subst hF
  show xX F _ _ _ 0 0 0 [(0, .ref (ad rA)), (1, .int (nI m))] []
  refine x_aload_n C dJ10_copyOf_0 rfl 0 rfl ?_
  refine x_iload_n C dJ10_copyOf_1 rfl 1 rfl ?_
  refine x_aload_n C dJ10_copyOf_2 rfl 0 rfl ?_
  refine x_getC C q338 rfl hA ⟨Nat.le_of_ble_eq_true rfl, Nat.le_of_ble_eq_true rfl⟩ dJ10_copyOf_3 ?_
  refine x_callS (rest := []) C (k_copyOf3 hA hS hne hc hm hel hca) cf_J10_300 hd_J10_copyOf_2 ⟨Nat.le_of_ble_eq_true rfl, Nat.le_of_ble_eq_true rfl⟩ rfl (Nat.le_of_ble_eq_true rfl) ⟨Nat.le_of_ble_eq_true rfl, Nat.le_of_ble_eq_true rfl⟩ dJ10_copyOf_6 (fun v ad1 ct1 hp => ?_) xN_e
  obtain ⟨a, rfl, rfl, rfl⟩ := hp
  exact x_aret C (Or.inr ⟨_, rfl⟩) (Or.inr ⟨_, rfl⟩) dJ10_copyOf_9 (Nat.le_of_ble_eq_true rfl) (Nat.le_of_ble_eq_true rfl) ⟨a, rfl, rfl, rfl⟩
set_option maxHeartbeats 4000000 in
theorem k_grow0 {G : xG} {ad : Nat → Nat} {ct : xCt} {rL rA : Nat} {md : Int32} (hL : ct rL = some (xAl md (G.2.2.1 301) 0)) (hA : ct rA = none) (hne : rL ≠ rA) : xM G yJ2_grow_2 (ws_ yJ2_grow_2 cJ2_grow_2 4 (some (Jvm.ClassFile.FieldType.array (Jvm.ClassFile.FieldType.object "java/lang/Object")))) 2 60 1 60 [.ref (ad rL), .int (nI 1)] ad ct (fun v ad' ct' => ∃ a, v = some (.ref a) ∧ ad' = xa ad rA a ∧ ct' = xu (xu ct rA (xOa G 10 (fun _ => none))) rL (xAl md a 0)) xN := by
  refine xM_of (cc := cJ2_grow_2) (by decide) rfl (fun F hF C => ?_)
  subst hF
  show xX F _ _ _ 0 0 0 [(0, .ref (ad rL)), (1, .int (nI 1))] []
  refine x_aload_n C dJ2_grow_2_0 rfl 0 rfl ?_
  refine x_get C fl_J2_9 (r := rL) rfl hL (v := .ref (F.1.2.2.1 301)) rfl dJ2_grow_2_1 ?_
  refine x_alenE C dJ2_grow_2_4 ?_
  refine x_istore_n (lv' := [(2, .int 0), (0, .ref (ad rL)), (1, .int (nI 1))]) C dJ2_grow_2_5 rfl (by decide) rfl ?_
  refine x_iload_n C dJ2_grow_2_6 rfl 0 rfl ?_
  refine x_if_gt (tgt := 20) C dJ2_grow_2_7 (by decide) (fun h => absurd h (by decide)) (fun _ => ?_)
  refine x_aload_n C dJ2_grow_2_10 rfl 1 rfl ?_
  refine x_get C fl_J2_9 (r := rL) rfl hL (v := .ref (F.1.2.2.1 301)) rfl dJ2_grow_2_11 ?_
  refine x_getEmpty C q76 dJ2_grow_2_14 ?_
  refine x_acmp_eq (rx := some (F.1.2.2.1 301)) (ry := some (F.1.2.2.1 301)) (tgt := 45) C dJ2_grow_2_17 (by decide) (fun _ => ?_) (fun h => absurd rfl h)
  refine x_aload_n C dJ2_grow_2_45 rfl 1 rfl ?_
  refine x_bipush (v := 10) C dJ2_grow_2_46 (by decide) ?_
  refine x_iload_n C dJ2_grow_2_48 rfl 2 rfl ?_
  refine x_mmax C q372 q289 q36 cfM_max ⟨⟨Nat.le_of_ble_eq_true rfl, Nat.le_of_ble_eq_true rfl⟩, Nat.le_of_ble_eq_true rfl, Nat.le_of_ble_eq_true rfl⟩ dJ2_grow_2_49 ?_
  refine x_top (y := 10) (by decide) ?_
  refine x_newO C (r := rA) 10 q373 hA (by decide) (by decide) (by decide) ⟨Nat.le_of_ble_eq_true rfl, Nat.le_of_ble_eq_true rfl⟩ dJ2_grow_2_52 (fun ad1 h1 => ?_)
  refine x_dup_x1 C dJ2_grow_2_55 rfl rfl ?_
  refine x_put C fl_J2_9 (h1 _ hne) (xu_n hne hL) rfl rfl (Nat.le_of_ble_eq_true rfl) dJ2_grow_2_56 ?_
  exact x_aret C (Or.inr ⟨_, rfl⟩) (Or.inr ⟨_, rfl⟩) dJ2_grow_2_59 (Nat.le_of_ble_eq_true rfl) (Nat.le_of_ble_eq_true rfl) ⟨_, rfl, xa_of h1, rfl⟩
set_option maxHeartbeats 4000000 in
theorem k_growN {G : xG} {ad : Nat → Nat} {ct : xCt} {rL rA rS cap : Nat} {md : Int32} {f : Nat → Option Nat} {Cn : String} (hL : ct rL = some (xAl md (ad rA) cap)) (hA : ct rA = some (xOa G cap f)) (hS : ct rS = none) (h0 : cap ≠ 0) (hc : cap ≤ 40) (hel : ∀ i, i < cap → ∀ y, f i = some y → xR G ad ct Cn y) (hca : (Cn, "java/lang/Object") ∈ xcast) : xM G yJ2_grow_2 (ws_ yJ2_grow_2 cJ2_grow_2 4 (some (Jvm.ClassFile.FieldType.array (Jvm.ClassFile.FieldType.object "java/lang/Object")))) 7 160 1 60 [.ref (ad rL), .int (nI (cap + 1))] ad ct (fun v ad' ct' => ∃ a, v = some (.ref a) ∧ ad' = xa ad rS a ∧ ct' = xu (xu ct rS (xOa G (cap + max 1 (cap / 2)) (va_cpy f (fun _ => none) 0 0 cap))) rL (xAl md a cap)) xN := by
  refine xM_of (cc := cJ2_grow_2) (by decide) rfl (fun F hF C => ?_)
  subst hF
  have hAS : rA ≠ rS := fun e => by subst e; rw [hS] at hA; cases hA
  have hLS : rL ≠ rS := fun e => by subst e; rw [hS] at hL; cases hL
  show xX F _ _ _ 0 0 0 [(0, .ref (ad rL)), (1, .int (nI (cap + 1)))] []
  refine x_aload_n C dJ2_grow_2_0 rfl 0 rfl ?_
  refine x_get C fl_J2_9 (r := rL) rfl hL (v := .ref (ad rA)) rfl dJ2_grow_2_1 ?_
  refine x_alen C 4 rfl rfl hA rfl dJ2_grow_2_4 ?_
  refine x_istore_n (lv' := [(2, .int (nI cap)), (0, .ref (ad rL)), (1, .int (nI (cap + 1)))]) C dJ2_grow_2_5 rfl (by decide) rfl ?_
  refine x_iload_n C dJ2_grow_2_6 rfl 0 rfl ?_
  refine x_if_gt (tgt := 20) C dJ2_grow_2_7 (by decide) (fun _ => ?_) (fun h => absurd (Int32.not_le.mp (nI_nle (by omega) (by omega))) h)
  refine x_iload_n C dJ2_grow_2_20 rfl 0 rfl ?_
  refine x_iload_n C dJ2_grow_2_21 rfl 2 rfl ?_
  refine x_iload_n C dJ2_grow_2_22 rfl 0 rfl ?_
  refine x_isub C dJ2_grow_2_23 ?_
  refine x_top (y := nI 1) ((pk_sub (by omega)).trans (by rw [Nat.add_sub_cancel_left])) ?_
  refine x_iload_n C dJ2_grow_2_24 rfl 0 rfl ?_
  refine x_iconst (v := 1) C dJ2_grow_2_25 (by decide) ?_
  refine x_ishr C dJ2_grow_2_26 ?_
  refine x_top (y := nI (cap / 2)) (pk_shrN (by omega) _ 1 (by decide)) ?_
  refine x_callS (rest := []) C (k_newLength h0 (by omega)) cf_J2_73 hd_J8_newLength ⟨Nat.le_of_ble_eq_true rfl, Nat.le_of_ble_eq_true rfl⟩ rfl (Nat.le_of_ble_eq_true rfl) ⟨Nat.le_of_ble_eq_true rfl, Nat.le_of_ble_eq_true rfl⟩ dJ2_grow_2_27 (xPv_i ?_) xN_e
  refine x_istore_n (lv' := [(3, .int (nI (cap + max 1 (cap / 2)))), (2, .int (nI cap)), (0, .ref (ad rL)), (1, .int (nI (cap + 1)))]) C dJ2_grow_2_30 rfl (by decide) rfl ?_
  refine x_aload_n C dJ2_grow_2_31 rfl 2 rfl ?_
  refine x_aload_n C dJ2_grow_2_32 rfl 2 rfl ?_
  refine x_get C fl_J2_9 (r := rL) rfl hL (v := .ref (ad rA)) rfl dJ2_grow_2_33 ?_
  refine x_iload_n C dJ2_grow_2_36 rfl 0 rfl ?_
  refine x_callS (rest := [.ref (ad rL)]) C (k_copyOf hA hS hAS (by omega) (by omega) hel hca) cf_J2_66 hd_J10_copyOf ⟨Nat.le_of_ble_eq_true rfl, Nat.le_of_ble_eq_true rfl⟩ rfl (Nat.le_of_ble_eq_true rfl) ⟨Nat.le_of_ble_eq_true rfl, Nat.le_of_ble_eq_true rfl⟩ dJ2_grow_2_37 (fun v ad1 ct1 hp => ?_) xN_e
  obtain ⟨a, rfl, rfl, rfl⟩ := hp
  refine x_dup_x1 C dJ2_grow_2_40 rfl rfl ?_
  refine x_put C fl_J2_9 (xa_n hLS) (xu_n hLS hL) rfl rfl (Nat.le_of_ble_eq_true rfl) dJ2_grow_2_41 ?_
  exact x_aret C (Or.inr ⟨_, rfl⟩) (Or.inr ⟨_, rfl⟩) dJ2_grow_2_44 (Nat.le_of_ble_eq_true rfl) (Nat.le_of_ble_eq_true rfl) ⟨a, rfl, rfl, rfl⟩
set_option maxHeartbeats 4000000 in
theorem k_growA0 {G : xG} {ad : Nat → Nat} {ct : xCt} {rL rA : Nat} {md : Int32} (hL : ct rL = some (xAl md (G.2.2.1 301) 0)) (hA : ct rA = none) (hne : rL ≠ rA) : xM G yJ2_grow (ws_ yJ2_grow cJ2_grow 1 (some (Jvm.ClassFile.FieldType.array (Jvm.ClassFile.FieldType.object "java/lang/Object")))) 9 220 1 60 [.ref (ad rL)] ad ct (fun v ad' ct' => ∃ a, v = some (.ref a) ∧ ad' = xa ad rA a ∧ ct' = xu (xu ct rA (xOa G 10 (fun _ => none))) rL (xAl md a 0)) xN := by
  refine xM_of (cc := cJ2_grow) (by decide) rfl (fun F hF C => ?_)
  subst hF
  show xX F _ _ _ 0 0 0 [(0, .ref (ad rL))] []
  refine x_aload_n C dJ2_grow_0 rfl 0 rfl ?_
  refine x_aload_n C dJ2_grow_1 rfl 0 rfl ?_
  refine x_get C fl_J2_48 (r := rL) rfl hL (v := .int (nI 0)) rfl dJ2_grow_2 ?_
  refine x_iconst (v := 1) C dJ2_grow_5 (by decide) ?_
  refine x_iadd C dJ2_grow_6 ?_
  refine x_top (y := nI 1) (by decide) ?_
  refine x_callV (rest := []) C (k_grow0 hL hA hne) cf_J2_69 ⟨rfl, hd_J2_grow_2⟩ ⟨Nat.le_of_ble_eq_true rfl, Nat.le_of_ble_eq_true rfl⟩ (xR_o xci1 rfl hL) rfl (Nat.le_of_ble_eq_true rfl) ⟨Nat.le_of_ble_eq_true rfl, Nat.le_of_ble_eq_true rfl⟩ dJ2_grow_7 (fun v ad1 ct1 hp => ?_) xN_e
  obtain ⟨a, rfl, rfl, rfl⟩ := hp
  exact x_aret C (Or.inr ⟨_, rfl⟩) (Or.inr ⟨_, rfl⟩) dJ2_grow_10 (Nat.le_of_ble_eq_true rfl) (Nat.le_of_ble_eq_true rfl) ⟨a, rfl, rfl, rfl⟩
set_option maxHeartbeats 4000000 in
theorem k_growAN {G : xG} {ad : Nat → Nat} {ct : xCt} {rL rA rS cap : Nat} {md : Int32} {f : Nat → Option Nat} {Cn : String} (hL : ct rL = some (xAl md (ad rA) cap)) (hA : ct rA = some (xOa G cap f)) (hS : ct rS = none) (h0 : cap ≠ 0) (hc : cap ≤ 40) (hel : ∀ i, i < cap → ∀ y, f i = some y → xR G ad ct Cn y) (hca : (Cn, "java/lang/Object") ∈ xcast) : xM G yJ2_grow (ws_ yJ2_grow cJ2_grow 1 (some (Jvm.ClassFile.FieldType.array (Jvm.ClassFile.FieldType.object "java/lang/Object")))) 9 220 1 60 [.ref (ad rL)] ad ct (fun v ad' ct' => ∃ a, v = some (.ref a) ∧ ad' = xa ad rS a ∧ ct' = xu (xu ct rS (xOa G (cap + max 1 (cap / 2)) (va_cpy f (fun _ => none) 0 0 cap))) rL (xAl md a cap)) xN := by
  refine xM_of (cc := cJ2_grow) (by decide) rfl (fun F hF C => ?_)
  subst hF
  show xX F _ _ _ 0 0 0 [(0, .ref (ad rL))] []
  refine x_aload_n C dJ2_grow_0 rfl 0 rfl ?_
  refine x_aload_n C dJ2_grow_1 rfl 0 rfl ?_
  refine x_get C fl_J2_48 (r := rL) rfl hL (v := .int (nI cap)) rfl dJ2_grow_2 ?_
  refine x_iconst (v := 1) C dJ2_grow_5 (by decide) ?_
  refine x_iadd C dJ2_grow_6 ?_
  refine x_top (y := nI (cap + 1)) (nI_1 cap) ?_
  refine x_callV (rest := []) C (k_growN hL hA hS h0 hc hel hca) cf_J2_69 ⟨rfl, hd_J2_grow_2⟩ ⟨Nat.le_of_ble_eq_true rfl, Nat.le_of_ble_eq_true rfl⟩ (xR_o xci1 rfl hL) rfl (Nat.le_of_ble_eq_true rfl) ⟨Nat.le_of_ble_eq_true rfl, Nat.le_of_ble_eq_true rfl⟩ dJ2_grow_7 (fun v ad1 ct1 hp => ?_) xN_e
  obtain ⟨a, rfl, rfl, rfl⟩ := hp
  exact x_aret C (Or.inr ⟨_, rfl⟩) (Or.inr ⟨_, rfl⟩) dJ2_grow_10 (Nat.le_of_ble_eq_true rfl) (Nat.le_of_ble_eq_true rfl) ⟨a, rfl, rfl, rfl⟩
set_option maxHeartbeats 4000000 in
theorem k_addP {G : xG} {ad : Nat → Nat} {ct : xCt} {rL rA cap n v : Nat} {md : Int32} {f : Nat → Option Nat} {Cn : String} (hL : ct rL = some (xAl md (ad rA) n)) (hA : ct rA = some (xOa G cap f)) (hn : n < cap) (hc : cap ≤ 60) (hv : xR G ad ct Cn v) (hca : (Cn, "java/lang/Object") ∈ xcast) : xM G yJ2_add_2 (ws_ yJ2_add_2 cJ2_add_2 4 none) 11 280 1 60 [.ref (ad rL), .ref v, .ref (ad rA), .int (nI n)] ad ct (xPv none ad (xu (xu ct rA (xOa G cap (va_up f n (some v)))) rL (xAl md (ad rA) (n + 1)))) xN := by
  refine xM_of (cc := cJ2_add_2) (by decide) rfl (fun F hF C => ?_)
  subst hF
  have hne : rL ≠ rA := fun e => by subst e; rw [hA] at hL; cases hL
  show xX F _ _ _ 0 0 0 [(0, .ref (ad rL)), (1, .ref v), (2, .ref (ad rA)), (3, .int (nI n))] []
  refine x_iload_n C dJ2_add_2_0 rfl 3 rfl ?_
  refine x_aload_n C dJ2_add_2_1 rfl 2 rfl ?_
  refine x_alen C 4 rfl rfl hA rfl dJ2_add_2_2 ?_
  refine x_icmp_ne (tgt := 11) C dJ2_add_2_3 (by decide) (fun _ => ?_) (fun h => absurd h (fun e => absurd ((nI_eq (a := n) (b := cap) (by omega) (by omega)).mp e) (by omega)))
  refine x_aload_n C dJ2_add_2_11 rfl 2 rfl ?_
  refine x_iload_n C dJ2_add_2_12 rfl 3 rfl ?_
  refine x_aload_n C dJ2_add_2_13 rfl 1 rfl ?_
  refine x_aast C hv hca rfl hA (i := nI n) (xi_in rfl hn (show Nat.ble cap 2147483647 = true from Nat.ble_eq_true_of_le (by omega))).1 dJ2_add_2_14 ?_
  rw [show (nI n).toNatClampNeg = n from nI_clamp (by omega)]
  refine x_aload_n C dJ2_add_2_15 rfl 0 rfl ?_
  refine x_iload_n C dJ2_add_2_16 rfl 3 rfl ?_
  refine x_iconst (v := 1) C dJ2_add_2_17 (by decide) ?_
  refine x_iadd C dJ2_add_2_18 ?_
  refine x_top (y := nI (n + 1)) (nI_1 n) ?_
  refine x_put C fl_J2_48 rfl (xu_n hne hL) rfl rfl (Nat.le_of_ble_eq_true rfl) dJ2_add_2_19 ?_
  exact x_vret C dJ2_add_2_22 (Nat.le_of_ble_eq_true rfl) (Nat.le_of_ble_eq_true rfl) ⟨rfl, rfl, rfl⟩
set_option maxHeartbeats 4000000 in
theorem k_addP0 {G : xG} {ad : Nat → Nat} {ct : xCt} {rL rA v : Nat} {md : Int32} {Cn : String} (hL : ct rL = some (xAl md (G.2.2.1 301) 0)) (hA : ct rA = none) (hv : xR G ad ct Cn v) (hca : (Cn, "java/lang/Object") ∈ xcast) : xM G yJ2_add_2 (ws_ yJ2_add_2 cJ2_add_2 4 none) 11 280 1 60 [.ref (ad rL), .ref v, .ref (G.2.2.1 301), .int (nI 0)] ad ct (fun r ad' ct' => ∃ a, r = none ∧ ad' = xa ad rA a ∧ ct' = xu (xu ct rA (xOa G 10 (va_up (fun _ => none) 0 (some v)))) rL (xAl md a 1)) xN := by
  refine xM_of (cc := cJ2_add_2) (by decide) rfl (fun F hF C => ?_)
  subst hF
  have hne : rL ≠ rA := fun e => by subst e; rw [hA] at hL; cases hL
  show xX F _ _ _ 0 0 0 [(0, .ref (ad rL)), (1, .ref v), (2, .ref (F.1.2.2.1 301)), (3, .int (nI 0))] []
  refine x_iload_n C dJ2_add_2_0 rfl 3 rfl ?_
  refine x_aload_n C dJ2_add_2_1 rfl 2 rfl ?_
  refine x_alenE C dJ2_add_2_2 ?_
  refine x_icmp_ne (tgt := 11) C dJ2_add_2_3 (by decide) (fun h => absurd rfl h) (fun _ => ?_)
  refine x_aload_n C dJ2_add_2_6 rfl 0 rfl ?_
  refine x_callV (rest := []) C (k_growA0 hL hA hne) cf_J2_129 ⟨rfl, hd_J2_grow⟩ ⟨Nat.le_of_ble_eq_true rfl, Nat.le_of_ble_eq_true rfl⟩ (xR_o xci1 rfl hL) rfl (Nat.le_of_ble_eq_true rfl) ⟨Nat.le_of_ble_eq_true rfl, Nat.le_of_ble_eq_true rfl⟩ dJ2_add_2_7 (fun r ad1 ct1 hp => ?_) xN_e
  obtain ⟨a, rfl, rfl, rfl⟩ := hp
  refine x_astore_n (lv' := [(2, .ref a), (0, .ref (ad rL)), (1, .ref v), (3, .int (nI 0))]) C dJ2_add_2_10 rfl (by decide) rfl ?_
  refine x_aload_n C dJ2_add_2_11 rfl 0 rfl ?_
  refine x_iload_n C dJ2_add_2_12 rfl 3 rfl ?_
  refine x_aload_n C dJ2_add_2_13 rfl 2 rfl ?_
  have hv1 := xR_u (fs' := [.int md, .ref a, .int (nI 0)]) (xu_n hne hL) (xR_n hA (ad' := xa ad rA a) (fun x hx => xa_n hx) (e := xOa F.1 10 (fun _ => none)) hv)
  refine x_aast C hv1 hca xa_s (xu_n hne.symm xu_s) (i := nI 0) (xi_in rfl (show 0 < 10 by decide) rfl).1 dJ2_add_2_14 ?_
  rw [show (nI 0).toNatClampNeg = 0 from rfl]
  refine x_aload_n C dJ2_add_2_15 rfl 1 rfl ?_
  refine x_iload_n C dJ2_add_2_16 rfl 3 rfl ?_
  refine x_iconst (v := 1) C dJ2_add_2_17 (by decide) ?_
  refine x_iadd C dJ2_add_2_18 ?_
  refine x_top (y := nI 1) (by decide) ?_
  refine x_put C fl_J2_48 (xa_n hne) (xu_n hne xu_s) rfl rfl (Nat.le_of_ble_eq_true rfl) dJ2_add_2_19 ?_
  exact x_vret C dJ2_add_2_22 (Nat.le_of_ble_eq_true rfl) (Nat.le_of_ble_eq_true rfl) ⟨a, rfl, rfl, by rw [xu_cc hne, xu_xu, xu_xu]; rfl⟩
set_option maxHeartbeats 4000000 in
theorem k_addPN {G : xG} {ad : Nat → Nat} {ct : xCt} {rL rA rS cap v : Nat} {md : Int32} {f : Nat → Option Nat} {Cn : String} (hL : ct rL = some (xAl md (ad rA) cap)) (hA : ct rA = some (xOa G cap f)) (hS : ct rS = none) (h0 : cap ≠ 0) (hc : cap ≤ 40) (hel : ∀ i, i < cap → ∀ y, f i = some y → xR G ad ct Cn y) (hv : xR G ad ct Cn v) (hca : (Cn, "java/lang/Object") ∈ xcast) : xM G yJ2_add_2 (ws_ yJ2_add_2 cJ2_add_2 4 none) 11 280 1 60 [.ref (ad rL), .ref v, .ref (ad rA), .int (nI cap)] ad ct (fun r ad' ct' => ∃ a, r = none ∧ ad' = xa ad rA a ∧ ct' = xu (xu ct rA (xOa G (cap + max 1 (cap / 2)) (va_up (va_cpy f (fun _ => none) 0 0 cap) cap (some v)))) rL (xAl md a (cap + 1))) xN := by
  refine xM_of (cc := cJ2_add_2) (by decide) rfl (fun F hF C => ?_)
  subst hF
  have hne : rL ≠ rA := fun e => by subst e; rw [hA] at hL; cases hL
  have hAS : rA ≠ rS := fun e => by subst e; rw [hS] at hA; cases hA
  have hLS : rL ≠ rS := fun e => by subst e; rw [hS] at hL; cases hL
  show xX F _ _ _ 0 0 0 [(0, .ref (ad rL)), (1, .ref v), (2, .ref (ad rA)), (3, .int (nI cap))] []
  refine x_iload_n C dJ2_add_2_0 rfl 3 rfl ?_
  refine x_aload_n C dJ2_add_2_1 rfl 2 rfl ?_
  refine x_alen C 4 rfl rfl hA rfl dJ2_add_2_2 ?_
  refine x_icmp_ne (tgt := 11) C dJ2_add_2_3 (by decide) (fun h => absurd rfl h) (fun _ => ?_)
  refine x_aload_n C dJ2_add_2_6 rfl 0 rfl ?_
  refine x_callV (rest := []) C (k_growAN hL hA hS h0 hc hel hca) cf_J2_129 ⟨rfl, hd_J2_grow⟩ ⟨Nat.le_of_ble_eq_true rfl, Nat.le_of_ble_eq_true rfl⟩ (xR_o xci1 rfl hL) rfl (Nat.le_of_ble_eq_true rfl) ⟨Nat.le_of_ble_eq_true rfl, Nat.le_of_ble_eq_true rfl⟩ dJ2_add_2_7 (fun r ad1 ct1 hp => ?_) xN_e
  obtain ⟨a, rfl, rfl, rfl⟩ := hp
  refine x_astore_n (lv' := [(2, .ref a), (0, .ref (ad rL)), (1, .ref v), (3, .int (nI cap))]) C dJ2_add_2_10 rfl (by decide) rfl ?_
  refine x_aload_n C dJ2_add_2_11 rfl 0 rfl ?_
  refine x_iload_n C dJ2_add_2_12 rfl 3 rfl ?_
  refine x_aload_n C dJ2_add_2_13 rfl 2 rfl ?_
  have hv1 := xR_u (fs' := [.int md, .ref a, .int (nI cap)]) (xu_n hLS hL) (xR_n hS (ad' := xa ad rS a) (fun x hx => xa_n hx) (e := xOa F.1 (cap + max 1 (cap / 2)) (va_cpy f (fun _ => none) 0 0 cap)) hv)
  refine x_aast C hv1 hca xa_s (xu_n hLS.symm xu_s) (i := nI cap) (xi_in rfl (show cap < cap + max 1 (cap / 2) by omega) (Nat.ble_eq_true_of_le (by omega))).1 dJ2_add_2_14 ?_
  rw [show (nI cap).toNatClampNeg = cap from nI_clamp (by omega)]
  refine x_aload_n C dJ2_add_2_15 rfl 1 rfl ?_
  refine x_iload_n C dJ2_add_2_16 rfl 3 rfl ?_
  refine x_iconst (v := 1) C dJ2_add_2_17 (by decide) ?_
  refine x_iadd C dJ2_add_2_18 ?_
  refine x_top (y := nI (cap + 1)) (nI_1 cap) ?_
  refine x_put C fl_J2_48 (xa_n hLS) (xu_n hLS xu_s) rfl rfl (Nat.le_of_ble_eq_true rfl) dJ2_add_2_19 ?_
  refine x_mv (ad' := xa ad rA a) (ct' := xu (xu ct rA (xOa F.1 (cap + max 1 (cap / 2)) (va_up (va_cpy f (fun _ => none) 0 0 cap) cap (some v)))) rL (xAl md a (cap + 1))) rA rS (fun r e hr => ?_) ?_
  · by_cases e1 : r = rA
    · subst e1
      refine Or.inl ⟨rfl, ?_, by rw [xa_s, xa_s]⟩
      rw [← hr, xu_n hne.symm rfl, xu_s]
      exact xu_n hLS.symm xu_s
    · have e2 : r ≠ rS := fun e2 => by subst e2; rw [xu_n hLS.symm (xu_n e1 hS)] at hr; cases hr
      refine Or.inr ⟨e1, e2, ?_, by rw [xa_n e1, xa_n e2]⟩
      by_cases e3 : r = rL
      · subst e3; rw [← hr, xu_s, xu_s]; rfl
      · rw [xu_n e3 (xu_n e1 rfl)] at hr
        rw [← hr]; exact xu_n e3 (xu_n e2 (xu_n e3 (xu_n e2 rfl)))
  exact x_vret C dJ2_add_2_22 (Nat.le_of_ble_eq_true rfl) (Nat.le_of_ble_eq_true rfl) ⟨a, rfl, rfl, rfl⟩
set_option maxHeartbeats 4000000 in
theorem k_add {G : xG} {ad : Nat → Nat} {ct : xCt} {rL rA rS cap n v : Nat} {md : Int32} {el : Nat → Nat} {Cn : String} (hL : ct rL = some (xL G.2.2.1 (ad rA) cap n md)) (hA : ct rA = xLa G.2.2.1 cap n el) (hS : ct rS = none) (hAS : rA ≠ rS) (hLA : rL ≠ rA) (hn : n ≤ cap) (hc : cap ≤ 40) (hel : ∀ k, k < n → xR G ad ct Cn (el k)) (hv : xR G ad ct Cn v) (hca : (Cn, "java/lang/Object") ∈ xcast) : xM G yJ2_add (ws_ yJ2_add cJ2_add 2 (some Jvm.ClassFile.FieldType.boolean)) 13 340 1 60 [.ref (ad rL), .ref v] ad ct (fun r ad' ct' => ∃ a, r = some (.int 1) ∧ ad' = xa ad rA a ∧ ct' = xu (xu ct rA (xOa G (xgrow n cap) (xcont (fun k => if k = n then v else el k) (n + 1)))) rL (xL G.2.2.1 a (xgrow n cap) (n + 1) (md + 1))) xN := by
  refine xM_of (cc := cJ2_add) (by decide) rfl (fun F hF C => ?_)
  subst hF
  show xX F _ _ _ 0 0 0 [(0, .ref (ad rL)), (1, .ref v)] []
  refine x_aload_n C dJ2_add_0 rfl 0 rfl ?_
  refine x_dup C dJ2_add_1 rfl ?_
  refine x_get C fl_J2_63 (r := rL) rfl hL (v := .int md) rfl dJ2_add_2 ?_
  refine x_iconst (v := 1) C dJ2_add_5 (by decide) ?_
  refine x_iadd C dJ2_add_6 ?_
  refine x_put C fl_J2_63 rfl hL rfl rfl (Nat.le_of_ble_eq_true rfl) dJ2_add_7 ?_
  have hL1 : xu ct rL (xAl (md + 1) (if cap = 0 then F.1.2.2.1 301 else ad rA) n) rL = some (xAl (md + 1) (if cap = 0 then F.1.2.2.1 301 else ad rA) n) := xu_s
  have hv1 : xR F.1 ad (xu ct rL (xAl (md + 1) (if cap = 0 then F.1.2.2.1 301 else ad rA) n)) Cn v := xR_u hL hv
  show xX F _ _ (xu ct rL (xAl (md + 1) (if cap = 0 then F.1.2.2.1 301 else ad rA) n)) _ _ _ _ _
  refine x_aload_n C dJ2_add_10 rfl 0 rfl ?_
  refine x_aload_n C dJ2_add_11 rfl 1 rfl ?_
  refine x_aload_n C dJ2_add_12 rfl 0 rfl ?_
  refine x_get C fl_J2_9 (r := rL) rfl hL1 (v := .ref (if cap = 0 then F.1.2.2.1 301 else ad rA)) rfl dJ2_add_13 ?_
  refine x_aload_n C dJ2_add_16 rfl 0 rfl ?_
  refine x_get C fl_J2_48 (r := rL) rfl hL1 (v := .int (nI n)) rfl dJ2_add_17 ?_
  by_cases h0 : cap = 0
  · subst h0
    have hn0 : n = 0 := by omega
    subst hn0
    rw [show xLa F.1.2.2.1 0 0 el = none from rfl] at hA
    rw [show xL F.1.2.2.1 (ad rA) 0 0 md = xAl md (F.1.2.2.1 301) 0 from rfl] at hL
    simp only [if_true] at hL1 hv1 ⊢
    refine x_callV (rest := []) C (k_addP0 hL1 (xu_n hLA.symm hA) hv1 hca) cf_J2_131 ⟨rfl, hd_J2_add_2⟩ ⟨Nat.le_of_ble_eq_true rfl, Nat.le_of_ble_eq_true rfl⟩ (xR_o xci1 rfl hL1) rfl (Nat.le_of_ble_eq_true rfl) ⟨Nat.le_of_ble_eq_true rfl, Nat.le_of_ble_eq_true rfl⟩ dJ2_add_20 (fun r ad1 ct1 hp => ?_) xN_e
    obtain ⟨a, rfl, rfl, rfl⟩ := hp
    refine x_iconst (v := 1) C dJ2_add_23 (by decide) ?_
    exact x_zret C rfl dJ2_add_24 (Nat.le_of_ble_eq_true rfl) (Nat.le_of_ble_eq_true rfl) ⟨a, rfl, rfl, by rw [xu_3 hLA, show (fun _ => none) = xcont el 0 from rfl, xcont_put]; rfl⟩
  · rw [show xLa F.1.2.2.1 cap n el = some (xOa F.1 cap (xcont el n)) from if_neg h0] at hA
    rw [show xL F.1.2.2.1 (ad rA) cap n md = xAl md (ad rA) n from by unfold xL; rw [if_neg h0]] at hL
    simp only [if_neg h0] at hL1 hv1 ⊢
    by_cases hnc : n < cap
    · refine x_callV (rest := []) C (k_addP hL1 (xu_n hLA.symm hA) hnc (by omega) hv1 hca) cf_J2_131 ⟨rfl, hd_J2_add_2⟩ ⟨Nat.le_of_ble_eq_true rfl, Nat.le_of_ble_eq_true rfl⟩ (xR_o xci1 rfl hL1) rfl (Nat.le_of_ble_eq_true rfl) ⟨Nat.le_of_ble_eq_true rfl, Nat.le_of_ble_eq_true rfl⟩ dJ2_add_20 (xPv_i ?_) xN_e
      refine x_iconst (v := 1) C dJ2_add_23 (by decide) ?_
      exact x_zret C rfl dJ2_add_24 (Nat.le_of_ble_eq_true rfl) (Nat.le_of_ble_eq_true rfl) ⟨ad rA, rfl, xa_self.symm, by rw [xu_3 hLA, xcont_put, show xgrow n cap = cap from if_pos hnc]; unfold xL; rw [if_neg h0]⟩
    · have hnn : n = cap := by omega
      subst hnn
      have hg : xgrow n n = n + max 1 (n / 2) := by unfold xgrow; rw [if_neg hnc, if_neg h0]
      refine x_callV (rest := []) C (k_addPN hL1 (xu_n hLA.symm hA) (xu_n (fun e => by subst e; rw [hS] at hL; cases hL) hS) h0 hc (fun i hi y hy => by rw [xcont_at hi] at hy; cases hy; exact xR_u hL (hel i hi)) hv1 hca) cf_J2_131 ⟨rfl, hd_J2_add_2⟩ ⟨Nat.le_of_ble_eq_true rfl, Nat.le_of_ble_eq_true rfl⟩ (xR_o xci1 rfl hL1) rfl (Nat.le_of_ble_eq_true rfl) ⟨Nat.le_of_ble_eq_true rfl, Nat.le_of_ble_eq_true rfl⟩ dJ2_add_20 (fun r ad1 ct1 hp => ?_) xN_e
      obtain ⟨a, rfl, rfl, rfl⟩ := hp
      refine x_iconst (v := 1) C dJ2_add_23 (by decide) ?_
      exact x_zret C rfl dJ2_add_24 (Nat.le_of_ble_eq_true rfl) (Nat.le_of_ble_eq_true rfl) ⟨a, rfl, rfl, by rw [xu_3 hLA, xcont_cpy (Nat.le_refl _), xcont_put, hg]; unfold xL; rw [if_neg (by omega)]⟩
set_option maxHeartbeats 4000000 in
theorem k_fastRemove {G : xG} {ad : Nat → Nat} {ct : xCt} {rL rA cap n i : Nat} {md : Int32} {el : Nat → Nat} {Cn : String} (hL : ct rL = some (xAl md (ad rA) n)) (hA : ct rA = some (xOa G cap (xcont el n))) (hi : i < n) (hn : n ≤ cap) (hc : cap ≤ 60) (hel : ∀ k, k < n → xR G ad ct Cn (el k)) (hca : (Cn, "java/lang/Object") ∈ xcast) : xM G yJ2_fastRemove (ws_ yJ2_fastRemove cJ2_fastRemove 4 none) 2 60 0 0 [.ref (ad rL), .ref (ad rA), .int (nI i)] ad ct (xPv none ad (xu (xu ct rA (xOa G cap (xcont (fun k => if k < i then el k else el (k + 1)) (n - 1)))) rL (xAl (md + 1) (ad rA) (n - 1)))) xN := by
  refine xM_of (cc := cJ2_fastRemove) (by decide) rfl (fun F hF C => ?_)
  subst hF
  have hne : rL ≠ rA := fun e => by subst e; rw [hA] at hL; cases hL
  show xX F _ _ _ 0 0 0 [(0, .ref (ad rL)), (1, .ref (ad rA)), (2, .int (nI i))] []
  refine x_aload_n C dJ2_fastRemove_0 rfl 0 rfl ?_
  refine x_dup C dJ2_fastRemove_1 rfl ?_
  refine x_get C fl_J2_63 (r := rL) rfl hL (v := .int md) rfl dJ2_fastRemove_2 ?_
  refine x_iconst (v := 1) C dJ2_fastRemove_5 (by decide) ?_
  refine x_iadd C dJ2_fastRemove_6 ?_
  refine x_put C fl_J2_63 rfl hL rfl rfl (Nat.le_of_ble_eq_true rfl) dJ2_fastRemove_7 ?_
  refine x_aload_n C dJ2_fastRemove_10 rfl 0 rfl ?_
  refine x_get C fl_J2_48 (r := rL) rfl xu_s (v := .int (nI n)) rfl dJ2_fastRemove_11 ?_
  refine x_iconst (v := 1) C dJ2_fastRemove_14 (by decide) ?_
  refine x_isub C dJ2_fastRemove_15 ?_
  refine x_top (y := nI (n - 1)) (pk_sub (a := n) (b := 1) (by omega)) ?_
  refine x_dup C dJ2_fastRemove_16 rfl ?_
  refine x_istore_n (lv' := [(3, .int (nI (n - 1))), (0, .ref (ad rL)), (1, .ref (ad rA)), (2, .int (nI i))]) C dJ2_fastRemove_17 rfl (by decide) rfl ?_
  refine x_iload_n C dJ2_fastRemove_18 rfl 3 rfl ?_
  by_cases hin : n - 1 ≤ i
  · have hi1 : n = i + 1 := by omega
    subst hi1
    refine x_icmp_le (tgt := 34) C dJ2_fastRemove_19 (by decide) (fun _ => ?_) (fun h => absurd (nI_le hin (by omega)) h)
    refine x_aload_n C dJ2_fastRemove_34 rfl 2 rfl ?_
    refine x_aload_n C dJ2_fastRemove_35 rfl 1 rfl ?_
    refine x_iload_n C dJ2_fastRemove_36 rfl 0 rfl ?_
    refine x_dup_x1 C dJ2_fastRemove_37 rfl rfl ?_
    refine x_put C fl_J2_48 rfl xu_s rfl rfl (Nat.le_of_ble_eq_true rfl) dJ2_fastRemove_38 ?_
    refine x_null C dJ2_fastRemove_41 ?_
    refine x_aastN C 4 rfl rfl (xu_n hne.symm (xu_n hne.symm hA)) (i := nI (i + 1 - 1)) (xi_in rfl (show i + 1 - 1 < cap by omega) (Nat.ble_eq_true_of_le (by omega))).1 dJ2_fastRemove_42 ?_
    rw [show (nI (i + 1 - 1)).toNatClampNeg = i from nI_clamp (by omega)]
    exact x_vret C dJ2_fastRemove_43 (Nat.le_of_ble_eq_true rfl) (Nat.le_of_ble_eq_true rfl) ⟨rfl, rfl, by rw [xcont_rem0, xu_xu, xu_cc hne, show xcont (fun k => if k < i then el k else el (k + 1)) (i + 1 - 1) = xcont el i from xcont_ex (fun k hk => if_pos (by omega))]; rfl⟩
  · refine x_icmp_le (tgt := 34) C dJ2_fastRemove_19 (by decide) (fun h => absurd h (nI_ge (by omega) (by omega))) (fun _ => ?_)
    refine x_aload_n C dJ2_fastRemove_22 rfl 2 rfl ?_
    refine x_iload_n C dJ2_fastRemove_23 rfl 3 rfl ?_
    refine x_iconst (v := 1) C dJ2_fastRemove_24 (by decide) ?_
    refine x_iadd C dJ2_fastRemove_25 ?_
    refine x_top (y := nI (i + 1)) (nI_1 i) ?_
    refine x_aload_n C dJ2_fastRemove_26 rfl 2 rfl ?_
    refine x_iload_n C dJ2_fastRemove_27 rfl 3 rfl ?_
    refine x_iload_n C dJ2_fastRemove_28 rfl 0 rfl ?_
    refine x_iload_n C dJ2_fastRemove_29 rfl 3 rfl ?_
    refine x_isub C dJ2_fastRemove_30 ?_
    refine x_top (y := nI (n - 1 - i)) (pk_sub (by omega)) ?_
    refine x_copy C q414 rfl rfl (xu_n hne.symm hA) (xu_n hne.symm hA) (i + 1) i (n - 1 - i) rfl rfl rfl (by omega) (by omega) (by omega) (by omega) (fun j hj y hy => by rw [xcont_at (by omega)] at hy; cases hy; exact xR_u hL (hel _ (by omega))) hca ⟨Nat.le_of_ble_eq_true rfl, Nat.le_of_ble_eq_true rfl⟩ dJ2_fastRemove_31 ?_
    refine x_aload_n C dJ2_fastRemove_34 rfl 2 rfl ?_
    refine x_aload_n C dJ2_fastRemove_35 rfl 1 rfl ?_
    refine x_iload_n C dJ2_fastRemove_36 rfl 0 rfl ?_
    refine x_dup_x1 C dJ2_fastRemove_37 rfl rfl ?_
    refine x_put C fl_J2_48 rfl (xu_n hne xu_s) rfl rfl (Nat.le_of_ble_eq_true rfl) dJ2_fastRemove_38 ?_
    refine x_null C dJ2_fastRemove_41 ?_
    refine x_aastN C 4 rfl rfl (xu_n hne.symm xu_s) (i := nI (n - 1)) (xi_in rfl (show n - 1 < cap by omega) (Nat.ble_eq_true_of_le (by omega))).1 dJ2_fastRemove_42 ?_
    rw [show (nI (n - 1)).toNatClampNeg = n - 1 from nI_clamp (by omega)]
    exact x_vret C dJ2_fastRemove_43 (Nat.le_of_ble_eq_true rfl) (Nat.le_of_ble_eq_true rfl) ⟨rfl, rfl, by rw [xcont_rem hi, xu_3 hne, xu_cc hne, xu_xu]; rfl⟩
set_option maxHeartbeats 4000000 in
theorem k_remove {G : xG} {ad : Nat → Nat} {ct : xCt} {rL rA cap n i : Nat} {md : Int32} {el : Nat → Nat} {Cn : String} (hL : ct rL = some (xAl md (ad rA) n)) (hA : ct rA = some (xOa G cap (xcont el n))) (hi : i < n) (hn : n ≤ cap) (hc : cap ≤ 60) (hel : ∀ k, k < n → xR G ad ct Cn (el k)) (hca : (Cn, "java/lang/Object") ∈ xcast) : xM G yJ2_remove (ws_ yJ2_remove cJ2_remove 4 (some (Jvm.ClassFile.FieldType.object "java/lang/Object"))) 5 120 0 0 [.ref (ad rL), .int (nI i)] ad ct (xPv (some (.ref (el i))) ad (xu (xu ct rA (xOa G cap (xcont (fun k => if k < i then el k else el (k + 1)) (n - 1)))) rL (xAl (md + 1) (ad rA) (n - 1)))) xN := by
  refine xM_of (cc := cJ2_remove) (by decide) rfl (fun F hF C => ?_)
  subst hF
  show xX F _ _ _ 0 0 0 [(0, .ref (ad rL)), (1, .int (nI i))] []
  refine x_iload_n C dJ2_remove_0 rfl 1 rfl ?_
  refine x_aload_n C dJ2_remove_1 rfl 0 rfl ?_
  refine x_get C fl_J2_48 (r := rL) rfl hL (v := .int (nI n)) rfl dJ2_remove_2 ?_
  refine x_callS (rest := []) C (k_checkIndex hi (by omega)) cf_J2_118 hd_J14_checkIndex ⟨Nat.le_of_ble_eq_true rfl, Nat.le_of_ble_eq_true rfl⟩ rfl (Nat.le_of_ble_eq_true rfl) ⟨Nat.le_of_ble_eq_true rfl, Nat.le_of_ble_eq_true rfl⟩ dJ2_remove_5 (xPv_i ?_) xN_e
  refine x_pop C dJ2_remove_8 rfl ?_
  refine x_aload_n C dJ2_remove_9 rfl 0 rfl ?_
  refine x_get C fl_J2_9 (r := rL) rfl hL (v := .ref (ad rA)) rfl dJ2_remove_10 ?_
  refine x_astore_n (lv' := [(2, .ref (ad rA)), (0, .ref (ad rL)), (1, .int (nI i))]) C dJ2_remove_13 rfl (by decide) rfl ?_
  refine x_aload_n C dJ2_remove_14 rfl 0 rfl ?_
  refine x_iload_n C dJ2_remove_15 rfl 2 rfl ?_
  refine xi_aldR C i rfl hA rfl (show i < cap by omega) (Nat.ble_eq_true_of_le (by omega)) (xcont_at hi) dJ2_remove_16 ?_
  refine x_astore_n (lv' := [(3, .ref (el i)), (2, .ref (ad rA)), (0, .ref (ad rL)), (1, .int (nI i))]) C dJ2_remove_17 rfl (by decide) rfl ?_
  refine x_aload_n C dJ2_remove_18 rfl 2 rfl ?_
  refine x_aload_n C dJ2_remove_19 rfl 1 rfl ?_
  refine x_iload_n C dJ2_remove_20 rfl 3 rfl ?_
  refine x_callV (rest := []) C (k_fastRemove hL hA hi hn hc hel hca) cf_J2_144 ⟨rfl, hd_J2_fastRemove⟩ ⟨Nat.le_of_ble_eq_true rfl, Nat.le_of_ble_eq_true rfl⟩ (xR_o xci1 rfl hL) rfl (Nat.le_of_ble_eq_true rfl) ⟨Nat.le_of_ble_eq_true rfl, Nat.le_of_ble_eq_true rfl⟩ dJ2_remove_21 (xPv_i ?_) xN_e
  refine x_aload_n C dJ2_remove_24 rfl 0 rfl ?_
  exact x_aret C (Or.inl ⟨_, rfl⟩) (Or.inr ⟨_, rfl⟩) dJ2_remove_25 (Nat.le_of_ble_eq_true rfl) (Nat.le_of_ble_eq_true rfl) ⟨rfl, rfl, rfl⟩
set_option maxHeartbeats 4000000 in
theorem k_Itr_init {G : xG} {ad : Nat → Nat} {ct : xCt} {rL rI aA n : Nat} {md : Int32} (hL : ct rL = some (xAl md aA n)) (hI : ct rI = some (.inr (5, [.int 0, .int 0, .int 0, .null]))) {aL : Nat} (haL : ad rL = aL) : xM G yJ20_init (ws_ yJ20_init cJ20_init 2 none) 2 30 0 0 [.ref (ad rI), .ref aL] ad ct (xPv none ad (xu ct rI (.inr (5, [.int 0, .int (-1), .int md, .ref aL])))) xN := by
  refine xM_of (cc := cJ20_init) (by decide) rfl (fun F hF C => ?_)
  subst hF
  have hne : rL ≠ rI := fun e => by subst e; rw [hI] at hL; cases hL
  show xX F _ _ _ 0 0 0 [(0, .ref (ad rI)), (1, .ref aL)] []
  refine x_aload_n C dJ20_init_0 rfl 0 rfl ?_
  refine x_aload_n C dJ20_init_1 rfl 1 rfl ?_
  refine x_putF C fl_J20_1 (by decide) rfl hI rfl rfl (Nat.le_of_ble_eq_true rfl) dJ20_init_2 ?_
  refine x_aload_n C dJ20_init_5 rfl 0 rfl ?_
  refine x_objInit C q141 q62 q63 ⟨Nat.le_of_ble_eq_true rfl, Nat.le_of_ble_eq_true rfl⟩ dJ20_init_6 ?_
  refine x_aload_n C dJ20_init_9 rfl 0 rfl ?_
  refine x_iconst (v := -1) C dJ20_init_10 (by decide) ?_
  refine x_put C fl_J20_13 rfl xu_s rfl rfl (Nat.le_of_ble_eq_true rfl) dJ20_init_11 ?_
  refine x_aload_n C dJ20_init_14 rfl 0 rfl ?_
  refine x_aload_n C dJ20_init_15 rfl 0 rfl ?_
  refine x_getR C fl_J20_1.r rfl xu_s (v := .ref aL) rfl dJ20_init_16 ?_
  refine x_getR C fl_J20_17.r haL (xu_n hne (xu_n hne hL)) (v := .int md) rfl dJ20_init_19 ?_
  refine x_put C fl_J20_22 rfl xu_s rfl rfl (Nat.le_of_ble_eq_true rfl) dJ20_init_22 ?_
  exact x_vret C dJ20_init_25 (Nat.le_of_ble_eq_true rfl) (Nat.le_of_ble_eq_true rfl) ⟨rfl, rfl, by rw [xu_xu, xu_xu]; rfl⟩
set_option maxHeartbeats 4000000 in
theorem k_iterator {G : xG} {ad : Nat → Nat} {ct : xCt} {rL rI aA n : Nat} {md : Int32} (hL : ct rL = some (xAl md aA n)) (hI : ct rI = none) : xM G yJ2_iterator (ws_ yJ2_iterator cJ2_iterator 1 (some (Jvm.ClassFile.FieldType.object "java/util/Iterator"))) 4 80 1 4 [.ref (ad rL)] ad ct (fun v ad' ct' => ∃ a, v = some (.ref a) ∧ ad' = xa ad rI a ∧ ct' = xu ct rI (.inr (5, [.int 0, .int (-1), .int md, .ref (ad rL)]))) xN := by
  refine xM_of (cc := cJ2_iterator) (by decide) rfl (fun F hF C => ?_)
  subst hF
  have hne : rL ≠ rI := fun e => by subst e; rw [hI] at hL; cases hL
  show xX F _ _ _ 0 0 0 [(0, .ref (ad rL))] []
  refine x_new C (r := rI) (fs := [.int 0, .int 0, .int 0, .null]) xci5 q136 q137 q53 hI (fun j hj => by rcases (show j = 0 ∨ j = 1 ∨ j = 2 ∨ j = 3 by omega) with rfl | rfl | rfl | rfl <;> rfl) ⟨Nat.le_of_ble_eq_true rfl, Nat.le_of_ble_eq_true rfl⟩ dJ2_iterator_0 (fun ad1 h1 => ?_)
  refine x_dup C dJ2_iterator_3 rfl ?_
  refine x_aload_n C dJ2_iterator_4 rfl 0 rfl ?_
  refine x_callI (rest := [.ref (ad1 rI)]) C (k_Itr_init (xu_n hne hL) xu_s (h1 _ hne)) q140 q53 q138 q139 rfl hd_J20_init ⟨Nat.le_of_ble_eq_true rfl, Nat.le_of_ble_eq_true rfl⟩ rfl (Nat.le_of_ble_eq_true rfl) ⟨Nat.le_of_ble_eq_true rfl, Nat.le_of_ble_eq_true rfl⟩ dJ2_iterator_5 (xPv_i ?_) xN_e
  exact x_aret C (Or.inl ⟨_, rfl⟩) (Or.inr ⟨_, rfl⟩) dJ2_iterator_8 (Nat.le_of_ble_eq_true rfl) (Nat.le_of_ble_eq_true rfl) ⟨_, rfl, xa_of h1, xu_xu⟩
set_option maxHeartbeats 4000000 in
theorem k_hasNext {G : xG} {ad : Nat → Nat} {ct : xCt} {rL rI n c : Nat} {l md : Int32} {aA aL : Nat} (hL : ct rL = some (xAl md aA n)) (hI : ct rI = some (.inr (5, [.int (nI c), .int l, .int md, .ref aL]))) (haL : ad rL = aL) (hc : c ≤ n) (hn : n < 2147483648) : xM G yJ20_hasNext (ws_ yJ20_hasNext cJ20_hasNext 1 (some Jvm.ClassFile.FieldType.boolean)) 1 0 0 0 [.ref (ad rI)] ad ct (xPv (some (.int (if c < n then 1 else 0))) ad ct) xN := by
  refine xM_of (cc := cJ20_hasNext) (by decide) rfl (fun F hF C => ?_)
  subst hF
  show xX F _ _ _ 0 0 0 [(0, .ref (ad rI))] []
  refine x_aload_n C dJ20_hasNext_0 rfl 0 rfl ?_
  refine x_get C fl_J20_25 (r := rI) rfl hI (v := .int (nI c)) rfl dJ20_hasNext_1 ?_
  refine x_aload_n C dJ20_hasNext_4 rfl 0 rfl ?_
  refine x_get C fl_J20_1 (r := rI) rfl hI (v := .ref aL) rfl dJ20_hasNext_5 ?_
  refine x_get C fl_J20_28 (r := rL) haL hL (v := .int (nI n)) rfl dJ20_hasNext_8 ?_
  refine x_icmp_eq (tgt := 18) C dJ20_hasNext_11 (by decide) (fun c1 => ?_) (fun c1 => ?_)
  · refine x_iconst (v := 0) C dJ20_hasNext_18 (by decide) ?_
    exact x_zret C rfl dJ20_hasNext_19 (Nat.le_of_ble_eq_true rfl) (Nat.le_of_ble_eq_true rfl) ⟨by rw [if_neg (fun q => absurd ((nI_eq (by omega) (by omega)).mp c1) (by omega))], rfl, rfl⟩
  · refine x_iconst (v := 1) C dJ20_hasNext_14 (by decide) ?_
    refine x_goto (tgt := 19) C dJ20_hasNext_15 (by decide) ?_
    exact x_zret C rfl dJ20_hasNext_19 (Nat.le_of_ble_eq_true rfl) (Nat.le_of_ble_eq_true rfl) ⟨by rw [if_pos (Nat.lt_of_le_of_ne hc (fun q => c1 (by rw [q])))], rfl, rfl⟩
set_option maxHeartbeats 4000000 in
theorem k_checkMod {G : xG} {ad : Nat → Nat} {ct : xCt} {rL rI n c : Nat} {l md : Int32} {aA aL : Nat} (hL : ct rL = some (xAl md aA n)) (hI : ct rI = some (.inr (5, [.int (nI c), .int l, .int md, .ref aL]))) (haL : ad rL = aL) : xM G yJ20_checkForComodification (ws_ yJ20_checkForComodification cJ20_checkForComodification 1 none) 1 0 0 0 [.ref (ad rI)] ad ct (xPv none ad ct) xN := by
  refine xM_of (cc := cJ20_checkForComodification) (by decide) rfl (fun F hF C => ?_)
  subst hF
  show xX F _ _ _ 0 0 0 [(0, .ref (ad rI))] []
  refine x_aload_n C dJ20_checkForComodification_0 rfl 0 rfl ?_
  refine x_get C fl_J20_1 (r := rI) rfl hI (v := .ref aL) rfl dJ20_checkForComodification_1 ?_
  refine x_get C fl_J20_17 (r := rL) haL hL (v := .int md) rfl dJ20_checkForComodification_4 ?_
  refine x_aload_n C dJ20_checkForComodification_7 rfl 0 rfl ?_
  refine x_get C fl_J20_22 (r := rI) rfl hI (v := .int md) rfl dJ20_checkForComodification_8 ?_
  refine x_icmp_eq (tgt := 22) C dJ20_checkForComodification_11 (by decide) (fun _ => ?_) (fun h => absurd rfl h)
  exact x_vret C dJ20_checkForComodification_22 (Nat.le_of_ble_eq_true rfl) (Nat.le_of_ble_eq_true rfl) ⟨rfl, rfl, rfl⟩
set_option maxHeartbeats 4000000 in
theorem k_next {G : xG} {ad : Nat → Nat} {ct : xCt} {rL rI n c : Nat} {l md : Int32} {aA aL : Nat} (hL : ct rL = some (xAl md aA n)) (hI : ct rI = some (.inr (5, [.int (nI c), .int l, .int md, .ref aL]))) (haL : ad rL = aL) {rA cap b : Nat} {f : Nat → Option Nat} (hA : ct rA = some (xOa G cap f)) (haA : ad rA = aA) (hc : c < n) (hn : n ≤ cap) (hcap : cap ≤ 60) (hb : f c = some b) : xM G yJ20_next (ws_ yJ20_next cJ20_next 3 (some (Jvm.ClassFile.FieldType.object "java/lang/Object"))) 3 40 0 0 [.ref (ad rI)] ad ct (xPv (some (.ref b)) ad (xu ct rI (.inr (5, [.int (nI (c + 1)), .int (nI c), .int md, .ref aL])))) xN := by
  refine xM_of (cc := cJ20_next) (by decide) rfl (fun F hF C => ?_)
  subst hF
  have hne : rL ≠ rI := fun e => by subst e; rw [hI] at hL; cases hL
  have hneA : rA ≠ rI := fun e => by subst e; rw [hI] at hA; cases hA
  show xX F _ _ _ 0 0 0 [(0, .ref (ad rI))] []
  refine x_aload_n C dJ20_next_0 rfl 0 rfl ?_
  refine x_callV (rest := []) C (k_checkMod hL hI haL) cf_J20_31 ⟨rfl, hd_J20_checkForComodification⟩ ⟨Nat.le_of_ble_eq_true rfl, Nat.le_of_ble_eq_true rfl⟩ (xR_o xci5 rfl hI) rfl (Nat.le_of_ble_eq_true rfl) ⟨Nat.le_of_ble_eq_true rfl, Nat.le_of_ble_eq_true rfl⟩ dJ20_next_1 (xPv_i ?_) xN_e
  refine x_aload_n C dJ20_next_4 rfl 0 rfl ?_
  refine x_get C fl_J20_25 (r := rI) rfl hI (v := .int (nI c)) rfl dJ20_next_5 ?_
  refine x_istore_n (lv' := [(1, .int (nI c)), (0, .ref (ad rI))]) C dJ20_next_8 rfl (by decide) rfl ?_
  refine x_iload_n C dJ20_next_9 rfl 0 rfl ?_
  refine x_aload_n C dJ20_next_10 rfl 1 rfl ?_
  refine x_get C fl_J20_1 (r := rI) rfl hI (v := .ref aL) rfl dJ20_next_11 ?_
  refine x_get C fl_J20_28 (r := rL) haL hL (v := .int (nI n)) rfl dJ20_next_14 ?_
  refine x_icmp_lt (tgt := 28) C dJ20_next_17 (by decide) (fun _ => ?_) (fun h => absurd (nI_lt hc (by omega)) h)
  refine x_aload_n C dJ20_next_28 rfl 1 rfl ?_
  refine x_get C fl_J20_1 (r := rI) rfl hI (v := .ref aL) rfl dJ20_next_29 ?_
  refine x_get C fl_J20_37 (r := rL) haL hL (v := .ref aA) rfl dJ20_next_32 ?_
  refine x_astore_n (lv' := [(2, .ref aA), (1, .int (nI c)), (0, .ref (ad rI))]) C dJ20_next_35 rfl (by decide) rfl ?_
  refine x_iload_n C dJ20_next_36 rfl 1 rfl ?_
  refine x_aload_n C dJ20_next_37 rfl 0 rfl ?_
  refine x_alen C 4 rfl haA hA rfl dJ20_next_38 ?_
  refine x_icmp_lt (tgt := 50) C dJ20_next_39 (by decide) (fun _ => ?_) (fun h => absurd (nI_lt (show c < cap by omega) (by omega)) h)
  refine x_aload_n C dJ20_next_50 rfl 2 rfl ?_
  refine x_iload_n C dJ20_next_51 rfl 1 rfl ?_
  refine x_iconst (v := 1) C dJ20_next_52 (by decide) ?_
  refine x_iadd C dJ20_next_53 ?_
  refine x_top (y := nI (c + 1)) (nI_1 c) ?_
  refine x_put C fl_J20_25 rfl hI rfl rfl (Nat.le_of_ble_eq_true rfl) dJ20_next_54 ?_
  refine x_aload_n C dJ20_next_57 rfl 0 rfl ?_
  refine x_aload_n C dJ20_next_58 rfl 2 rfl ?_
  refine x_iload_n C dJ20_next_59 rfl 1 rfl ?_
  refine x_dup_x1 C dJ20_next_60 rfl rfl ?_
  refine x_put C fl_J20_13 rfl xu_s rfl rfl (Nat.le_of_ble_eq_true rfl) dJ20_next_61 ?_
  refine xi_aldR C c haA (xu_n hneA (xu_n hneA hA)) rfl (show c < cap by omega) (Nat.ble_eq_true_of_le (by omega)) hb dJ20_next_64 ?_
  exact x_aret C (Or.inl ⟨_, rfl⟩) (Or.inr ⟨_, rfl⟩) dJ20_next_65 (Nat.le_of_ble_eq_true rfl) (Nat.le_of_ble_eq_true rfl) ⟨rfl, rfl, by rw [xu_xu]; rfl⟩
