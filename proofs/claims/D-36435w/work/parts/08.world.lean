/-! ===== THE WORLD BY ROLES: a role is a number; ad r its address, ct r its cell ===== -/
set_option maxRecDepth 100000
/-- the launch; the classes' numbers; addresses and class numbers known from the start; below this address nothing is written -/
abbrev xG : Type := Launch × va_G × (Nat → Nat) × Nat
/-- a body's frame: the launch and the rest of the fixed things -/
abbrev xFr : Type := xG × (Program × Env × Room) × (State × MethodId × Array Value × List Frame) × (Method × Code)
abbrev xCt : Type := Nat → Option va_E
def xcl : List vw_C := [(RX1, TX1, 7), (RJ2, TJ2, 3), (RX3, TX3, 5), (RX4, TX4, 15), (RX2, TX2, 30), (RJ20, TJ20, 4), (RJ16, TJ16, 6), (RX7, TX7, 6)]
def xtys (g : Nat → Nat) : List (ClassId × FieldType) := [(g 1000, .int), (g 1001, .boolean), (g 1002, .long), (g 1003, .double), (g 1004, .object "java/lang/Object"), (g 1005, .object "SelectoRoute$Coin")]
def xA (G : xG) : Nat → Prop := fun q => G.2.2.2 ≤ q
def xu (ct : xCt) (r : Nat) (e : va_E) : xCt := fun q => if q = r then some e else ct q
def xd (ct : xCt) (r : Nat) : xCt := fun q => if q = r then none else ct q
def xa (ad : Nat → Nat) (r a : Nat) : Nat → Nat := fun q => if q = r then a else ad q
theorem xu_s {ct : xCt} {r : Nat} {e : va_E} : xu ct r e r = some e := if_pos rfl
theorem xu_n {ct : xCt} {r q : Nat} {e : va_E} {o : Option va_E} (h : q ≠ r) (k : ct q = o) : xu ct r e q = o := (if_neg h).trans k
theorem xd_n {ct : xCt} {r q : Nat} {o : Option va_E} (h : q ≠ r) (k : ct q = o) : xd ct r q = o := (if_neg h).trans k
theorem xa_s {ad : Nat → Nat} {r a : Nat} : xa ad r a r = a := if_pos rfl
theorem xa_n {ad : Nat → Nat} {r a q : Nat} (h : q ≠ r) : xa ad r a q = ad q := if_neg h
/-- the heap holds the world -/
def xw (G : xG) (ad : Nat → Nat) (ct : xCt) (H : Heap) : Prop :=
  (∃ N, ∀ r, N ≤ r → ct r = none) ∧ (∀ r e, ct r = some e → va_at G.2.1 xcl (ad r, e) H ∧ G.2.2.2 ≤ ad r) ∧ ∀ r r' e e', ct r = some e → ct r' = some e' → ad r = ad r' → r = r'
theorem xw_list {G : xG} {ad : Nat → Nat} {ct : xCt} {H : Heap} (h : xw G ad ct H) : ∃ ws : va_W, va_P G.2.1 xcl ws H ∧ va_D (xA G) ws ∧ ∀ r e, ct r = some e → ∃ k : Nat, ws[k]? = some (ad r, e) := by
  obtain ⟨⟨N, hN⟩, h1, h2⟩ := h
  obtain ⟨ws, hws⟩ : ∃ ws : va_W, ws = (List.range N).filterMap (fun r => (ct r).map (fun e => (ad r, e))) := ⟨_, rfl⟩
  have hin : ∀ (k : Nat) (q : Nat × va_E), ws[k]? = some q → ∃ r, ct r = some q.2 ∧ ad r = q.1 := by
    intro k q hk
    have hm := List.mem_of_getElem? hk
    rw [hws] at hm
    obtain ⟨r, -, hr⟩ := List.mem_filterMap.mp hm
    cases hc : ct r with
    | none => rw [hc] at hr; cases hr
    | some e => rw [hc] at hr; cases hr; exact ⟨r, hc, rfl⟩
  have hpw : ws.Pairwise (fun p q => p.1 ≠ q.1) := by
    rw [hws, List.pairwise_filterMap]
    refine (List.nodup_range (n := N)).imp ?_
    intro a b hab p hp q hq e
    cases ha : ct a with
    | none => rw [ha] at hp; cases hp
    | some x =>
      cases hb : ct b with
      | none => rw [hb] at hq; cases hq
      | some y =>
        rw [ha] at hp; rw [hb] at hq
        cases hp; cases hq
        exact hab (h2 a b x y ha hb e)
  refine ⟨ws, fun k q hk => ?_, ⟨fun i j p q hi hj e => ?_, fun k q hk => ?_⟩, fun r e hr => ?_⟩
  · obtain ⟨r, hr, ha⟩ := hin k q hk
    have := (h1 r q.2 hr).1
    rw [ha] at this
    exact this
  · obtain ⟨li, ei⟩ := List.getElem?_eq_some_iff.mp hi
    obtain ⟨lj, ej⟩ := List.getElem?_eq_some_iff.mp hj
    rcases Nat.lt_trichotomy i j with c | c | c
    · exact absurd (by rw [ei, ej]; exact e) (List.pairwise_iff_getElem.mp hpw i j li lj c)
    · exact c
    · exact absurd (by rw [ei, ej]; exact e.symm) (List.pairwise_iff_getElem.mp hpw j i lj li c)
  · obtain ⟨r, hr, ha⟩ := hin k q hk
    have := (h1 r q.2 hr).2
    rw [ha] at this
    exact this
  · have hlt : r < N := by
      rcases Nat.lt_or_ge r N with c | c
      · exact c
      · rw [hN r c] at hr; cases hr
    have hm : (ad r, e) ∈ ws := by
      rw [hws]
      exact List.mem_filterMap.mpr ⟨r, List.mem_range.mpr hlt, by rw [hr]; rfl⟩
    exact List.getElem?_of_mem hm
theorem xw_set {G : xG} {ad : Nat → Nat} {ct : xCt} {H H1 : Heap} {ws : va_W} {r k : Nat} {e0 e : va_E} (h : xw G ad ct H) (hws : ∀ r e, ct r = some e → ∃ k : Nat, ws[k]? = some (ad r, e)) (hr : ct r = some e0) (hk : ws[k]? = some (ad r, e0)) (hP1 : va_P G.2.1 xcl (ws.set k (ad r, e)) H1) : xw G ad (xu ct r e) H1 := by
  obtain ⟨⟨N, hN⟩, h1, h2⟩ := h
  have hl := (List.getElem?_eq_some_iff.mp hk).1
  have key : ∀ q x, xu ct r e q = some x → ∃ y, ct q = some y := by
    intro q x hq
    by_cases c : q = r
    · subst c; exact ⟨_, hr⟩
    · exact ⟨x, (if_neg c).symm.trans hq⟩
  refine ⟨⟨N, fun q hq => ?_⟩, fun q x hq => ?_, fun q q' x x' hq hq' e' => ?_⟩
  · have : q ≠ r := fun c => by subst c; rw [hN q hq] at hr; cases hr
    exact xu_n this (hN q hq)
  · by_cases c : q = r
    · subst c
      rw [xu_s] at hq; cases hq
      exact ⟨hP1 k _ (List.getElem?_set_self hl), (h1 q e0 hr).2⟩
    · have hq' : ct q = some x := (if_neg c).symm.trans hq
      obtain ⟨j, hj⟩ := hws q x hq'
      have hne : k ≠ j := by
        intro ekj
        subst ekj
        rw [hk] at hj
        have e1 : ad r = ad q := congrArg Prod.fst (Option.some.inj hj)
        exact c (h2 q r x e0 hq' hr e1.symm)
      exact ⟨hP1 j _ (by rw [List.getElem?_set_ne hne]; exact hj), (h1 q x hq').2⟩
  · obtain ⟨y, hy⟩ := key q x hq
    obtain ⟨y', hy'⟩ := key q' x' hq'
    exact h2 q q' y y' hy hy' e'
theorem xw_push {G : xG} {ad : Nat → Nat} {ct : xCt} {H H1 : Heap} {ws : va_W} {r q : Nat} {e : va_E} (h : xw G ad ct H) (hws : ∀ r e, ct r = some e → ∃ k : Nat, ws[k]? = some (ad r, e)) (hr : ct r = none) (hP1 : va_P G.2.1 xcl (ws ++ [(q, e)]) H1) (hD1 : va_D (xA G) (ws ++ [(q, e)])) : xw G (xa ad r q) (xu ct r e) H1 := by
  obtain ⟨⟨N, hN⟩, h1, h2⟩ := h
  have hnew : (ws ++ [(q, e)])[ws.length]? = some (q, e) := by
    rw [List.getElem?_append_right (Nat.le_refl _), Nat.sub_self]; rfl
  have old : ∀ x y, ct x = some y → ∃ k : Nat, k < ws.length ∧ (ws ++ [(q, e)])[k]? = some (ad x, y) := by
    intro x y hx
    obtain ⟨k, hk⟩ := hws x y hx
    have hl := (List.getElem?_eq_some_iff.mp hk).1
    exact ⟨k, hl, by rw [List.getElem?_append_left hl]; exact hk⟩
  have ner : ∀ x y, ct x = some y → x ≠ r := fun x y hx c => by subst c; rw [hr] at hx; cases hx
  refine ⟨⟨max N (r + 1), fun x hx => ?_⟩, fun x y hx => ?_, fun x x' y y' hx hx' e' => ?_⟩
  · have : x ≠ r := by omega
    exact xu_n this (hN x (by omega))
  · by_cases c : x = r
    · subst c
      rw [xu_s] at hx; cases hx
      rw [xa_s]
      exact ⟨hP1 _ _ hnew, hD1.2 _ _ hnew⟩
    · have hx' : ct x = some y := (if_neg c).symm.trans hx
      obtain ⟨k, -, hk⟩ := old x y hx'
      rw [xa_n c]
      exact ⟨hP1 k _ hk, (h1 x y hx').2⟩
  · by_cases c : x = r
    · by_cases c' : x' = r
      · rw [c, c']
      · have hx2 : ct x' = some y' := (if_neg c').symm.trans hx'
        obtain ⟨k, hl, hk⟩ := old x' y' hx2
        subst c
        rw [xa_s, xa_n c'] at e'
        have := hD1.1 ws.length k _ _ hnew hk e'
        omega
    · have hx1 : ct x = some y := (if_neg c).symm.trans hx
      obtain ⟨k, hl, hk⟩ := old x y hx1
      by_cases c' : x' = r
      · subst c'
        rw [xa_n c, xa_s] at e'
        have := hD1.1 k ws.length _ _ hk hnew e'
        omega
      · have hx2 : ct x' = some y' := (if_neg c').symm.trans hx'
        rw [xa_n c, xa_n c'] at e'
        exact h2 x x' y y' hx1 hx2 e'
theorem xw_sub {G : xG} {ad ad' : Nat → Nat} {ct ct' : xCt} {H : Heap} (h : xw G ad ct H) (hs : ∀ r e, ct' r = some e → ct r = some e ∧ ad' r = ad r) : xw G ad' ct' H := by
  obtain ⟨⟨N, hN⟩, h1, h2⟩ := h
  refine ⟨⟨N, fun r hr => ?_⟩, fun r e hr => ?_, fun r r' e e' hr hr' hh => ?_⟩
  · cases hc : ct' r with
    | none => rfl
    | some e => have := (hs r e hc).1; rw [hN r hr] at this; cases this
  · obtain ⟨a, b⟩ := hs r e hr
    rw [b]; exact h1 r e a
  · obtain ⟨a, b⟩ := hs r e hr
    obtain ⟨a', b'⟩ := hs r' e' hr'
    rw [b, b'] at hh
    exact h2 r r' e e' a a' hh
theorem xw_at {G : xG} {ad : Nat → Nat} {ct : xCt} {H : Heap} (h : xw G ad ct H) {r : Nat} {e : va_E} (hr : ct r = some e) : va_P G.2.1 xcl [(ad r, e)] H := by
  intro k q hk
  cases k with
  | zero => cases hk; exact (h.2.1 r e hr).1
  | succ k => cases hk
/-! ===== WHAT HOLDS ALL THROUGH A RUN: classes, words of the tables, statics that nobody writes ===== -/
def xnF : List (String × Nat × String × String × String × String) := [("java/util/ArrayList$Itr", 28, "java/util/ArrayList", "size", "I", "java/util/ArrayList"), ("SelectoRoute", 238, "SelectoRoute$Disc", "song", "I", "SelectoRoute"), ("SelectoRoute$Box", 41, "SelectoRoute$Disc", "wear", "I", "SelectoRoute"), ("SelectoRoute", 166, "SelectoRoute$Disc", "wear", "I", "SelectoRoute"), ("SelectoRoute", 169, "SelectoRoute$Disc", "place", "I", "SelectoRoute"), ("SelectoRoute", 218, "SelectoRoute$Box", "share", "I", "SelectoRoute"), ("SelectoRoute", 175, "SelectoRoute$Box", "taste", "I", "SelectoRoute"), ("SelectoRoute", 117, "SelectoRoute$Box", "slots", "[I", "SelectoRoute"), ("SelectoRoute", 156, "SelectoRoute$Box", "wheels", "[I", "SelectoRoute"), ("SelectoRoute", 235, "SelectoRoute$Box", "asked", "[I", "SelectoRoute"), ("SelectoRoute", 121, "SelectoRoute$Box", "queue", "Ljava/util/ArrayList;", "SelectoRoute"), ("SelectoRoute", 105, "SelectoRoute$Box", "credits", "I", "SelectoRoute"), ("SelectoRoute", 110, "SelectoRoute$Box", "cents", "I", "SelectoRoute"), ("SelectoRoute", 159, "SelectoRoute$Box", "needle", "I", "SelectoRoute"), ("SelectoRoute", 88, "SelectoRoute$Box", "risk", "I", "SelectoRoute"), ("SelectoRoute", 221, "SelectoRoute$Box", "plays", "I", "SelectoRoute"), ("SelectoRoute", 223, "SelectoRoute$Box", "missing", "I", "SelectoRoute"), ("SelectoRoute", 226, "SelectoRoute$Box", "paid", "I", "SelectoRoute"), ("SelectoRoute", 98, "SelectoRoute$Box", "isJammed", "Z", "SelectoRoute"), ("SelectoRoute", 199, "SelectoRoute$Box", "isVisited", "Z", "SelectoRoute"), ("SelectoRoute", 113, "SelectoRoute$Coin", "cents", "I", "SelectoRoute")]
def xcast : List (String × String) := [("java/util/ArrayList$Itr", "java/util/Iterator"), ("java/util/NoSuchElementException", "java/util/NoSuchElementException"), ("java/util/ArrayList", "java/util/List"), ("java/lang/IllegalArgumentException", "java/lang/IllegalArgumentException"), ("java/lang/IllegalStateException", "java/lang/IllegalStateException"), ("java/lang/ArrayIndexOutOfBoundsException", "java/lang/ArrayIndexOutOfBoundsException"), ("java/lang/IndexOutOfBoundsException", "java/lang/IndexOutOfBoundsException"), ("[LSelectoRoute$Coin;", "java/lang/Cloneable"), ("java/lang/UnsupportedOperationException", "java/lang/UnsupportedOperationException"), ("SelectoRoute$VanException", "SelectoRoute$VanException"), ("java/lang/ArithmeticException", "java/lang/ArithmeticException"), ("java/lang/ArrayIndexOutOfBoundsException", "java/lang/IndexOutOfBoundsException"), ("SelectoRoute$Coin", "java/lang/Object"), ("SelectoRoute", "java/lang/Object"), ("java/util/ArrayList", "java/lang/Object"), ("SelectoRouteModel", "java/lang/Object"), ("java/lang/IllegalArgumentException", "java/lang/Object"), ("java/lang/IllegalStateException", "java/lang/Object"), ("SelectoRoute$Disc", "java/lang/Object"), ("SelectoRoute$Box", "java/lang/Object"), ("java/lang/ArrayIndexOutOfBoundsException", "java/lang/Object"), ("java/lang/IndexOutOfBoundsException", "java/lang/Object"), ("SelectoRoute$Coin$1", "java/lang/Object"), ("SelectoRoute$Coin$2", "java/lang/Object"), ("java/lang/UnsupportedOperationException", "java/lang/Object"), ("java/lang/Integer", "java/lang/Object"), ("java/util/NoSuchElementException", "java/lang/Object"), ("java/util/ArrayList$Itr", "java/lang/Object"), ("SelectoRoute$VanException", "java/lang/Object"), ("java/lang/ArithmeticException", "java/lang/Object"), ("java/lang/Throwable", "java/lang/Object"), ("java/lang/String", "java/lang/Object"), ("SelectoRoute$Coin$1", "SelectoRoute$Coin"), ("SelectoRoute$Coin$2", "SelectoRoute$Coin"), ("[Ljava/lang/Object;", "java/lang/Object"), ("[I", "java/lang/Object"), ("[B", "java/lang/Object"), ("[LSelectoRoute$Coin;", "java/lang/Object"), ("[Z", "java/lang/Object"), ("[J", "java/lang/Object"), ("[D", "java/lang/Object")]
def xdecl : List MethodName := [⟨"java/lang/RuntimeException", "<init>", "()V"⟩, ⟨"java/lang/RuntimeException", "<init>", "(Ljava/lang/String;)V"⟩, ⟨"java/lang/Exception", "<init>", "()V"⟩, ⟨"java/lang/Exception", "<init>", "(Ljava/lang/String;)V"⟩, ⟨"java/lang/Throwable", "<init>", "()V"⟩, ⟨"java/lang/Throwable", "<init>", "(Ljava/lang/String;)V"⟩, ⟨"java/lang/IndexOutOfBoundsException", "<init>", "()V"⟩, ⟨"java/lang/IndexOutOfBoundsException", "<init>", "(Ljava/lang/String;)V"⟩]
def xnc : List (String × String) := [("java/lang/IllegalArgumentException", "java/lang/IllegalStateException"), ("java/lang/IllegalArgumentException", "java/lang/IndexOutOfBoundsException"), ("java/lang/IllegalArgumentException", "java/lang/UnsupportedOperationException"), ("java/lang/IllegalArgumentException", "java/util/NoSuchElementException"), ("java/lang/IllegalArgumentException", "SelectoRoute$VanException"), ("java/lang/IllegalArgumentException", "java/lang/ArithmeticException"), ("java/lang/IllegalStateException", "java/lang/IllegalArgumentException"), ("java/lang/IllegalStateException", "java/lang/IndexOutOfBoundsException"), ("java/lang/IllegalStateException", "java/lang/UnsupportedOperationException"), ("java/lang/IllegalStateException", "java/util/NoSuchElementException"), ("java/lang/IllegalStateException", "SelectoRoute$VanException"), ("java/lang/IllegalStateException", "java/lang/ArithmeticException"), ("java/lang/IndexOutOfBoundsException", "java/lang/IllegalArgumentException"), ("java/lang/IndexOutOfBoundsException", "java/lang/IllegalStateException"), ("java/lang/IndexOutOfBoundsException", "java/lang/UnsupportedOperationException"), ("java/lang/IndexOutOfBoundsException", "java/util/NoSuchElementException"), ("java/lang/IndexOutOfBoundsException", "SelectoRoute$VanException"), ("java/lang/IndexOutOfBoundsException", "java/lang/ArithmeticException"), ("java/lang/UnsupportedOperationException", "java/lang/IllegalArgumentException"), ("java/lang/UnsupportedOperationException", "java/lang/IllegalStateException"), ("java/lang/UnsupportedOperationException", "java/lang/IndexOutOfBoundsException"), ("java/lang/UnsupportedOperationException", "java/util/NoSuchElementException"), ("java/lang/UnsupportedOperationException", "SelectoRoute$VanException"), ("java/lang/UnsupportedOperationException", "java/lang/ArithmeticException"), ("java/util/NoSuchElementException", "java/lang/IllegalArgumentException"), ("java/util/NoSuchElementException", "java/lang/IllegalStateException"), ("java/util/NoSuchElementException", "java/lang/IndexOutOfBoundsException"), ("java/util/NoSuchElementException", "java/lang/UnsupportedOperationException"), ("java/util/NoSuchElementException", "SelectoRoute$VanException"), ("java/util/NoSuchElementException", "java/lang/ArithmeticException"), ("SelectoRoute$VanException", "java/lang/IllegalArgumentException"), ("SelectoRoute$VanException", "java/lang/IllegalStateException"), ("SelectoRoute$VanException", "java/lang/IndexOutOfBoundsException"), ("SelectoRoute$VanException", "java/lang/UnsupportedOperationException"), ("SelectoRoute$VanException", "java/util/NoSuchElementException"), ("SelectoRoute$VanException", "java/lang/ArithmeticException"), ("java/lang/ArithmeticException", "java/lang/IllegalArgumentException"), ("java/lang/ArithmeticException", "java/lang/IllegalStateException"), ("java/lang/ArithmeticException", "java/lang/IndexOutOfBoundsException"), ("java/lang/ArithmeticException", "java/lang/UnsupportedOperationException"), ("java/lang/ArithmeticException", "java/util/NoSuchElementException"), ("java/lang/ArithmeticException", "SelectoRoute$VanException")]
def xface : List (String × MethodName × MethodName) := [("java/util/ArrayList$Itr", ⟨"java/util/Iterator", "hasNext", "()Z"⟩, ⟨"java/util/ArrayList$Itr", "hasNext", "()Z"⟩), ("java/util/ArrayList$Itr", ⟨"java/util/Iterator", "next", "()Ljava/lang/Object;"⟩, ⟨"java/util/ArrayList$Itr", "next", "()Ljava/lang/Object;"⟩), ("java/util/ArrayList", ⟨"java/util/List", "size", "()I"⟩, ⟨"java/util/ArrayList", "size", "()I"⟩), ("java/util/ArrayList", ⟨"java/util/List", "get", "(I)Ljava/lang/Object;"⟩, ⟨"java/util/ArrayList", "get", "(I)Ljava/lang/Object;"⟩), ("java/util/ArrayList", ⟨"java/util/List", "remove", "(I)Ljava/lang/Object;"⟩, ⟨"java/util/ArrayList", "remove", "(I)Ljava/lang/Object;"⟩)]
def xcoinC (i : Nat) : String := if i = 2 then "SelectoRoute$Coin$1" else if i = 3 then "SelectoRoute$Coin$2" else "SelectoRoute$Coin"
def xcoinL (i : Nat) : Int32 := if i = 0 then 110 else if i = 1 then 100 else if i = 2 then 113 else 115
def xcoinP (i : Nat) : Int32 := if i = 0 then 5 else if i = 1 then 10 else if i = 2 then 25 else 0
/-- the enum's array: just its four constants -/
def xvals (g : Nat → Nat) (A : Nat → Prop) (U : State) (H : Heap) : Prop := ∃ cell : Cell, H[g 320]? = some cell ∧ U.isArrayOf cell (.object "SelectoRoute$Coin") ∧ cell.vm ≠ .unknown ∧ cell.vm.isStatics = false ∧ U.vm.findClass "[LSelectoRoute$Coin;" = some cell.cls ∧ cell.slots = (arrV cell.cls 4 (fun k => .ref (g (310 + k)))).slots ∧ ¬ A (g 320)
theorem xvals.moved {g : Nat → Nat} {A : Nat → Prop} {u U : State} {H : Heap} (hvm : u.vm.Alike U.vm) (h : xvals g A u H) : xvals g A U H := by
  obtain ⟨cell, h1, h2, h3, h4, h5, h6⟩ := h
  exact ⟨cell, h1, State.isArrayOf_alike hvm h2, h3, h4, by rw [hvm.findClass]; exact h5, h6⟩
theorem xvals.kept {g : Nat → Nat} {A : Nat → Prop} {U : State} {H H1 : Heap} (h : xvals g A U H) (hq : ∀ a : Nat, a < H.size → ¬ A a → H1[a]? = H[a]?) : xvals g A U H1 := by
  obtain ⟨cell, h1, h2, h3, h4, h5, h6, h7⟩ := h
  exact ⟨cell, by rw [hq _ (Array.getElem?_eq_some_iff.mp h1).1 h7]; exact h1, h2, h3, h4, h5, h6, h7⟩
def xcoin (g : Nat → Nat) (A : Nat → Prop) (U : State) (H : Heap) : Prop :=
  (∀ i, i < 4 → va_O (xcoinC i) (g (310 + i)) A U H ∧ va_OF "SelectoRoute$Coin" "letter" "C" (.int (xcoinL i)) (g (310 + i)) A U H ∧ va_OF "SelectoRoute$Coin" "cents" "I" (.int (xcoinP i)) (g (310 + i)) A U H) ∧
  va_Z "SelectoRoute$Coin" "QUARTER" "LSelectoRoute$Coin;" (.ref (g 312)) A U H ∧ va_Z "SelectoRoute$Coin" "$VALUES" "[LSelectoRoute$Coin;" (.ref (g 320)) A U H ∧ xvals g A U H
theorem xcoin.moved {g : Nat → Nat} {A : Nat → Prop} {u U : State} {H : Heap} (hvm : u.vm.Alike U.vm) (h : xcoin g A u H) : xcoin g A U H :=
  ⟨fun i hi => ⟨va_O.moved hvm (h.1 i hi).1, va_OF.moved hvm (h.1 i hi).2.1, va_OF.moved hvm (h.1 i hi).2.2⟩, va_Z.moved hvm h.2.1, va_Z.moved hvm h.2.2.1, xvals.moved hvm h.2.2.2⟩
theorem xcoin.kept {g : Nat → Nat} {A : Nat → Prop} {U : State} {H H1 : Heap} (h : xcoin g A U H) (hq : ∀ a : Nat, a < H.size → ¬ A a → H1[a]? = H[a]?) : xcoin g A U H1 :=
  ⟨fun i hi => ⟨(h.1 i hi).1.kept hq, (h.1 i hi).2.1.kept hq, (h.1 i hi).2.2.kept hq⟩, h.2.1.kept hq, h.2.2.1.kept hq, h.2.2.2.kept hq⟩
/-- of the tables -/
def xSt (G : xG) (U : State) : Prop :=
  va_K G.2.1 xcl (xtys G.2.2.1) U ∧ va_AO "java/lang/Object" U ∧ va_Dc U ∧ va_Mi "[Ljava/lang/Object;" (G.2.2.1 1010) U ∧
  (∀ q ∈ xnF, va_Nw (.fieldLinkNest q.1 q.2.1 q.2.2.1 q.2.2.2.1 q.2.2.2.2.1 q.2.2.2.2.2) U) ∧ va_Nw (.methodLinkNest "SelectoRoute$Coin" 47 ⟨"SelectoRoute", "require", "(Z)V"⟩ "SelectoRoute") U ∧
  (∀ q ∈ xcast, va_Nw (.castable q.1 q.2) U) ∧ (∀ y ∈ xdecl, va_Nw (.declares y) U) ∧ (∀ q ∈ xface, va_Fw q.1 q.2.1 q.2.2 U) ∧ (∀ q ∈ xnc, va_Nc q.1 q.2 U) ∧
  vk_R "SelectoRoute" 204 "not now" (G.2.2.1 1011) U ∧ vk_R "SelectoRoute" 209 "not in time" (G.2.2.1 1012) U
/-- of the heap -/
def xSh (G : xG) (U : State) (H : Heap) : Prop :=
  vx_Zq Bundle.tN "UNASSIGNED_STACK" Bundle.steD (xA G) U H ∧ vx_Zq Bundle.tN "SUPPRESSED_SENTINEL" Bundle.listD (xA G) U H ∧
  vb_C G.2.2.1 (xA G) U H ∧ va_Z "java/lang/Integer$IntegerCache" "high" "I" (.int 127) (xA G) U H ∧ va_Z "java/lang/Integer$IntegerCache" "cache" "[Ljava/lang/Integer;" (.ref (G.2.2.1 300)) (xA G) U H ∧ va_T (.object "java/lang/Integer") (G.2.2.1 300) 256 (fun k => .ref (G.2.2.1 k)) (xA G) U H ∧
  va_Z "java/util/ArrayList" "DEFAULTCAPACITY_EMPTY_ELEMENTDATA" "[Ljava/lang/Object;" (.ref (G.2.2.1 301)) (xA G) U H ∧ va_T (.object "java/lang/Object") (G.2.2.1 301) 0 (fun _ => .null) (xA G) U H ∧
  xcoin G.2.2.1 (xA G) U H
def xS (G : xG) (U : State) (H : Heap) : Prop := xSt G U ∧ xSh G U H
theorem xface_ok : ∀ q ∈ xface, q.2.1.cls ≠ "java/lang/invoke/MethodHandle" ∧ q.2.1.cls ≠ "java/lang/invoke/VarHandle" := by decide +kernel
theorem xS.warm {G : xG} {s U : State} {H : Heap} (hW : s.WarmedH U.vm) (h : xS G s H) : xS G U H := by
  obtain ⟨⟨a1, a2, a3, a4, a5, a6, a7, a8, a9, a10, a11, a12⟩, b1, b2, b3, b4, b5, b6, b7, b8, b9⟩ := h
  have hA := hW.alike
  exact ⟨⟨va_K.moved hA a1, va_AO.moved hA a2, va_Dc.moved hA a3, va_Mi.moved hA a4, fun q hq => va_Nw.warmF hW (a5 q hq), va_Nw.warmM hW a6, fun q hq => va_Nw.warmC hW (a7 q hq), fun q hq => va_Nw.warmD hW (a8 q hq), fun q hq => va_Fw.moved (xface_ok q hq) hA (a9 q hq), fun q hq => va_Nc.moved hA (a10 q hq), vk_R.warm hW a11, vk_R.warm hW a12⟩,
    vx_Zq.moved hA b1, vx_Zq.moved hA b2, vb_C.moved hA b3, va_Z.moved hA b4, va_Z.moved hA b5, va_T.moved hA b6, va_Z.moved hA b7, va_T.moved hA b8, xcoin.moved hA b9⟩
theorem xS.kept {G : xG} {U : State} {H H1 : Heap} (h : xS G U H) (hq : ∀ a : Nat, a < H.size → ¬ xA G a → H1[a]? = H[a]?) : xS G U H1 := by
  obtain ⟨a, b1, b2, b3, b4, b5, b6, b7, b8, b9⟩ := h
  exact ⟨a, vx_Zq.kept b1 hq, vx_Zq.kept b2 hq, b3.kept hq, b4.kept hq, b5.kept hq, b6.kept hq, b7.kept hq, b8.kept hq, b9.kept hq⟩
/-! ===== THE JUDGEMENT OVER THE WORLD ===== -/
def xX (F : xFr) (Q : State → Prop) (ad : Nat → Nat) (ct : xCt) (cells slots pc : Nat) (lv : List (Nat × Value)) (st : List Value) : Prop :=
  ∀ (H : Heap) (locs : List Loc) (ls : Array Slot), xw F.1 ad ct H → va_S (xA F.1) F.2.2.1.1.heap H locs → lv_has ls F.2.2.2.2.maxLocals lv →
    W F.2.1.1 F.1.1 F.2.1.2.1 F.2.1.2.2 F.2.2.1.1 F.2.2.1.2.1 F.2.2.1.2.2.1 F.2.2.1.2.2.2 F.2.2.2.1 F.2.2.2.2 H locs cells slots Q (F0 F.2.2.1.2.1 pc ls st)
/-- the same with an exception of class E thrown here -/
def xT (F : xFr) (Q : State → Prop) (ad : Nat → Nat) (ct : xCt) (cells slots pc : Nat) (lv : List (Nat × Value)) (E : String) : Prop :=
  ∀ (H : Heap) (locs : List Loc) (ls : Array Slot) (q : Addr) (ce : Cell) (rest : List Value), xw F.1 ad ct H → va_S (xA F.1) F.2.2.1.1.heap H locs → lv_has ls F.2.2.2.2.maxLocals lv → H[q]? = some ce → ce.vm = .none → F.2.2.1.1.vm.findClass E = some ce.cls →
    vx_W F.2.1.1 F.1.1 F.2.1.2.1 F.2.1.2.2 F.2.2.1.1 F.2.2.1.2.1 F.2.2.1.2.2.1 F.2.2.1.2.2.2 F.2.2.2.1 F.2.2.2.2 H locs cells slots Q (F0 F.2.2.1.2.1 pc ls rest) q
/-- what is fixed in a body -/
def xC (F : xFr) (cc : ByteArray) (nL : Nat) (own : String) (ret : Option FieldType) (rm : Room) (nm : String) (tb : List ExceptionTableEntry) : Prop :=
  (F.2.1.1.tables.exec = Jvm.exec ∧ F.2.2.2.2.code = cc ∧ F.2.2.2.2.maxLocals = nL ∧ F.2.2.1.1.vm.findClass own = some F.2.2.1.2.1.cls ∧ (∀ w ∈ lw_all, w.before F.2.2.1.2.2.1 F.2.2.1.1 = true)) ∧
  (F.2.2.2.1.locks = false ∧ F.2.2.2.1.sig.returnType = ret ∧ F.2.1.2.2 = rm ∧ F.2.2.2.1.name = nm ∧ F.2.2.2.2.exceptionTable.toList = tb) ∧
  (xS F.1 F.2.2.1.1 F.2.2.1.1.heap ∧ F.1.2.2.2 ≤ F.2.2.1.1.heap.size ∧ F.1.1.stackTraces = false)
section XC
variable {F : xFr} {cc : ByteArray} {nL : Nat} {own : String} {ret : Option FieldType} {rm : Room} {nm : String} {tb : List ExceptionTableEntry}
theorem xC.hx (C : xC F cc nL own ret rm nm tb) : F.2.1.1.tables.exec = Jvm.exec := C.1.1
theorem xC.hb (C : xC F cc nL own ret rm nm tb) : F.2.2.2.2.code = cc := C.1.2.1
theorem xC.hml (C : xC F cc nL own ret rm nm tb) : F.2.2.2.2.maxLocals = nL := C.1.2.2.1
theorem xC.hown (C : xC F cc nL own ret rm nm tb) : F.2.2.1.1.vm.findClass own = some F.2.2.1.2.1.cls := C.1.2.2.2.1
theorem xC.hts (C : xC F cc nL own ret rm nm tb) : ∀ w ∈ lw_all, w.before F.2.2.1.2.2.1 F.2.2.1.1 = true := C.1.2.2.2.2
theorem xC.hlk (C : xC F cc nL own ret rm nm tb) : F.2.2.2.1.locks = false := C.2.1.1
theorem xC.hr (C : xC F cc nL own ret rm nm tb) : F.2.2.2.1.sig.returnType = ret := C.2.1.2.1
theorem xC.hR (C : xC F cc nL own ret rm nm tb) : F.2.1.2.2 = rm := C.2.1.2.2.1
theorem xC.hnm (C : xC F cc nL own ret rm nm tb) : F.2.2.2.1.name = nm := C.2.1.2.2.2.1
theorem xC.htb (C : xC F cc nL own ret rm nm tb) : F.2.2.2.2.exceptionTable.toList = tb := C.2.1.2.2.2.2
theorem xC.S (C : xC F cc nL own ret rm nm tb) : xS F.1 F.2.2.1.1 F.2.2.1.1.heap := C.2.2.1
theorem xC.K (C : xC F cc nL own ret rm nm tb) : va_K F.1.2.1 xcl (xtys F.1.2.2.1) F.2.2.1.1 := C.2.2.1.1.1
theorem xC.hB (C : xC F cc nL own ret rm nm tb) : F.1.2.2.2 ≤ F.2.2.1.1.heap.size := C.2.2.2.1
theorem xC.hl (C : xC F cc nL own ret rm nm tb) : F.1.1.stackTraces = false := C.2.2.2.2
theorem xC.hA (C : xC F cc nL own ret rm nm tb) : ∀ q : Nat, F.2.2.1.1.heap.size ≤ q → xA F.1 q := fun _ h => Nat.le_trans C.hB h
theorem xC.fix (C : xC F cc nL own ret rm nm tb) : CallFix F.2.1.1 F.2.2.1.2.1 F.2.2.2.2 cc nL F.2.2.1.1 F.2.2.1.2.2.1 lw_all own := ⟨C.hx, C.hb, C.hml, C.hown, C.hts⟩
end XC
/-! ===== CONTRACTS ===== -/
def xQc (G : xG) (Post : Option Value → (Nat → Nat) → xCt → Prop) : Array Value → State → Outcome → State → Prop := fun _ st oc t => (∃ v ad ct, oc = .returned v ∧ Post v ad ct ∧ xw G ad ct t.heap) ∧ va_F (xA G) st t
def xXc (G : xG) (PX : String → (Nat → Nat) → xCt → Prop) : String → State → State → Prop := fun E st t => (∃ ad ct, PX E ad ct ∧ xw G ad ct t.heap) ∧ va_F (xA G) st t
def xPc (G : xG) (av : List Value) (ad : Nat → Nat) (ct : xCt) : Array Value → State → Prop := va_Pc av (fun U => xw G ad ct U.heap ∧ xS G U U.heap ∧ G.2.2.2 ≤ U.heap.size ∧ G.1.stackTraces = false)
/-- method y, called with av in the world (ad, ct): it returns v in a world with Post, or throws E in a world with PX -/
def xM (G : xG) (y : MethodName) (ws : List Cond) (fr lo mc ms : Nat) (av : List Value) (ad : Nat → Nat) (ct : xCt) (Post : Option Value → (Nat → Nat) → xCt → Prop) (PX : String → (Nat → Nat) → xCt → Prop) : Prop :=
  vx_Met G.1 y ws ({ frames := fr, cells := mc, slots := ms, locals := lo } : Room) (xPc G av ad ct) (xQc G Post) (xXc G PX) mc ms (xA G)
def xQ (F : xFr) (Post : Option Value → (Nat → Nat) → xCt → Prop) (PX : String → (Nat → Nat) → xCt → Prop) (mc ms : Nat) : State → Prop :=
  vx_MQ F.2.2.1.2.2.2 (xQc F.1 Post) (xXc F.1 PX) F.2.2.1.2.2.1 F.2.2.1.1 mc ms (xA F.1)
/-- no exception -/
def xN : String → (Nat → Nat) → xCt → Prop := fun _ _ _ => False
theorem xM_of {G : xG} {y : MethodName} {cc : ByteArray} {maxL : Nat} {ret : Option FieldType} {fr lo mc ms : Nat} {av : List Value} {ad : Nat → Nat} {ct : xCt} {Post : Option Value → (Nat → Nat) → xCt → Prop} {PX : String → (Nat → Nat) → xCt → Prop}
    (hy : plainName y.cls = true) (hlen : Nat.ble (lg_sl av).length maxL = true)
    (body : ∀ F : xFr, F.1 = G → xC F cc maxL y.cls ret ({ frames := fr, cells := mc, slots := ms, locals := lo } : Room) y.name [] → xX F (xQ F Post PX mc ms) ad ct 0 0 0 (lv_args 0 av) []) : xM G y (ws_ y cc maxL ret) fr lo mc ms av ad ct Post PX := by
  refine vx_ofW (cc := cc) (maxL := maxL) (ret := ret) hy rfl ?_
  intro p e s m args below meth c s₁ B hml htb hv
  obtain ⟨rfl, hw, hS, hB, hst⟩ := hv
  have hts := atoms_spec (ws := ws_ y cc maxL ret) B.pre
  have hts : ∀ w ∈ lw_all, w.before _ s = true := fun w h => hts w (List.mem_cons_of_mem _ h)
  have hown : s.vm.findClass y.cls = some m.cls := findClass_of_methodNamed B.named
  have hnm : meth.name = y.name := (name_of_methodNamed B.named B.method).1
  have hl := lv_entry av (n := maxL) (Nat.le_of_ble_eq_true hlen)
  rw [lg_entry_eq]
  have htb' : c.exceptionTable.toList = [] := List.eq_nil_iff_forall_not_mem.mpr fun x hx => htb x hx
  refine body (G, (p, e, _), (s, m, av.toArray, below), (meth, c)) rfl ⟨⟨B.exec, B.bytes, hml, hown, hts⟩, ⟨B.notSynchronized, B.returns, rfl, hnm, htb'⟩, hS, hB, hst⟩ s.heap [] _ hw va_S.rf ?_
  show lv_has _ c.maxLocals _
  rw [hml]
  exact hl
