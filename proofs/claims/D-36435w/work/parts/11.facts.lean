/-- a field of another class that is only read -/
def xFlr (own : String) (idx ci k : Nat) : Prop := ∃ (C : String) (T : u_T) (N : Nat) (tyf : Nat → FieldType) (ref : String), xCi ci C T N tyf ∧ k < N ∧
  (Cond.fieldLink own idx ref (T k).2.1 (T k).2.2.1 ∈ lw_all ∨ ∃ host, (own, idx, ref, (T k).2.1, (T k).2.2.1, host) ∈ xnF) ∧ (ref = (T k).1 ∨ Cond.sameField ref (T k).1 (T k).2.1 (T k).2.2.1 ∈ lw_all)
theorem xFl.r {own : String} {idx ci k : Nat} {fin : Bool} {ty : FieldType} (h : xFl own idx ci k fin ty) : xFlr own idx ci k := by
  obtain ⟨a, b, c, d, e, h1, h2, h3, h4, -⟩ := h
  exact ⟨a, b, c, d, e, h1, h2, h3, h4⟩
/-- the words of a throw: all but the castables and the declared names ride in lw_all -/
def xTh (own : String) (ik ic : Nat) (cls : String) (names : List String) : Prop :=
  Bundle.fit cls = true ∧ (∀ n ∈ names, Bundle.fit n = true) ∧ Cond.classLink own ik cls ∈ lw_all ∧ Cond.initialized cls ∈ lw_all ∧ (∀ w ∈ (vx_at0 own ic cls names).filter goodWord, w ∈ lw_all) ∧
  (∀ w ∈ (vx_at0 own ic cls names).filter (fun w => !goodWord w), w ∈ xcast.map (fun q => Cond.castable q.1 q.2) ++ xdecl.map Cond.declares) ∧ ∀ w ∈ Cond.classLink own ik cls :: Cond.initialized cls :: vx_at0 own ic cls names, vx_ot w = true
theorem xw_kept {G : xG} {ad : Nat → Nat} {ct : xCt} {H H1 : Heap} (h : xw G ad ct H) (hk : ∀ q : Nat, q < H.size → H1[q]? = H[q]?) : xw G ad ct H1 :=
  ⟨h.1, fun r e hr => ⟨((h.2.1 r e hr).1).kept (hk _ (h.2.1 r e hr).1.lt), (h.2.1 r e hr).2⟩, h.2.2⟩
section XTHROW
variable {F : xFr} {cc : ByteArray} {nL : Nat} {own : String} {ret : Option FieldType} {rm : Room} {nm : String} {tb : List ExceptionTableEntry} {Q : State → Prop} {ad : Nat → Nat} {ct : xCt} {cells slots pc : Nat} {lv : List (Nat × Value)} {rest : List Value}
theorem x_getR (C : xC F cc nL own ret rm nm tb) {idx ci k : Nat} (hf : xFlr own idx ci k) {r a : Nat} (ha : ad r = a) {fs : List Value} {v : Value} (h : ct r = some (.inr (ci, fs))) (hv : fs[k]? = some v) (hdg : decode cc pc = .ok (.getfield idx, 3))
    (kk : xX F Q ad ct cells slots (pc + 3) lv (v :: rest)) : xX F Q ad ct cells slots pc lv (.ref a :: rest) := by
  subst ha
  obtain ⟨Cn, T, N, tyf, ref, hc, hk, hl, hs⟩ := hf
  intro H locs ls w hS h0
  rcases hl with hl | ⟨host, hl⟩
  · exact va_get C.hx C.hb C.hts hc.2.1 C.hown C.K (xw_at w h) 0 rfl hc.1 k hk (C.hts _ hl) (x_same C hs) hv hdg (kk H locs ls w hS h0)
  · exact va_getN C.hx C.hb C.hts hc.2.1 C.hown C.K (xw_at w h) 0 rfl hc.1 k hk (va_Nw.use rfl (C.S.1.2.2.2.2.1 _ hl)) (x_same C hs) hv hdg (kk H locs ls w hS h0)
theorem x_throw0 {Post0 : Option Value → (Nat → Nat) → xCt → Prop} {PX0 : String → (Nat → Nat) → xCt → Prop} {mc0 ms0 : Nat} (C : xC F cc nL own ret rm nm tb) {ik ic : Nat} {cls : String} {names : List String} (ht : xTh own ik ic cls names)
    (d0 : decode cc pc = .ok (.new ik, 3)) (d3 : decode cc (pc + 3) = .ok (.dup, 1)) (d4 : decode cc (pc + 4) = .ok (.invokespecial ic, 3)) (d7 : decode cc (pc + 7) = .ok (.athrow, 1)) (hout : ∀ x ∈ tb, covers x (pc + 7) = false)
    (hR : (names.length + 3 < rm.frames ∧ (rest.map fun v => v.category).sum + (13 * (names.length + 1) + 42) ≤ rm.locals) ∧ cells + 1 ≤ rm.cells ∧ slots + 6 ≤ rm.slots) (hc : cells + 1 ≤ mc0) (hs : slots + 6 ≤ ms0) (hp : PX0 cls ad ct) :
    xX F (xQ F Post0 PX0 mc0 ms0) ad ct cells slots pc lv rest := by
  obtain ⟨h1, h2, h3, h4, h5, h6, h7⟩ := ht
  intro H locs ls w hS h0
  refine vx_throw0 C.hx C.hb C.hl C.hown h1 h2 (C.hts _ h3) (C.hts _ h4) (vx_hat (fun w hw => C.hts _ (h5 w hw)) h6 (fun w hw => ?_)) h7 C.S.2.1 C.S.2.2.1 hS h0.1 d0 d3 d4 d7 (by rw [C.htb]; exact hout) (by rw [C.hR]; exact hR.1.1) (by rw [C.hR]; exact hR.1.2) (by rw [C.hR]; exact hR.2.1) (by rw [C.hR]; exact hR.2.2) C.hlk (fun t _ hz hk => ⟨⟨ad, ct, hp, xw_kept w hk⟩, Nat.le_trans hS.1 hz, fun q hq hA => (hk q (Nat.lt_of_lt_of_le hq hS.1)).trans (hS.2.1 q hq hA)⟩) hS.2.2 hc hs
  rcases List.mem_append.mp hw with hw | hw
  · obtain ⟨q, hq, rfl⟩ := List.mem_map.mp hw
    exact va_Nw.use rfl (C.S.1.2.2.2.2.2.2.1 q hq)
  · obtain ⟨q, hq, rfl⟩ := List.mem_map.mp hw
    exact va_Nw.use rfl (C.S.1.2.2.2.2.2.2.2.1 q hq)
end XTHROW
/-! ===== THE ENTRIES OF FIELDS ===== -/
theorem fl_X1_28 : xFl "SelectoRoute" 28 0 0 true (.object "java/util/ArrayList") := ⟨_, _, _, _, "SelectoRoute", xci0, by decide, Or.inl q93, Or.inl rfl, rfl, tyX1_ok 0 (by decide), fun _ => rfl⟩
theorem fl_X1_34 : xFl "SelectoRoute" 34 0 1 true (.object "java/util/ArrayList") := ⟨_, _, _, _, "SelectoRoute", xci0, by decide, Or.inl q94, Or.inl rfl, rfl, tyX1_ok 1 (by decide), fun _ => rfl⟩
theorem fl_X1_172 : xFl "SelectoRoute" 172 0 2 false (.int) := ⟨_, _, _, _, "SelectoRoute", xci0, by decide, Or.inl q95, Or.inl rfl, rfl, tyX1_ok 2 (by decide), fun h => nomatch h⟩
theorem fl_X1_37 : xFl "SelectoRoute" 37 0 3 false (.int) := ⟨_, _, _, _, "SelectoRoute", xci0, by decide, Or.inl q96, Or.inl rfl, rfl, tyX1_ok 3 (by decide), fun h => nomatch h⟩
theorem fl_X1_229 : xFl "SelectoRoute" 229 0 4 false (.int) := ⟨_, _, _, _, "SelectoRoute", xci0, by decide, Or.inl q97, Or.inl rfl, rfl, tyX1_ok 4 (by decide), fun h => nomatch h⟩
theorem fl_X1_232 : xFl "SelectoRoute" 232 0 5 false (.int) := ⟨_, _, _, _, "SelectoRoute", xci0, by decide, Or.inl q98, Or.inl rfl, rfl, tyX1_ok 5 (by decide), fun h => nomatch h⟩
theorem fl_X1_41 : xFl "SelectoRoute" 41 0 6 false (.long) := ⟨_, _, _, _, "SelectoRoute", xci0, by decide, Or.inl q99, Or.inl rfl, rfl, tyX1_ok 6 (by decide), fun h => nomatch h⟩
theorem fl_J2_9 : xFl "java/util/ArrayList" 9 1 1 false (.array (.object "java/lang/Object")) := ⟨_, _, _, _, "java/util/ArrayList", xci1, by decide, Or.inl q78, Or.inl rfl, rfl, tyJ2_ok 1 (by decide), fun h => nomatch h⟩
theorem fl_J20_37 : xFl "java/util/ArrayList$Itr" 37 1 1 false (.array (.object "java/lang/Object")) := ⟨_, _, _, _, "java/util/ArrayList", xci1, by decide, Or.inl q79, Or.inl rfl, rfl, tyJ2_ok 1 (by decide), fun h => nomatch h⟩
theorem fl_J20_28 : xFl "java/util/ArrayList$Itr" 28 1 2 false (.int) := ⟨_, _, _, _, "java/util/ArrayList", xci1, by decide, Or.inr ⟨"java/util/ArrayList", List.mem_of_getElem? (i := 0) rfl⟩, Or.inl rfl, rfl, tyJ2_ok 2 (by decide), fun h => nomatch h⟩
theorem fl_J2_48 : xFl "java/util/ArrayList" 48 1 2 false (.int) := ⟨_, _, _, _, "java/util/ArrayList", xci1, by decide, Or.inl q81, Or.inl rfl, rfl, tyJ2_ok 2 (by decide), fun h => nomatch h⟩
theorem fl_J1_7 : xFl "java/util/AbstractList" 7 1 0 false (.int) := ⟨_, _, _, _, "java/util/AbstractList", xci1, by decide, Or.inl q82, Or.inl rfl, rfl, tyJ2_ok 0 (by decide), fun h => nomatch h⟩
theorem fl_J20_17 : xFl "java/util/ArrayList$Itr" 17 1 0 false (.int) := ⟨_, _, _, _, "java/util/ArrayList", xci1, by decide, Or.inl q83, Or.inr q84, rfl, tyJ2_ok 0 (by decide), fun h => nomatch h⟩
theorem fl_J2_63 : xFl "java/util/ArrayList" 63 1 0 false (.int) := ⟨_, _, _, _, "java/util/ArrayList", xci1, by decide, Or.inl q85, Or.inr q84, rfl, tyJ2_ok 0 (by decide), fun h => nomatch h⟩
theorem fl_X3_15 : xFl "SelectoRoute$Disc" 15 2 0 true (.int) := ⟨_, _, _, _, "SelectoRoute$Disc", xci2, by decide, Or.inl q469, Or.inl rfl, rfl, tyX3_ok 0 (by decide), fun _ => rfl⟩
theorem fl_X1_238 : xFlr "SelectoRoute" 238 2 0 := ⟨_, _, _, _, "SelectoRoute$Disc", xci2, by decide, Or.inr ⟨"SelectoRoute", List.mem_of_getElem? (i := 1) rfl⟩, Or.inl rfl⟩
theorem fl_X3_18 : xFl "SelectoRoute$Disc" 18 2 1 true (.int) := ⟨_, _, _, _, "SelectoRoute$Disc", xci2, by decide, Or.inl q471, Or.inl rfl, rfl, tyX3_ok 1 (by decide), fun _ => rfl⟩
theorem fl_X3_21 : xFl "SelectoRoute$Disc" 21 2 2 true (.int) := ⟨_, _, _, _, "SelectoRoute$Disc", xci2, by decide, Or.inl q472, Or.inl rfl, rfl, tyX3_ok 2 (by decide), fun _ => rfl⟩
theorem fl_X3_30 : xFl "SelectoRoute$Disc" 30 2 3 false (.int) := ⟨_, _, _, _, "SelectoRoute$Disc", xci2, by decide, Or.inl q473, Or.inl rfl, rfl, tyX3_ok 3 (by decide), fun h => nomatch h⟩
theorem fl_X4_41 : xFl "SelectoRoute$Box" 41 2 3 false (.int) := ⟨_, _, _, _, "SelectoRoute$Disc", xci2, by decide, Or.inr ⟨"SelectoRoute", List.mem_of_getElem? (i := 2) rfl⟩, Or.inl rfl, rfl, tyX3_ok 3 (by decide), fun h => nomatch h⟩
theorem fl_X1_166 : xFl "SelectoRoute" 166 2 3 false (.int) := ⟨_, _, _, _, "SelectoRoute$Disc", xci2, by decide, Or.inr ⟨"SelectoRoute", List.mem_of_getElem? (i := 3) rfl⟩, Or.inl rfl, rfl, tyX3_ok 3 (by decide), fun h => nomatch h⟩
theorem fl_X3_9 : xFl "SelectoRoute$Disc" 9 2 4 false (.int) := ⟨_, _, _, _, "SelectoRoute$Disc", xci2, by decide, Or.inl q476, Or.inl rfl, rfl, tyX3_ok 4 (by decide), fun h => nomatch h⟩
theorem fl_X1_169 : xFl "SelectoRoute" 169 2 4 false (.int) := ⟨_, _, _, _, "SelectoRoute$Disc", xci2, by decide, Or.inr ⟨"SelectoRoute", List.mem_of_getElem? (i := 4) rfl⟩, Or.inl rfl, rfl, tyX3_ok 4 (by decide), fun h => nomatch h⟩
theorem fl_X4_31 : xFl "SelectoRoute$Box" 31 3 0 true (.int) := ⟨_, _, _, _, "SelectoRoute$Box", xci3, by decide, Or.inl q506, Or.inl rfl, rfl, tyX4_ok 0 (by decide), fun _ => rfl⟩
theorem fl_X1_218 : xFlr "SelectoRoute" 218 3 0 := ⟨_, _, _, _, "SelectoRoute$Box", xci3, by decide, Or.inr ⟨"SelectoRoute", List.mem_of_getElem? (i := 5) rfl⟩, Or.inl rfl⟩
theorem fl_X4_35 : xFl "SelectoRoute$Box" 35 3 1 true (.int) := ⟨_, _, _, _, "SelectoRoute$Box", xci3, by decide, Or.inl q508, Or.inl rfl, rfl, tyX4_ok 1 (by decide), fun _ => rfl⟩
theorem fl_X1_175 : xFlr "SelectoRoute" 175 3 1 := ⟨_, _, _, _, "SelectoRoute$Box", xci3, by decide, Or.inr ⟨"SelectoRoute", List.mem_of_getElem? (i := 6) rfl⟩, Or.inl rfl⟩
theorem fl_X4_14 : xFl "SelectoRoute$Box" 14 3 2 true (.array (.int)) := ⟨_, _, _, _, "SelectoRoute$Box", xci3, by decide, Or.inl q510, Or.inl rfl, rfl, tyX4_ok 2 (by decide), fun _ => rfl⟩
theorem fl_X1_117 : xFlr "SelectoRoute" 117 3 2 := ⟨_, _, _, _, "SelectoRoute$Box", xci3, by decide, Or.inr ⟨"SelectoRoute", List.mem_of_getElem? (i := 7) rfl⟩, Or.inl rfl⟩
theorem fl_X4_18 : xFl "SelectoRoute$Box" 18 3 3 true (.array (.int)) := ⟨_, _, _, _, "SelectoRoute$Box", xci3, by decide, Or.inl q512, Or.inl rfl, rfl, tyX4_ok 3 (by decide), fun _ => rfl⟩
theorem fl_X1_156 : xFlr "SelectoRoute" 156 3 3 := ⟨_, _, _, _, "SelectoRoute$Box", xci3, by decide, Or.inr ⟨"SelectoRoute", List.mem_of_getElem? (i := 8) rfl⟩, Or.inl rfl⟩
theorem fl_X4_21 : xFl "SelectoRoute$Box" 21 3 4 true (.array (.int)) := ⟨_, _, _, _, "SelectoRoute$Box", xci3, by decide, Or.inl q514, Or.inl rfl, rfl, tyX4_ok 4 (by decide), fun _ => rfl⟩
theorem fl_X1_235 : xFlr "SelectoRoute" 235 3 4 := ⟨_, _, _, _, "SelectoRoute$Box", xci3, by decide, Or.inr ⟨"SelectoRoute", List.mem_of_getElem? (i := 9) rfl⟩, Or.inl rfl⟩
theorem fl_X4_27 : xFl "SelectoRoute$Box" 27 3 5 true (.object "java/util/ArrayList") := ⟨_, _, _, _, "SelectoRoute$Box", xci3, by decide, Or.inl q516, Or.inl rfl, rfl, tyX4_ok 5 (by decide), fun _ => rfl⟩
theorem fl_X1_121 : xFlr "SelectoRoute" 121 3 5 := ⟨_, _, _, _, "SelectoRoute$Box", xci3, by decide, Or.inr ⟨"SelectoRoute", List.mem_of_getElem? (i := 10) rfl⟩, Or.inl rfl⟩
theorem fl_X1_105 : xFl "SelectoRoute" 105 3 6 false (.int) := ⟨_, _, _, _, "SelectoRoute$Box", xci3, by decide, Or.inr ⟨"SelectoRoute", List.mem_of_getElem? (i := 11) rfl⟩, Or.inl rfl, rfl, tyX4_ok 6 (by decide), fun h => nomatch h⟩
theorem fl_X1_110 : xFl "SelectoRoute" 110 3 7 false (.int) := ⟨_, _, _, _, "SelectoRoute$Box", xci3, by decide, Or.inr ⟨"SelectoRoute", List.mem_of_getElem? (i := 12) rfl⟩, Or.inl rfl, rfl, tyX4_ok 7 (by decide), fun h => nomatch h⟩
theorem fl_X4_46 : xFl "SelectoRoute$Box" 46 3 8 false (.int) := ⟨_, _, _, _, "SelectoRoute$Box", xci3, by decide, Or.inl q520, Or.inl rfl, rfl, tyX4_ok 8 (by decide), fun h => nomatch h⟩
theorem fl_X1_159 : xFl "SelectoRoute" 159 3 8 false (.int) := ⟨_, _, _, _, "SelectoRoute$Box", xci3, by decide, Or.inr ⟨"SelectoRoute", List.mem_of_getElem? (i := 13) rfl⟩, Or.inl rfl, rfl, tyX4_ok 8 (by decide), fun h => nomatch h⟩
theorem fl_X1_88 : xFl "SelectoRoute" 88 3 9 false (.int) := ⟨_, _, _, _, "SelectoRoute$Box", xci3, by decide, Or.inr ⟨"SelectoRoute", List.mem_of_getElem? (i := 14) rfl⟩, Or.inl rfl, rfl, tyX4_ok 9 (by decide), fun h => nomatch h⟩
theorem fl_X4_38 : xFl "SelectoRoute$Box" 38 3 10 false (.int) := ⟨_, _, _, _, "SelectoRoute$Box", xci3, by decide, Or.inl q523, Or.inl rfl, rfl, tyX4_ok 10 (by decide), fun h => nomatch h⟩
theorem fl_X1_221 : xFl "SelectoRoute" 221 3 10 false (.int) := ⟨_, _, _, _, "SelectoRoute$Box", xci3, by decide, Or.inr ⟨"SelectoRoute", List.mem_of_getElem? (i := 15) rfl⟩, Or.inl rfl, rfl, tyX4_ok 10 (by decide), fun h => nomatch h⟩
theorem fl_X1_223 : xFl "SelectoRoute" 223 3 11 false (.int) := ⟨_, _, _, _, "SelectoRoute$Box", xci3, by decide, Or.inr ⟨"SelectoRoute", List.mem_of_getElem? (i := 16) rfl⟩, Or.inl rfl, rfl, tyX4_ok 11 (by decide), fun h => nomatch h⟩
theorem fl_X1_226 : xFl "SelectoRoute" 226 3 12 false (.int) := ⟨_, _, _, _, "SelectoRoute$Box", xci3, by decide, Or.inr ⟨"SelectoRoute", List.mem_of_getElem? (i := 17) rfl⟩, Or.inl rfl, rfl, tyX4_ok 12 (by decide), fun h => nomatch h⟩
theorem fl_X1_98 : xFl "SelectoRoute" 98 3 13 false (.boolean) := ⟨_, _, _, _, "SelectoRoute$Box", xci3, by decide, Or.inr ⟨"SelectoRoute", List.mem_of_getElem? (i := 18) rfl⟩, Or.inl rfl, rfl, tyX4_ok 13 (by decide), fun h => nomatch h⟩
theorem fl_X1_199 : xFl "SelectoRoute" 199 3 14 false (.boolean) := ⟨_, _, _, _, "SelectoRoute$Box", xci3, by decide, Or.inr ⟨"SelectoRoute", List.mem_of_getElem? (i := 19) rfl⟩, Or.inl rfl, rfl, tyX4_ok 14 (by decide), fun h => nomatch h⟩
theorem fl_X2_7 : xFl "SelectoRouteModel" 7 4 0 true (.array (.int)) := ⟨_, _, _, _, "SelectoRouteModel", xci4, by decide, Or.inl q973, Or.inl rfl, rfl, tyX2_ok 0 (by decide), fun _ => rfl⟩
theorem fl_X2_13 : xFl "SelectoRouteModel" 13 4 1 true (.array (.int)) := ⟨_, _, _, _, "SelectoRouteModel", xci4, by decide, Or.inl q974, Or.inl rfl, rfl, tyX2_ok 1 (by decide), fun _ => rfl⟩
theorem fl_X2_16 : xFl "SelectoRouteModel" 16 4 2 true (.array (.int)) := ⟨_, _, _, _, "SelectoRouteModel", xci4, by decide, Or.inl q975, Or.inl rfl, rfl, tyX2_ok 2 (by decide), fun _ => rfl⟩
theorem fl_X2_19 : xFl "SelectoRouteModel" 19 4 3 true (.array (.int)) := ⟨_, _, _, _, "SelectoRouteModel", xci4, by decide, Or.inl q976, Or.inl rfl, rfl, tyX2_ok 3 (by decide), fun _ => rfl⟩
theorem fl_X2_22 : xFl "SelectoRouteModel" 22 4 4 true (.array (.int)) := ⟨_, _, _, _, "SelectoRouteModel", xci4, by decide, Or.inl q977, Or.inl rfl, rfl, tyX2_ok 4 (by decide), fun _ => rfl⟩
theorem fl_X2_90 : xFl "SelectoRouteModel" 90 4 5 false (.int) := ⟨_, _, _, _, "SelectoRouteModel", xci4, by decide, Or.inl q978, Or.inl rfl, rfl, tyX2_ok 5 (by decide), fun h => nomatch h⟩
theorem fl_X2_25 : xFl "SelectoRouteModel" 25 4 6 true (.array (.int)) := ⟨_, _, _, _, "SelectoRouteModel", xci4, by decide, Or.inl q979, Or.inl rfl, rfl, tyX2_ok 6 (by decide), fun _ => rfl⟩
theorem fl_X2_28 : xFl "SelectoRouteModel" 28 4 7 true (.array (.int)) := ⟨_, _, _, _, "SelectoRouteModel", xci4, by decide, Or.inl q980, Or.inl rfl, rfl, tyX2_ok 7 (by decide), fun _ => rfl⟩
theorem fl_X2_31 : xFl "SelectoRouteModel" 31 4 8 true (.array (.int)) := ⟨_, _, _, _, "SelectoRouteModel", xci4, by decide, Or.inl q981, Or.inl rfl, rfl, tyX2_ok 8 (by decide), fun _ => rfl⟩
theorem fl_X2_34 : xFl "SelectoRouteModel" 34 4 9 true (.array (.int)) := ⟨_, _, _, _, "SelectoRouteModel", xci4, by decide, Or.inl q982, Or.inl rfl, rfl, tyX2_ok 9 (by decide), fun _ => rfl⟩
theorem fl_X2_37 : xFl "SelectoRouteModel" 37 4 10 true (.array (.int)) := ⟨_, _, _, _, "SelectoRouteModel", xci4, by decide, Or.inl q983, Or.inl rfl, rfl, tyX2_ok 10 (by decide), fun _ => rfl⟩
theorem fl_X2_40 : xFl "SelectoRouteModel" 40 4 11 true (.array (.int)) := ⟨_, _, _, _, "SelectoRouteModel", xci4, by decide, Or.inl q984, Or.inl rfl, rfl, tyX2_ok 11 (by decide), fun _ => rfl⟩
theorem fl_X2_43 : xFl "SelectoRouteModel" 43 4 12 true (.array (.int)) := ⟨_, _, _, _, "SelectoRouteModel", xci4, by decide, Or.inl q985, Or.inl rfl, rfl, tyX2_ok 12 (by decide), fun _ => rfl⟩
theorem fl_X2_46 : xFl "SelectoRouteModel" 46 4 13 true (.array (.int)) := ⟨_, _, _, _, "SelectoRouteModel", xci4, by decide, Or.inl q986, Or.inl rfl, rfl, tyX2_ok 13 (by decide), fun _ => rfl⟩
theorem fl_X2_49 : xFl "SelectoRouteModel" 49 4 14 true (.array (.int)) := ⟨_, _, _, _, "SelectoRouteModel", xci4, by decide, Or.inl q987, Or.inl rfl, rfl, tyX2_ok 14 (by decide), fun _ => rfl⟩
theorem fl_X2_52 : xFl "SelectoRouteModel" 52 4 15 true (.array (.int)) := ⟨_, _, _, _, "SelectoRouteModel", xci4, by decide, Or.inl q988, Or.inl rfl, rfl, tyX2_ok 15 (by decide), fun _ => rfl⟩
theorem fl_X2_55 : xFl "SelectoRouteModel" 55 4 16 true (.array (.int)) := ⟨_, _, _, _, "SelectoRouteModel", xci4, by decide, Or.inl q989, Or.inl rfl, rfl, tyX2_ok 16 (by decide), fun _ => rfl⟩
theorem fl_X2_58 : xFl "SelectoRouteModel" 58 4 17 true (.array (.boolean)) := ⟨_, _, _, _, "SelectoRouteModel", xci4, by decide, Or.inl q990, Or.inl rfl, rfl, tyX2_ok 17 (by decide), fun _ => rfl⟩
theorem fl_X2_62 : xFl "SelectoRouteModel" 62 4 18 true (.array (.boolean)) := ⟨_, _, _, _, "SelectoRouteModel", xci4, by decide, Or.inl q991, Or.inl rfl, rfl, tyX2_ok 18 (by decide), fun _ => rfl⟩
theorem fl_X2_97 : xFl "SelectoRouteModel" 97 4 19 false (.int) := ⟨_, _, _, _, "SelectoRouteModel", xci4, by decide, Or.inl q992, Or.inl rfl, rfl, tyX2_ok 19 (by decide), fun h => nomatch h⟩
theorem fl_X2_65 : xFl "SelectoRouteModel" 65 4 20 true (.array (.int)) := ⟨_, _, _, _, "SelectoRouteModel", xci4, by decide, Or.inl q993, Or.inl rfl, rfl, tyX2_ok 20 (by decide), fun _ => rfl⟩
theorem fl_X2_68 : xFl "SelectoRouteModel" 68 4 21 true (.array (.int)) := ⟨_, _, _, _, "SelectoRouteModel", xci4, by decide, Or.inl q994, Or.inl rfl, rfl, tyX2_ok 21 (by decide), fun _ => rfl⟩
theorem fl_X2_71 : xFl "SelectoRouteModel" 71 4 22 true (.array (.int)) := ⟨_, _, _, _, "SelectoRouteModel", xci4, by decide, Or.inl q995, Or.inl rfl, rfl, tyX2_ok 22 (by decide), fun _ => rfl⟩
theorem fl_X2_74 : xFl "SelectoRouteModel" 74 4 23 true (.array (.boolean)) := ⟨_, _, _, _, "SelectoRouteModel", xci4, by decide, Or.inl q996, Or.inl rfl, rfl, tyX2_ok 23 (by decide), fun _ => rfl⟩
theorem fl_X2_77 : xFl "SelectoRouteModel" 77 4 24 true (.array (.boolean)) := ⟨_, _, _, _, "SelectoRouteModel", xci4, by decide, Or.inl q997, Or.inl rfl, rfl, tyX2_ok 24 (by decide), fun _ => rfl⟩
theorem fl_X2_80 : xFl "SelectoRouteModel" 80 4 25 false (.int) := ⟨_, _, _, _, "SelectoRouteModel", xci4, by decide, Or.inl q998, Or.inl rfl, rfl, tyX2_ok 25 (by decide), fun h => nomatch h⟩
theorem fl_X2_109 : xFl "SelectoRouteModel" 109 4 26 false (.int) := ⟨_, _, _, _, "SelectoRouteModel", xci4, by decide, Or.inl q999, Or.inl rfl, rfl, tyX2_ok 26 (by decide), fun h => nomatch h⟩
theorem fl_X2_84 : xFl "SelectoRouteModel" 84 4 27 false (.int) := ⟨_, _, _, _, "SelectoRouteModel", xci4, by decide, Or.inl q1000, Or.inl rfl, rfl, tyX2_ok 27 (by decide), fun h => nomatch h⟩
theorem fl_X2_135 : xFl "SelectoRouteModel" 135 4 28 false (.int) := ⟨_, _, _, _, "SelectoRouteModel", xci4, by decide, Or.inl q1001, Or.inl rfl, rfl, tyX2_ok 28 (by decide), fun h => nomatch h⟩
theorem fl_X2_87 : xFl "SelectoRouteModel" 87 4 29 false (.int) := ⟨_, _, _, _, "SelectoRouteModel", xci4, by decide, Or.inl q1002, Or.inl rfl, rfl, tyX2_ok 29 (by decide), fun h => nomatch h⟩
theorem fl_J20_25 : xFl "java/util/ArrayList$Itr" 25 5 0 false (.int) := ⟨_, _, _, _, "java/util/ArrayList$Itr", xci5, by decide, Or.inl q142, Or.inl rfl, rfl, tyJ20_ok 0 (by decide), fun h => nomatch h⟩
theorem fl_J20_13 : xFl "java/util/ArrayList$Itr" 13 5 1 false (.int) := ⟨_, _, _, _, "java/util/ArrayList$Itr", xci5, by decide, Or.inl q143, Or.inl rfl, rfl, tyJ20_ok 1 (by decide), fun h => nomatch h⟩
theorem fl_J20_22 : xFl "java/util/ArrayList$Itr" 22 5 2 false (.int) := ⟨_, _, _, _, "java/util/ArrayList$Itr", xci5, by decide, Or.inl q144, Or.inl rfl, rfl, tyJ20_ok 2 (by decide), fun h => nomatch h⟩
theorem fl_J20_1 : xFl "java/util/ArrayList$Itr" 1 5 3 true (.object "java/util/ArrayList") := ⟨_, _, _, _, "java/util/ArrayList$Itr", xci5, by decide, Or.inl q145, Or.inl rfl, rfl, tyJ20_ok 3 (by decide), fun _ => rfl⟩
theorem fl_J3_198_6 : xFl "java/lang/Throwable" 198 6 4 false (.object "java/lang/Object") := ⟨_, _, _, _, "java/lang/Throwable", xci6, by decide, Or.inl q199, Or.inl rfl, rfl, tyJ16_ok 4 (by decide), fun h => nomatch h⟩
theorem fl_J3_31_6 : xFl "java/lang/Throwable" 31 6 3 false (.object "java/lang/String") := ⟨_, _, _, _, "java/lang/Throwable", xci6, by decide, Or.inl q235, Or.inl rfl, rfl, tyJ16_ok 3 (by decide), fun h => nomatch h⟩
theorem fl_J3_7_6 : xFl "java/lang/Throwable" 7 6 0 false (.object "java/lang/Throwable") := ⟨_, _, _, _, "java/lang/Throwable", xci6, by decide, Or.inl q236, Or.inl rfl, rfl, tyJ16_ok 0 (by decide), fun h => nomatch h⟩
theorem fl_J3_17_6 : xFl "java/lang/Throwable" 17 6 1 false (.array (.object "java/lang/StackTraceElement")) := ⟨_, _, _, _, "java/lang/Throwable", xci6, by decide, Or.inl q237, Or.inl rfl, rfl, tyJ16_ok 1 (by decide), fun h => nomatch h⟩
theorem fl_J3_24_6 : xFl "java/lang/Throwable" 24 6 2 false (.object "java/util/List") := ⟨_, _, _, _, "java/lang/Throwable", xci6, by decide, Or.inl q238, Or.inl rfl, rfl, tyJ16_ok 2 (by decide), fun h => nomatch h⟩
theorem fl_J3_198_7 : xFl "java/lang/Throwable" 198 7 4 false (.object "java/lang/Object") := ⟨_, _, _, _, "java/lang/Throwable", xci7, by decide, Or.inl q199, Or.inl rfl, rfl, tyX7_ok 4 (by decide), fun h => nomatch h⟩
theorem fl_J3_31_7 : xFl "java/lang/Throwable" 31 7 3 false (.object "java/lang/String") := ⟨_, _, _, _, "java/lang/Throwable", xci7, by decide, Or.inl q235, Or.inl rfl, rfl, tyX7_ok 3 (by decide), fun h => nomatch h⟩
theorem fl_J3_7_7 : xFl "java/lang/Throwable" 7 7 0 false (.object "java/lang/Throwable") := ⟨_, _, _, _, "java/lang/Throwable", xci7, by decide, Or.inl q236, Or.inl rfl, rfl, tyX7_ok 0 (by decide), fun h => nomatch h⟩
theorem fl_J3_17_7 : xFl "java/lang/Throwable" 17 7 1 false (.array (.object "java/lang/StackTraceElement")) := ⟨_, _, _, _, "java/lang/Throwable", xci7, by decide, Or.inl q237, Or.inl rfl, rfl, tyX7_ok 1 (by decide), fun h => nomatch h⟩
theorem fl_J3_24_7 : xFl "java/lang/Throwable" 24 7 2 false (.object "java/util/List") := ⟨_, _, _, _, "java/lang/Throwable", xci7, by decide, Or.inl q238, Or.inl rfl, rfl, tyX7_ok 2 (by decide), fun h => nomatch h⟩
/-! ===== throw new E() ===== -/
theorem xth_IAE : xTh "SelectoRoute" 1 3 "java/lang/IllegalArgumentException" ["java/lang/RuntimeException", "java/lang/Exception"] := by
  refine ⟨by decide +kernel, by decide +kernel, q431, q32, ?_, ?_, by decide +kernel⟩
  · exact lw_in ((vx_at0 "SelectoRoute" 3 "java/lang/IllegalArgumentException" ["java/lang/RuntimeException", "java/lang/Exception"]).filter goodWord) [29, 200, 209, 218, 221, 223, 201, 202, 62, 63, 203, 208, 219, 236, 190, 237, 192, 238, 194, 204, 206, 196, 441, 442, 443, 228, 228, 229, 230, 231, 231, 232, 233, 201, 440, 432, 434, 214, 435, 436, 437, 438, 199, 198, 439] (by decide +kernel) (by decide +kernel)
  · decide +kernel
theorem xth_IOB : xTh "SelectoRoute" 7 9 "java/lang/IndexOutOfBoundsException" ["java/lang/RuntimeException", "java/lang/Exception"] := by
  refine ⟨by decide +kernel, by decide +kernel, q609, q40, ?_, ?_, by decide +kernel⟩
  · exact lw_in ((vx_at0 "SelectoRoute" 9 "java/lang/IndexOutOfBoundsException" ["java/lang/RuntimeException", "java/lang/Exception"]).filter goodWord) [29, 200, 209, 218, 221, 223, 201, 202, 62, 63, 203, 208, 219, 236, 190, 237, 192, 238, 194, 204, 206, 196, 619, 620, 621, 228, 228, 229, 230, 231, 231, 232, 233, 201, 618, 610, 612, 216, 613, 614, 615, 616, 199, 198, 617] (by decide +kernel) (by decide +kernel)
  · decide +kernel
theorem xth_ISE : xTh "SelectoRoute" 10 12 "java/lang/IllegalStateException" ["java/lang/RuntimeException", "java/lang/Exception"] := by
  refine ⟨by decide +kernel, by decide +kernel, q449, q33, ?_, ?_, by decide +kernel⟩
  · exact lw_in ((vx_at0 "SelectoRoute" 12 "java/lang/IllegalStateException" ["java/lang/RuntimeException", "java/lang/Exception"]).filter goodWord) [29, 200, 209, 218, 221, 223, 201, 202, 62, 63, 203, 208, 219, 236, 190, 237, 192, 238, 194, 204, 206, 196, 459, 460, 461, 228, 228, 229, 230, 231, 231, 232, 233, 201, 458, 450, 452, 215, 453, 454, 455, 456, 199, 198, 457] (by decide +kernel) (by decide +kernel)
  · decide +kernel
theorem xth_NSE : xTh "SelectoRoute" 13 15 "java/util/NoSuchElementException" ["java/lang/RuntimeException", "java/lang/Exception"] := by
  refine ⟨by decide +kernel, by decide +kernel, q714, q52, ?_, ?_, by decide +kernel⟩
  · exact lw_in ((vx_at0 "SelectoRoute" 15 "java/util/NoSuchElementException" ["java/lang/RuntimeException", "java/lang/Exception"]).filter goodWord) [29, 200, 209, 218, 221, 223, 201, 202, 62, 63, 203, 208, 219, 236, 190, 237, 192, 238, 194, 204, 206, 196, 225, 226, 227, 228, 228, 229, 230, 231, 231, 232, 233, 201, 715, 179, 187, 188, 189, 191, 193, 195, 199, 198, 197] (by decide +kernel) (by decide +kernel)
  · decide +kernel
theorem xth_UOE : xTh "SelectoRoute" 16 18 "java/lang/UnsupportedOperationException" ["java/lang/RuntimeException", "java/lang/Exception"] := by
  refine ⟨by decide +kernel, by decide +kernel, q660, q47, ?_, ?_, by decide +kernel⟩
  · exact lw_in ((vx_at0 "SelectoRoute" 18 "java/lang/UnsupportedOperationException" ["java/lang/RuntimeException", "java/lang/Exception"]).filter goodWord) [29, 200, 209, 218, 221, 223, 201, 202, 62, 63, 203, 208, 219, 236, 190, 237, 192, 238, 194, 204, 206, 196, 670, 671, 672, 228, 228, 229, 230, 231, 231, 232, 233, 201, 669, 661, 663, 217, 664, 665, 666, 667, 199, 198, 668] (by decide +kernel) (by decide +kernel)
  · decide +kernel
theorem xth_ARE : xTh "SelectoRoute" 19 21 "java/lang/ArithmeticException" ["java/lang/RuntimeException", "java/lang/Exception"] := by
  refine ⟨by decide +kernel, by decide +kernel, q955, q55, ?_, ?_, by decide +kernel⟩
  · exact lw_in ((vx_at0 "SelectoRoute" 21 "java/lang/ArithmeticException" ["java/lang/RuntimeException", "java/lang/Exception"]).filter goodWord) [29, 200, 209, 218, 221, 223, 201, 202, 62, 63, 203, 208, 219, 236, 190, 237, 192, 238, 194, 204, 206, 196, 957, 958, 959, 228, 228, 229, 230, 231, 231, 232, 233, 201, 956, 935, 947, 212, 941, 942, 944, 940, 199, 198, 939] (by decide +kernel) (by decide +kernel)
  · decide +kernel
