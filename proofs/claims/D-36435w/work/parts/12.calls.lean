section XMATH
variable {F : xFr} {cc : ByteArray} {nL : Nat} {own : String} {ret : Option FieldType} {rm : Room} {nm : String} {tb : List ExceptionTableEntry} {Q : State → Prop} {ad : Nat → Nat} {ct : xCt} {cells slots pc : Nat} {lv : List (Nat × Value)} {rest : List Value}
theorem x_mmax (C : xC F cc nL own ret rm nm tb) {idx : Nat} (hl : Cond.methodLink own idx Lib.Math.max.name ∈ lw_all) (hst : Cond.static Lib.Math.max.name ∈ lw_all) (hini : Cond.initialized "java/lang/Math" ∈ lw_all) (hco : Cond.code Lib.Math.max.name Lib.Math.max.code 2 (some .int) ∈ lw_all)
    (hR : (1 ≤ rm.frames ∧ (rest.map fun v => v.category).sum + 13 ≤ rm.locals) ∧ cells ≤ rm.cells ∧ slots ≤ rm.slots) {x y : Int32} (hdg : decode cc pc = .ok (.invokestatic idx, 3)) (kk : xX F Q ad ct cells slots (pc + 3) lv (.int (if x < y then y else x) :: rest)) : xX F Q ad ct cells slots pc lv (.int y :: .int x :: rest) :=
  fun H locs ls w hS h0 => va_mmax C.hx C.hb h0.1.symm C.hown (C.hts _ hl) (C.hts _ hst) (C.hts _ hini) (C.hts _ hco) (by rw [C.hR]; exact hR.1.1) (by rw [C.hR]; exact hR.1.2) (by rw [C.hR]; exact hR.2.1) (by rw [C.hR]; exact hR.2.2) hdg (kk H locs ls w hS h0)
theorem x_mmin (C : xC F cc nL own ret rm nm tb) {idx : Nat} (hl : Cond.methodLink own idx Lib.Math.min.name ∈ lw_all) (hst : Cond.static Lib.Math.min.name ∈ lw_all) (hini : Cond.initialized "java/lang/Math" ∈ lw_all) (hco : Cond.code Lib.Math.min.name Lib.Math.min.code 2 (some .int) ∈ lw_all)
    (hR : (1 ≤ rm.frames ∧ (rest.map fun v => v.category).sum + 13 ≤ rm.locals) ∧ cells ≤ rm.cells ∧ slots ≤ rm.slots) {x y : Int32} (hdg : decode cc pc = .ok (.invokestatic idx, 3)) (kk : xX F Q ad ct cells slots (pc + 3) lv (.int (if y < x then y else x) :: rest)) : xX F Q ad ct cells slots pc lv (.int y :: .int x :: rest) :=
  fun H locs ls w hS h0 => va_mmin C.hx C.hb h0.1.symm C.hown (C.hts _ hl) (C.hts _ hst) (C.hts _ hini) (C.hts _ hco) (by rw [C.hR]; exact hR.1.1) (by rw [C.hR]; exact hR.1.2) (by rw [C.hR]; exact hR.2.1) (by rw [C.hR]; exact hR.2.2) hdg (kk H locs ls w hS h0)
/-- System.arraycopy between arrays of objects, all of them of one class -/
theorem x_copy (C : xC F cc nL own ret rm nm tb) {idx r0 r1 a0 a1 n0 n1 : Nat} {f g : Nat → Option Nat} {Cn : String} (hl : Cond.methodLink own idx arraycopyName ∈ lw_all) (ha0 : ad r0 = a0) (ha1 : ad r1 = a1) (h0 : ct r0 = some (.inl (F.1.2.2.1 1004, n0, .inr (.inr (.inr (.inr f)))))) (h1 : ct r1 = some (.inl (F.1.2.2.1 1004, n1, .inr (.inr (.inr (.inr g))))))
    (sp dp n : Nat) {isp idp ic : Int32} (hsp : isp = nI sp) (hdp : idp = nI dp) (hn : ic = nI n) (h2 : sp + n ≤ n0) (h3 : dp + n ≤ n1) (hb0 : n0 < 2147483648) (hb1 : n1 < 2147483648) (hel : ∀ i, i < n → ∀ y, f (sp + i) = some y → xR F.1 ad ct Cn y) (hca : (Cn, "java/lang/Object") ∈ xcast)
    (hR : 1 ≤ rm.frames ∧ (rest.map fun v => v.category).sum + (nativeFrameWords "java/lang/System" "arraycopy" 5 + 11) ≤ rm.locals) (hdg : decode cc pc = .ok (.invokestatic idx, 3))
    (kk : xX F Q ad (xu ct r1 (.inl (F.1.2.2.1 1004, n1, .inr (.inr (.inr (.inr (va_cpy f g sp dp n))))))) cells slots (pc + 3) lv rest) : xX F Q ad ct cells slots pc lv (.int ic :: .int idp :: .ref a1 :: .int isp :: .ref a0 :: rest) := by
  subst ha0; subst ha1; subst hsp; subst hdp; subst hn
  intro H locs ls w hS hl0
  obtain ⟨ws, hP, hD, hws⟩ := xw_list w
  obtain ⟨j0, hj0⟩ := hws r0 _ h0
  obtain ⟨j1, hj1⟩ := hws r1 _ h1
  have e1 : (nI sp).toNatClampNeg = sp := nI_clamp (by omega)
  have e2 : (nI dp).toNatClampNeg = dp := nI_clamp (by omega)
  have e3 : (nI n).toNatClampNeg = n := nI_clamp (by omega)
  refine va_copyq C.hx C.hb hl0.1.symm C.hown (C.hts _ hl) (C.hts _ q371) (C.hts _ q370) (C.hts _ q38) C.K hP hD hS j0 j1 4 4 (C := Cn) hj0 hj1 rfl rfl (nI_pos (by omega)) (nI_pos (by omega)) (nI_pos (by omega)) (by rw [e1, e3]; exact h2) (by rw [e2, e3]; exact h3) (fun i hi y hy => ?_) (vb_asgC (C.S.1.2.2.2.2.2.2.1 _ hca)) (by rw [C.hR]; exact hR.1) (by rw [C.hR]; exact hR.2) hdg (fun H1 locs1 hP1 _ hS1 => ?_)
  · rw [e3] at hi
    rw [e1] at hy
    exact xR_recv C w hS (hel i hi y hy)
  · rw [e1, e2, e3] at hP1
    exact kk H1 locs1 ls (xw_set w hws h1 hj1 hP1) hS1 hl0
/-- an answer that is known, in the same world -/
def xPv (v : Option Value) (ad : Nat → Nat) (ct : xCt) : Option Value → (Nat → Nat) → xCt → Prop := fun v' ad' ct' => v' = v ∧ ad' = ad ∧ ct' = ct
theorem xPv_i {v : Option Value} {c' s' pc' : Nat} {st : List Value} {ad0 : Nat → Nat} {ct0 : xCt} (k : xX F Q ad0 ct0 c' s' pc' lv (v.toList ++ st)) : ∀ v' ad' ct', xPv v ad0 ct0 v' ad' ct' → xX F Q ad' ct' c' s' pc' lv (v'.toList ++ st) := by
  rintro v' ad' ct' ⟨rfl, rfl, rfl⟩
  exact k
theorem xN_e {c' s' : Nat} : ∀ E ad' ct', xN E ad' ct' → xT F Q ad' ct' c' s' pc lv E := fun _ _ _ h => h.elim
end XMATH
theorem cfM_max : Cond.code Lib.Math.max.name Lib.Math.max.code 2 (some .int) ∈ lw_all := q290
theorem cfM_min : Cond.code Lib.Math.min.name Lib.Math.min.code 2 (some .int) ∈ lw_all := q368
theorem cf_X0_197 : GoodIn lw_all (wsV "SelectoRouteLaw" 197 RX1 yX1_getWeek (ws_ yX1_getWeek cX1_getWeek 1 (some Jvm.ClassFile.FieldType.int))) := lw_V q115 q116 q117 q24 q118
theorem cf_X0_201 : GoodIn lw_all (wsV "SelectoRouteLaw" 201 RX1 yX1_getMinutes (ws_ yX1_getMinutes cX1_getMinutes 1 (some Jvm.ClassFile.FieldType.int))) := lw_V q119 q120 q121 q24 q122
theorem cf_X0_214 : GoodIn lw_all (wsV "SelectoRouteLaw" 214 RX1 yX1_getEarned (ws_ yX1_getEarned cX1_getEarned 1 (some Jvm.ClassFile.FieldType.int))) := lw_V q123 q124 q125 q24 q126
theorem cf_X0_249 : GoodIn lw_all (wsV "SelectoRouteLaw" 249 RX1 yX1_checksum (ws_ yX1_checksum cX1_checksum 5 (some Jvm.ClassFile.FieldType.long))) := lw_V q127 q128 q129 q24 q130
theorem cf_X1_182 : GoodIn lw_all (wsV "SelectoRoute" 182 RJ2 yJ2_iterator (ws_ yJ2_iterator cJ2_iterator 1 (some (Jvm.ClassFile.FieldType.object "java/util/Iterator")))) := lw_V q132 q133 q134 q27 q135
theorem cf_J20_31 : GoodIn lw_all (wsV "java/util/ArrayList$Itr" 31 RJ20 yJ20_checkForComodification (ws_ yJ20_checkForComodification cJ20_checkForComodification 1 none)) := lw_V q174 q175 q176 q53 q177
theorem cf_X0_254 : GoodIn lw_all (wsV "SelectoRouteLaw" 254 RX1 yX1_isSound (ws_ yX1_isSound cX1_isSound 4 (some Jvm.ClassFile.FieldType.boolean))) := lw_V q250 q251 q252 q24 q253
theorem cf_X1_53 : GoodIn lw_all (wsV "SelectoRoute" 53 RJ2 yJ2_size (ws_ yJ2_size cJ2_size 1 (some Jvm.ClassFile.FieldType.int))) := lw_V q254 q255 q256 q27 q257
theorem cf_X1_80 : GoodIn lw_all (wsV "SelectoRoute" 80 RJ2 yJ2_get (ws_ yJ2_get cJ2_get 2 (some (Jvm.ClassFile.FieldType.object "java/lang/Object")))) := lw_V q258 q259 q260 q27 q261
theorem cf_J2_118 : GoodIn lw_all (va_wsS "java/util/ArrayList" 118 yJ14_checkIndex (ws_ yJ14_checkIndex cJ14_checkIndex 2 (some Jvm.ClassFile.FieldType.int))) := lw_S q262 q263 q43 q264
theorem cf_J14_105 : GoodIn lw_all (va_wsS "java/util/Objects" 105 yJ15_checkIndex (ws_ yJ15_checkIndex cJ15_checkIndex 3 (some Jvm.ClassFile.FieldType.int))) := lw_S q265 q266 q44 q267
theorem cf_J2_123 : GoodIn lw_all (wsV "java/util/ArrayList" 123 RJ2 yJ2_elementData (ws_ yJ2_elementData cJ2_elementData 2 (some (Jvm.ClassFile.FieldType.object "java/lang/Object")))) := lw_V q268 q269 q270 q27 q271
theorem cf_X1_269 : GoodIn lw_all (wsV "SelectoRoute" 269 RX1 yX1_isBoxSound (ws_ yX1_isBoxSound cX1_isBoxSound 8 (some Jvm.ClassFile.FieldType.boolean))) := lw_V q272 q274 qs1 q24 q275
theorem cf_X1_259 : GoodIn lw_all (wsV "SelectoRoute" 259 RX1 yX1_bestOf (ws_ yX1_bestOf cX1_bestOf 7 (some Jvm.ClassFile.FieldType.int))) := lw_V q276 q278 qs2 q24 q279
theorem cf_X1_241 : GoodIn lw_all (wsV "SelectoRoute" 241 RX1 yX1_pullOf (ws_ yX1_pullOf cX1_pullOf 3 (some Jvm.ClassFile.FieldType.int))) := lw_V q280 q282 qs3 q24 q283
theorem cf_X1_178 : GoodIn lw_all (wsV "SelectoRoute" 178 RX3 yX3_pull (ws_ yX3_pull cX3_pull 4 (some Jvm.ClassFile.FieldType.int))) := lw_V q284 q285 q286 q34 q287
theorem cf_X3_24 : GoodIn lw_all (va_wsS "SelectoRoute$Disc" 24 yJ9_max (ws_ yJ9_max cJ9_max 2 (some Jvm.ClassFile.FieldType.int))) := lw_S q288 q289 q36 q290
theorem cf_X1_124 : GoodIn lw_all (va_wsS "SelectoRoute" 124 yJ18_valueOf (ws_ yJ18_valueOf cJ18_valueOf 1 (some (Jvm.ClassFile.FieldType.object "java/lang/Integer")))) := lw_S q291 q292 q50 q293
theorem cf_X1_65 : GoodIn lw_all (wsV "SelectoRoute" 65 RJ2 yJ2_add (ws_ yJ2_add cJ2_add 2 (some Jvm.ClassFile.FieldType.boolean))) := lw_V q311 q312 q313 q27 q314
theorem cf_J2_131 : GoodIn lw_all (wsV "java/util/ArrayList" 131 RJ2 yJ2_add_2 (ws_ yJ2_add_2 cJ2_add_2 4 none)) := lw_V q315 q317 qs4 q27 q318
theorem cf_J2_129 : GoodIn lw_all (wsV "java/util/ArrayList" 129 RJ2 yJ2_grow (ws_ yJ2_grow cJ2_grow 1 (some (Jvm.ClassFile.FieldType.array (Jvm.ClassFile.FieldType.object "java/lang/Object"))))) := lw_V q319 q321 qs5 q27 q322
theorem cf_J2_69 : GoodIn lw_all (wsV "java/util/ArrayList" 69 RJ2 yJ2_grow_2 (ws_ yJ2_grow_2 cJ2_grow_2 4 (some (Jvm.ClassFile.FieldType.array (Jvm.ClassFile.FieldType.object "java/lang/Object"))))) := lw_V q323 q325 qs6 q27 q326
theorem cf_J2_73 : GoodIn lw_all (va_wsS "java/util/ArrayList" 73 yJ8_newLength (ws_ yJ8_newLength cJ8_newLength 4 (some Jvm.ClassFile.FieldType.int))) := lw_S q327 q328 q35 q329
theorem cf_J8_194 : GoodIn lw_all (va_wsS "jdk/internal/util/ArraysSupport" 194 yJ9_max (ws_ yJ9_max cJ9_max 2 (some Jvm.ClassFile.FieldType.int))) := lw_S q330 q289 q36 q290
theorem cf_J8_201 : GoodIn lw_all (va_wsS "jdk/internal/util/ArraysSupport" 201 yJ8_hugeLength (ws_ yJ8_hugeLength cJ8_hugeLength 3 (some Jvm.ClassFile.FieldType.int))) := lw_S q332 q333 q35 q334
theorem cf_J2_66 : GoodIn lw_all (va_wsS "java/util/ArrayList" 66 yJ10_copyOf (ws_ yJ10_copyOf cJ10_copyOf 2 (some (Jvm.ClassFile.FieldType.array (Jvm.ClassFile.FieldType.object "java/lang/Object"))))) := lw_S q335 q336 q37 q337
theorem cf_J10_300 : GoodIn lw_all (va_wsS "java/util/Arrays" 300 yJ10_copyOf_2 (ws_ yJ10_copyOf_2 cJ10_copyOf_2 4 (some (Jvm.ClassFile.FieldType.array (Jvm.ClassFile.FieldType.object "java/lang/Object"))))) := lw_S q360 q361 q37 q362
theorem cf_J10_304 : GoodIn lw_all (va_wsS "java/util/Arrays" 304 yJ9_min (ws_ yJ9_min cJ9_min 2 (some Jvm.ClassFile.FieldType.int))) := lw_S q366 q367 q36 q368
theorem cf_J2_79 : GoodIn lw_all (va_wsS "java/util/ArrayList" 79 yJ9_max (ws_ yJ9_max cJ9_max 2 (some Jvm.ClassFile.FieldType.int))) := lw_S q372 q289 q36 q290
theorem cf_X1_130 : GoodIn lw_all (wsV "SelectoRoute" 130 RJ2 yJ2_isEmpty (ws_ yJ2_isEmpty cJ2_isEmpty 1 (some Jvm.ClassFile.FieldType.boolean))) := lw_V q374 q375 q376 q27 q377
theorem cf_X1_250 : GoodIn lw_all (va_wsS "SelectoRoute" 250 yX1_out (ws_ yX1_out cX1_out 5 (some Jvm.ClassFile.FieldType.int))) := lw_S q378 q379 q24 q380
theorem cf_X1_143 : GoodIn lw_all (wsV "SelectoRoute" 143 RJ18 yJ18_intValue (ws_ yJ18_intValue cJ18_intValue 1 (some Jvm.ClassFile.FieldType.int))) := lw_V q397 q398 q399 q50 q400
theorem cf_J2_144 : GoodIn lw_all (wsV "java/util/ArrayList" 144 RJ2 yJ2_fastRemove (ws_ yJ2_fastRemove cJ2_fastRemove 4 none)) := lw_V q410 q412 qs7 q27 q413
theorem cf_X1_254 : GoodIn lw_all (va_wsS "SelectoRoute" 254 yJ9_max (ws_ yJ9_max cJ9_max 2 (some Jvm.ClassFile.FieldType.int))) := lw_S q415 q289 q36 q290
-- X0_130 static with a table
theorem cf_X0_7 : GoodIn lw_all (wsV "SelectoRouteLaw" 7 RX1 yX1_addDisc (ws_ yX1_addDisc cX1_addDisc 4 (some Jvm.ClassFile.FieldType.int))) := lw_V q421 q422 q423 q24 q424
theorem cf_X1_45 : GoodIn lw_all (va_wsS "SelectoRoute" 45 yX1_isBetween (ws_ yX1_isBetween cX1_isBetween 3 (some Jvm.ClassFile.FieldType.boolean))) := lw_S q425 q426 q24 q427
theorem cf_X1_49 : GoodIn lw_all (va_wsS "SelectoRoute" 49 yX1_require (ws_ yX1_require cX1_require 1 none)) := lw_S q428 q429 q24 q430
theorem cf_X1_57 : GoodIn lw_all (va_wsS "SelectoRoute" 57 yX1_requireState (ws_ yX1_requireState cX1_requireState 1 none)) := lw_S q446 q447 q24 q448
-- X0_139 static with a table
theorem cf_X0_17 : GoodIn lw_all (wsV "SelectoRouteLaw" 17 RX1 yX1_addBox (ws_ yX1_addBox cX1_addBox 3 (some Jvm.ClassFile.FieldType.int))) := lw_V q492 q493 q494 q24 q495
-- X0_143 static with a table
theorem cf_X0_21 : GoodIn lw_all (wsV "SelectoRouteLaw" 21 RX1 yX1_setRisk (ws_ yX1_setRisk cX1_setRisk 5 (some Jvm.ClassFile.FieldType.int))) := lw_V q598 q599 q600 q24 q601
theorem cf_X1_84 : GoodIn lw_all (wsV "SelectoRoute" 84 RX1 yX1_boxAt (ws_ yX1_boxAt cX1_boxAt 2 (some (Jvm.ClassFile.FieldType.object "SelectoRoute$Box")))) := lw_V q602 q604 qs8 q24 q605
theorem cf_X1_77 : GoodIn lw_all (va_wsS "SelectoRoute" 77 yX1_requireIndex (ws_ yX1_requireIndex cX1_requireIndex 1 none)) := lw_S q606 q607 q24 q608
-- X0_146 static with a table
theorem cf_X0_26 : GoodIn lw_all (wsV "SelectoRouteLaw" 26 RX1 yX1_setSeed (ws_ yX1_setSeed cX1_setSeed 3 (some Jvm.ClassFile.FieldType.int))) := lw_V q627 q628 q629 q24 q630
-- X0_150 static with a table
theorem cf_X0_30 : GoodIn lw_all (wsV "SelectoRouteLaw" 30 RX1 yX1_insert (ws_ yX1_insert cX1_insert 5 (some Jvm.ClassFile.FieldType.int))) := lw_V q636 q637 q638 q24 q639
theorem cf_X1_92 : GoodIn lw_all (va_wsS "SelectoRoute" 92 yX5_of (ws_ yX5_of cX5_of 6 (some (Jvm.ClassFile.FieldType.object "SelectoRoute$Coin")))) := lw_S q640 q641 q46 q642
theorem cf_X5_43 : GoodIn lw_all (va_wsS "SelectoRoute$Coin" 43 yX5_values (ws_ yX5_values cX5_values 0 (some (Jvm.ClassFile.FieldType.array (Jvm.ClassFile.FieldType.object "SelectoRoute$Coin"))))) := lw_S q643 q644 q46 q645
theorem cf_X1_102 : GoodIn lw_all (va_wsS "SelectoRoute" 102 yX1_requireSupported (ws_ yX1_requireSupported cX1_requireSupported 1 none)) := lw_S q657 q658 q24 q659
theorem cf_X1_108 : GoodIn lw_all (wsV "SelectoRoute" 108 RX5 yX5_credits (ws_ yX5_credits cX5_credits 1 (some Jvm.ClassFile.FieldType.int))) := lw_V q675 q676 q677 q46 q684
theorem cf_X8_7 : GoodIn lw_all (wsV "SelectoRoute$Coin$1" 7 RX5 yX5_credits (ws_ yX5_credits cX5_credits 1 (some Jvm.ClassFile.FieldType.int))) := lw_V q682 q676 q677 q46 q684
theorem cf_X6_13 : GoodIn lw_all (wsV "SelectoRoute$Coin$2" 13 RX5 yX5_credits (ws_ yX5_credits cX5_credits 1 (some Jvm.ClassFile.FieldType.int))) := lw_V q691 q676 q677 q46 q684
-- X0_154 static with a table
theorem cf_X0_36 : GoodIn lw_all (wsV "SelectoRouteLaw" 36 RX1 yX1_press (ws_ yX1_press cX1_press 4 (some Jvm.ClassFile.FieldType.int))) := lw_V q695 q696 q697 q24 q698
theorem cf_X1_114 : GoodIn lw_all (wsV "SelectoRoute" 114 RX1 yX1_boxAt_2 (ws_ yX1_boxAt_2 cX1_boxAt_2 4 (some (Jvm.ClassFile.FieldType.object "SelectoRoute$Box")))) := lw_V q699 q701 qs9 q24 q702
-- X0_157 static with a table
theorem cf_X0_39 : GoodIn lw_all (wsV "SelectoRouteLaw" 39 RX1 yX1_play (ws_ yX1_play cX1_play 5 (some Jvm.ClassFile.FieldType.char))) := lw_V q707 q708 q709 q24 q710
theorem cf_X1_134 : GoodIn lw_all (va_wsS "SelectoRoute" 134 yX1_requireThere (ws_ yX1_requireThere cX1_requireThere 1 none)) := lw_S q711 q712 q24 q713
theorem cf_X1_146 : GoodIn lw_all (wsV "SelectoRoute" 146 RJ2 yJ2_remove (ws_ yJ2_remove cJ2_remove 4 (some (Jvm.ClassFile.FieldType.object "java/lang/Object")))) := lw_V q719 q407 q1267 q27 q409
theorem cf_X1_149 : GoodIn lw_all (wsV "SelectoRoute" 149 RX3 yX3_isWornOut (ws_ yX3_isWornOut cX3_isWornOut 1 (some Jvm.ClassFile.FieldType.boolean))) := lw_V q720 q721 q722 q34 q723
theorem cf_X1_152 : GoodIn lw_all (wsV "SelectoRoute" 152 RX4 yX4_plays (ws_ yX4_plays cX4_plays 4 none)) := lw_V q724 q725 q726 q39 q727
-- X0_160 static with a table
theorem cf_X0_45 : GoodIn lw_all (wsV "SelectoRouteLaw" 45 RX1 yX1_getCredits (ws_ yX1_getCredits cX1_getCredits 2 (some Jvm.ClassFile.FieldType.int))) := lw_V q731 q732 q733 q24 q734
-- X0_163 static with a table
theorem cf_X0_48 : GoodIn lw_all (wsV "SelectoRouteLaw" 48 RX1 yX1_getQueued (ws_ yX1_getQueued cX1_getQueued 2 (some Jvm.ClassFile.FieldType.int))) := lw_V q738 q739 q740 q24 q741
-- X0_166 static with a table
theorem cf_X0_51 : GoodIn lw_all (wsV "SelectoRouteLaw" 51 RX1 yX1_getCents (ws_ yX1_getCents cX1_getCents 2 (some Jvm.ClassFile.FieldType.int))) := lw_V q745 q746 q747 q24 q748
-- X0_169 static with a table
theorem cf_X0_54 : GoodIn lw_all (wsV "SelectoRouteLaw" 54 RX1 yX1_isJammed (ws_ yX1_isJammed cX1_isJammed 2 (some Jvm.ClassFile.FieldType.boolean))) := lw_V q752 q753 q754 q24 q755
-- X0_172 static with a table
theorem cf_X0_58 : GoodIn lw_all (wsV "SelectoRouteLaw" 58 RX1 yX1_getWheel (ws_ yX1_getWheel cX1_getWheel 3 (some Jvm.ClassFile.FieldType.int))) := lw_V q759 q760 q761 q24 q762
-- X0_175 static with a table
theorem cf_X0_61 : GoodIn lw_all (wsV "SelectoRouteLaw" 61 RX1 yX1_getNeedle (ws_ yX1_getNeedle cX1_getNeedle 2 (some Jvm.ClassFile.FieldType.int))) := lw_V q766 q767 q768 q24 q769
-- X0_178 static with a table
theorem cf_X0_64 : GoodIn lw_all (wsV "SelectoRouteLaw" 64 RX1 yX1_getWear (ws_ yX1_getWear cX1_getWear 2 (some Jvm.ClassFile.FieldType.int))) := lw_V q773 q774 q775 q24 q776
theorem cf_X1_162 : GoodIn lw_all (wsV "SelectoRoute" 162 RX1 yX1_discAt (ws_ yX1_discAt cX1_discAt 2 (some (Jvm.ClassFile.FieldType.object "SelectoRoute$Disc")))) := lw_V q777 q779 qs10 q24 q780
-- X0_181 static with a table
theorem cf_X0_67 : GoodIn lw_all (wsV "SelectoRouteLaw" 67 RX1 yX1_getPlace (ws_ yX1_getPlace cX1_getPlace 2 (some Jvm.ClassFile.FieldType.int))) := lw_V q784 q785 q786 q24 q787
-- X0_184 static with a table
theorem cf_X0_70 : GoodIn lw_all (wsV "SelectoRouteLaw" 70 RX1 yX1_discAt_2 (ws_ yX1_discAt_2 cX1_discAt_2 4 (some Jvm.ClassFile.FieldType.int))) := lw_V q791 q792 q793 q24 q794
-- X0_187 static with a table
theorem cf_X0_73 : GoodIn lw_all (wsV "SelectoRouteLaw" 73 RX1 yX1_pull (ws_ yX1_pull cX1_pull 3 (some Jvm.ClassFile.FieldType.int))) := lw_V q798 q799 q800 q24 q801
-- X0_190 static with a table
theorem cf_X0_76 : GoodIn lw_all (wsV "SelectoRouteLaw" 76 RX1 yX1_pullIn (ws_ yX1_pullIn cX1_pullIn 4 (some Jvm.ClassFile.FieldType.int))) := lw_V q805 q806 q807 q24 q808
-- X0_193 static with a table
theorem cf_X0_79 : GoodIn lw_all (wsV "SelectoRouteLaw" 79 RX1 yX1_pass (ws_ yX1_pass cX1_pass 3 (some Jvm.ClassFile.FieldType.int))) := lw_V q812 q813 q814 q24 q815
theorem cf_X1_195 : GoodIn lw_all (wsV "SelectoRoute" 195 RX1 yX1_guests (ws_ yX1_guests cX1_guests 5 none)) := lw_V q816 q818 qs11 q24 q819
-- X0_205 static with a table
-- X0_83 by a name, with a table
theorem cf_X1_211 : GoodIn lw_all (wsV "SelectoRoute" 211 RX1 yX1_works (ws_ yX1_works cX1_works 7 none)) := lw_V q828 q830 qs12 q24 q831
-- X0_208 static with a table
theorem cf_X0_86 : GoodIn lw_all (wsV "SelectoRouteLaw" 86 RX1 yX1_getShort (ws_ yX1_getShort cX1_getShort 2 (some Jvm.ClassFile.FieldType.int))) := lw_V q864 q865 q866 q24 q867
-- X0_211 static with a table
theorem cf_X0_89 : GoodIn lw_all (wsV "SelectoRouteLaw" 89 RX1 yX1_getShare (ws_ yX1_getShare cX1_getShare 2 (some Jvm.ClassFile.FieldType.int))) := lw_V q871 q872 q873 q24 q874
-- X0_218 static with a table
-- X0_92 by a name, with a table
-- X0_221 static with a table
-- X0_95 by a name, with a table
-- X0_224 static with a table
theorem cf_X0_98 : GoodIn lw_all (wsV "SelectoRouteLaw" 98 RX1 yX1_burn (ws_ yX1_burn cX1_burn 3 (some Jvm.ClassFile.FieldType.int))) := lw_V q892 q893 q894 q24 q895
-- X0_227 static with a table
theorem cf_X0_101 : GoodIn lw_all (wsV "SelectoRouteLaw" 101 RX1 yX1_ask (ws_ yX1_ask cX1_ask 4 (some Jvm.ClassFile.FieldType.int))) := lw_V q899 q900 q901 q24 q902
-- X0_230 static with a table
theorem cf_X0_104 : GoodIn lw_all (wsV "SelectoRouteLaw" 104 RX1 yX1_mostAsked (ws_ yX1_mostAsked cX1_mostAsked 5 (some Jvm.ClassFile.FieldType.int))) := lw_V q906 q907 q908 q24 q909
-- X0_233 static with a table
theorem cf_X0_107 : GoodIn lw_all (wsV "SelectoRouteLaw" 107 RX1 yX1_least (ws_ yX1_least cX1_least 6 (some Jvm.ClassFile.FieldType.int))) := lw_V q913 q914 q915 q24 q916
-- X0_236 static with a table
theorem cf_X0_110 : GoodIn lw_all (wsV "SelectoRouteLaw" 110 RX1 yX1_worth (ws_ yX1_worth cX1_worth 6 (some Jvm.ClassFile.FieldType.int))) := lw_V q920 q921 q922 q24 q923
-- X0_239 static with a table
theorem cf_X0_113 : GoodIn lw_all (wsV "SelectoRouteLaw" 113 RX1 yX1_bestWorth (ws_ yX1_bestWorth cX1_bestWorth 4 (some Jvm.ClassFile.FieldType.int))) := lw_V q927 q928 q929 q24 q930
-- X0_242 static with a table
theorem cf_X0_116 : GoodIn lw_all (wsV "SelectoRouteLaw" 116 RX1 yX1_wornShare (ws_ yX1_wornShare cX1_wornShare 5 (some Jvm.ClassFile.FieldType.float))) := lw_V q948 q949 q950 q24 q951
theorem cf_X1_262 : GoodIn lw_all (va_wsS "SelectoRoute" 262 yX1_requireSome (ws_ yX1_requireSome cX1_requireSome 1 none)) := lw_S q952 q953 q24 q954
-- X0_246 static with a table
theorem cf_X0_122 : GoodIn lw_all (wsV "SelectoRouteLaw" 122 RX1 yX1_meanPull (ws_ yX1_meanPull cX1_meanPull 6 (some Jvm.ClassFile.FieldType.double))) := lw_V q963 q964 q965 q24 q966
theorem cf_X0_136 : GoodIn lw_all (wsV "SelectoRouteLaw" 136 RX2 yX2_thrown (ws_ yX2_thrown cX2_thrown 1 (some Jvm.ClassFile.FieldType.int))) := lw_V q1064 q1065 q1066 q28 q1067
theorem cf_X0_135 : GoodIn lw_all (wsV "SelectoRouteLaw" 135 RX2 yX2_addDisc (ws_ yX2_addDisc cX2_addDisc 4 (some Jvm.ClassFile.FieldType.int))) := lw_V q1068 q1069 q1070 q28 q1071
theorem cf_X2_93 : GoodIn lw_all (va_wsS "SelectoRouteModel" 93 yX2_isIn (ws_ yX2_isIn cX2_isIn 3 (some Jvm.ClassFile.FieldType.boolean))) := lw_S q1072 q1073 q28 q1074
theorem cf_X2_104 : GoodIn lw_all (wsV "SelectoRouteModel" 104 RX2 yX2_no (ws_ yX2_no cX2_no 3 (some Jvm.ClassFile.FieldType.boolean))) := lw_V q1075 q1077 qs13 q28 q1078
theorem cf_X0_142 : GoodIn lw_all (wsV "SelectoRouteLaw" 142 RX2 yX2_addBox (ws_ yX2_addBox cX2_addBox 3 (some Jvm.ClassFile.FieldType.int))) := lw_V q1079 q1080 q1081 q28 q1082
theorem cf_X0_145 : GoodIn lw_all (wsV "SelectoRouteLaw" 145 RX2 yX2_setRisk (ws_ yX2_setRisk cX2_setRisk 4 (some Jvm.ClassFile.FieldType.int))) := lw_V q1083 q1084 q1085 q28 q1086
theorem cf_X2_100 : GoodIn lw_all (wsV "SelectoRouteModel" 100 RX2 yX2_isBox (ws_ yX2_isBox cX2_isBox 2 (some Jvm.ClassFile.FieldType.boolean))) := lw_V q1087 q1089 qs14 q28 q1090
theorem cf_X0_149 : GoodIn lw_all (wsV "SelectoRouteLaw" 149 RX2 yX2_setSeed (ws_ yX2_setSeed cX2_setSeed 3 (some Jvm.ClassFile.FieldType.int))) := lw_V q1091 q1092 q1093 q28 q1094
theorem cf_X0_153 : GoodIn lw_all (wsV "SelectoRouteLaw" 153 RX2 yX2_insert (ws_ yX2_insert cX2_insert 4 (some Jvm.ClassFile.FieldType.int))) := lw_V q1096 q1097 q1098 q28 q1099
theorem cf_X0_156 : GoodIn lw_all (wsV "SelectoRouteLaw" 156 RX2 yX2_press (ws_ yX2_press cX2_press 3 (some Jvm.ClassFile.FieldType.int))) := lw_V q1100 q1101 q1102 q28 q1103
theorem cf_X2_116 : GoodIn lw_all (wsV "SelectoRouteModel" 116 RX2 yX2_isSlot (ws_ yX2_isSlot cX2_isSlot 3 (some Jvm.ClassFile.FieldType.boolean))) := lw_V q1104 q1106 qs15 q28 q1107
theorem cf_X0_159 : GoodIn lw_all (wsV "SelectoRouteLaw" 159 RX2 yX2_play (ws_ yX2_play cX2_play 4 (some Jvm.ClassFile.FieldType.char))) := lw_V q1108 q1109 q1110 q28 q1111
theorem cf_X2_124 : GoodIn lw_all (wsV "SelectoRouteModel" 124 RX2 yX2_wears (ws_ yX2_wears cX2_wears 5 none)) := lw_V q1114 q1116 qs16 q28 q1117
theorem cf_X0_162 : GoodIn lw_all (wsV "SelectoRouteLaw" 162 RX2 yX2_getCredits (ws_ yX2_getCredits cX2_getCredits 2 (some Jvm.ClassFile.FieldType.int))) := lw_V q1118 q1119 q1120 q28 q1121
theorem cf_X0_165 : GoodIn lw_all (wsV "SelectoRouteLaw" 165 RX2 yX2_getQueued (ws_ yX2_getQueued cX2_getQueued 2 (some Jvm.ClassFile.FieldType.int))) := lw_V q1122 q1123 q1124 q28 q1125
theorem cf_X0_168 : GoodIn lw_all (wsV "SelectoRouteLaw" 168 RX2 yX2_getCents (ws_ yX2_getCents cX2_getCents 2 (some Jvm.ClassFile.FieldType.int))) := lw_V q1126 q1127 q1128 q28 q1129
theorem cf_X0_171 : GoodIn lw_all (wsV "SelectoRouteLaw" 171 RX2 yX2_isJammed (ws_ yX2_isJammed cX2_isJammed 2 (some Jvm.ClassFile.FieldType.boolean))) := lw_V q1130 q1131 q1132 q28 q1133
theorem cf_X0_174 : GoodIn lw_all (wsV "SelectoRouteLaw" 174 RX2 yX2_getWheel (ws_ yX2_getWheel cX2_getWheel 3 (some Jvm.ClassFile.FieldType.int))) := lw_V q1134 q1135 q1136 q28 q1137
theorem cf_X0_177 : GoodIn lw_all (wsV "SelectoRouteLaw" 177 RX2 yX2_getNeedle (ws_ yX2_getNeedle cX2_getNeedle 2 (some Jvm.ClassFile.FieldType.int))) := lw_V q1138 q1139 q1140 q28 q1141
theorem cf_X0_180 : GoodIn lw_all (wsV "SelectoRouteLaw" 180 RX2 yX2_getWear (ws_ yX2_getWear cX2_getWear 2 (some Jvm.ClassFile.FieldType.int))) := lw_V q1142 q1143 q1144 q28 q1145
theorem cf_X2_128 : GoodIn lw_all (wsV "SelectoRouteModel" 128 RX2 yX2_isDisc (ws_ yX2_isDisc cX2_isDisc 2 (some Jvm.ClassFile.FieldType.boolean))) := lw_V q1146 q1148 qs17 q28 q1149
theorem cf_X0_183 : GoodIn lw_all (wsV "SelectoRouteLaw" 183 RX2 yX2_getPlace (ws_ yX2_getPlace cX2_getPlace 2 (some Jvm.ClassFile.FieldType.int))) := lw_V q1150 q1151 q1152 q28 q1153
theorem cf_X0_186 : GoodIn lw_all (wsV "SelectoRouteLaw" 186 RX2 yX2_discAt (ws_ yX2_discAt cX2_discAt 3 (some Jvm.ClassFile.FieldType.int))) := lw_V q1154 q1155 q1156 q28 q1157
theorem cf_X0_189 : GoodIn lw_all (wsV "SelectoRouteLaw" 189 RX2 yX2_pull (ws_ yX2_pull cX2_pull 2 (some Jvm.ClassFile.FieldType.int))) := lw_V q1158 q1159 q1160 q28 q1161
theorem cf_X2_112 : GoodIn lw_all (wsV "SelectoRouteModel" 112 RX2 yX2_pullAt (ws_ yX2_pullAt cX2_pullAt 5 (some Jvm.ClassFile.FieldType.int))) := lw_V q1162 q1164 qs18 q28 q1165
theorem cf_X0_192 : GoodIn lw_all (wsV "SelectoRouteLaw" 192 RX2 yX2_pullIn (ws_ yX2_pullIn cX2_pullIn 3 (some Jvm.ClassFile.FieldType.int))) := lw_V q1166 q1167 q1168 q28 q1169
theorem cf_X0_196 : GoodIn lw_all (wsV "SelectoRouteLaw" 196 RX2 yX2_pass (ws_ yX2_pass cX2_pass 4 (some Jvm.ClassFile.FieldType.int))) := lw_V q1170 q1171 q1172 q28 q1173
theorem cf_X2_131 : GoodIn lw_all (wsV "SelectoRouteModel" 131 RX2 yX2_pullOfSlot (ws_ yX2_pullOfSlot cX2_pullOfSlot 2 (some Jvm.ClassFile.FieldType.int))) := lw_V q1174 q1176 qs19 q28 q1177
theorem cf_X0_200 : GoodIn lw_all (wsV "SelectoRouteLaw" 200 RX2 yX2_getWeek (ws_ yX2_getWeek cX2_getWeek 1 (some Jvm.ClassFile.FieldType.int))) := lw_V q1178 q1179 q1180 q28 q1181
theorem cf_X0_204 : GoodIn lw_all (wsV "SelectoRouteLaw" 204 RX2 yX2_getMinutes (ws_ yX2_getMinutes cX2_getMinutes 1 (some Jvm.ClassFile.FieldType.int))) := lw_V q1182 q1183 q1184 q28 q1185
theorem cf_X0_207 : GoodIn lw_all (wsV "SelectoRouteLaw" 207 RX2 yX2_visit (ws_ yX2_visit cX2_visit 4 (some Jvm.ClassFile.FieldType.int))) := lw_V q1186 q1187 q1188 q28 q1189
theorem cf_X0_210 : GoodIn lw_all (wsV "SelectoRouteLaw" 210 RX2 yX2_getShort (ws_ yX2_getShort cX2_getShort 2 (some Jvm.ClassFile.FieldType.int))) := lw_V q1190 q1191 q1192 q28 q1193
theorem cf_X0_213 : GoodIn lw_all (wsV "SelectoRouteLaw" 213 RX2 yX2_getShare (ws_ yX2_getShare cX2_getShare 2 (some Jvm.ClassFile.FieldType.int))) := lw_V q1194 q1195 q1196 q28 q1197
theorem cf_X0_217 : GoodIn lw_all (wsV "SelectoRouteLaw" 217 RX2 yX2_getEarned (ws_ yX2_getEarned cX2_getEarned 1 (some Jvm.ClassFile.FieldType.int))) := lw_V q1198 q1199 q1200 q28 q1201
theorem cf_X0_220 : GoodIn lw_all (wsV "SelectoRouteLaw" 220 RX2 yX2_change (ws_ yX2_change cX2_change 6 (some Jvm.ClassFile.FieldType.int))) := lw_V q1202 q1203 q1204 q28 q1205
theorem cf_X2_138 : GoodIn lw_all (wsV "SelectoRouteModel" 138 RX2 yX2_isInVan (ws_ yX2_isInVan cX2_isInVan 2 (some Jvm.ClassFile.FieldType.boolean))) := lw_V q1206 q1208 qs20 q28 q1209
theorem cf_X0_223 : GoodIn lw_all (wsV "SelectoRouteLaw" 223 RX2 yX2_changeNeedle (ws_ yX2_changeNeedle cX2_changeNeedle 3 (some Jvm.ClassFile.FieldType.int))) := lw_V q1210 q1211 q1212 q28 q1213
theorem cf_X0_226 : GoodIn lw_all (wsV "SelectoRouteLaw" 226 RX2 yX2_burn (ws_ yX2_burn cX2_burn 2 (some Jvm.ClassFile.FieldType.int))) := lw_V q1214 q1215 q1216 q28 q1217
theorem cf_X0_229 : GoodIn lw_all (wsV "SelectoRouteLaw" 229 RX2 yX2_ask (ws_ yX2_ask cX2_ask 3 (some Jvm.ClassFile.FieldType.int))) := lw_V q1218 q1219 q1220 q28 q1221
theorem cf_X0_232 : GoodIn lw_all (wsV "SelectoRouteLaw" 232 RX2 yX2_mostAsked (ws_ yX2_mostAsked cX2_mostAsked 4 (some Jvm.ClassFile.FieldType.int))) := lw_V q1222 q1223 q1224 q28 q1225
theorem cf_X0_235 : GoodIn lw_all (wsV "SelectoRouteLaw" 235 RX2 yX2_least (ws_ yX2_least cX2_least 5 (some Jvm.ClassFile.FieldType.int))) := lw_V q1226 q1227 q1228 q28 q1229
theorem cf_X0_238 : GoodIn lw_all (wsV "SelectoRouteLaw" 238 RX2 yX2_worth (ws_ yX2_worth cX2_worth 4 (some Jvm.ClassFile.FieldType.int))) := lw_V q1230 q1231 q1232 q28 q1233
theorem cf_X0_241 : GoodIn lw_all (wsV "SelectoRouteLaw" 241 RX2 yX2_bestWorth (ws_ yX2_bestWorth cX2_bestWorth 8 (some Jvm.ClassFile.FieldType.int))) := lw_V q1234 q1235 q1236 q28 q1237
theorem cf_X2_141 : GoodIn lw_all (wsV "SelectoRouteModel" 141 RX2 yX2_strongest (ws_ yX2_strongest cX2_strongest 5 (some Jvm.ClassFile.FieldType.int))) := lw_V q1238 q1240 qs21 q28 q1241
theorem cf_X2_144 : GoodIn lw_all (wsV "SelectoRouteModel" 144 RX2 yX2_weakest (ws_ yX2_weakest cX2_weakest 4 (some Jvm.ClassFile.FieldType.int))) := lw_V q1242 q1244 qs22 q28 q1245
theorem cf_X0_245 : GoodIn lw_all (wsV "SelectoRouteLaw" 245 RX2 yX2_wornShare (ws_ yX2_wornShare cX2_wornShare 4 (some Jvm.ClassFile.FieldType.float))) := lw_V q1246 q1247 q1248 q28 q1249
theorem cf_X0_248 : GoodIn lw_all (wsV "SelectoRouteLaw" 248 RX2 yX2_meanPull (ws_ yX2_meanPull cX2_meanPull 4 (some Jvm.ClassFile.FieldType.double))) := lw_V q1250 q1251 q1252 q28 q1253
theorem cf_X0_253 : GoodIn lw_all (wsV "SelectoRouteLaw" 253 RX2 yX2_checksum (ws_ yX2_checksum cX2_checksum 4 (some Jvm.ClassFile.FieldType.long))) := lw_V q1254 q1255 q1256 q28 q1257
theorem cf_X0_258 : GoodIn lw_all (wsV "SelectoRouteLaw" 258 RX2 yX2_isSound (ws_ yX2_isSound cX2_isSound 1 (some Jvm.ClassFile.FieldType.boolean))) := lw_V q1260 q1261 q1262 q28 q1263
theorem hd_X1_init : yX1_init.cls ≠ "java/lang/invoke/MethodHandle" ∧ yX1_init.cls ≠ "java/lang/invoke/VarHandle" ∧ (parseMethodDescriptor yX1_init.desc).map (fun d => d.parameters.length) = some 0 := by decide +kernel
theorem hd_J22_init : yJ22_init.cls ≠ "java/lang/invoke/MethodHandle" ∧ yJ22_init.cls ≠ "java/lang/invoke/VarHandle" ∧ (parseMethodDescriptor yJ22_init.desc).map (fun d => d.parameters.length) = some 0 := by decide +kernel
theorem hd_J2_init : yJ2_init.cls ≠ "java/lang/invoke/MethodHandle" ∧ yJ2_init.cls ≠ "java/lang/invoke/VarHandle" ∧ (parseMethodDescriptor yJ2_init.desc).map (fun d => d.parameters.length) = some 0 := by decide +kernel
theorem hd_J1_init : yJ1_init.cls ≠ "java/lang/invoke/MethodHandle" ∧ yJ1_init.cls ≠ "java/lang/invoke/VarHandle" ∧ (parseMethodDescriptor yJ1_init.desc).map (fun d => d.parameters.length) = some 0 := by decide +kernel
theorem hd_J0_init : yJ0_init.cls ≠ "java/lang/invoke/MethodHandle" ∧ yJ0_init.cls ≠ "java/lang/invoke/VarHandle" ∧ (parseMethodDescriptor yJ0_init.desc).map (fun d => d.parameters.length) = some 0 := by decide +kernel
theorem hd_X1_getWeek : yX1_getWeek.cls ≠ "java/lang/invoke/MethodHandle" ∧ yX1_getWeek.cls ≠ "java/lang/invoke/VarHandle" ∧ (parseMethodDescriptor yX1_getWeek.desc).map (fun d => d.parameters.length) = some 0 := by decide +kernel
theorem hd_X1_getMinutes : yX1_getMinutes.cls ≠ "java/lang/invoke/MethodHandle" ∧ yX1_getMinutes.cls ≠ "java/lang/invoke/VarHandle" ∧ (parseMethodDescriptor yX1_getMinutes.desc).map (fun d => d.parameters.length) = some 0 := by decide +kernel
theorem hd_X1_getEarned : yX1_getEarned.cls ≠ "java/lang/invoke/MethodHandle" ∧ yX1_getEarned.cls ≠ "java/lang/invoke/VarHandle" ∧ (parseMethodDescriptor yX1_getEarned.desc).map (fun d => d.parameters.length) = some 0 := by decide +kernel
theorem hd_X1_checksum : yX1_checksum.cls ≠ "java/lang/invoke/MethodHandle" ∧ yX1_checksum.cls ≠ "java/lang/invoke/VarHandle" ∧ (parseMethodDescriptor yX1_checksum.desc).map (fun d => d.parameters.length) = some 0 := by decide +kernel
theorem hd_J2_iterator : yJ2_iterator.cls ≠ "java/lang/invoke/MethodHandle" ∧ yJ2_iterator.cls ≠ "java/lang/invoke/VarHandle" ∧ (parseMethodDescriptor yJ2_iterator.desc).map (fun d => d.parameters.length) = some 0 := by decide +kernel
theorem hd_J20_init : yJ20_init.cls ≠ "java/lang/invoke/MethodHandle" ∧ yJ20_init.cls ≠ "java/lang/invoke/VarHandle" ∧ (parseMethodDescriptor yJ20_init.desc).map (fun d => d.parameters.length) = some 1 := by decide +kernel
theorem hd_J20_checkForComodification : yJ20_checkForComodification.cls ≠ "java/lang/invoke/MethodHandle" ∧ yJ20_checkForComodification.cls ≠ "java/lang/invoke/VarHandle" ∧ (parseMethodDescriptor yJ20_checkForComodification.desc).map (fun d => d.parameters.length) = some 0 := by decide +kernel
theorem hd_J19_init : yJ19_init.cls ≠ "java/lang/invoke/MethodHandle" ∧ yJ19_init.cls ≠ "java/lang/invoke/VarHandle" ∧ (parseMethodDescriptor yJ19_init.desc).map (fun d => d.parameters.length) = some 0 := by decide +kernel
theorem hd_J5_init : yJ5_init.cls ≠ "java/lang/invoke/MethodHandle" ∧ yJ5_init.cls ≠ "java/lang/invoke/VarHandle" ∧ (parseMethodDescriptor yJ5_init.desc).map (fun d => d.parameters.length) = some 0 := by decide +kernel
theorem hd_J4_init : yJ4_init.cls ≠ "java/lang/invoke/MethodHandle" ∧ yJ4_init.cls ≠ "java/lang/invoke/VarHandle" ∧ (parseMethodDescriptor yJ4_init.desc).map (fun d => d.parameters.length) = some 0 := by decide +kernel
theorem hd_J3_init : yJ3_init.cls ≠ "java/lang/invoke/MethodHandle" ∧ yJ3_init.cls ≠ "java/lang/invoke/VarHandle" ∧ (parseMethodDescriptor yJ3_init.desc).map (fun d => d.parameters.length) = some 0 := by decide +kernel
theorem hd_X1_isSound : yX1_isSound.cls ≠ "java/lang/invoke/MethodHandle" ∧ yX1_isSound.cls ≠ "java/lang/invoke/VarHandle" ∧ (parseMethodDescriptor yX1_isSound.desc).map (fun d => d.parameters.length) = some 0 := by decide +kernel
theorem hd_J2_size : yJ2_size.cls ≠ "java/lang/invoke/MethodHandle" ∧ yJ2_size.cls ≠ "java/lang/invoke/VarHandle" ∧ (parseMethodDescriptor yJ2_size.desc).map (fun d => d.parameters.length) = some 0 := by decide +kernel
theorem hd_J2_get : yJ2_get.cls ≠ "java/lang/invoke/MethodHandle" ∧ yJ2_get.cls ≠ "java/lang/invoke/VarHandle" ∧ (parseMethodDescriptor yJ2_get.desc).map (fun d => d.parameters.length) = some 1 := by decide +kernel
theorem hd_J14_checkIndex : yJ14_checkIndex.cls ≠ "java/lang/invoke/MethodHandle" ∧ yJ14_checkIndex.cls ≠ "java/lang/invoke/VarHandle" ∧ (parseMethodDescriptor yJ14_checkIndex.desc).map (fun d => d.parameters.length) = some 2 := by decide +kernel
theorem hd_J15_checkIndex : yJ15_checkIndex.cls ≠ "java/lang/invoke/MethodHandle" ∧ yJ15_checkIndex.cls ≠ "java/lang/invoke/VarHandle" ∧ (parseMethodDescriptor yJ15_checkIndex.desc).map (fun d => d.parameters.length) = some 3 := by decide +kernel
theorem hd_J2_elementData : yJ2_elementData.cls ≠ "java/lang/invoke/MethodHandle" ∧ yJ2_elementData.cls ≠ "java/lang/invoke/VarHandle" ∧ (parseMethodDescriptor yJ2_elementData.desc).map (fun d => d.parameters.length) = some 1 := by decide +kernel
theorem hd_X1_isBoxSound : yX1_isBoxSound.cls ≠ "java/lang/invoke/MethodHandle" ∧ yX1_isBoxSound.cls ≠ "java/lang/invoke/VarHandle" ∧ (parseMethodDescriptor yX1_isBoxSound.desc).map (fun d => d.parameters.length) = some 2 := by decide +kernel
theorem hd_X1_bestOf : yX1_bestOf.cls ≠ "java/lang/invoke/MethodHandle" ∧ yX1_bestOf.cls ≠ "java/lang/invoke/VarHandle" ∧ (parseMethodDescriptor yX1_bestOf.desc).map (fun d => d.parameters.length) = some 2 := by decide +kernel
theorem hd_X1_pullOf : yX1_pullOf.cls ≠ "java/lang/invoke/MethodHandle" ∧ yX1_pullOf.cls ≠ "java/lang/invoke/VarHandle" ∧ (parseMethodDescriptor yX1_pullOf.desc).map (fun d => d.parameters.length) = some 2 := by decide +kernel
theorem hd_X3_pull : yX3_pull.cls ≠ "java/lang/invoke/MethodHandle" ∧ yX3_pull.cls ≠ "java/lang/invoke/VarHandle" ∧ (parseMethodDescriptor yX3_pull.desc).map (fun d => d.parameters.length) = some 2 := by decide +kernel
theorem hd_J9_max : yJ9_max.cls ≠ "java/lang/invoke/MethodHandle" ∧ yJ9_max.cls ≠ "java/lang/invoke/VarHandle" ∧ (parseMethodDescriptor yJ9_max.desc).map (fun d => d.parameters.length) = some 2 := by decide +kernel
theorem hd_J18_valueOf : yJ18_valueOf.cls ≠ "java/lang/invoke/MethodHandle" ∧ yJ18_valueOf.cls ≠ "java/lang/invoke/VarHandle" ∧ (parseMethodDescriptor yJ18_valueOf.desc).map (fun d => d.parameters.length) = some 1 := by decide +kernel
theorem hd_J18_init : yJ18_init.cls ≠ "java/lang/invoke/MethodHandle" ∧ yJ18_init.cls ≠ "java/lang/invoke/VarHandle" ∧ (parseMethodDescriptor yJ18_init.desc).map (fun d => d.parameters.length) = some 1 := by decide +kernel
theorem hd_J17_init : yJ17_init.cls ≠ "java/lang/invoke/MethodHandle" ∧ yJ17_init.cls ≠ "java/lang/invoke/VarHandle" ∧ (parseMethodDescriptor yJ17_init.desc).map (fun d => d.parameters.length) = some 0 := by decide +kernel
theorem hd_J2_add : yJ2_add.cls ≠ "java/lang/invoke/MethodHandle" ∧ yJ2_add.cls ≠ "java/lang/invoke/VarHandle" ∧ (parseMethodDescriptor yJ2_add.desc).map (fun d => d.parameters.length) = some 1 := by decide +kernel
theorem hd_J2_add_2 : yJ2_add_2.cls ≠ "java/lang/invoke/MethodHandle" ∧ yJ2_add_2.cls ≠ "java/lang/invoke/VarHandle" ∧ (parseMethodDescriptor yJ2_add_2.desc).map (fun d => d.parameters.length) = some 3 := by decide +kernel
theorem hd_J2_grow : yJ2_grow.cls ≠ "java/lang/invoke/MethodHandle" ∧ yJ2_grow.cls ≠ "java/lang/invoke/VarHandle" ∧ (parseMethodDescriptor yJ2_grow.desc).map (fun d => d.parameters.length) = some 0 := by decide +kernel
theorem hd_J2_grow_2 : yJ2_grow_2.cls ≠ "java/lang/invoke/MethodHandle" ∧ yJ2_grow_2.cls ≠ "java/lang/invoke/VarHandle" ∧ (parseMethodDescriptor yJ2_grow_2.desc).map (fun d => d.parameters.length) = some 1 := by decide +kernel
theorem hd_J8_newLength : yJ8_newLength.cls ≠ "java/lang/invoke/MethodHandle" ∧ yJ8_newLength.cls ≠ "java/lang/invoke/VarHandle" ∧ (parseMethodDescriptor yJ8_newLength.desc).map (fun d => d.parameters.length) = some 3 := by decide +kernel
theorem hd_J8_hugeLength : yJ8_hugeLength.cls ≠ "java/lang/invoke/MethodHandle" ∧ yJ8_hugeLength.cls ≠ "java/lang/invoke/VarHandle" ∧ (parseMethodDescriptor yJ8_hugeLength.desc).map (fun d => d.parameters.length) = some 2 := by decide +kernel
theorem hd_J10_copyOf : yJ10_copyOf.cls ≠ "java/lang/invoke/MethodHandle" ∧ yJ10_copyOf.cls ≠ "java/lang/invoke/VarHandle" ∧ (parseMethodDescriptor yJ10_copyOf.desc).map (fun d => d.parameters.length) = some 2 := by decide +kernel
theorem hd_J10_copyOf_2 : yJ10_copyOf_2.cls ≠ "java/lang/invoke/MethodHandle" ∧ yJ10_copyOf_2.cls ≠ "java/lang/invoke/VarHandle" ∧ (parseMethodDescriptor yJ10_copyOf_2.desc).map (fun d => d.parameters.length) = some 3 := by decide +kernel
theorem hd_J9_min : yJ9_min.cls ≠ "java/lang/invoke/MethodHandle" ∧ yJ9_min.cls ≠ "java/lang/invoke/VarHandle" ∧ (parseMethodDescriptor yJ9_min.desc).map (fun d => d.parameters.length) = some 2 := by decide +kernel
theorem hd_J2_isEmpty : yJ2_isEmpty.cls ≠ "java/lang/invoke/MethodHandle" ∧ yJ2_isEmpty.cls ≠ "java/lang/invoke/VarHandle" ∧ (parseMethodDescriptor yJ2_isEmpty.desc).map (fun d => d.parameters.length) = some 0 := by decide +kernel
theorem hd_X1_out : yX1_out.cls ≠ "java/lang/invoke/MethodHandle" ∧ yX1_out.cls ≠ "java/lang/invoke/VarHandle" ∧ (parseMethodDescriptor yX1_out.desc).map (fun d => d.parameters.length) = some 2 := by decide +kernel
theorem hd_J18_intValue : yJ18_intValue.cls ≠ "java/lang/invoke/MethodHandle" ∧ yJ18_intValue.cls ≠ "java/lang/invoke/VarHandle" ∧ (parseMethodDescriptor yJ18_intValue.desc).map (fun d => d.parameters.length) = some 0 := by decide +kernel
theorem hd_J2_fastRemove : yJ2_fastRemove.cls ≠ "java/lang/invoke/MethodHandle" ∧ yJ2_fastRemove.cls ≠ "java/lang/invoke/VarHandle" ∧ (parseMethodDescriptor yJ2_fastRemove.desc).map (fun d => d.parameters.length) = some 2 := by decide +kernel
theorem hd_X0_addDisc : yX0_addDisc.cls ≠ "java/lang/invoke/MethodHandle" ∧ yX0_addDisc.cls ≠ "java/lang/invoke/VarHandle" ∧ (parseMethodDescriptor yX0_addDisc.desc).map (fun d => d.parameters.length) = some 5 := by decide +kernel
theorem hd_X1_addDisc : yX1_addDisc.cls ≠ "java/lang/invoke/MethodHandle" ∧ yX1_addDisc.cls ≠ "java/lang/invoke/VarHandle" ∧ (parseMethodDescriptor yX1_addDisc.desc).map (fun d => d.parameters.length) = some 3 := by decide +kernel
theorem hd_X1_isBetween : yX1_isBetween.cls ≠ "java/lang/invoke/MethodHandle" ∧ yX1_isBetween.cls ≠ "java/lang/invoke/VarHandle" ∧ (parseMethodDescriptor yX1_isBetween.desc).map (fun d => d.parameters.length) = some 3 := by decide +kernel
theorem hd_X1_require : yX1_require.cls ≠ "java/lang/invoke/MethodHandle" ∧ yX1_require.cls ≠ "java/lang/invoke/VarHandle" ∧ (parseMethodDescriptor yX1_require.desc).map (fun d => d.parameters.length) = some 1 := by decide +kernel
theorem hd_J6_init : yJ6_init.cls ≠ "java/lang/invoke/MethodHandle" ∧ yJ6_init.cls ≠ "java/lang/invoke/VarHandle" ∧ (parseMethodDescriptor yJ6_init.desc).map (fun d => d.parameters.length) = some 0 := by decide +kernel
theorem hd_X1_requireState : yX1_requireState.cls ≠ "java/lang/invoke/MethodHandle" ∧ yX1_requireState.cls ≠ "java/lang/invoke/VarHandle" ∧ (parseMethodDescriptor yX1_requireState.desc).map (fun d => d.parameters.length) = some 1 := by decide +kernel
theorem hd_J7_init : yJ7_init.cls ≠ "java/lang/invoke/MethodHandle" ∧ yJ7_init.cls ≠ "java/lang/invoke/VarHandle" ∧ (parseMethodDescriptor yJ7_init.desc).map (fun d => d.parameters.length) = some 0 := by decide +kernel
theorem hd_X3_init : yX3_init.cls ≠ "java/lang/invoke/MethodHandle" ∧ yX3_init.cls ≠ "java/lang/invoke/VarHandle" ∧ (parseMethodDescriptor yX3_init.desc).map (fun d => d.parameters.length) = some 3 := by decide +kernel
theorem hd_X0_addBox : yX0_addBox.cls ≠ "java/lang/invoke/MethodHandle" ∧ yX0_addBox.cls ≠ "java/lang/invoke/VarHandle" ∧ (parseMethodDescriptor yX0_addBox.desc).map (fun d => d.parameters.length) = some 4 := by decide +kernel
theorem hd_X1_addBox : yX1_addBox.cls ≠ "java/lang/invoke/MethodHandle" ∧ yX1_addBox.cls ≠ "java/lang/invoke/VarHandle" ∧ (parseMethodDescriptor yX1_addBox.desc).map (fun d => d.parameters.length) = some 2 := by decide +kernel
theorem hd_X4_init : yX4_init.cls ≠ "java/lang/invoke/MethodHandle" ∧ yX4_init.cls ≠ "java/lang/invoke/VarHandle" ∧ (parseMethodDescriptor yX4_init.desc).map (fun d => d.parameters.length) = some 1 := by decide +kernel
theorem hd_X4_init_2 : yX4_init_2.cls ≠ "java/lang/invoke/MethodHandle" ∧ yX4_init_2.cls ≠ "java/lang/invoke/VarHandle" ∧ (parseMethodDescriptor yX4_init_2.desc).map (fun d => d.parameters.length) = some 2 := by decide +kernel
theorem hd_X0_setRisk : yX0_setRisk.cls ≠ "java/lang/invoke/MethodHandle" ∧ yX0_setRisk.cls ≠ "java/lang/invoke/VarHandle" ∧ (parseMethodDescriptor yX0_setRisk.desc).map (fun d => d.parameters.length) = some 4 := by decide +kernel
theorem hd_J11_init : yJ11_init.cls ≠ "java/lang/invoke/MethodHandle" ∧ yJ11_init.cls ≠ "java/lang/invoke/VarHandle" ∧ (parseMethodDescriptor yJ11_init.desc).map (fun d => d.parameters.length) = some 1 := by decide +kernel
theorem hd_J5_init_2 : yJ5_init_2.cls ≠ "java/lang/invoke/MethodHandle" ∧ yJ5_init_2.cls ≠ "java/lang/invoke/VarHandle" ∧ (parseMethodDescriptor yJ5_init_2.desc).map (fun d => d.parameters.length) = some 1 := by decide +kernel
theorem hd_J4_init_2 : yJ4_init_2.cls ≠ "java/lang/invoke/MethodHandle" ∧ yJ4_init_2.cls ≠ "java/lang/invoke/VarHandle" ∧ (parseMethodDescriptor yJ4_init_2.desc).map (fun d => d.parameters.length) = some 1 := by decide +kernel
theorem hd_J3_init_2 : yJ3_init_2.cls ≠ "java/lang/invoke/MethodHandle" ∧ yJ3_init_2.cls ≠ "java/lang/invoke/VarHandle" ∧ (parseMethodDescriptor yJ3_init_2.desc).map (fun d => d.parameters.length) = some 1 := by decide +kernel
theorem hd_X1_setRisk : yX1_setRisk.cls ≠ "java/lang/invoke/MethodHandle" ∧ yX1_setRisk.cls ≠ "java/lang/invoke/VarHandle" ∧ (parseMethodDescriptor yX1_setRisk.desc).map (fun d => d.parameters.length) = some 2 := by decide +kernel
theorem hd_X1_boxAt : yX1_boxAt.cls ≠ "java/lang/invoke/MethodHandle" ∧ yX1_boxAt.cls ≠ "java/lang/invoke/VarHandle" ∧ (parseMethodDescriptor yX1_boxAt.desc).map (fun d => d.parameters.length) = some 1 := by decide +kernel
theorem hd_X1_requireIndex : yX1_requireIndex.cls ≠ "java/lang/invoke/MethodHandle" ∧ yX1_requireIndex.cls ≠ "java/lang/invoke/VarHandle" ∧ (parseMethodDescriptor yX1_requireIndex.desc).map (fun d => d.parameters.length) = some 1 := by decide +kernel
theorem hd_J11_init_2 : yJ11_init_2.cls ≠ "java/lang/invoke/MethodHandle" ∧ yJ11_init_2.cls ≠ "java/lang/invoke/VarHandle" ∧ (parseMethodDescriptor yJ11_init_2.desc).map (fun d => d.parameters.length) = some 0 := by decide +kernel
theorem hd_X0_setSeed : yX0_setSeed.cls ≠ "java/lang/invoke/MethodHandle" ∧ yX0_setSeed.cls ≠ "java/lang/invoke/VarHandle" ∧ (parseMethodDescriptor yX0_setSeed.desc).map (fun d => d.parameters.length) = some 3 := by decide +kernel
theorem hd_X1_setSeed : yX1_setSeed.cls ≠ "java/lang/invoke/MethodHandle" ∧ yX1_setSeed.cls ≠ "java/lang/invoke/VarHandle" ∧ (parseMethodDescriptor yX1_setSeed.desc).map (fun d => d.parameters.length) = some 1 := by decide +kernel
theorem hd_X0_insert : yX0_insert.cls ≠ "java/lang/invoke/MethodHandle" ∧ yX0_insert.cls ≠ "java/lang/invoke/VarHandle" ∧ (parseMethodDescriptor yX0_insert.desc).map (fun d => d.parameters.length) = some 4 := by decide +kernel
theorem hd_X1_insert : yX1_insert.cls ≠ "java/lang/invoke/MethodHandle" ∧ yX1_insert.cls ≠ "java/lang/invoke/VarHandle" ∧ (parseMethodDescriptor yX1_insert.desc).map (fun d => d.parameters.length) = some 2 := by decide +kernel
theorem hd_X5_of : yX5_of.cls ≠ "java/lang/invoke/MethodHandle" ∧ yX5_of.cls ≠ "java/lang/invoke/VarHandle" ∧ (parseMethodDescriptor yX5_of.desc).map (fun d => d.parameters.length) = some 1 := by decide +kernel
theorem hd_X5_values : yX5_values.cls ≠ "java/lang/invoke/MethodHandle" ∧ yX5_values.cls ≠ "java/lang/invoke/VarHandle" ∧ (parseMethodDescriptor yX5_values.desc).map (fun d => d.parameters.length) = some 0 := by decide +kernel
theorem hd_X1_requireSupported : yX1_requireSupported.cls ≠ "java/lang/invoke/MethodHandle" ∧ yX1_requireSupported.cls ≠ "java/lang/invoke/VarHandle" ∧ (parseMethodDescriptor yX1_requireSupported.desc).map (fun d => d.parameters.length) = some 1 := by decide +kernel
theorem hd_J16_init : yJ16_init.cls ≠ "java/lang/invoke/MethodHandle" ∧ yJ16_init.cls ≠ "java/lang/invoke/VarHandle" ∧ (parseMethodDescriptor yJ16_init.desc).map (fun d => d.parameters.length) = some 0 := by decide +kernel
theorem hd_X5_credits : yX5_credits.cls ≠ "java/lang/invoke/MethodHandle" ∧ yX5_credits.cls ≠ "java/lang/invoke/VarHandle" ∧ (parseMethodDescriptor yX5_credits.desc).map (fun d => d.parameters.length) = some 0 := by decide +kernel
theorem hd_X0_press : yX0_press.cls ≠ "java/lang/invoke/MethodHandle" ∧ yX0_press.cls ≠ "java/lang/invoke/VarHandle" ∧ (parseMethodDescriptor yX0_press.desc).map (fun d => d.parameters.length) = some 4 := by decide +kernel
theorem hd_X1_press : yX1_press.cls ≠ "java/lang/invoke/MethodHandle" ∧ yX1_press.cls ≠ "java/lang/invoke/VarHandle" ∧ (parseMethodDescriptor yX1_press.desc).map (fun d => d.parameters.length) = some 2 := by decide +kernel
theorem hd_X1_boxAt_2 : yX1_boxAt_2.cls ≠ "java/lang/invoke/MethodHandle" ∧ yX1_boxAt_2.cls ≠ "java/lang/invoke/VarHandle" ∧ (parseMethodDescriptor yX1_boxAt_2.desc).map (fun d => d.parameters.length) = some 2 := by decide +kernel
theorem hd_X0_play : yX0_play.cls ≠ "java/lang/invoke/MethodHandle" ∧ yX0_play.cls ≠ "java/lang/invoke/VarHandle" ∧ (parseMethodDescriptor yX0_play.desc).map (fun d => d.parameters.length) = some 3 := by decide +kernel
theorem hd_X1_play : yX1_play.cls ≠ "java/lang/invoke/MethodHandle" ∧ yX1_play.cls ≠ "java/lang/invoke/VarHandle" ∧ (parseMethodDescriptor yX1_play.desc).map (fun d => d.parameters.length) = some 1 := by decide +kernel
theorem hd_X1_requireThere : yX1_requireThere.cls ≠ "java/lang/invoke/MethodHandle" ∧ yX1_requireThere.cls ≠ "java/lang/invoke/VarHandle" ∧ (parseMethodDescriptor yX1_requireThere.desc).map (fun d => d.parameters.length) = some 1 := by decide +kernel
theorem hd_J2_remove : yJ2_remove.cls ≠ "java/lang/invoke/MethodHandle" ∧ yJ2_remove.cls ≠ "java/lang/invoke/VarHandle" ∧ (parseMethodDescriptor yJ2_remove.desc).map (fun d => d.parameters.length) = some 1 := by decide +kernel
theorem hd_X3_isWornOut : yX3_isWornOut.cls ≠ "java/lang/invoke/MethodHandle" ∧ yX3_isWornOut.cls ≠ "java/lang/invoke/VarHandle" ∧ (parseMethodDescriptor yX3_isWornOut.desc).map (fun d => d.parameters.length) = some 0 := by decide +kernel
theorem hd_X4_plays : yX4_plays.cls ≠ "java/lang/invoke/MethodHandle" ∧ yX4_plays.cls ≠ "java/lang/invoke/VarHandle" ∧ (parseMethodDescriptor yX4_plays.desc).map (fun d => d.parameters.length) = some 3 := by decide +kernel
theorem hd_X0_getCredits : yX0_getCredits.cls ≠ "java/lang/invoke/MethodHandle" ∧ yX0_getCredits.cls ≠ "java/lang/invoke/VarHandle" ∧ (parseMethodDescriptor yX0_getCredits.desc).map (fun d => d.parameters.length) = some 3 := by decide +kernel
theorem hd_X1_getCredits : yX1_getCredits.cls ≠ "java/lang/invoke/MethodHandle" ∧ yX1_getCredits.cls ≠ "java/lang/invoke/VarHandle" ∧ (parseMethodDescriptor yX1_getCredits.desc).map (fun d => d.parameters.length) = some 1 := by decide +kernel
theorem hd_X0_getQueued : yX0_getQueued.cls ≠ "java/lang/invoke/MethodHandle" ∧ yX0_getQueued.cls ≠ "java/lang/invoke/VarHandle" ∧ (parseMethodDescriptor yX0_getQueued.desc).map (fun d => d.parameters.length) = some 3 := by decide +kernel
theorem hd_X1_getQueued : yX1_getQueued.cls ≠ "java/lang/invoke/MethodHandle" ∧ yX1_getQueued.cls ≠ "java/lang/invoke/VarHandle" ∧ (parseMethodDescriptor yX1_getQueued.desc).map (fun d => d.parameters.length) = some 1 := by decide +kernel
theorem hd_X0_getCents : yX0_getCents.cls ≠ "java/lang/invoke/MethodHandle" ∧ yX0_getCents.cls ≠ "java/lang/invoke/VarHandle" ∧ (parseMethodDescriptor yX0_getCents.desc).map (fun d => d.parameters.length) = some 3 := by decide +kernel
theorem hd_X1_getCents : yX1_getCents.cls ≠ "java/lang/invoke/MethodHandle" ∧ yX1_getCents.cls ≠ "java/lang/invoke/VarHandle" ∧ (parseMethodDescriptor yX1_getCents.desc).map (fun d => d.parameters.length) = some 1 := by decide +kernel
theorem hd_X0_isJammed : yX0_isJammed.cls ≠ "java/lang/invoke/MethodHandle" ∧ yX0_isJammed.cls ≠ "java/lang/invoke/VarHandle" ∧ (parseMethodDescriptor yX0_isJammed.desc).map (fun d => d.parameters.length) = some 3 := by decide +kernel
theorem hd_X1_isJammed : yX1_isJammed.cls ≠ "java/lang/invoke/MethodHandle" ∧ yX1_isJammed.cls ≠ "java/lang/invoke/VarHandle" ∧ (parseMethodDescriptor yX1_isJammed.desc).map (fun d => d.parameters.length) = some 1 := by decide +kernel
theorem hd_X0_getWheel : yX0_getWheel.cls ≠ "java/lang/invoke/MethodHandle" ∧ yX0_getWheel.cls ≠ "java/lang/invoke/VarHandle" ∧ (parseMethodDescriptor yX0_getWheel.desc).map (fun d => d.parameters.length) = some 4 := by decide +kernel
theorem hd_X1_getWheel : yX1_getWheel.cls ≠ "java/lang/invoke/MethodHandle" ∧ yX1_getWheel.cls ≠ "java/lang/invoke/VarHandle" ∧ (parseMethodDescriptor yX1_getWheel.desc).map (fun d => d.parameters.length) = some 2 := by decide +kernel
theorem hd_X0_getNeedle : yX0_getNeedle.cls ≠ "java/lang/invoke/MethodHandle" ∧ yX0_getNeedle.cls ≠ "java/lang/invoke/VarHandle" ∧ (parseMethodDescriptor yX0_getNeedle.desc).map (fun d => d.parameters.length) = some 3 := by decide +kernel
theorem hd_X1_getNeedle : yX1_getNeedle.cls ≠ "java/lang/invoke/MethodHandle" ∧ yX1_getNeedle.cls ≠ "java/lang/invoke/VarHandle" ∧ (parseMethodDescriptor yX1_getNeedle.desc).map (fun d => d.parameters.length) = some 1 := by decide +kernel
theorem hd_X0_getWear : yX0_getWear.cls ≠ "java/lang/invoke/MethodHandle" ∧ yX0_getWear.cls ≠ "java/lang/invoke/VarHandle" ∧ (parseMethodDescriptor yX0_getWear.desc).map (fun d => d.parameters.length) = some 3 := by decide +kernel
theorem hd_X1_getWear : yX1_getWear.cls ≠ "java/lang/invoke/MethodHandle" ∧ yX1_getWear.cls ≠ "java/lang/invoke/VarHandle" ∧ (parseMethodDescriptor yX1_getWear.desc).map (fun d => d.parameters.length) = some 1 := by decide +kernel
theorem hd_X1_discAt : yX1_discAt.cls ≠ "java/lang/invoke/MethodHandle" ∧ yX1_discAt.cls ≠ "java/lang/invoke/VarHandle" ∧ (parseMethodDescriptor yX1_discAt.desc).map (fun d => d.parameters.length) = some 1 := by decide +kernel
theorem hd_X0_getPlace : yX0_getPlace.cls ≠ "java/lang/invoke/MethodHandle" ∧ yX0_getPlace.cls ≠ "java/lang/invoke/VarHandle" ∧ (parseMethodDescriptor yX0_getPlace.desc).map (fun d => d.parameters.length) = some 3 := by decide +kernel
theorem hd_X1_getPlace : yX1_getPlace.cls ≠ "java/lang/invoke/MethodHandle" ∧ yX1_getPlace.cls ≠ "java/lang/invoke/VarHandle" ∧ (parseMethodDescriptor yX1_getPlace.desc).map (fun d => d.parameters.length) = some 1 := by decide +kernel
theorem hd_X0_discAt : yX0_discAt.cls ≠ "java/lang/invoke/MethodHandle" ∧ yX0_discAt.cls ≠ "java/lang/invoke/VarHandle" ∧ (parseMethodDescriptor yX0_discAt.desc).map (fun d => d.parameters.length) = some 4 := by decide +kernel
theorem hd_X1_discAt_2 : yX1_discAt_2.cls ≠ "java/lang/invoke/MethodHandle" ∧ yX1_discAt_2.cls ≠ "java/lang/invoke/VarHandle" ∧ (parseMethodDescriptor yX1_discAt_2.desc).map (fun d => d.parameters.length) = some 2 := by decide +kernel
theorem hd_X0_pull : yX0_pull.cls ≠ "java/lang/invoke/MethodHandle" ∧ yX0_pull.cls ≠ "java/lang/invoke/VarHandle" ∧ (parseMethodDescriptor yX0_pull.desc).map (fun d => d.parameters.length) = some 3 := by decide +kernel
theorem hd_X1_pull : yX1_pull.cls ≠ "java/lang/invoke/MethodHandle" ∧ yX1_pull.cls ≠ "java/lang/invoke/VarHandle" ∧ (parseMethodDescriptor yX1_pull.desc).map (fun d => d.parameters.length) = some 1 := by decide +kernel
theorem hd_X0_pullIn : yX0_pullIn.cls ≠ "java/lang/invoke/MethodHandle" ∧ yX0_pullIn.cls ≠ "java/lang/invoke/VarHandle" ∧ (parseMethodDescriptor yX0_pullIn.desc).map (fun d => d.parameters.length) = some 4 := by decide +kernel
theorem hd_X1_pullIn : yX1_pullIn.cls ≠ "java/lang/invoke/MethodHandle" ∧ yX1_pullIn.cls ≠ "java/lang/invoke/VarHandle" ∧ (parseMethodDescriptor yX1_pullIn.desc).map (fun d => d.parameters.length) = some 2 := by decide +kernel
theorem hd_X0_pass : yX0_pass.cls ≠ "java/lang/invoke/MethodHandle" ∧ yX0_pass.cls ≠ "java/lang/invoke/VarHandle" ∧ (parseMethodDescriptor yX0_pass.desc).map (fun d => d.parameters.length) = some 2 := by decide +kernel
theorem hd_X1_pass : yX1_pass.cls ≠ "java/lang/invoke/MethodHandle" ∧ yX1_pass.cls ≠ "java/lang/invoke/VarHandle" ∧ (parseMethodDescriptor yX1_pass.desc).map (fun d => d.parameters.length) = some 0 := by decide +kernel
theorem hd_X1_guests : yX1_guests.cls ≠ "java/lang/invoke/MethodHandle" ∧ yX1_guests.cls ≠ "java/lang/invoke/VarHandle" ∧ (parseMethodDescriptor yX1_guests.desc).map (fun d => d.parameters.length) = some 1 := by decide +kernel
theorem hd_X0_visit : yX0_visit.cls ≠ "java/lang/invoke/MethodHandle" ∧ yX0_visit.cls ≠ "java/lang/invoke/VarHandle" ∧ (parseMethodDescriptor yX0_visit.desc).map (fun d => d.parameters.length) = some 3 := by decide +kernel
theorem hd_X1_visit : yX1_visit.cls ≠ "java/lang/invoke/MethodHandle" ∧ yX1_visit.cls ≠ "java/lang/invoke/VarHandle" ∧ (parseMethodDescriptor yX1_visit.desc).map (fun d => d.parameters.length) = some 1 := by decide +kernel
theorem hd_X1_works : yX1_works.cls ≠ "java/lang/invoke/MethodHandle" ∧ yX1_works.cls ≠ "java/lang/invoke/VarHandle" ∧ (parseMethodDescriptor yX1_works.desc).map (fun d => d.parameters.length) = some 2 := by decide +kernel
theorem hd_X7_init : yX7_init.cls ≠ "java/lang/invoke/MethodHandle" ∧ yX7_init.cls ≠ "java/lang/invoke/VarHandle" ∧ (parseMethodDescriptor yX7_init.desc).map (fun d => d.parameters.length) = some 1 := by decide +kernel
theorem hd_J16_init_2 : yJ16_init_2.cls ≠ "java/lang/invoke/MethodHandle" ∧ yJ16_init_2.cls ≠ "java/lang/invoke/VarHandle" ∧ (parseMethodDescriptor yJ16_init_2.desc).map (fun d => d.parameters.length) = some 2 := by decide +kernel
theorem hd_J5_init_3 : yJ5_init_3.cls ≠ "java/lang/invoke/MethodHandle" ∧ yJ5_init_3.cls ≠ "java/lang/invoke/VarHandle" ∧ (parseMethodDescriptor yJ5_init_3.desc).map (fun d => d.parameters.length) = some 2 := by decide +kernel
theorem hd_J4_init_3 : yJ4_init_3.cls ≠ "java/lang/invoke/MethodHandle" ∧ yJ4_init_3.cls ≠ "java/lang/invoke/VarHandle" ∧ (parseMethodDescriptor yJ4_init_3.desc).map (fun d => d.parameters.length) = some 2 := by decide +kernel
theorem hd_J3_init_3 : yJ3_init_3.cls ≠ "java/lang/invoke/MethodHandle" ∧ yJ3_init_3.cls ≠ "java/lang/invoke/VarHandle" ∧ (parseMethodDescriptor yJ3_init_3.desc).map (fun d => d.parameters.length) = some 2 := by decide +kernel
theorem hd_X0_getShort : yX0_getShort.cls ≠ "java/lang/invoke/MethodHandle" ∧ yX0_getShort.cls ≠ "java/lang/invoke/VarHandle" ∧ (parseMethodDescriptor yX0_getShort.desc).map (fun d => d.parameters.length) = some 3 := by decide +kernel
theorem hd_X1_getShort : yX1_getShort.cls ≠ "java/lang/invoke/MethodHandle" ∧ yX1_getShort.cls ≠ "java/lang/invoke/VarHandle" ∧ (parseMethodDescriptor yX1_getShort.desc).map (fun d => d.parameters.length) = some 1 := by decide +kernel
theorem hd_X0_getShare : yX0_getShare.cls ≠ "java/lang/invoke/MethodHandle" ∧ yX0_getShare.cls ≠ "java/lang/invoke/VarHandle" ∧ (parseMethodDescriptor yX0_getShare.desc).map (fun d => d.parameters.length) = some 3 := by decide +kernel
theorem hd_X1_getShare : yX1_getShare.cls ≠ "java/lang/invoke/MethodHandle" ∧ yX1_getShare.cls ≠ "java/lang/invoke/VarHandle" ∧ (parseMethodDescriptor yX1_getShare.desc).map (fun d => d.parameters.length) = some 1 := by decide +kernel
theorem hd_X0_change : yX0_change.cls ≠ "java/lang/invoke/MethodHandle" ∧ yX0_change.cls ≠ "java/lang/invoke/VarHandle" ∧ (parseMethodDescriptor yX0_change.desc).map (fun d => d.parameters.length) = some 5 := by decide +kernel
theorem hd_X1_change : yX1_change.cls ≠ "java/lang/invoke/MethodHandle" ∧ yX1_change.cls ≠ "java/lang/invoke/VarHandle" ∧ (parseMethodDescriptor yX1_change.desc).map (fun d => d.parameters.length) = some 3 := by decide +kernel
theorem hd_X0_changeNeedle : yX0_changeNeedle.cls ≠ "java/lang/invoke/MethodHandle" ∧ yX0_changeNeedle.cls ≠ "java/lang/invoke/VarHandle" ∧ (parseMethodDescriptor yX0_changeNeedle.desc).map (fun d => d.parameters.length) = some 3 := by decide +kernel
theorem hd_X1_changeNeedle : yX1_changeNeedle.cls ≠ "java/lang/invoke/MethodHandle" ∧ yX1_changeNeedle.cls ≠ "java/lang/invoke/VarHandle" ∧ (parseMethodDescriptor yX1_changeNeedle.desc).map (fun d => d.parameters.length) = some 1 := by decide +kernel
theorem hd_X0_burn : yX0_burn.cls ≠ "java/lang/invoke/MethodHandle" ∧ yX0_burn.cls ≠ "java/lang/invoke/VarHandle" ∧ (parseMethodDescriptor yX0_burn.desc).map (fun d => d.parameters.length) = some 3 := by decide +kernel
theorem hd_X1_burn : yX1_burn.cls ≠ "java/lang/invoke/MethodHandle" ∧ yX1_burn.cls ≠ "java/lang/invoke/VarHandle" ∧ (parseMethodDescriptor yX1_burn.desc).map (fun d => d.parameters.length) = some 1 := by decide +kernel
theorem hd_X0_ask : yX0_ask.cls ≠ "java/lang/invoke/MethodHandle" ∧ yX0_ask.cls ≠ "java/lang/invoke/VarHandle" ∧ (parseMethodDescriptor yX0_ask.desc).map (fun d => d.parameters.length) = some 4 := by decide +kernel
theorem hd_X1_ask : yX1_ask.cls ≠ "java/lang/invoke/MethodHandle" ∧ yX1_ask.cls ≠ "java/lang/invoke/VarHandle" ∧ (parseMethodDescriptor yX1_ask.desc).map (fun d => d.parameters.length) = some 2 := by decide +kernel
theorem hd_X0_mostAsked : yX0_mostAsked.cls ≠ "java/lang/invoke/MethodHandle" ∧ yX0_mostAsked.cls ≠ "java/lang/invoke/VarHandle" ∧ (parseMethodDescriptor yX0_mostAsked.desc).map (fun d => d.parameters.length) = some 3 := by decide +kernel
theorem hd_X1_mostAsked : yX1_mostAsked.cls ≠ "java/lang/invoke/MethodHandle" ∧ yX1_mostAsked.cls ≠ "java/lang/invoke/VarHandle" ∧ (parseMethodDescriptor yX1_mostAsked.desc).map (fun d => d.parameters.length) = some 1 := by decide +kernel
theorem hd_X0_least : yX0_least.cls ≠ "java/lang/invoke/MethodHandle" ∧ yX0_least.cls ≠ "java/lang/invoke/VarHandle" ∧ (parseMethodDescriptor yX0_least.desc).map (fun d => d.parameters.length) = some 3 := by decide +kernel
theorem hd_X1_least : yX1_least.cls ≠ "java/lang/invoke/MethodHandle" ∧ yX1_least.cls ≠ "java/lang/invoke/VarHandle" ∧ (parseMethodDescriptor yX1_least.desc).map (fun d => d.parameters.length) = some 1 := by decide +kernel
theorem hd_X0_worth : yX0_worth.cls ≠ "java/lang/invoke/MethodHandle" ∧ yX0_worth.cls ≠ "java/lang/invoke/VarHandle" ∧ (parseMethodDescriptor yX0_worth.desc).map (fun d => d.parameters.length) = some 5 := by decide +kernel
theorem hd_X1_worth : yX1_worth.cls ≠ "java/lang/invoke/MethodHandle" ∧ yX1_worth.cls ≠ "java/lang/invoke/VarHandle" ∧ (parseMethodDescriptor yX1_worth.desc).map (fun d => d.parameters.length) = some 3 := by decide +kernel
theorem hd_X0_bestWorth : yX0_bestWorth.cls ≠ "java/lang/invoke/MethodHandle" ∧ yX0_bestWorth.cls ≠ "java/lang/invoke/VarHandle" ∧ (parseMethodDescriptor yX0_bestWorth.desc).map (fun d => d.parameters.length) = some 4 := by decide +kernel
theorem hd_X1_bestWorth : yX1_bestWorth.cls ≠ "java/lang/invoke/MethodHandle" ∧ yX1_bestWorth.cls ≠ "java/lang/invoke/VarHandle" ∧ (parseMethodDescriptor yX1_bestWorth.desc).map (fun d => d.parameters.length) = some 2 := by decide +kernel
theorem hd_X0_wornShare : yX0_wornShare.cls ≠ "java/lang/invoke/MethodHandle" ∧ yX0_wornShare.cls ≠ "java/lang/invoke/VarHandle" ∧ (parseMethodDescriptor yX0_wornShare.desc).map (fun d => d.parameters.length) = some 2 := by decide +kernel
theorem hd_X1_wornShare : yX1_wornShare.cls ≠ "java/lang/invoke/MethodHandle" ∧ yX1_wornShare.cls ≠ "java/lang/invoke/VarHandle" ∧ (parseMethodDescriptor yX1_wornShare.desc).map (fun d => d.parameters.length) = some 0 := by decide +kernel
theorem hd_X1_requireSome : yX1_requireSome.cls ≠ "java/lang/invoke/MethodHandle" ∧ yX1_requireSome.cls ≠ "java/lang/invoke/VarHandle" ∧ (parseMethodDescriptor yX1_requireSome.desc).map (fun d => d.parameters.length) = some 1 := by decide +kernel
theorem hd_J21_init_2 : yJ21_init_2.cls ≠ "java/lang/invoke/MethodHandle" ∧ yJ21_init_2.cls ≠ "java/lang/invoke/VarHandle" ∧ (parseMethodDescriptor yJ21_init_2.desc).map (fun d => d.parameters.length) = some 0 := by decide +kernel
theorem hd_X0_meanPull : yX0_meanPull.cls ≠ "java/lang/invoke/MethodHandle" ∧ yX0_meanPull.cls ≠ "java/lang/invoke/VarHandle" ∧ (parseMethodDescriptor yX0_meanPull.desc).map (fun d => d.parameters.length) = some 2 := by decide +kernel
theorem hd_X1_meanPull : yX1_meanPull.cls ≠ "java/lang/invoke/MethodHandle" ∧ yX1_meanPull.cls ≠ "java/lang/invoke/VarHandle" ∧ (parseMethodDescriptor yX1_meanPull.desc).map (fun d => d.parameters.length) = some 0 := by decide +kernel
theorem hd_X2_init : yX2_init.cls ≠ "java/lang/invoke/MethodHandle" ∧ yX2_init.cls ≠ "java/lang/invoke/VarHandle" ∧ (parseMethodDescriptor yX2_init.desc).map (fun d => d.parameters.length) = some 0 := by decide +kernel
theorem hd_X2_thrown : yX2_thrown.cls ≠ "java/lang/invoke/MethodHandle" ∧ yX2_thrown.cls ≠ "java/lang/invoke/VarHandle" ∧ (parseMethodDescriptor yX2_thrown.desc).map (fun d => d.parameters.length) = some 0 := by decide +kernel
theorem hd_X2_addDisc : yX2_addDisc.cls ≠ "java/lang/invoke/MethodHandle" ∧ yX2_addDisc.cls ≠ "java/lang/invoke/VarHandle" ∧ (parseMethodDescriptor yX2_addDisc.desc).map (fun d => d.parameters.length) = some 3 := by decide +kernel
theorem hd_X2_isIn : yX2_isIn.cls ≠ "java/lang/invoke/MethodHandle" ∧ yX2_isIn.cls ≠ "java/lang/invoke/VarHandle" ∧ (parseMethodDescriptor yX2_isIn.desc).map (fun d => d.parameters.length) = some 3 := by decide +kernel
theorem hd_X2_no : yX2_no.cls ≠ "java/lang/invoke/MethodHandle" ∧ yX2_no.cls ≠ "java/lang/invoke/VarHandle" ∧ (parseMethodDescriptor yX2_no.desc).map (fun d => d.parameters.length) = some 2 := by decide +kernel
theorem hd_X2_addBox : yX2_addBox.cls ≠ "java/lang/invoke/MethodHandle" ∧ yX2_addBox.cls ≠ "java/lang/invoke/VarHandle" ∧ (parseMethodDescriptor yX2_addBox.desc).map (fun d => d.parameters.length) = some 2 := by decide +kernel
theorem hd_X2_setRisk : yX2_setRisk.cls ≠ "java/lang/invoke/MethodHandle" ∧ yX2_setRisk.cls ≠ "java/lang/invoke/VarHandle" ∧ (parseMethodDescriptor yX2_setRisk.desc).map (fun d => d.parameters.length) = some 2 := by decide +kernel
theorem hd_X2_isBox : yX2_isBox.cls ≠ "java/lang/invoke/MethodHandle" ∧ yX2_isBox.cls ≠ "java/lang/invoke/VarHandle" ∧ (parseMethodDescriptor yX2_isBox.desc).map (fun d => d.parameters.length) = some 1 := by decide +kernel
theorem hd_X2_setSeed : yX2_setSeed.cls ≠ "java/lang/invoke/MethodHandle" ∧ yX2_setSeed.cls ≠ "java/lang/invoke/VarHandle" ∧ (parseMethodDescriptor yX2_setSeed.desc).map (fun d => d.parameters.length) = some 1 := by decide +kernel
theorem hd_X2_insert : yX2_insert.cls ≠ "java/lang/invoke/MethodHandle" ∧ yX2_insert.cls ≠ "java/lang/invoke/VarHandle" ∧ (parseMethodDescriptor yX2_insert.desc).map (fun d => d.parameters.length) = some 2 := by decide +kernel
theorem hd_X2_press : yX2_press.cls ≠ "java/lang/invoke/MethodHandle" ∧ yX2_press.cls ≠ "java/lang/invoke/VarHandle" ∧ (parseMethodDescriptor yX2_press.desc).map (fun d => d.parameters.length) = some 2 := by decide +kernel
theorem hd_X2_isSlot : yX2_isSlot.cls ≠ "java/lang/invoke/MethodHandle" ∧ yX2_isSlot.cls ≠ "java/lang/invoke/VarHandle" ∧ (parseMethodDescriptor yX2_isSlot.desc).map (fun d => d.parameters.length) = some 2 := by decide +kernel
theorem hd_X2_play : yX2_play.cls ≠ "java/lang/invoke/MethodHandle" ∧ yX2_play.cls ≠ "java/lang/invoke/VarHandle" ∧ (parseMethodDescriptor yX2_play.desc).map (fun d => d.parameters.length) = some 1 := by decide +kernel
theorem hd_X2_wears : yX2_wears.cls ≠ "java/lang/invoke/MethodHandle" ∧ yX2_wears.cls ≠ "java/lang/invoke/VarHandle" ∧ (parseMethodDescriptor yX2_wears.desc).map (fun d => d.parameters.length) = some 2 := by decide +kernel
theorem hd_X2_getCredits : yX2_getCredits.cls ≠ "java/lang/invoke/MethodHandle" ∧ yX2_getCredits.cls ≠ "java/lang/invoke/VarHandle" ∧ (parseMethodDescriptor yX2_getCredits.desc).map (fun d => d.parameters.length) = some 1 := by decide +kernel
theorem hd_X2_getQueued : yX2_getQueued.cls ≠ "java/lang/invoke/MethodHandle" ∧ yX2_getQueued.cls ≠ "java/lang/invoke/VarHandle" ∧ (parseMethodDescriptor yX2_getQueued.desc).map (fun d => d.parameters.length) = some 1 := by decide +kernel
theorem hd_X2_getCents : yX2_getCents.cls ≠ "java/lang/invoke/MethodHandle" ∧ yX2_getCents.cls ≠ "java/lang/invoke/VarHandle" ∧ (parseMethodDescriptor yX2_getCents.desc).map (fun d => d.parameters.length) = some 1 := by decide +kernel
theorem hd_X2_isJammed : yX2_isJammed.cls ≠ "java/lang/invoke/MethodHandle" ∧ yX2_isJammed.cls ≠ "java/lang/invoke/VarHandle" ∧ (parseMethodDescriptor yX2_isJammed.desc).map (fun d => d.parameters.length) = some 1 := by decide +kernel
theorem hd_X2_getWheel : yX2_getWheel.cls ≠ "java/lang/invoke/MethodHandle" ∧ yX2_getWheel.cls ≠ "java/lang/invoke/VarHandle" ∧ (parseMethodDescriptor yX2_getWheel.desc).map (fun d => d.parameters.length) = some 2 := by decide +kernel
theorem hd_X2_getNeedle : yX2_getNeedle.cls ≠ "java/lang/invoke/MethodHandle" ∧ yX2_getNeedle.cls ≠ "java/lang/invoke/VarHandle" ∧ (parseMethodDescriptor yX2_getNeedle.desc).map (fun d => d.parameters.length) = some 1 := by decide +kernel
theorem hd_X2_getWear : yX2_getWear.cls ≠ "java/lang/invoke/MethodHandle" ∧ yX2_getWear.cls ≠ "java/lang/invoke/VarHandle" ∧ (parseMethodDescriptor yX2_getWear.desc).map (fun d => d.parameters.length) = some 1 := by decide +kernel
theorem hd_X2_isDisc : yX2_isDisc.cls ≠ "java/lang/invoke/MethodHandle" ∧ yX2_isDisc.cls ≠ "java/lang/invoke/VarHandle" ∧ (parseMethodDescriptor yX2_isDisc.desc).map (fun d => d.parameters.length) = some 1 := by decide +kernel
theorem hd_X2_getPlace : yX2_getPlace.cls ≠ "java/lang/invoke/MethodHandle" ∧ yX2_getPlace.cls ≠ "java/lang/invoke/VarHandle" ∧ (parseMethodDescriptor yX2_getPlace.desc).map (fun d => d.parameters.length) = some 1 := by decide +kernel
theorem hd_X2_discAt : yX2_discAt.cls ≠ "java/lang/invoke/MethodHandle" ∧ yX2_discAt.cls ≠ "java/lang/invoke/VarHandle" ∧ (parseMethodDescriptor yX2_discAt.desc).map (fun d => d.parameters.length) = some 2 := by decide +kernel
theorem hd_X2_pull : yX2_pull.cls ≠ "java/lang/invoke/MethodHandle" ∧ yX2_pull.cls ≠ "java/lang/invoke/VarHandle" ∧ (parseMethodDescriptor yX2_pull.desc).map (fun d => d.parameters.length) = some 1 := by decide +kernel
theorem hd_X2_pullAt : yX2_pullAt.cls ≠ "java/lang/invoke/MethodHandle" ∧ yX2_pullAt.cls ≠ "java/lang/invoke/VarHandle" ∧ (parseMethodDescriptor yX2_pullAt.desc).map (fun d => d.parameters.length) = some 2 := by decide +kernel
theorem hd_X2_pullIn : yX2_pullIn.cls ≠ "java/lang/invoke/MethodHandle" ∧ yX2_pullIn.cls ≠ "java/lang/invoke/VarHandle" ∧ (parseMethodDescriptor yX2_pullIn.desc).map (fun d => d.parameters.length) = some 2 := by decide +kernel
theorem hd_X2_pass : yX2_pass.cls ≠ "java/lang/invoke/MethodHandle" ∧ yX2_pass.cls ≠ "java/lang/invoke/VarHandle" ∧ (parseMethodDescriptor yX2_pass.desc).map (fun d => d.parameters.length) = some 0 := by decide +kernel
theorem hd_X2_pullOfSlot : yX2_pullOfSlot.cls ≠ "java/lang/invoke/MethodHandle" ∧ yX2_pullOfSlot.cls ≠ "java/lang/invoke/VarHandle" ∧ (parseMethodDescriptor yX2_pullOfSlot.desc).map (fun d => d.parameters.length) = some 1 := by decide +kernel
theorem hd_X2_getWeek : yX2_getWeek.cls ≠ "java/lang/invoke/MethodHandle" ∧ yX2_getWeek.cls ≠ "java/lang/invoke/VarHandle" ∧ (parseMethodDescriptor yX2_getWeek.desc).map (fun d => d.parameters.length) = some 0 := by decide +kernel
theorem hd_X2_getMinutes : yX2_getMinutes.cls ≠ "java/lang/invoke/MethodHandle" ∧ yX2_getMinutes.cls ≠ "java/lang/invoke/VarHandle" ∧ (parseMethodDescriptor yX2_getMinutes.desc).map (fun d => d.parameters.length) = some 0 := by decide +kernel
theorem hd_X2_visit : yX2_visit.cls ≠ "java/lang/invoke/MethodHandle" ∧ yX2_visit.cls ≠ "java/lang/invoke/VarHandle" ∧ (parseMethodDescriptor yX2_visit.desc).map (fun d => d.parameters.length) = some 1 := by decide +kernel
theorem hd_X2_getShort : yX2_getShort.cls ≠ "java/lang/invoke/MethodHandle" ∧ yX2_getShort.cls ≠ "java/lang/invoke/VarHandle" ∧ (parseMethodDescriptor yX2_getShort.desc).map (fun d => d.parameters.length) = some 1 := by decide +kernel
theorem hd_X2_getShare : yX2_getShare.cls ≠ "java/lang/invoke/MethodHandle" ∧ yX2_getShare.cls ≠ "java/lang/invoke/VarHandle" ∧ (parseMethodDescriptor yX2_getShare.desc).map (fun d => d.parameters.length) = some 1 := by decide +kernel
theorem hd_X2_getEarned : yX2_getEarned.cls ≠ "java/lang/invoke/MethodHandle" ∧ yX2_getEarned.cls ≠ "java/lang/invoke/VarHandle" ∧ (parseMethodDescriptor yX2_getEarned.desc).map (fun d => d.parameters.length) = some 0 := by decide +kernel
theorem hd_X2_change : yX2_change.cls ≠ "java/lang/invoke/MethodHandle" ∧ yX2_change.cls ≠ "java/lang/invoke/VarHandle" ∧ (parseMethodDescriptor yX2_change.desc).map (fun d => d.parameters.length) = some 3 := by decide +kernel
theorem hd_X2_isInVan : yX2_isInVan.cls ≠ "java/lang/invoke/MethodHandle" ∧ yX2_isInVan.cls ≠ "java/lang/invoke/VarHandle" ∧ (parseMethodDescriptor yX2_isInVan.desc).map (fun d => d.parameters.length) = some 1 := by decide +kernel
theorem hd_X2_changeNeedle : yX2_changeNeedle.cls ≠ "java/lang/invoke/MethodHandle" ∧ yX2_changeNeedle.cls ≠ "java/lang/invoke/VarHandle" ∧ (parseMethodDescriptor yX2_changeNeedle.desc).map (fun d => d.parameters.length) = some 1 := by decide +kernel
theorem hd_X2_burn : yX2_burn.cls ≠ "java/lang/invoke/MethodHandle" ∧ yX2_burn.cls ≠ "java/lang/invoke/VarHandle" ∧ (parseMethodDescriptor yX2_burn.desc).map (fun d => d.parameters.length) = some 1 := by decide +kernel
theorem hd_X2_ask : yX2_ask.cls ≠ "java/lang/invoke/MethodHandle" ∧ yX2_ask.cls ≠ "java/lang/invoke/VarHandle" ∧ (parseMethodDescriptor yX2_ask.desc).map (fun d => d.parameters.length) = some 2 := by decide +kernel
theorem hd_X2_mostAsked : yX2_mostAsked.cls ≠ "java/lang/invoke/MethodHandle" ∧ yX2_mostAsked.cls ≠ "java/lang/invoke/VarHandle" ∧ (parseMethodDescriptor yX2_mostAsked.desc).map (fun d => d.parameters.length) = some 1 := by decide +kernel
theorem hd_X2_least : yX2_least.cls ≠ "java/lang/invoke/MethodHandle" ∧ yX2_least.cls ≠ "java/lang/invoke/VarHandle" ∧ (parseMethodDescriptor yX2_least.desc).map (fun d => d.parameters.length) = some 1 := by decide +kernel
theorem hd_X2_worth : yX2_worth.cls ≠ "java/lang/invoke/MethodHandle" ∧ yX2_worth.cls ≠ "java/lang/invoke/VarHandle" ∧ (parseMethodDescriptor yX2_worth.desc).map (fun d => d.parameters.length) = some 3 := by decide +kernel
theorem hd_X2_bestWorth : yX2_bestWorth.cls ≠ "java/lang/invoke/MethodHandle" ∧ yX2_bestWorth.cls ≠ "java/lang/invoke/VarHandle" ∧ (parseMethodDescriptor yX2_bestWorth.desc).map (fun d => d.parameters.length) = some 2 := by decide +kernel
theorem hd_X2_strongest : yX2_strongest.cls ≠ "java/lang/invoke/MethodHandle" ∧ yX2_strongest.cls ≠ "java/lang/invoke/VarHandle" ∧ (parseMethodDescriptor yX2_strongest.desc).map (fun d => d.parameters.length) = some 1 := by decide +kernel
theorem hd_X2_weakest : yX2_weakest.cls ≠ "java/lang/invoke/MethodHandle" ∧ yX2_weakest.cls ≠ "java/lang/invoke/VarHandle" ∧ (parseMethodDescriptor yX2_weakest.desc).map (fun d => d.parameters.length) = some 1 := by decide +kernel
theorem hd_X2_wornShare : yX2_wornShare.cls ≠ "java/lang/invoke/MethodHandle" ∧ yX2_wornShare.cls ≠ "java/lang/invoke/VarHandle" ∧ (parseMethodDescriptor yX2_wornShare.desc).map (fun d => d.parameters.length) = some 0 := by decide +kernel
theorem hd_X2_meanPull : yX2_meanPull.cls ≠ "java/lang/invoke/MethodHandle" ∧ yX2_meanPull.cls ≠ "java/lang/invoke/VarHandle" ∧ (parseMethodDescriptor yX2_meanPull.desc).map (fun d => d.parameters.length) = some 0 := by decide +kernel
theorem hd_X2_checksum : yX2_checksum.cls ≠ "java/lang/invoke/MethodHandle" ∧ yX2_checksum.cls ≠ "java/lang/invoke/VarHandle" ∧ (parseMethodDescriptor yX2_checksum.desc).map (fun d => d.parameters.length) = some 0 := by decide +kernel
theorem hd_X2_isSound : yX2_isSound.cls ≠ "java/lang/invoke/MethodHandle" ∧ yX2_isSound.cls ≠ "java/lang/invoke/VarHandle" ∧ (parseMethodDescriptor yX2_isSound.desc).map (fun d => d.parameters.length) = some 0 := by decide +kernel
