section XROWS
variable {F : xFr} {cc : ByteArray} {nL : Nat} {own : String} {ret : Option FieldType} {rm : Room} {nm : String} {tb : List ExceptionTableEntry} {Q : State → Prop} {ad : Nat → Nat} {ct : xCt} {cells slots pc : Nat} {lv : List (Nat × Value)} {rest : List Value}
theorem x_iconst (C : xC F cc nL own ret rm nm tb) {n : Int} {v : Int32} (hdg : decode cc pc = .ok (.iconst n, 1)) (hv : Int32.ofInt n = v) (k : xX F Q ad ct cells slots (pc + 1) lv (.int v :: rest)) : xX F Q ad ct cells slots pc lv (rest) := fun H locs ls w hS h0 => lv_iconst C.hx C.hb hdg hv (k H locs ls w hS h0)
theorem x_bipush (C : xC F cc nL own ret rm nm tb) {n : Int} {v : Int32} (hdg : decode cc pc = .ok (.bipush n, 2)) (hv : (Int8.ofInt n).toInt32 = v) (k : xX F Q ad ct cells slots (pc + 2) lv (.int v :: rest)) : xX F Q ad ct cells slots pc lv (rest) := fun H locs ls w hS h0 => lv_bipush C.hx C.hb hdg hv (k H locs ls w hS h0)
theorem x_sipush (C : xC F cc nL own ret rm nm tb) {n : Int} {v : Int32} (hdg : decode cc pc = .ok (.sipush n, 3)) (hv : (Int16.ofInt n).toInt32 = v) (k : xX F Q ad ct cells slots (pc + 3) lv (.int v :: rest)) : xX F Q ad ct cells slots pc lv (rest) := fun H locs ls w hS h0 => lv_sipush C.hx C.hb hdg hv (k H locs ls w hS h0)
theorem x_lconst (C : xC F cc nL own ret rm nm tb) {n : Fin 2} {v : Int64} (hdg : decode cc pc = .ok (.lconst n, 1)) (hv : Int64.ofNat (n : Nat) = v) (k : xX F Q ad ct cells slots (pc + 1) lv (.long v :: rest)) : xX F Q ad ct cells slots pc lv (rest) := fun H locs ls w hS h0 => lv_lconst C.hx C.hb hdg hv (k H locs ls w hS h0)
theorem x_iload_n (C : xC F cc nL own ret rm nm tb) {k : Fin 4} {i : Nat} {x : Int32} (hdg : decode cc pc = .ok (.iload_n k, 1)) (hi : (k : Nat) = i) (j9 : Nat) (hl : lv[j9]? = some (i, .int x)) (k : xX F Q ad ct cells slots (pc + 1) lv (.int x :: rest)) : xX F Q ad ct cells slots pc lv (rest) := fun H locs ls w hS h0 => lv_iload_n C.hx C.hb hdg hi (lv_at h0 j9 hl) (k H locs ls w hS h0)
theorem x_iload (C : xC F cc nL own ret rm nm tb) {i : Nat} {x : Int32} (hdg : decode cc pc = .ok (.iload i, 2)) (j9 : Nat) (hl : lv[j9]? = some (i, .int x)) (k : xX F Q ad ct cells slots (pc + 2) lv (.int x :: rest)) : xX F Q ad ct cells slots pc lv (rest) := fun H locs ls w hS h0 => lv_iload C.hx C.hb hdg (lv_at h0 j9 hl) (k H locs ls w hS h0)
theorem x_lload_n (C : xC F cc nL own ret rm nm tb) {k : Fin 4} {i : Nat} {x : Int64} (hdg : decode cc pc = .ok (.lload_n k, 1)) (hi : (k : Nat) = i) (j9 : Nat) (hl : lv[j9]? = some (i, .long x)) (k : xX F Q ad ct cells slots (pc + 1) lv (.long x :: rest)) : xX F Q ad ct cells slots pc lv (rest) := fun H locs ls w hS h0 => lv_lload_n C.hx C.hb hdg hi (lv_at h0 j9 hl) (k H locs ls w hS h0)
theorem x_lload (C : xC F cc nL own ret rm nm tb) {i : Nat} {x : Int64} (hdg : decode cc pc = .ok (.lload i, 2)) (j9 : Nat) (hl : lv[j9]? = some (i, .long x)) (k : xX F Q ad ct cells slots (pc + 2) lv (.long x :: rest)) : xX F Q ad ct cells slots pc lv (rest) := fun H locs ls w hS h0 => lv_lload C.hx C.hb hdg (lv_at h0 j9 hl) (k H locs ls w hS h0)
theorem x_aload_n (C : xC F cc nL own ret rm nm tb) {k : Fin 4} {i : Nat} {x : Nat} (hdg : decode cc pc = .ok (.aload_n k, 1)) (hi : (k : Nat) = i) (j9 : Nat) (hl : lv[j9]? = some (i, .ref x)) (k : xX F Q ad ct cells slots (pc + 1) lv (.ref x :: rest)) : xX F Q ad ct cells slots pc lv (rest) := fun H locs ls w hS h0 => lv_aload_n C.hx C.hb hdg hi (lv_at h0 j9 hl) (k H locs ls w hS h0)
theorem x_aload (C : xC F cc nL own ret rm nm tb) {i : Nat} {x : Nat} (hdg : decode cc pc = .ok (.aload i, 2)) (j9 : Nat) (hl : lv[j9]? = some (i, .ref x)) (k : xX F Q ad ct cells slots (pc + 2) lv (.ref x :: rest)) : xX F Q ad ct cells slots pc lv (rest) := fun H locs ls w hS h0 => lv_aload C.hx C.hb hdg (lv_at h0 j9 hl) (k H locs ls w hS h0)
theorem x_istore_n (C : xC F cc nL own ret rm nm tb) {k : Fin 4} {i : Nat} {x : Int32} {lv' : List (Nat × Value)} (hdg : decode cc pc = .ok (.istore_n k, 1)) (hi : (k : Nat) = i) (hn : i < nL) (hl : (i, Value.int x) :: lv.filter (fun q => !(q.1 == i) && !(q.1 + 1 == i && q.2.category == 2)) = lv') (kk : xX F Q ad ct cells slots (pc + 1) lv' rest) : xX F Q ad ct cells slots pc lv (.int x :: rest) := fun H locs ls w hS h0 => lv_istore_n C.hx C.hb hdg hi h0 (by rw [C.hml]; exact hn) hl (fun ls' h' => kk H locs ls' w hS h')
theorem x_istore (C : xC F cc nL own ret rm nm tb) {i : Nat} {x : Int32} {lv' : List (Nat × Value)} (hdg : decode cc pc = .ok (.istore i, 2)) (hn : i < nL) (hl : (i, Value.int x) :: lv.filter (fun q => !(q.1 == i) && !(q.1 + 1 == i && q.2.category == 2)) = lv') (kk : xX F Q ad ct cells slots (pc + 2) lv' rest) : xX F Q ad ct cells slots pc lv (.int x :: rest) := fun H locs ls w hS h0 => lv_istore C.hx C.hb hdg h0 (by rw [C.hml]; exact hn) hl (fun ls' h' => kk H locs ls' w hS h')
theorem x_lstore_n (C : xC F cc nL own ret rm nm tb) {k : Fin 4} {i : Nat} {x : Int64} {lv' : List (Nat × Value)} (hdg : decode cc pc = .ok (.lstore_n k, 1)) (hi : (k : Nat) = i) (hn : i + 1 < nL) (hl : (i, Value.long x) :: lv.filter (fun q => !(q.1 == i) && (!(q.1 == i + 1) && !(q.1 + 1 == i && q.2.category == 2))) = lv') (kk : xX F Q ad ct cells slots (pc + 1) lv' rest) : xX F Q ad ct cells slots pc lv (.long x :: rest) := fun H locs ls w hS h0 => lv_lstore_n C.hx C.hb hdg hi h0 (by rw [C.hml]; exact hn) hl (fun ls' h' => kk H locs ls' w hS h')
theorem x_lstore (C : xC F cc nL own ret rm nm tb) {i : Nat} {x : Int64} {lv' : List (Nat × Value)} (hdg : decode cc pc = .ok (.lstore i, 2)) (hn : i + 1 < nL) (hl : (i, Value.long x) :: lv.filter (fun q => !(q.1 == i) && (!(q.1 == i + 1) && !(q.1 + 1 == i && q.2.category == 2))) = lv') (kk : xX F Q ad ct cells slots (pc + 2) lv' rest) : xX F Q ad ct cells slots pc lv (.long x :: rest) := fun H locs ls w hS h0 => lv_lstore C.hx C.hb hdg h0 (by rw [C.hml]; exact hn) hl (fun ls' h' => kk H locs ls' w hS h')
theorem x_astore_n (C : xC F cc nL own ret rm nm tb) {k : Fin 4} {i : Nat} {x : Nat} {lv' : List (Nat × Value)} (hdg : decode cc pc = .ok (.astore_n k, 1)) (hi : (k : Nat) = i) (hn : i < nL) (hl : (i, Value.ref x) :: lv.filter (fun q => !(q.1 == i) && !(q.1 + 1 == i && q.2.category == 2)) = lv') (kk : xX F Q ad ct cells slots (pc + 1) lv' rest) : xX F Q ad ct cells slots pc lv (.ref x :: rest) := fun H locs ls w hS h0 => lv_astore_n C.hx C.hb hdg hi h0 (by rw [C.hml]; exact hn) hl (fun ls' h' => kk H locs ls' w hS h')
theorem x_astore (C : xC F cc nL own ret rm nm tb) {i : Nat} {x : Nat} {lv' : List (Nat × Value)} (hdg : decode cc pc = .ok (.astore i, 2)) (hn : i < nL) (hl : (i, Value.ref x) :: lv.filter (fun q => !(q.1 == i) && !(q.1 + 1 == i && q.2.category == 2)) = lv') (kk : xX F Q ad ct cells slots (pc + 2) lv' rest) : xX F Q ad ct cells slots pc lv (.ref x :: rest) := fun H locs ls w hS h0 => lv_astore C.hx C.hb hdg h0 (by rw [C.hml]; exact hn) hl (fun ls' h' => kk H locs ls' w hS h')
theorem x_iinc (C : xC F cc nL own ret rm nm tb) {i k : Nat} {n : Int} {x v : Int32} {lv' : List (Nat × Value)} (hdg : decode cc pc = .ok (.iinc i n, 3)) (hk : lv[k]? = some (i, .int x)) (hv : x + Int32.ofInt n = v) (hn : i < nL) (hl : (i, Value.int v) :: lv.filter (fun q => !(q.1 == i) && !(q.1 + 1 == i && q.2.category == 2)) = lv') (kk : xX F Q ad ct cells slots (pc + 3) lv' rest) : xX F Q ad ct cells slots pc lv rest := fun H locs ls w hS h0 => lv_iinc C.hx C.hb hdg h0 hk hv (by rw [C.hml]; exact hn) hl (fun ls' h' => kk H locs ls' w hS h')
theorem x_iadd (C : xC F cc nL own ret rm nm tb) {x y : Int32} (hdg : decode cc pc = .ok (.iadd, 1)) (k : xX F Q ad ct cells slots (pc + 1) lv (.int (x + y) :: rest)) : xX F Q ad ct cells slots pc lv (.int y :: .int x :: rest) := fun H locs ls w hS h0 => lv_iadd C.hx C.hb hdg (k H locs ls w hS h0)
theorem x_isub (C : xC F cc nL own ret rm nm tb) {x y : Int32} (hdg : decode cc pc = .ok (.isub, 1)) (k : xX F Q ad ct cells slots (pc + 1) lv (.int (x - y) :: rest)) : xX F Q ad ct cells slots pc lv (.int y :: .int x :: rest) := fun H locs ls w hS h0 => lv_isub C.hx C.hb hdg (k H locs ls w hS h0)
theorem x_imul (C : xC F cc nL own ret rm nm tb) {x y : Int32} (hdg : decode cc pc = .ok (.imul, 1)) (k : xX F Q ad ct cells slots (pc + 1) lv (.int (x * y) :: rest)) : xX F Q ad ct cells slots pc lv (.int y :: .int x :: rest) := fun H locs ls w hS h0 => lv_imul C.hx C.hb hdg (k H locs ls w hS h0)
theorem x_iand (C : xC F cc nL own ret rm nm tb) {x y : Int32} (hdg : decode cc pc = .ok (.iand, 1)) (k : xX F Q ad ct cells slots (pc + 1) lv (.int (x &&& y) :: rest)) : xX F Q ad ct cells slots pc lv (.int y :: .int x :: rest) := fun H locs ls w hS h0 => lv_iand C.hx C.hb hdg (k H locs ls w hS h0)
theorem x_idiv (C : xC F cc nL own ret rm nm tb) {x y : Int32} (hdg : decode cc pc = .ok (.idiv, 1)) (hne : ¬ y = 0) (k : xX F Q ad ct cells slots (pc + 1) lv (.int (x / y) :: rest)) : xX F Q ad ct cells slots pc lv (.int y :: .int x :: rest) := fun H locs ls w hS h0 => lv_idiv C.hx C.hb hdg hne (k H locs ls w hS h0)
theorem x_irem (C : xC F cc nL own ret rm nm tb) {x y : Int32} (hdg : decode cc pc = .ok (.irem, 1)) (hne : ¬ y = 0) (k : xX F Q ad ct cells slots (pc + 1) lv (.int (x - x / y * y) :: rest)) : xX F Q ad ct cells slots pc lv (.int y :: .int x :: rest) := fun H locs ls w hS h0 => lv_irem C.hx C.hb hdg hne (k H locs ls w hS h0)
theorem x_ladd (C : xC F cc nL own ret rm nm tb) {x y : Int64} (hdg : decode cc pc = .ok (.ladd, 1)) (k : xX F Q ad ct cells slots (pc + 1) lv (.long (x + y) :: rest)) : xX F Q ad ct cells slots pc lv (.long y :: .long x :: rest) := fun H locs ls w hS h0 => lv_ladd C.hx C.hb hdg (k H locs ls w hS h0)
theorem x_lsub (C : xC F cc nL own ret rm nm tb) {x y : Int64} (hdg : decode cc pc = .ok (.lsub, 1)) (k : xX F Q ad ct cells slots (pc + 1) lv (.long (x - y) :: rest)) : xX F Q ad ct cells slots pc lv (.long y :: .long x :: rest) := fun H locs ls w hS h0 => lv_lsub C.hx C.hb hdg (k H locs ls w hS h0)
theorem x_lmul (C : xC F cc nL own ret rm nm tb) {x y : Int64} (hdg : decode cc pc = .ok (.lmul, 1)) (k : xX F Q ad ct cells slots (pc + 1) lv (.long (x * y) :: rest)) : xX F Q ad ct cells slots pc lv (.long y :: .long x :: rest) := fun H locs ls w hS h0 => lv_lmul C.hx C.hb hdg (k H locs ls w hS h0)
theorem x_lrem (C : xC F cc nL own ret rm nm tb) {x y : Int64} (hdg : decode cc pc = .ok (.lrem, 1)) (hne : ¬ y = 0) (k : xX F Q ad ct cells slots (pc + 1) lv (.long (x - x / y * y) :: rest)) : xX F Q ad ct cells slots pc lv (.long y :: .long x :: rest) := fun H locs ls w hS h0 => lv_lrem C.hx C.hb hdg hne (k H locs ls w hS h0)
theorem x_ishr (C : xC F cc nL own ret rm nm tb) {x y : Int32} (hdg : decode cc pc = .ok (.ishr, 1)) (k : xX F Q ad ct cells slots (pc + 1) lv (.int (x >>> (y &&& 31)) :: rest)) : xX F Q ad ct cells slots pc lv (.int y :: .int x :: rest) := fun H locs ls w hS h0 => lv_ishr C.hx C.hb hdg (k H locs ls w hS h0)
theorem x_i2l (C : xC F cc nL own ret rm nm tb) {x : Int32} {v : Int64} (hdg : decode cc pc = .ok (.i2l, 1)) (hv : x.toInt64 = v) (k : xX F Q ad ct cells slots (pc + 1) lv (.long v :: rest)) : xX F Q ad ct cells slots pc lv (.int x :: rest) := fun H locs ls w hS h0 => lv_i2l C.hx C.hb hdg hv (k H locs ls w hS h0)
theorem x_l2i (C : xC F cc nL own ret rm nm tb) {x : Int64} {v : Int32} (hdg : decode cc pc = .ok (.l2i, 1)) (hv : x.toInt32 = v) (k : xX F Q ad ct cells slots (pc + 1) lv (.int v :: rest)) : xX F Q ad ct cells slots pc lv (.long x :: rest) := fun H locs ls w hS h0 => lv_l2i C.hx C.hb hdg hv (k H locs ls w hS h0)
theorem x_i2c (C : xC F cc nL own ret rm nm tb) {x : Int32} {v : Int32} (hdg : decode cc pc = .ok (.i2c, 1)) (hv : (x.toUInt32 % 65536).toInt32 = v) (k : xX F Q ad ct cells slots (pc + 1) lv (.int v :: rest)) : xX F Q ad ct cells slots pc lv (.int x :: rest) := fun H locs ls w hS h0 => lv_i2c C.hx C.hb hdg hv (k H locs ls w hS h0)
theorem x_dup (C : xC F cc nL own ret rm nm tb) {va : Value} (hdg : decode cc pc = .ok (.dup, 1)) (hva : va.category = 1) (k : xX F Q ad ct cells slots (pc + 1) lv (va :: va :: rest)) : xX F Q ad ct cells slots pc lv (va :: rest) := fun H locs ls w hS h0 => lv_dup C.hx C.hb hdg hva (k H locs ls w hS h0)
theorem x_pop (C : xC F cc nL own ret rm nm tb) {va : Value} (hdg : decode cc pc = .ok (.pop, 1)) (hva : va.category = 1) (k : xX F Q ad ct cells slots (pc + 1) lv (rest)) : xX F Q ad ct cells slots pc lv (va :: rest) := fun H locs ls w hS h0 => lv_pop C.hx C.hb hdg hva (k H locs ls w hS h0)
theorem x_dup_x1 (C : xC F cc nL own ret rm nm tb) {va vb : Value} (hdg : decode cc pc = .ok (.dup_x1, 1)) (hva : va.category = 1) (hvb : vb.category = 1) (k : xX F Q ad ct cells slots (pc + 1) lv (va :: vb :: va :: rest)) : xX F Q ad ct cells slots pc lv (va :: vb :: rest) := fun H locs ls w hS h0 => lv_dup_x1 C.hx C.hb hdg hva hvb (k H locs ls w hS h0)
theorem x_dup_x2 (C : xC F cc nL own ret rm nm tb) {va vb vd : Value} (hdg : decode cc pc = .ok (.dup_x2, 1)) (hva : va.category = 1) (hvb : vb.category = 1) (hvd : vd.category = 1) (k : xX F Q ad ct cells slots (pc + 1) lv (va :: vb :: vd :: va :: rest)) : xX F Q ad ct cells slots pc lv (va :: vb :: vd :: rest) := fun H locs ls w hS h0 => lv_dup_x2 C.hx C.hb hdg hva hvb hvd (k H locs ls w hS h0)
theorem x_dup2_11 (C : xC F cc nL own ret rm nm tb) {va vb : Value} (hdg : decode cc pc = .ok (.dup2, 1)) (hva : va.category = 1) (hvb : vb.category = 1) (k : xX F Q ad ct cells slots (pc + 1) lv (va :: vb :: va :: vb :: rest)) : xX F Q ad ct cells slots pc lv (va :: vb :: rest) := fun H locs ls w hS h0 => lv_dup2_11 C.hx C.hb hdg hva hvb (k H locs ls w hS h0)
theorem x_if_eq (C : xC F cc nL own ret rm nm tb) {x : Int32} {off : Int} {tgt : Nat} (hdg : decode cc pc = .ok (.ifCond .eq off, 3)) (ht : (pc : Int) + off = (tgt : Int)) (kt : x = 0 → xX F Q ad ct cells slots tgt lv rest) (kf : ¬ x = 0 → xX F Q ad ct cells slots (pc + 3) lv rest) : xX F Q ad ct cells slots pc lv (.int x :: rest) := fun H locs ls w hS h0 => lv_if_eq C.hx C.hb hdg ht (fun q9 => kt q9 H locs ls w hS h0) (fun q9 => kf q9 H locs ls w hS h0)
theorem x_icmp_eq (C : xC F cc nL own ret rm nm tb) {x y : Int32} {off : Int} {tgt : Nat} (hdg : decode cc pc = .ok (.if_icmp .eq off, 3)) (ht : (pc : Int) + off = (tgt : Int)) (kt : x = y → xX F Q ad ct cells slots tgt lv rest) (kf : ¬ x = y → xX F Q ad ct cells slots (pc + 3) lv rest) : xX F Q ad ct cells slots pc lv (.int y :: .int x :: rest) := fun H locs ls w hS h0 => lv_icmp_eq C.hx C.hb hdg ht (fun q9 => kt q9 H locs ls w hS h0) (fun q9 => kf q9 H locs ls w hS h0)
theorem x_if_ne (C : xC F cc nL own ret rm nm tb) {x : Int32} {off : Int} {tgt : Nat} (hdg : decode cc pc = .ok (.ifCond .ne off, 3)) (ht : (pc : Int) + off = (tgt : Int)) (kt : ¬ x = 0 → xX F Q ad ct cells slots tgt lv rest) (kf : x = 0 → xX F Q ad ct cells slots (pc + 3) lv rest) : xX F Q ad ct cells slots pc lv (.int x :: rest) := fun H locs ls w hS h0 => lv_if_ne C.hx C.hb hdg ht (fun q9 => kt q9 H locs ls w hS h0) (fun q9 => kf q9 H locs ls w hS h0)
theorem x_icmp_ne (C : xC F cc nL own ret rm nm tb) {x y : Int32} {off : Int} {tgt : Nat} (hdg : decode cc pc = .ok (.if_icmp .ne off, 3)) (ht : (pc : Int) + off = (tgt : Int)) (kt : ¬ x = y → xX F Q ad ct cells slots tgt lv rest) (kf : x = y → xX F Q ad ct cells slots (pc + 3) lv rest) : xX F Q ad ct cells slots pc lv (.int y :: .int x :: rest) := fun H locs ls w hS h0 => lv_icmp_ne C.hx C.hb hdg ht (fun q9 => kt q9 H locs ls w hS h0) (fun q9 => kf q9 H locs ls w hS h0)
theorem x_if_lt (C : xC F cc nL own ret rm nm tb) {x : Int32} {off : Int} {tgt : Nat} (hdg : decode cc pc = .ok (.ifCond .lt off, 3)) (ht : (pc : Int) + off = (tgt : Int)) (kt : x < 0 → xX F Q ad ct cells slots tgt lv rest) (kf : ¬ x < 0 → xX F Q ad ct cells slots (pc + 3) lv rest) : xX F Q ad ct cells slots pc lv (.int x :: rest) := fun H locs ls w hS h0 => lv_if_lt C.hx C.hb hdg ht (fun q9 => kt q9 H locs ls w hS h0) (fun q9 => kf q9 H locs ls w hS h0)
theorem x_icmp_lt (C : xC F cc nL own ret rm nm tb) {x y : Int32} {off : Int} {tgt : Nat} (hdg : decode cc pc = .ok (.if_icmp .lt off, 3)) (ht : (pc : Int) + off = (tgt : Int)) (kt : x < y → xX F Q ad ct cells slots tgt lv rest) (kf : ¬ x < y → xX F Q ad ct cells slots (pc + 3) lv rest) : xX F Q ad ct cells slots pc lv (.int y :: .int x :: rest) := fun H locs ls w hS h0 => lv_icmp_lt C.hx C.hb hdg ht (fun q9 => kt q9 H locs ls w hS h0) (fun q9 => kf q9 H locs ls w hS h0)
theorem x_if_ge (C : xC F cc nL own ret rm nm tb) {x : Int32} {off : Int} {tgt : Nat} (hdg : decode cc pc = .ok (.ifCond .ge off, 3)) (ht : (pc : Int) + off = (tgt : Int)) (kt : 0 ≤ x → xX F Q ad ct cells slots tgt lv rest) (kf : ¬ 0 ≤ x → xX F Q ad ct cells slots (pc + 3) lv rest) : xX F Q ad ct cells slots pc lv (.int x :: rest) := fun H locs ls w hS h0 => lv_if_ge C.hx C.hb hdg ht (fun q9 => kt q9 H locs ls w hS h0) (fun q9 => kf q9 H locs ls w hS h0)
theorem x_icmp_ge (C : xC F cc nL own ret rm nm tb) {x y : Int32} {off : Int} {tgt : Nat} (hdg : decode cc pc = .ok (.if_icmp .ge off, 3)) (ht : (pc : Int) + off = (tgt : Int)) (kt : y ≤ x → xX F Q ad ct cells slots tgt lv rest) (kf : ¬ y ≤ x → xX F Q ad ct cells slots (pc + 3) lv rest) : xX F Q ad ct cells slots pc lv (.int y :: .int x :: rest) := fun H locs ls w hS h0 => lv_icmp_ge C.hx C.hb hdg ht (fun q9 => kt q9 H locs ls w hS h0) (fun q9 => kf q9 H locs ls w hS h0)
theorem x_if_gt (C : xC F cc nL own ret rm nm tb) {x : Int32} {off : Int} {tgt : Nat} (hdg : decode cc pc = .ok (.ifCond .gt off, 3)) (ht : (pc : Int) + off = (tgt : Int)) (kt : 0 < x → xX F Q ad ct cells slots tgt lv rest) (kf : ¬ 0 < x → xX F Q ad ct cells slots (pc + 3) lv rest) : xX F Q ad ct cells slots pc lv (.int x :: rest) := fun H locs ls w hS h0 => lv_if_gt C.hx C.hb hdg ht (fun q9 => kt q9 H locs ls w hS h0) (fun q9 => kf q9 H locs ls w hS h0)
theorem x_icmp_gt (C : xC F cc nL own ret rm nm tb) {x y : Int32} {off : Int} {tgt : Nat} (hdg : decode cc pc = .ok (.if_icmp .gt off, 3)) (ht : (pc : Int) + off = (tgt : Int)) (kt : y < x → xX F Q ad ct cells slots tgt lv rest) (kf : ¬ y < x → xX F Q ad ct cells slots (pc + 3) lv rest) : xX F Q ad ct cells slots pc lv (.int y :: .int x :: rest) := fun H locs ls w hS h0 => lv_icmp_gt C.hx C.hb hdg ht (fun q9 => kt q9 H locs ls w hS h0) (fun q9 => kf q9 H locs ls w hS h0)
theorem x_if_le (C : xC F cc nL own ret rm nm tb) {x : Int32} {off : Int} {tgt : Nat} (hdg : decode cc pc = .ok (.ifCond .le off, 3)) (ht : (pc : Int) + off = (tgt : Int)) (kt : x ≤ 0 → xX F Q ad ct cells slots tgt lv rest) (kf : ¬ x ≤ 0 → xX F Q ad ct cells slots (pc + 3) lv rest) : xX F Q ad ct cells slots pc lv (.int x :: rest) := fun H locs ls w hS h0 => lv_if_le C.hx C.hb hdg ht (fun q9 => kt q9 H locs ls w hS h0) (fun q9 => kf q9 H locs ls w hS h0)
theorem x_icmp_le (C : xC F cc nL own ret rm nm tb) {x y : Int32} {off : Int} {tgt : Nat} (hdg : decode cc pc = .ok (.if_icmp .le off, 3)) (ht : (pc : Int) + off = (tgt : Int)) (kt : x ≤ y → xX F Q ad ct cells slots tgt lv rest) (kf : ¬ x ≤ y → xX F Q ad ct cells slots (pc + 3) lv rest) : xX F Q ad ct cells slots pc lv (.int y :: .int x :: rest) := fun H locs ls w hS h0 => lv_icmp_le C.hx C.hb hdg ht (fun q9 => kt q9 H locs ls w hS h0) (fun q9 => kf q9 H locs ls w hS h0)
theorem x_goto (C : xC F cc nL own ret rm nm tb) {off : Int} {tgt : Nat} (hdg : decode cc pc = .ok (.goto off, 3)) (ht : (pc : Int) + off = (tgt : Int)) (k : xX F Q ad ct cells slots tgt lv rest) : xX F Q ad ct cells slots pc lv rest := fun H locs ls w hS h0 => lv_goto C.hx C.hb hdg ht (k H locs ls w hS h0)
theorem x_fconst0 (C : xC F cc nL own ret rm nm tb) (hdg : decode cc pc = .ok (.fconst 0, 1)) (k : xX F Q ad ct cells slots (pc + 1) lv (.float FP.fconst0 :: rest)) : xX F Q ad ct cells slots pc lv (rest) := fun H locs ls w hS h0 => lv_fconst0 C.hx C.hb hdg (k H locs ls w hS h0)
theorem x_dconst0 (C : xC F cc nL own ret rm nm tb) (hdg : decode cc pc = .ok (.dconst 0, 1)) (k : xX F Q ad ct cells slots (pc + 1) lv (.double FP.dconst0 :: rest)) : xX F Q ad ct cells slots pc lv (rest) := fun H locs ls w hS h0 => lv_dconst0 C.hx C.hb hdg (k H locs ls w hS h0)
theorem x_fload_n (C : xC F cc nL own ret rm nm tb) {k : Fin 4} {i : Nat} {x : UInt32} (hdg : decode cc pc = .ok (.fload_n k, 1)) (hi : (k : Nat) = i) (j9 : Nat) (hl : lv[j9]? = some (i, .float x)) (k : xX F Q ad ct cells slots (pc + 1) lv (.float x :: rest)) : xX F Q ad ct cells slots pc lv (rest) := fun H locs ls w hS h0 => lv_fload_n C.hx C.hb hdg hi (lv_at h0 j9 hl) (k H locs ls w hS h0)
theorem x_fload (C : xC F cc nL own ret rm nm tb) {i : Nat} {x : UInt32} (hdg : decode cc pc = .ok (.fload i, 2)) (j9 : Nat) (hl : lv[j9]? = some (i, .float x)) (k : xX F Q ad ct cells slots (pc + 2) lv (.float x :: rest)) : xX F Q ad ct cells slots pc lv (rest) := fun H locs ls w hS h0 => lv_fload C.hx C.hb hdg (lv_at h0 j9 hl) (k H locs ls w hS h0)
theorem x_fdiv (C : xC F cc nL own ret rm nm tb) {x y : UInt32} (hdg : decode cc pc = .ok (.fdiv, 1)) (hne : vf_n32 (FP.fdiv x y)) (k : xX F Q ad ct cells slots (pc + 1) lv (.float (FP.fdiv x y) :: rest)) : xX F Q ad ct cells slots pc lv (.float y :: .float x :: rest) := fun H locs ls w hS h0 => lv_fdiv C.hx C.hb hdg hne (k H locs ls w hS h0)
theorem x_i2f (C : xC F cc nL own ret rm nm tb) {x : Int32} (hdg : decode cc pc = .ok (.i2f, 1)) (k : xX F Q ad ct cells slots (pc + 1) lv (.float (FP.i2f x) :: rest)) : xX F Q ad ct cells slots pc lv (.int x :: rest) := fun H locs ls w hS h0 => lv_i2f C.hx C.hb hdg (k H locs ls w hS h0)
theorem x_dload_n (C : xC F cc nL own ret rm nm tb) {k : Fin 4} {i : Nat} {x : UInt64} (hdg : decode cc pc = .ok (.dload_n k, 1)) (hi : (k : Nat) = i) (j9 : Nat) (hl : lv[j9]? = some (i, .double x)) (k : xX F Q ad ct cells slots (pc + 1) lv (.double x :: rest)) : xX F Q ad ct cells slots pc lv (rest) := fun H locs ls w hS h0 => lv_dload_n C.hx C.hb hdg hi (lv_at h0 j9 hl) (k H locs ls w hS h0)
theorem x_dload (C : xC F cc nL own ret rm nm tb) {i : Nat} {x : UInt64} (hdg : decode cc pc = .ok (.dload i, 2)) (j9 : Nat) (hl : lv[j9]? = some (i, .double x)) (k : xX F Q ad ct cells slots (pc + 2) lv (.double x :: rest)) : xX F Q ad ct cells slots pc lv (rest) := fun H locs ls w hS h0 => lv_dload C.hx C.hb hdg (lv_at h0 j9 hl) (k H locs ls w hS h0)
theorem x_ddiv (C : xC F cc nL own ret rm nm tb) {x y : UInt64} (hdg : decode cc pc = .ok (.ddiv, 1)) (hne : vf_n64 (FP.ddiv x y)) (k : xX F Q ad ct cells slots (pc + 1) lv (.double (FP.ddiv x y) :: rest)) : xX F Q ad ct cells slots pc lv (.double y :: .double x :: rest) := fun H locs ls w hS h0 => lv_ddiv C.hx C.hb hdg hne (k H locs ls w hS h0)
theorem x_i2d (C : xC F cc nL own ret rm nm tb) {x : Int32} (hdg : decode cc pc = .ok (.i2d, 1)) (k : xX F Q ad ct cells slots (pc + 1) lv (.double (FP.i2d x) :: rest)) : xX F Q ad ct cells slots pc lv (.int x :: rest) := fun H locs ls w hS h0 => lv_i2d C.hx C.hb hdg (k H locs ls w hS h0)
theorem x_f2d (C : xC F cc nL own ret rm nm tb) {x : UInt32} (hdg : decode cc pc = .ok (.f2d, 1)) (hne : vf_n64 (FP.f2d x)) (k : xX F Q ad ct cells slots (pc + 1) lv (.double (FP.f2d x) :: rest)) : xX F Q ad ct cells slots pc lv (.float x :: rest) := fun H locs ls w hS h0 => lv_f2d C.hx C.hb hdg hne (k H locs ls w hS h0)
theorem x_fstore_n (C : xC F cc nL own ret rm nm tb) {k : Fin 4} {i : Nat} {x : UInt32} {lv' : List (Nat × Value)} (hdg : decode cc pc = .ok (.fstore_n k, 1)) (hi : (k : Nat) = i) (hn : i < nL) (hl : (i, Value.float x) :: lv.filter (fun q => !(q.1 == i) && !(q.1 + 1 == i && q.2.category == 2)) = lv') (kk : xX F Q ad ct cells slots (pc + 1) lv' rest) : xX F Q ad ct cells slots pc lv (.float x :: rest) := fun H locs ls w hS h0 => lv_fstore_n C.hx C.hb hdg hi h0 (by rw [C.hml]; exact hn) hl (fun ls' h' => kk H locs ls' w hS h')
theorem x_fstore (C : xC F cc nL own ret rm nm tb) {i : Nat} {x : UInt32} {lv' : List (Nat × Value)} (hdg : decode cc pc = .ok (.fstore i, 2)) (hn : i < nL) (hl : (i, Value.float x) :: lv.filter (fun q => !(q.1 == i) && !(q.1 + 1 == i && q.2.category == 2)) = lv') (kk : xX F Q ad ct cells slots (pc + 2) lv' rest) : xX F Q ad ct cells slots pc lv (.float x :: rest) := fun H locs ls w hS h0 => lv_fstore C.hx C.hb hdg h0 (by rw [C.hml]; exact hn) hl (fun ls' h' => kk H locs ls' w hS h')
theorem x_dstore_n (C : xC F cc nL own ret rm nm tb) {k : Fin 4} {i : Nat} {x : UInt64} {lv' : List (Nat × Value)} (hdg : decode cc pc = .ok (.dstore_n k, 1)) (hi : (k : Nat) = i) (hn : i + 1 < nL) (hl : (i, Value.double x) :: lv.filter (fun q => !(q.1 == i) && (!(q.1 == i + 1) && !(q.1 + 1 == i && q.2.category == 2))) = lv') (kk : xX F Q ad ct cells slots (pc + 1) lv' rest) : xX F Q ad ct cells slots pc lv (.double x :: rest) := fun H locs ls w hS h0 => lv_dstore_n C.hx C.hb hdg hi h0 (by rw [C.hml]; exact hn) hl (fun ls' h' => kk H locs ls' w hS h')
theorem x_dstore (C : xC F cc nL own ret rm nm tb) {i : Nat} {x : UInt64} {lv' : List (Nat × Value)} (hdg : decode cc pc = .ok (.dstore i, 2)) (hn : i + 1 < nL) (hl : (i, Value.double x) :: lv.filter (fun q => !(q.1 == i) && (!(q.1 == i + 1) && !(q.1 + 1 == i && q.2.category == 2))) = lv') (kk : xX F Q ad ct cells slots (pc + 2) lv' rest) : xX F Q ad ct cells slots pc lv (.double x :: rest) := fun H locs ls w hS h0 => lv_dstore C.hx C.hb hdg h0 (by rw [C.hml]; exact hn) hl (fun ls' h' => kk H locs ls' w hS h')
theorem x_ldc (C : xC F cc nL own ret rm nm tb) {index : Nat} {v : Int32} (hconst : (Jvm.Cond.constant own index v) ∈ lw_all) (hdg : decode cc pc = .ok (.ldc index, 2)) (k : xX F Q ad ct cells slots (pc + 2) lv (.int v :: rest)) : xX F Q ad ct cells slots pc lv rest := fun H locs ls w hS h0 => lv_ldc C.hx C.hb C.hown (C.hts _ hconst) hdg (k H locs ls w hS h0)
theorem x_ldc2 (C : xC F cc nL own ret rm nm tb) {index : Nat} {v : Int64} (hconst : (Jvm.Cond.constantLong own index v) ∈ lw_all) (hdg : decode cc pc = .ok (.ldc2_w index, 3)) (k : xX F Q ad ct cells slots (pc + 3) lv (.long v :: rest)) : xX F Q ad ct cells slots pc lv rest := fun H locs ls w hS h0 => lv_ldc2 C.hx C.hb C.hown (C.hts _ hconst) hdg (k H locs ls w hS h0)
theorem x_tableOut (C : xC F cc nL own ret rm nm tb) {dflt lo hi : Int} {offs : Array Int} {len : Nat} {x : Int32} {tgt : Nat} (hdg : decode cc pc = .ok (.tableswitch dflt lo hi offs, len)) (h : x.toInt < lo ∨ hi < x.toInt) (ht : (pc : Int) + dflt = (tgt : Int)) (k : xX F Q ad ct cells slots tgt lv rest) : xX F Q ad ct cells slots pc lv (.int x :: rest) := fun H locs ls w hS h0 => lv_tableOut C.hx C.hb hdg h ht (k H locs ls w hS h0)
theorem x_tableIn (C : xC F cc nL own ret rm nm tb) {dflt lo hi : Int} {offs : Array Int} {len : Nat} {x : Int32} {off : Int} {tgt : Nat} (hdg : decode cc pc = .ok (.tableswitch dflt lo hi offs, len)) (h1 : ¬ x.toInt < lo) (h2 : ¬ hi < x.toInt) (ho : offs[(x.toInt - lo).toNat]? = some off) (ht : (pc : Int) + off = (tgt : Int)) (k : xX F Q ad ct cells slots tgt lv rest) : xX F Q ad ct cells slots pc lv (.int x :: rest) := fun H locs ls w hS h0 => lv_tableIn C.hx C.hb hdg h1 h2 ho ht (k H locs ls w hS h0)
theorem x_ifnonnull (C : xC F cc nL own ret rm nm tb) {x : Nat} {off : Int} {tgt : Nat} (hdg : decode cc pc = .ok (.ifnonnull off, 3)) (ht : (pc : Int) + off = (tgt : Int)) (k : xX F Q ad ct cells slots tgt lv rest) : xX F Q ad ct cells slots pc lv (.ref x :: rest) := fun H locs ls w hS h0 => lv_ifnonnull C.hx C.hb hdg ht (k H locs ls w hS h0)
theorem x_ifnull (C : xC F cc nL own ret rm nm tb) {x : Nat} {off : Int} (hdg : decode cc pc = .ok (.ifnull off, 3)) (k : xX F Q ad ct cells slots (pc + 3) lv rest) : xX F Q ad ct cells slots pc lv (.ref x :: rest) := fun H locs ls w hS h0 => lv_ifnull C.hx C.hb hdg (k H locs ls w hS h0)
theorem x_null (C : xC F cc nL own ret rm nm tb) (hdg : decode cc pc = .ok (.aconst_null, 1)) (k : xX F Q ad ct cells slots (pc + 1) lv (.null :: rest)) : xX F Q ad ct cells slots pc lv rest := fun H locs ls w hS h0 => lv_null C.hx C.hb hdg (k H locs ls w hS h0)
theorem x_ifnullN (C : xC F cc nL own ret rm nm tb) {off : Int} {tgt : Nat} (hdg : decode cc pc = .ok (.ifnull off, 3)) (ht : (pc : Int) + off = (tgt : Int)) (k : xX F Q ad ct cells slots tgt lv rest) : xX F Q ad ct cells slots pc lv (.null :: rest) := fun H locs ls w hS h0 => lv_ifnullN C.hx C.hb hdg ht (k H locs ls w hS h0)
theorem x_ifnonnullN (C : xC F cc nL own ret rm nm tb) {off : Int} (hdg : decode cc pc = .ok (.ifnonnull off, 3)) (k : xX F Q ad ct cells slots (pc + 3) lv rest) : xX F Q ad ct cells slots pc lv (.null :: rest) := fun H locs ls w hS h0 => lv_ifnonnullN C.hx C.hb hdg (k H locs ls w hS h0)
theorem x_aload_nN (C : xC F cc nL own ret rm nm tb) {k : Fin 4} {i : Nat} (hdg : decode cc pc = .ok (.aload_n k, 1)) (hi : (k : Nat) = i) (j9 : Nat) (hl : lv[j9]? = some (i, .null)) (k : xX F Q ad ct cells slots (pc + 1) lv (.null :: rest)) : xX F Q ad ct cells slots pc lv (rest) := fun H locs ls w hS h0 => lv_aload_nN C.hx C.hb hdg hi (lv_at h0 j9 hl) (k H locs ls w hS h0)
theorem x_aloadN (C : xC F cc nL own ret rm nm tb) {i : Nat} (hdg : decode cc pc = .ok (.aload i, 2)) (j9 : Nat) (hl : lv[j9]? = some (i, .null)) (k : xX F Q ad ct cells slots (pc + 2) lv (.null :: rest)) : xX F Q ad ct cells slots pc lv (rest) := fun H locs ls w hS h0 => lv_aloadN C.hx C.hb hdg (lv_at h0 j9 hl) (k H locs ls w hS h0)
theorem x_astore_nN (C : xC F cc nL own ret rm nm tb) {k : Fin 4} {i : Nat} {lv' : List (Nat × Value)} (hdg : decode cc pc = .ok (.astore_n k, 1)) (hi : (k : Nat) = i) (hn : i < nL) (hl : (i, Value.null) :: lv.filter (fun q => !(q.1 == i) && !(q.1 + 1 == i && q.2.category == 2)) = lv') (kk : xX F Q ad ct cells slots (pc + 1) lv' rest) : xX F Q ad ct cells slots pc lv (.null :: rest) := fun H locs ls w hS h0 => lv_astore_nN C.hx C.hb hdg hi h0 (by rw [C.hml]; exact hn) hl (fun ls' h' => kk H locs ls' w hS h')
theorem x_astoreN (C : xC F cc nL own ret rm nm tb) {i : Nat} {lv' : List (Nat × Value)} (hdg : decode cc pc = .ok (.astore i, 2)) (hn : i < nL) (hl : (i, Value.null) :: lv.filter (fun q => !(q.1 == i) && !(q.1 + 1 == i && q.2.category == 2)) = lv') (kk : xX F Q ad ct cells slots (pc + 2) lv' rest) : xX F Q ad ct cells slots pc lv (.null :: rest) := fun H locs ls w hS h0 => lv_astoreN C.hx C.hb hdg h0 (by rw [C.hml]; exact hn) hl (fun ls' h' => kk H locs ls' w hS h')
theorem x_acmp_eq (C : xC F cc nL own ret rm nm tb) {rx ry : Option Nat} {off : Int} {tgt : Nat} (hdg : decode cc pc = .ok (.if_acmp .eq off, 3)) (ht : (pc : Int) + off = (tgt : Int)) (kt : rx = ry → xX F Q ad ct cells slots tgt lv rest) (kf : ¬ rx = ry → xX F Q ad ct cells slots (pc + 3) lv rest) : xX F Q ad ct cells slots pc lv (va_rf ry :: va_rf rx :: rest) := fun H locs ls w hS h0 => lv_acmp_eq C.hx C.hb hdg ht (fun q9 => kt q9 H locs ls w hS h0) (fun q9 => kf q9 H locs ls w hS h0)
theorem x_acmp_ne (C : xC F cc nL own ret rm nm tb) {rx ry : Option Nat} {off : Int} {tgt : Nat} (hdg : decode cc pc = .ok (.if_acmp .ne off, 3)) (ht : (pc : Int) + off = (tgt : Int)) (kt : ¬ rx = ry → xX F Q ad ct cells slots tgt lv rest) (kf : rx = ry → xX F Q ad ct cells slots (pc + 3) lv rest) : xX F Q ad ct cells slots pc lv (va_rf ry :: va_rf rx :: rest) := fun H locs ls w hS h0 => lv_acmp_ne C.hx C.hb hdg ht (fun q9 => kt q9 H locs ls w hS h0) (fun q9 => kf q9 H locs ls w hS h0)
theorem x_castN (C : xC F cc nL own ret rm nm tb) {index : Nat} (hdg : decode cc pc = .ok (.checkcast index, 3)) (k : xX F Q ad ct cells slots (pc + 3) lv (.null :: rest)) : xX F Q ad ct cells slots pc lv (.null :: rest) := fun H locs ls w hS h0 => lv_castN C.hx C.hb hdg (k H locs ls w hS h0)
end XROWS
/-! ===== HEAP ROWS ===== -/
def xCi (ci : Nat) (C : String) (T : u_T) (N : Nat) (ty : Nat → FieldType) : Prop := xcl[ci]? = some (C, T, N) ∧ (∀ w ∈ u_ws C T N, w ∈ lw_all) ∧ (∀ k, k < N → parseFieldDescriptor (T k).2.2.1 = some (ty k)) ∧ ∀ a, a < N → ∀ b, b < N → a ≠ b → (T a).2.1 ≠ (T b).2.1
theorem xci0 : xCi 0 RX1 TX1 7 tyX1 := ⟨rfl, in_X1, tyX1_ok, nmX1⟩
theorem xci1 : xCi 1 RJ2 TJ2 3 tyJ2 := ⟨rfl, in_J2, tyJ2_ok, nmJ2⟩
theorem xci2 : xCi 2 RX3 TX3 5 tyX3 := ⟨rfl, in_X3, tyX3_ok, nmX3⟩
theorem xci3 : xCi 3 RX4 TX4 15 tyX4 := ⟨rfl, in_X4, tyX4_ok, nmX4⟩
theorem xci4 : xCi 4 RX2 TX2 30 tyX2 := ⟨rfl, in_X2, tyX2_ok, nmX2⟩
theorem xci5 : xCi 5 RJ20 TJ20 4 tyJ20 := ⟨rfl, in_J20, tyJ20_ok, nmJ20⟩
theorem xci6 : xCi 6 RJ16 TJ16 6 tyJ16 := ⟨rfl, in_J16, tyJ16_ok, nmJ16⟩
theorem xci7 : xCi 7 RX7 TX7 6 tyX7 := ⟨rfl, in_X7, tyX7_ok, nmX7⟩
/-- the field that class own names by its entry idx: field k of class ci -/
def xFl (own : String) (idx ci k : Nat) (fin : Bool) (ty : FieldType) : Prop := ∃ (C : String) (T : u_T) (N : Nat) (tyf : Nat → FieldType) (ref : String), xCi ci C T N tyf ∧ k < N ∧
  (Cond.fieldLink own idx ref (T k).2.1 (T k).2.2.1 ∈ lw_all ∨ ∃ host, (own, idx, ref, (T k).2.1, (T k).2.2.1, host) ∈ xnF) ∧ (ref = (T k).1 ∨ Cond.sameField ref (T k).1 (T k).2.1 (T k).2.2.1 ∈ lw_all) ∧ (T k).2.2.2 = fin ∧ parseFieldDescriptor (T k).2.2.1 = some ty ∧ (fin = true → (T k).1 = own)
section XHEAP
variable {F : xFr} {cc : ByteArray} {nL : Nat} {own : String} {ret : Option FieldType} {rm : Room} {nm : String} {tb : List ExceptionTableEntry} {Q : State → Prop} {ad : Nat → Nat} {ct : xCt} {cells slots pc : Nat} {lv : List (Nat × Value)} {rest : List Value}
theorem x_same (C : xC F cc nL own ret rm nm tb) {ref o n d : String} (h : ref = o ∨ Cond.sameField ref o n d ∈ lw_all) : ∀ x, F.2.2.1.1.fieldFound? o n d = some x → F.2.2.1.1.fieldFound? ref n d = some x := by
  rcases h with h | h
  · subst h; exact fun x h => h
  · exact u_same (C.hts _ h)
theorem x_get (C : xC F cc nL own ret rm nm tb) {idx ci k : Nat} {fin : Bool} {ty : FieldType} (hf : xFl own idx ci k fin ty) {r a : Nat} (ha : ad r = a) {fs : List Value} {v : Value} (h : ct r = some (.inr (ci, fs))) (hv : fs[k]? = some v) (hdg : decode cc pc = .ok (.getfield idx, 3))
    (kk : xX F Q ad ct cells slots (pc + 3) lv (v :: rest)) : xX F Q ad ct cells slots pc lv (.ref a :: rest) := by
  subst ha
  obtain ⟨Cn, T, N, tyf, ref, hc, hk, hl, hs, -, -, -⟩ := hf
  intro H locs ls w hS h0
  rcases hl with hl | ⟨host, hl⟩
  · exact va_get C.hx C.hb C.hts hc.2.1 C.hown C.K (xw_at w h) 0 rfl hc.1 k hk (C.hts _ hl) (x_same C hs) hv hdg (kk H locs ls w hS h0)
  · exact va_getN C.hx C.hb C.hts hc.2.1 C.hown C.K (xw_at w h) 0 rfl hc.1 k hk (va_Nw.use rfl (C.S.1.2.2.2.2.1 _ hl)) (x_same C hs) hv hdg (kk H locs ls w hS h0)
theorem x_put (C : xC F cc nL own ret rm nm tb) {idx ci k : Nat} {ty : FieldType} (hf : xFl own idx ci k false ty) {r a : Nat} (ha : ad r = a) {fs : List Value} {v : Value} (h : ct r = some (.inr (ci, fs))) (hn : narrow ty v = v) (hfit : fits ty v = true) (hlen : k < fs.length) (hdg : decode cc pc = .ok (.putfield idx, 3))
    (kk : xX F Q ad (xu ct r (.inr (ci, fs.set k v))) cells slots (pc + 3) lv rest) : xX F Q ad ct cells slots pc lv (v :: .ref a :: rest) := by
  subst ha
  obtain ⟨Cn, T, N, tyf, ref, hc, hk, hl, hs, hfin, hd, -⟩ := hf
  intro H locs ls w hS h0
  obtain ⟨ws, hP, hD, hws⟩ := xw_list w
  obtain ⟨j, hj⟩ := hws r _ h
  rcases hl with hl | ⟨host, hl⟩
  · exact va_put C.hx C.hb C.hts hc.2.1 tyf hc.2.2.1 hc.2.2.2 C.hown C.K hP hD hS j hj hc.1 k hk (C.hts _ hl) (x_same C hs) hfin hd hn hfit hlen hdg (fun H1 locs1 hP1 _ hS1 => kk H1 locs1 ls (xw_set w hws h hj hP1) hS1 h0)
  · exact va_putN C.hx C.hb C.hts hc.2.1 tyf hc.2.2.1 hc.2.2.2 C.hown C.K hP hD hS j hj hc.1 k hk (va_Nw.use rfl (C.S.1.2.2.2.2.1 _ hl)) (x_same C hs) hfin hd hn hfit hlen hdg (fun H1 locs1 hP1 _ hS1 => kk H1 locs1 ls (xw_set w hws h hj hP1) hS1 h0)
theorem x_putF (C : xC F cc nL own ret rm "<init>" tb) {idx ci k : Nat} {ty : FieldType} (hf : xFl own idx ci k true ty) (hnn : ∀ q ∈ xnF, q.2.1 ≠ idx ∨ q.1 ≠ own) {r a : Nat} (ha : ad r = a) {fs : List Value} {v : Value} (h : ct r = some (.inr (ci, fs))) (hn : narrow ty v = v) (hfit : fits ty v = true) (hlen : k < fs.length) (hdg : decode cc pc = .ok (.putfield idx, 3))
    (kk : xX F Q ad (xu ct r (.inr (ci, fs.set k v))) cells slots (pc + 3) lv rest) : xX F Q ad ct cells slots pc lv (v :: .ref a :: rest) := by
  subst ha
  obtain ⟨Cn, T, N, tyf, ref, hc, hk, hl, hs, hfin, hd, ho⟩ := hf
  intro H locs ls w hS h0
  obtain ⟨ws, hP, hD, hws⟩ := xw_list w
  obtain ⟨j, hj⟩ := hws r _ h
  rcases hl with hl | ⟨host, hl⟩
  · exact va_putF C.hx C.hb C.hts hc.2.1 tyf hc.2.2.1 hc.2.2.2 C.hown C.K hP hD hS j hj hc.1 k hk (C.hts _ hl) (x_same C hs) hfin C.hnm (ho rfl) hd hn hfit hlen hdg (fun H1 locs1 hP1 _ hS1 => kk H1 locs1 ls (xw_set w hws h hj hP1) hS1 h0)
  · rcases hnn _ hl with e | e
    · exact absurd rfl e
    · exact absurd rfl e
theorem x_iald (C : xC F cc nL own ret rm nm tb) {r a : Nat} (ha : ad r = a) {n : Nat} {f : Nat → Int32} (h : ct r = some (.inl (F.1.2.2.1 1000, n, .inl f))) {i : Int32} (hin : vp_in i n) (hdg : decode cc pc = .ok (.iaload, 1))
    (kk : xX F Q ad ct cells slots (pc + 1) lv (.int (f i.toNatClampNeg) :: rest)) : xX F Q ad ct cells slots pc lv (.int i :: .ref a :: rest) := by
  subst ha
  exact fun H locs ls w hS h0 => va_iald C.hx C.hb C.K (xw_at w h) 0 0 rfl rfl hin hdg (kk H locs ls w hS h0)
theorem x_zald (C : xC F cc nL own ret rm nm tb) {r a : Nat} (ha : ad r = a) {n : Nat} {f : Nat → Int32} (h : ct r = some (.inl (F.1.2.2.1 1001, n, .inl f))) {i : Int32} (hin : vp_in i n) (hdg : decode cc pc = .ok (.baload, 1))
    (kk : xX F Q ad ct cells slots (pc + 1) lv (.int (f i.toNatClampNeg) :: rest)) : xX F Q ad ct cells slots pc lv (.int i :: .ref a :: rest) := by
  subst ha
  exact fun H locs ls w hS h0 => va_zald C.hx C.hb C.K (xw_at w h) 0 1 rfl rfl hin hdg (kk H locs ls w hS h0)
theorem x_lald (C : xC F cc nL own ret rm nm tb) {r a : Nat} (ha : ad r = a) {n : Nat} {f : Nat → Int64} (h : ct r = some (.inl (F.1.2.2.1 1002, n, .inr (.inl f)))) {i : Int32} (hin : vp_in i n) (hdg : decode cc pc = .ok (.laload, 1))
    (kk : xX F Q ad ct cells slots (pc + 1) lv (.long (f i.toNatClampNeg) :: rest)) : xX F Q ad ct cells slots pc lv (.int i :: .ref a :: rest) := by
  subst ha
  exact fun H locs ls w hS h0 => va_lald C.hx C.hb C.K (xw_at w h) 0 2 rfl rfl hin hdg (kk H locs ls w hS h0)
theorem x_dald (C : xC F cc nL own ret rm nm tb) {r a : Nat} (ha : ad r = a) {n : Nat} {f : Nat → UInt64} (h : ct r = some (.inl (F.1.2.2.1 1003, n, .inr (.inr (.inr (.inl f)))))) {i : Int32} (hin : vp_in i n) (hdg : decode cc pc = .ok (.daload, 1))
    (kk : xX F Q ad ct cells slots (pc + 1) lv (.double (f i.toNatClampNeg) :: rest)) : xX F Q ad ct cells slots pc lv (.int i :: .ref a :: rest) := by
  subst ha
  exact fun H locs ls w hS h0 => va_dald C.hx C.hb C.K (xw_at w h) 0 3 rfl rfl hin hdg (kk H locs ls w hS h0)
theorem x_aald (C : xC F cc nL own ret rm nm tb) (t0 : Nat) {cA : ClassId} {E : String} (ht : (xtys F.1.2.2.1)[t0]? = some (cA, .object E)) {r a : Nat} (ha : ad r = a) {n : Nat} {f : Nat → Option Nat} (h : ct r = some (.inl (cA, n, .inr (.inr (.inr (.inr f)))))) {i : Int32} (hin : vp_in i n) {o : Option Nat} (ho : f i.toNatClampNeg = o) (hdg : decode cc pc = .ok (.aaload, 1))
    (kk : xX F Q ad ct cells slots (pc + 1) lv (va_rf o :: rest)) : xX F Q ad ct cells slots pc lv (.int i :: .ref a :: rest) := by
  subst ha; subst ho
  exact fun H locs ls w hS h0 => va_aldq C.hx C.hb C.K (xw_at w h) 0 t0 rfl ht hin hdg (kk H locs ls w hS h0)
theorem x_alen (C : xC F cc nL own ret rm nm tb) (t0 : Nat) {cA : ClassId} {ty : FieldType} (ht : (xtys F.1.2.2.1)[t0]? = some (cA, ty)) {r a : Nat} (ha : ad r = a) {x : vp_A} (h : ct r = some (.inl (cA, x))) {v : Int32} (hv : Int32.ofNat x.1 = v) (hdg : decode cc pc = .ok (.arraylength, 1))
    (kk : xX F Q ad ct cells slots (pc + 1) lv (.int v :: rest)) : xX F Q ad ct cells slots pc lv (.ref a :: rest) := by
  subst ha
  exact fun H locs ls w hS h0 => va_alen C.hx C.hb C.K (xw_at w h) 0 t0 rfl ht hv hdg (kk H locs ls w hS h0)
/-- the length of the shared empty array -/
theorem x_alenE (C : xC F cc nL own ret rm nm tb) (hdg : decode cc pc = .ok (.arraylength, 1))
    (kk : xX F Q ad ct cells slots (pc + 1) lv (.int 0 :: rest)) : xX F Q ad ct cells slots pc lv (.ref (F.1.2.2.1 301) :: rest) :=
  fun H locs ls w hS h0 => va_tlen C.hx C.hb C.S.2.2.2.2.2.2.2.2.1 hS rfl hdg (kk H locs ls w hS h0)
theorem x_iast (C : xC F cc nL own ret rm nm tb) {r a : Nat} (ha : ad r = a) {n : Nat} {f : Nat → Int32} (h : ct r = some (.inl (F.1.2.2.1 1000, n, .inl f))) {i x : Int32} (hin : vp_in i n) (hdg : decode cc pc = .ok (.iastore, 1))
    (kk : xX F Q ad (xu ct r (.inl (F.1.2.2.1 1000, n, .inl (upd f i.toNatClampNeg x)))) cells slots (pc + 1) lv rest) : xX F Q ad ct cells slots pc lv (.int x :: .int i :: .ref a :: rest) := by
  subst ha
  intro H locs ls w hS h0
  obtain ⟨ws, hP, hD, hws⟩ := xw_list w
  obtain ⟨j, hj⟩ := hws r _ h
  exact va_iast C.hx C.hb C.K hP hD hS j 0 hj rfl hin hdg (fun H1 locs1 hP1 _ hS1 => kk H1 locs1 ls (xw_set w hws h hj hP1) hS1 h0)
theorem x_zast (C : xC F cc nL own ret rm nm tb) {r a : Nat} (ha : ad r = a) {n : Nat} {f : Nat → Int32} (h : ct r = some (.inl (F.1.2.2.1 1001, n, .inl f))) {i x : Int32} (hin : vp_in i n) (hx : vp_nar .boolean x = x) (hdg : decode cc pc = .ok (.bastore, 1))
    (kk : xX F Q ad (xu ct r (.inl (F.1.2.2.1 1001, n, .inl (upd f i.toNatClampNeg x)))) cells slots (pc + 1) lv rest) : xX F Q ad ct cells slots pc lv (.int x :: .int i :: .ref a :: rest) := by
  subst ha
  intro H locs ls w hS h0
  obtain ⟨ws, hP, hD, hws⟩ := xw_list w
  obtain ⟨j, hj⟩ := hws r _ h
  refine va_zast C.hx C.hb C.K hP hD hS j 1 hj rfl hin hdg (fun H1 locs1 hP1 _ hS1 => kk H1 locs1 ls (xw_set w hws h hj ?_) hS1 h0)
  rw [hx] at hP1
  exact hP1
theorem x_last (C : xC F cc nL own ret rm nm tb) {r a : Nat} (ha : ad r = a) {n : Nat} {f : Nat → Int64} (h : ct r = some (.inl (F.1.2.2.1 1002, n, .inr (.inl f)))) {i : Int32} {x : Int64} (hin : vp_in i n) (hdg : decode cc pc = .ok (.lastore, 1))
    (kk : xX F Q ad (xu ct r (.inl (F.1.2.2.1 1002, n, .inr (.inl (vp_updL f i.toNatClampNeg x))))) cells slots (pc + 1) lv rest) : xX F Q ad ct cells slots pc lv (.long x :: .int i :: .ref a :: rest) := by
  subst ha
  intro H locs ls w hS h0
  obtain ⟨ws, hP, hD, hws⟩ := xw_list w
  obtain ⟨j, hj⟩ := hws r _ h
  exact va_last C.hx C.hb C.K hP hD hS j 2 hj rfl hin hdg (fun H1 locs1 hP1 _ hS1 => kk H1 locs1 ls (xw_set w hws h hj hP1) hS1 h0)
theorem x_dast (C : xC F cc nL own ret rm nm tb) {r a : Nat} (ha : ad r = a) {n : Nat} {f : Nat → UInt64} (h : ct r = some (.inl (F.1.2.2.1 1003, n, .inr (.inr (.inr (.inl f)))))) {i : Int32} {x : UInt64} (hin : vp_in i n) (hdg : decode cc pc = .ok (.dastore, 1))
    (kk : xX F Q ad (xu ct r (.inl (F.1.2.2.1 1003, n, .inr (.inr (.inr (.inl (vf_upd f i.toNatClampNeg x))))))) cells slots (pc + 1) lv rest) : xX F Q ad ct cells slots pc lv (.double x :: .int i :: .ref a :: rest) := by
  subst ha
  intro H locs ls w hS h0
  obtain ⟨ws, hP, hD, hws⟩ := xw_list w
  obtain ⟨j, hj⟩ := hws r _ h
  exact va_dast C.hx C.hb C.K hP hD hS j 3 hj rfl hin hdg (fun H1 locs1 hP1 _ hS1 => kk H1 locs1 ls (xw_set w hws h hj hP1) hS1 h0)
/-- null into an array of objects -/
theorem x_aastN (C : xC F cc nL own ret rm nm tb) (t0 : Nat) {cA : ClassId} {E : String} (ht : (xtys F.1.2.2.1)[t0]? = some (cA, .object E)) {r a : Nat} (ha : ad r = a) {n : Nat} {f : Nat → Option Nat} (h : ct r = some (.inl (cA, n, .inr (.inr (.inr (.inr f)))))) {i : Int32} (hin : vp_in i n) (hdg : decode cc pc = .ok (.aastore, 1))
    (kk : xX F Q ad (xu ct r (.inl (cA, n, .inr (.inr (.inr (.inr (va_up f i.toNatClampNeg none))))))) cells slots (pc + 1) lv rest) : xX F Q ad ct cells slots pc lv (.null :: .int i :: .ref a :: rest) := by
  subst ha
  intro H locs ls w hS h0
  obtain ⟨ws, hP, hD, hws⟩ := xw_list w
  obtain ⟨j, hj⟩ := hws r _ h
  exact va_astqN C.hx C.hb C.K hP hD hS j t0 hj ht hin hdg (fun H1 locs1 hP1 _ hS1 => kk H1 locs1 ls (xw_set w hws h hj hP1) hS1 h0)
/-- a thing that has a class: an object of the world, a box of the cache, a coin -/
def xR (G : xG) (ad : Nat → Nat) (ct : xCt) (Cn : String) (b : Nat) : Prop :=
  (∃ r ci fs T N, ad r = b ∧ ct r = some (.inr (ci, fs)) ∧ xcl[ci]? = some (Cn, T, N)) ∨ (∃ k, k < 256 ∧ Cn = "java/lang/Integer" ∧ b = G.2.2.1 k) ∨ ∃ i, i < 4 ∧ Cn = xcoinC i ∧ b = G.2.2.1 (310 + i)
theorem xR_o {G : xG} {ad : Nat → Nat} {ct : xCt} {Cn : String} {r b ci N : Nat} {fs : List Value} {T : u_T} {ty : Nat → FieldType} (hc : xCi ci Cn T N ty) (ha : ad r = b) (h : ct r = some (.inr (ci, fs))) : xR G ad ct Cn b := Or.inl ⟨r, ci, fs, T, N, ha, h, hc.1⟩
theorem xR_i {G : xG} {ad : Nat → Nat} {ct : xCt} {k : Nat} (h : k < 256) : xR G ad ct "java/lang/Integer" (G.2.2.1 k) := Or.inr (Or.inl ⟨k, h, rfl, rfl⟩)
theorem xR_c {G : xG} {ad : Nat → Nat} {ct : xCt} {i : Nat} (h : i < 4) : xR G ad ct (xcoinC i) (G.2.2.1 (310 + i)) := Or.inr (Or.inr ⟨i, h, rfl, rfl⟩)
theorem xR_recv {F : xFr} {H : Heap} {locs : List Loc} {Cn : String} {b : Nat} (C : xC F cc nL own ret rm nm tb) (w : xw F.1 ad ct H) (hS : va_S (xA F.1) F.2.2.1.1.heap H locs) (h : xR F.1 ad ct Cn b) : ∃ cell : Cell, H[b]? = some cell ∧ cell.vm.isStatics = false ∧ F.2.2.1.1.vm.findClass Cn = some cell.cls := by
  rcases h with ⟨r, ci, fs, T, N, ha, h, hc⟩ | ⟨k, hk, e1, e2⟩ | ⟨i, hi, e1, e2⟩
  · subst ha
    exact va_recv C.K (xw_at w h) hc (q0 := 0) rfl
  · subst e1; subst e2
    obtain ⟨cell, h1, h2, h3, -⟩ := ((C.S.2.2.2.1).1 k hk).kept hS.2.1
    exact ⟨cell, h1, h2, h3⟩
  · subst e1; subst e2
    obtain ⟨cell, h1, h2, h3, -⟩ := ((C.S.2.2.2.2.2.2.2.2.2).1 i hi).1.kept hS.2.1
    exact ⟨cell, h1, h2, h3⟩
/-- an object into an array of objects -/
theorem x_aast (C : xC F cc nL own ret rm nm tb) {r a v : Nat} {Cn : String} (hR : xR F.1 ad ct Cn v) (hca : (Cn, "java/lang/Object") ∈ xcast) (ha : ad r = a) {n : Nat} {f : Nat → Option Nat} (h : ct r = some (.inl (F.1.2.2.1 1004, n, .inr (.inr (.inr (.inr f)))))) {i : Int32} (hin : vp_in i n) (hdg : decode cc pc = .ok (.aastore, 1))
    (kk : xX F Q ad (xu ct r (.inl (F.1.2.2.1 1004, n, .inr (.inr (.inr (.inr (va_up f i.toNatClampNeg (some v)))))))) cells slots (pc + 1) lv rest) : xX F Q ad ct cells slots pc lv (.ref v :: .int i :: .ref a :: rest) := by
  subst ha
  intro H locs ls w hS h0
  obtain ⟨ws, hP, hD, hws⟩ := xw_list w
  obtain ⟨j, hj⟩ := hws r _ h
  exact vb_astq C.hx C.hb C.K hP hD hS j 4 (E := "java/lang/Object") (C := Cn) hj rfl (xR_recv C w hS hR) (vb_asgC (C.S.1.2.2.2.2.2.2.1 _ hca)) hin hdg (fun H1 locs1 hP1 _ hS1 => kk H1 locs1 ls (xw_set w hws h hj hP1) hS1 h0)
theorem x_cast (C : xC F cc nL own ret rm nm tb) {a idx : Nat} {Cn : String} (hR : xR F.1 ad ct Cn a) (hl : Cond.classLink own idx Cn ∈ lw_all) (hdg : decode cc pc = .ok (.checkcast idx, 3))
    (kk : xX F Q ad ct cells slots (pc + 3) lv (.ref a :: rest)) : xX F Q ad ct cells slots pc lv (.ref a :: rest) := by
  intro H locs ls w hS h0
  obtain ⟨cell, h1, h2, h3⟩ := xR_recv C w hS hR
  intro T hT X
  obtain ⟨vm', X', st⟩ := X.checkcastYes C.hx C.hown (C.hts _ hl) (by rw [hT]; exact h1) h2 h3 (va_asg _ _) (g := F0 F.2.2.1.2.1 pc ls (.ref a :: rest)) rfl rfl (by rw [C.hb]; exact hdg)
  obtain ⟨t, a1, b1⟩ := kk H locs ls w hS h0 (T.setVm vm') hT X'
  exact ⟨t, st t a1, b1⟩
theorem x_new (C : xC F cc nL own ret rm nm tb) {r idx ci N : Nat} {Cn : String} {T : u_T} {ty : Nat → FieldType} {fs : List Value} (hc : xCi ci Cn T N ty) (hl : Cond.classLink own idx Cn ∈ lw_all) (hi : Cond.instantiable Cn N ∈ lw_all) (hini : Cond.initialized Cn ∈ lw_all) (hr : ct r = none) (hfs : ∀ j, j < N → defaultValue (ty j) = vp_V fs j) (hcs : cells + 1 ≤ rm.cells ∧ slots + N ≤ rm.slots) (hdg : decode cc pc = .ok (.new idx, 3))
    (kk : ∀ ad' : Nat → Nat, (∀ x, x ≠ r → ad' x = ad x) → xX F Q ad' (xu ct r (.inr (ci, fs))) (cells + 1) (slots + N) (pc + 3) lv (.ref (ad' r) :: rest)) : xX F Q ad ct cells slots pc lv rest := by
  intro H locs ls w hS h0
  obtain ⟨ws, hP, hD, hws⟩ := xw_list w
  refine va_new C.hx C.hb C.hts hc.2.1 ty hc.2.2.1 C.hown (C.hts _ hl) (C.hts _ hi) (C.hts _ hini) C.K hP hD hS C.hA hc.1 hfs (by rw [C.hR]; exact hcs.1) (by rw [C.hR]; exact hcs.2) hdg (fun q H1 hP1 hD1 hS1 => ?_)
  have h := kk (xa ad r q) (fun x hx => xa_n hx) H1 locs ls (xw_push w hws hr hP1 hD1) hS1 h0
  rw [xa_s] at h
  exact h
theorem x_newA (C : xC F cc nL own ret rm nm tb) (t0 : Nat) {cA0 : ClassId} {atype : ArrayType} {ty : FieldType} (hty : newarray.typeOf atype = ty) (hcl : Cond.arrayClass (newarray.typeOf atype) ∈ lw_all) (ht : (xtys F.1.2.2.1)[t0]? = some (cA0, ty)) (hra : ∀ cA, va_RA F.2.2.1.1 cA ty → F.2.2.1.1.vm.findClass ("[" ++ ty.toString) = some cA) {r : Nat} {n : Int32} {N' : Nat} {a0 : vp_A} (ha : ∀ cA : ClassId, vp_cell cA a0 = arrV cA N' (fun _ => defaultValue ty)) (hr : ct r = none) (hn : ¬ n < 0) (hN : n.toNatClampNeg = N') (hbytes : N' * componentBytes ty ≤ 536870912) (hcs : cells + 1 ≤ rm.cells ∧ slots + N' ≤ rm.slots) (hdg : decode cc pc = .ok (.newarray atype, 2))
    (kk : ∀ ad' : Nat → Nat, (∀ x, x ≠ r → ad' x = ad x) → xX F Q ad' (xu ct r (.inl (cA0, a0))) (cells + 1) (slots + N') (pc + 2) lv (.ref (ad' r) :: rest)) : xX F Q ad ct cells slots pc lv (.int n :: rest) := by
  intro H locs ls w hS h0
  obtain ⟨ws, hP, hD, hws⟩ := xw_list w
  refine va_newa C.hx C.hb (C.hts _ hcl) hty C.K hP hD hS C.hA ha hn hN hbytes (by rw [C.hR]; exact hcs.1) (by rw [C.hR]; exact hcs.2) hdg (fun q cA H1 hK1 hP1 hD1 hS1 => ?_)
  have e1 := hra _ (C.K.2 t0 _ ht).2
  have e2 := hra _ (hK1.2 (xtys F.1.2.2.1).length (cA, ty) (by rw [List.getElem?_append_right (Nat.le_refl _), Nat.sub_self]; rfl)).2
  cases Option.some.inj (e1.symm.trans e2)
  have h := kk (xa ad r q) (fun x hx => xa_n hx) H1 locs ls (xw_push w hws hr hP1 hD1) hS1 h0
  rw [xa_s] at h
  exact h
theorem x_newI (C : xC F cc nL own ret rm nm tb) {r : Nat} {n : Int32} (N' : Nat) (hr : ct r = none) (hn : ¬ n < 0) (hN : n.toNatClampNeg = N') (hbytes : N' * 4 ≤ 536870912) (hcs : cells + 1 ≤ rm.cells ∧ slots + N' ≤ rm.slots) (hdg : decode cc pc = .ok (.newarray .int, 2))
    (kk : ∀ ad' : Nat → Nat, (∀ x, x ≠ r → ad' x = ad x) → xX F Q ad' (xu ct r (.inl (F.1.2.2.1 1000, N', .inl (fun _ => 0)))) (cells + 1) (slots + N') (pc + 2) lv (.ref (ad' r) :: rest)) : xX F Q ad ct cells slots pc lv (.int n :: rest) :=
  x_newA C 0 (atype := .int) (ty := .int) rfl q560 rfl (fun _ h => h) (fun _ => rfl) hr hn hN hbytes hcs hdg kk
theorem x_newZ (C : xC F cc nL own ret rm nm tb) {r : Nat} {n : Int32} (N' : Nat) (hr : ct r = none) (hn : ¬ n < 0) (hN : n.toNatClampNeg = N') (hbytes : N' * 1 ≤ 536870912) (hcs : cells + 1 ≤ rm.cells ∧ slots + N' ≤ rm.slots) (hdg : decode cc pc = .ok (.newarray .boolean, 2))
    (kk : ∀ ad' : Nat → Nat, (∀ x, x ≠ r → ad' x = ad x) → xX F Q ad' (xu ct r (.inl (F.1.2.2.1 1001, N', .inl (fun _ => 0)))) (cells + 1) (slots + N') (pc + 2) lv (.ref (ad' r) :: rest)) : xX F Q ad ct cells slots pc lv (.int n :: rest) :=
  x_newA C 1 (atype := .boolean) (ty := .boolean) rfl q847 rfl (fun _ h => h) (fun _ => rfl) hr hn hN hbytes hcs hdg kk
theorem x_newJ (C : xC F cc nL own ret rm nm tb) {r : Nat} {n : Int32} (N' : Nat) (hr : ct r = none) (hn : ¬ n < 0) (hN : n.toNatClampNeg = N') (hbytes : N' * 8 ≤ 536870912) (hcs : cells + 1 ≤ rm.cells ∧ slots + N' ≤ rm.slots) (hdg : decode cc pc = .ok (.newarray .long, 2))
    (kk : ∀ ad' : Nat → Nat, (∀ x, x ≠ r → ad' x = ad x) → xX F Q ad' (xu ct r (.inl (F.1.2.2.1 1002, N', .inr (.inl (fun _ => 0))))) (cells + 1) (slots + N') (pc + 2) lv (.ref (ad' r) :: rest)) : xX F Q ad ct cells slots pc lv (.int n :: rest) :=
  x_newA C 2 (atype := .long) (ty := .long) rfl q1264 rfl (fun _ h => h) (fun _ => rfl) hr hn hN hbytes hcs hdg kk
theorem x_newD (C : xC F cc nL own ret rm nm tb) {r : Nat} {n : Int32} (N' : Nat) (hr : ct r = none) (hn : ¬ n < 0) (hN : n.toNatClampNeg = N') (hbytes : N' * 8 ≤ 536870912) (hcs : cells + 1 ≤ rm.cells ∧ slots + N' ≤ rm.slots) (hdg : decode cc pc = .ok (.newarray .double, 2))
    (kk : ∀ ad' : Nat → Nat, (∀ x, x ≠ r → ad' x = ad x) → xX F Q ad' (xu ct r (.inl (F.1.2.2.1 1003, N', .inr (.inr (.inr (.inl (fun _ => 0))))))) (cells + 1) (slots + N') (pc + 2) lv (.ref (ad' r) :: rest)) : xX F Q ad ct cells slots pc lv (.int n :: rest) :=
  x_newA C 3 (atype := .double) (ty := .double) rfl q1265 rfl (fun _ h => h) (fun _ => rfl) hr hn hN hbytes hcs hdg kk
/-- new Object[n] -/
theorem x_newO (C : xC F cc nL own ret rm nm tb) {r idx : Nat} {n : Int32} (N' : Nat) (hl : Cond.classLink own idx "java/lang/Object" ∈ lw_all) (hr : ct r = none) (hn : ¬ n < 0) (hN : n.toNatClampNeg = N') (hbytes : N' * 4 ≤ 536870912) (hcs : cells + 1 ≤ rm.cells ∧ slots + N' ≤ rm.slots) (hdg : decode cc pc = .ok (.anewarray idx, 3))
    (kk : ∀ ad' : Nat → Nat, (∀ x, x ≠ r → ad' x = ad x) → xX F Q ad' (xu ct r (.inl (F.1.2.2.1 1004, N', .inr (.inr (.inr (.inr (fun _ => none))))))) (cells + 1) (slots + N') (pc + 3) lv (.ref (ad' r) :: rest)) : xX F Q ad ct cells slots pc lv (.int n :: rest) := by
  intro H locs ls w hS h0
  obtain ⟨ws, hP, hD, hws⟩ := xw_list w
  refine va_newq C.hx C.hb C.hown (C.hts _ hl) C.S.1.2.1 C.K hP hD hS C.hA hn hN hbytes (by rw [C.hR]; exact hcs.1) (by rw [C.hR]; exact hcs.2) hdg (fun q cA H1 hK1 hP1 hD1 hS1 => ?_)
  obtain ⟨-, -, -, -, -, e1⟩ := (C.K.2 4 (F.1.2.2.1 1004, .object "java/lang/Object") rfl).2
  obtain ⟨-, -, -, -, -, e2⟩ := (hK1.2 (xtys F.1.2.2.1).length (cA, .object "java/lang/Object") (by rw [List.getElem?_append_right (Nat.le_refl _), Nat.sub_self]; rfl)).2
  cases Option.some.inj (e1.symm.trans e2)
  have h := kk (xa ad r q) (fun x hx => xa_n hx) H1 locs ls (xw_push w hws hr hP1 hD1) hS1 h0
  rw [xa_s] at h
  exact h
theorem x_getEmpty (C : xC F cc nL own ret rm nm tb) {idx : Nat} (hl : Cond.fieldLink own idx "java/util/ArrayList" "DEFAULTCAPACITY_EMPTY_ELEMENTDATA" "[Ljava/lang/Object;" ∈ lw_all) (hdg : decode cc pc = .ok (.getstatic idx, 3))
    (kk : xX F Q ad ct cells slots (pc + 3) lv (.ref (F.1.2.2.1 301) :: rest)) : xX F Q ad ct cells slots pc lv rest :=
  fun H locs ls w hS h0 => va_gets C.hx C.hb C.S.2.2.2.2.2.2.2.1 hS C.hown (C.hts _ hl) (fun _ h => h) hdg (kk H locs ls w hS h0)
/-- another name of the same world -/
theorem x_sub {ad' : Nat → Nat} {ct' : xCt} {st : List Value} (hs : ∀ r e, ct' r = some e → ct r = some e ∧ ad' r = ad r) (k : xX F Q ad' ct' cells slots pc lv st) : xX F Q ad ct cells slots pc lv st :=
  fun H locs ls w hS h0 => k H locs ls (xw_sub w hs) hS h0
theorem x_wid {c' s' : Nat} {st : List Value} (h1 : cells ≤ c') (h2 : slots ≤ s') (k : xX F Q ad ct c' s' pc lv st) : xX F Q ad ct cells slots pc lv st :=
  fun H locs ls w hS h0 => W.widen h1 h2 (k H locs ls w hS h0)
/-- fewer locals -/
theorem x_lv {lv' : List (Nat × Value)} {st : List Value} (ks : List Nat) (hl : lv_pick lv ks = lv') (k : xX F Q ad ct cells slots pc lv' st) : xX F Q ad ct cells slots pc lv st :=
  fun H locs ls w hS h0 => k H locs ls w hS (lv_sub h0 ks hl)
theorem x_objInit (C : xC F cc nL own ret rm nm tb) {idx a : Nat} (hl : Cond.methodLink own idx objectInit ∈ lw_all) (hi : Cond.instanceMethod objectInit ∈ lw_all) (hc : Cond.code objectInit ⟨#[0xb1]⟩ 1 none ∈ lw_all) (hR : 1 ≤ rm.frames ∧ (rest.map fun v => v.category).sum + 12 ≤ rm.locals) (hdg : decode cc pc = .ok (.invokespecial idx, 3))
    (kk : xX F Q ad ct cells slots (pc + 3) lv rest) : xX F Q ad ct cells slots pc lv (.ref a :: rest) := by
  intro H locs ls w hS h0
  exact W.objInit C.hx C.hb C.hown (C.hts _ hl) (C.hts _ hi) (C.hts _ hc) (g := F0 F.2.2.1.2.1 pc ls (.ref a :: rest)) rfl h0.1 rfl hdg (by rw [C.hR]; exact hR.1) (by rw [C.hR]; show 2 * 0 + _ + 12 ≤ _; have := hR.2; omega) (kk H locs ls w hS h0)
theorem x_lcmp (C : xC F cc nL own ret rm nm tb) {x y : Int64} (hdg : decode cc pc = .ok (.lcmp, 1)) (k : xX F Q ad ct cells slots (pc + 1) lv (.int (lg_cmp x y) :: rest)) : xX F Q ad ct cells slots pc lv (.long y :: .long x :: rest) :=
  fun H locs ls w hS h0 => W.lcmp C.hx C.hb hdg (k H locs ls w hS h0)
theorem x_dcmp (C : xC F cc nL own ret rm nm tb) {x y : UInt64} {op : CmpOp} (hdg : decode cc pc = .ok (.dcmp op, 1)) (k : xX F Q ad ct cells slots (pc + 1) lv (.int (Op.cmpValue (FP.dcmp x y) op) :: rest)) : xX F Q ad ct cells slots pc lv (.double y :: .double x :: rest) :=
  fun H locs ls w hS h0 => lv_dcmp C.hx C.hb hdg (k H locs ls w hS h0)
theorem x_fcmp (C : xC F cc nL own ret rm nm tb) {x y : UInt32} {op : CmpOp} (hdg : decode cc pc = .ok (.fcmp op, 1)) (k : xX F Q ad ct cells slots (pc + 1) lv (.int (Op.cmpValue (FP.fcmp x y) op) :: rest)) : xX F Q ad ct cells slots pc lv (.float y :: .float x :: rest) :=
  fun H locs ls w hS h0 => lv_fcmp C.hx C.hb hdg (k H locs ls w hS h0)
end XHEAP
/-! ===== CALLS, RETURNS, THROWS ===== -/
section XCALL
variable {F : xFr} {cc : ByteArray} {nL : Nat} {own : String} {ret : Option FieldType} {rm : Room} {nm : String} {tb : List ExceptionTableEntry} {Q : State → Prop} {ad : Nat → Nat} {ct : xCt} {cells slots pc : Nat} {lv : List (Nat × Value)} {rest st : List Value}
variable {y : MethodName} {ws : List Cond} {bytes : ByteArray} {maxL : Nat} {ret' : Option FieldType} {fr lo mc ms : Nat} {As : List Value} {b : Nat} {Post : Option Value → (Nat → Nat) → xCt → Prop} {PX : String → (Nat → Nat) → xCt → Prop}
theorem xPc_blind {G : xG} {av : List Value} : FrameBlind (xPc G av ad ct) := fun a U g mk q => by
  obtain ⟨q0, q1, q2, q3, q4⟩ := q
  exact ⟨q0, q1, xS.warm (s := U) (U := U.calling g mk a) (State.WarmedH.refl U) q2, q3, q4⟩
theorem xPc_here (C : xC F cc nL own ret rm nm tb) {H : Heap} {locs : List Loc} {av : List Value} (w : xw F.1 ad ct H) (hS : va_S (xA F.1) F.2.2.1.1.heap H locs) : ∀ U : State, U.heap = H → F.2.2.1.1.WarmedH U.vm → xPc F.1 av ad ct av.toArray U := by
  intro U hU hW
  refine ⟨rfl, by rw [hU]; exact w, ?_, ?_, C.hl⟩
  · rw [hU]
    exact xS.warm hW (C.S.kept hS.2.1)
  · rw [hU]
    exact Nat.le_trans C.hB hS.1
theorem x_of_run {a : Array Value} (hr : ∀ (H : Heap) (locs : List Loc) (ls : Array Slot), xw F.1 ad ct H → va_S (xA F.1) F.2.2.1.1.heap H locs → lv_has ls F.2.2.2.2.maxLocals lv →
      vx_Run F.2.1.1 F.1.1 F.2.1.2.1 F.2.1.2.2 F.2.2.1.1 F.2.2.1.2.1 F.2.2.1.2.2.1 F.2.2.1.2.2.2 F.2.2.2.1 F.2.2.2.2 H locs cells slots mc ms (F0 F.2.2.1.2.1 pc ls st) rest (xQc F.1 Post a) (xXc F.1 PX) (xA F.1))
    (kn : ∀ v ad' ct', Post v ad' ct' → xX F Q ad' ct' (cells + mc) (slots + ms) (pc + 3) lv (v.toList ++ rest)) (kx : ∀ E ad' ct', PX E ad' ct' → xT F Q ad' ct' (cells + mc) (slots + ms) pc lv E) : xX F Q ad ct cells slots pc lv st := by
  intro H locs ls w hS h0 T hT X
  rcases hr H locs ls w hS h0 T hT X with ⟨v, st₀, t, T', L, h9, X', hL, e1, e2, ⟨⟨v', ad', ct', hv, hp, hw⟩, hF⟩, stp⟩ | ⟨q, st₀, t, T', L, E, ce, h9, X', hL, e1, e2, ⟨⟨ad', ct', hp, hw⟩, hF⟩, hce, hcv, hcl, stp⟩
  · cases hv
    obtain ⟨k1, k2, k3⟩ := vx_keep h9 e1 hS (fun q _ h => h) (fun q h => h) hL hF
    obtain ⟨t2, a1, b1⟩ := kn v ad' ct' hp T'.heap (locs ++ L) ls (by rw [e1]; exact hw) k3 h0 T' rfl X'
    exact ⟨t2, stp t2 a1, b1⟩
  · obtain ⟨k1, k2, k3⟩ := vx_keep h9 e1 hS (fun q _ h => h) (fun q h => h) hL hF
    obtain ⟨t2, a1, b1⟩ := kx E ad' ct' hp T'.heap (locs ++ L) ls q ce rest (by rw [e1]; exact hw) k3 h0 (by rw [e1]; exact hce) hcv hcl T' rfl X'
    exact ⟨t2, stp.trans a1, b1⟩
theorem x_of_run5 {a : Array Value} (hr : ∀ (H : Heap) (locs : List Loc) (ls : Array Slot), xw F.1 ad ct H → va_S (xA F.1) F.2.2.1.1.heap H locs → lv_has ls F.2.2.2.2.maxLocals lv →
      vx_Run5 F.2.1.1 F.1.1 F.2.1.2.1 F.2.1.2.2 F.2.2.1.1 F.2.2.1.2.1 F.2.2.1.2.2.1 F.2.2.1.2.2.2 F.2.2.2.1 F.2.2.2.2 H locs cells slots mc ms (F0 F.2.2.1.2.1 pc ls st) rest (xQc F.1 Post a) (xXc F.1 PX) (xA F.1))
    (kn : ∀ v ad' ct', Post v ad' ct' → xX F Q ad' ct' (cells + mc) (slots + ms) (pc + 5) lv (v.toList ++ rest)) (kx : ∀ E ad' ct', PX E ad' ct' → xT F Q ad' ct' (cells + mc) (slots + ms) pc lv E) : xX F Q ad ct cells slots pc lv st := by
  intro H locs ls w hS h0 T hT X
  rcases hr H locs ls w hS h0 T hT X with ⟨v, st₀, t, T', L, h9, X', hL, e1, e2, ⟨⟨v', ad', ct', hv, hp, hw⟩, hF⟩, stp⟩ | ⟨q, st₀, t, T', L, E, ce, h9, X', hL, e1, e2, ⟨⟨ad', ct', hp, hw⟩, hF⟩, hce, hcv, hcl, stp⟩
  · cases hv
    obtain ⟨k1, k2, k3⟩ := vx_keep h9 e1 hS (fun q _ h => h) (fun q h => h) hL hF
    obtain ⟨t2, a1, b1⟩ := kn v ad' ct' hp T'.heap (locs ++ L) ls (by rw [e1]; exact hw) k3 h0 T' rfl X'
    exact ⟨t2, stp t2 a1, b1⟩
  · obtain ⟨k1, k2, k3⟩ := vx_keep h9 e1 hS (fun q _ h => h) (fun q h => h) hL hF
    obtain ⟨t2, a1, b1⟩ := kx E ad' ct' hp T'.heap (locs ++ L) ls q ce rest (by rw [e1]; exact hw) k3 h0 (by rw [e1]; exact hce) hcv hcl T' rfl X'
    exact ⟨t2, stp.trans a1, b1⟩
theorem x_callV (C : xC F cc nL own ret rm nm tb) {Cn : String} {idx : Nat} (hM : xM F.1 y (ws_ y bytes maxL ret') fr lo mc ms (.ref b :: As) ad ct Post PX) (hT : GoodIn lw_all (wsV own idx Cn y (ws_ y bytes maxL ret')))
    (hd : y.cls = Cn ∧ y.cls ≠ "java/lang/invoke/MethodHandle" ∧ y.cls ≠ "java/lang/invoke/VarHandle" ∧ (parseMethodDescriptor y.desc).map (fun d => d.parameters.length) = some As.length) (hR : fr + 1 ≤ rm.frames ∧ 8 + (maxL + 11) + lo ≤ rm.locals)
    (hrc : xR F.1 ad ct Cn b) (hst : st = As.reverse ++ .ref b :: rest) (hw : (rest.map fun v => v.category).sum ≤ 8) (hf : cells + mc ≤ rm.cells ∧ slots + ms ≤ rm.slots) (hdg : decode cc pc = .ok (.invokevirtual idx, 3))
    (kn : ∀ v ad' ct', Post v ad' ct' → xX F Q ad' ct' (cells + mc) (slots + ms) (pc + 3) lv (v.toList ++ rest)) (kx : ∀ E ad' ct', PX E ad' ct' → xT F Q ad' ct' (cells + mc) (slots + ms) pc lv E) : xX F Q ad ct cells slots pc lv st := by
  refine x_of_run (a := (Value.ref b :: As).toArray) (fun H locs ls w hS h0 => ?_) kn kx
  exact vx_runV C.fix hM (cwV As.length C.hts hT rfl rfl rfl hd (by rw [C.hR]; exact hR)) ⟨xPc_blind, xR_recv C w hS hrc, xPc_here C w hS⟩ rfl rfl (h0.1.trans C.hml) hst (lv_room hw) hdg (by rw [C.hR]; exact hf)
/-- an inherited method, or one that is overridden: called by the name x, run as y -/
theorem x_callU (C : xC F cc nL own ret rm nm tb) {Cn owner : String} {x : MethodName} {idx : Nat} (hM : xM F.1 y (ws_ y bytes maxL ret') fr lo mc ms (.ref b :: As) ad ct Post PX)
    (cw : va_CU F.2.1.2.2 F.2.2.1.1 F.2.2.1.2.2.1 own Cn owner idx x y bytes maxL ret' (ws_ y bytes maxL ret') ({ frames := fr, cells := mc, slots := ms, locals := lo } : Room) mc ms As.length)
    (hrc : xR F.1 ad ct Cn b) (hst : st = As.reverse ++ .ref b :: rest) (hw : (rest.map fun v => v.category).sum ≤ 8) (hf : cells + mc ≤ rm.cells ∧ slots + ms ≤ rm.slots) (hdg : decode cc pc = .ok (.invokevirtual idx, 3))
    (kn : ∀ v ad' ct', Post v ad' ct' → xX F Q ad' ct' (cells + mc) (slots + ms) (pc + 3) lv (v.toList ++ rest)) (kx : ∀ E ad' ct', PX E ad' ct' → xT F Q ad' ct' (cells + mc) (slots + ms) pc lv E) : xX F Q ad ct cells slots pc lv st := by
  refine x_of_run (a := (Value.ref b :: As).toArray) (fun H locs ls w hS h0 => ?_) kn kx
  exact vx_runU C.fix hM cw ⟨xPc_blind, xR_recv C w hS hrc, xPc_here C w hS⟩ rfl rfl (h0.1.trans C.hml) hst (lv_room hw) hdg (by rw [C.hR]; exact hf)
theorem x_callS (C : xC F cc nL own ret rm nm tb) {idx : Nat} (hM : xM F.1 y (ws_ y bytes maxL ret') fr lo mc ms As ad ct Post PX) (hT : GoodIn lw_all (va_wsS own idx y (ws_ y bytes maxL ret')))
    (hd : y.cls ≠ "java/lang/invoke/MethodHandle" ∧ y.cls ≠ "java/lang/invoke/VarHandle" ∧ (parseMethodDescriptor y.desc).map (fun d => d.parameters.length) = some As.length) (hR : fr + 1 ≤ rm.frames ∧ 8 + (maxL + 11) + lo ≤ rm.locals)
    (hst : st = As.reverse ++ rest) (hw : (rest.map fun v => v.category).sum ≤ 8) (hf : cells + mc ≤ rm.cells ∧ slots + ms ≤ rm.slots) (hdg : decode cc pc = .ok (.invokestatic idx, 3))
    (kn : ∀ v ad' ct', Post v ad' ct' → xX F Q ad' ct' (cells + mc) (slots + ms) (pc + 3) lv (v.toList ++ rest)) (kx : ∀ E ad' ct', PX E ad' ct' → xT F Q ad' ct' (cells + mc) (slots + ms) pc lv E) : xX F Q ad ct cells slots pc lv st := by
  refine x_of_run (a := As.toArray) (fun H locs ls w hS h0 => ?_) kn kx
  exact vx_runS C.fix hM (va_cwS As.length C.hts hT rfl rfl rfl hd (by rw [C.hR]; exact hR)) ⟨xPc_blind, xPc_here C w hS⟩ rfl rfl (h0.1.trans C.hml) hst (lv_room hw) hdg (by rw [C.hR]; exact hf)
theorem x_callI (C : xC F cc nL own ret rm nm tb) {idx : Nat} (hM : xM F.1 y (ws_ y bytes maxL none) fr lo mc ms (.ref b :: As) ad ct Post PX) (hcode : Cond.code y bytes maxL none ∈ lw_all) (hini : Cond.initialized y.cls ∈ lw_all) (hl : Cond.methodLink own idx y ∈ lw_all) (hin : Cond.instanceMethod y ∈ lw_all) (hy1 : y.name = "<init>")
    (hd : y.cls ≠ "java/lang/invoke/MethodHandle" ∧ y.cls ≠ "java/lang/invoke/VarHandle" ∧ (parseMethodDescriptor y.desc).map (fun d => d.parameters.length) = some As.length) (hR : fr + 1 ≤ rm.frames ∧ 8 + (maxL + 11) + lo ≤ rm.locals)
    (hst : st = As.reverse ++ .ref b :: rest) (hw : (rest.map fun v => v.category).sum ≤ 8) (hf : cells + mc ≤ rm.cells ∧ slots + ms ≤ rm.slots) (hdg : decode cc pc = .ok (.invokespecial idx, 3))
    (kn : ∀ v ad' ct', Post v ad' ct' → xX F Q ad' ct' (cells + mc) (slots + ms) (pc + 3) lv (v.toList ++ rest)) (kx : ∀ E ad' ct', PX E ad' ct' → xT F Q ad' ct' (cells + mc) (slots + ms) pc lv E) : xX F Q ad ct cells slots pc lv st := by
  refine x_of_run (a := (Value.ref b :: As).toArray) (fun H locs ls w hS h0 => ?_) kn kx
  exact vx_runI C.fix hM (cwI As.length C.hts (lw_meth hcode) rfl rfl rfl (C.hts _ hini) (C.hts _ hl) (C.hts _ hin) hy1 hd (by rw [C.hR]; exact hR)) ⟨xPc_blind, xPc_here C w hS⟩ rfl rfl (h0.1.trans C.hml) hst (lv_room hw) hdg (by rw [C.hR]; exact hf)
theorem x_callF (C : xC F cc nL own ret rm nm tb) {Cn : String} {x : MethodName} {idx cnt : Nat} (hM : xM F.1 y (ws_ y bytes maxL ret') fr lo mc ms (.ref b :: As) ad ct Post PX) (hT : GoodIn lw_all (va_wsF own idx Cn x y (ws_ y bytes maxL ret'))) (hF : (Cn, x, y) ∈ xface)
    (hd : x.cls ≠ "java/lang/invoke/MethodHandle" ∧ x.cls ≠ "java/lang/invoke/VarHandle" ∧ (parseMethodDescriptor x.desc).map (fun d => d.parameters.length) = some As.length) (hR : fr + 1 ≤ rm.frames ∧ 8 + (maxL + 11) + lo ≤ rm.locals)
    {ci N : Nat} {T : u_T} {ty : Nat → FieldType} (hci : xCi ci Cn T N ty) (hrc : xR F.1 ad ct Cn b) (hst : st = As.reverse ++ .ref b :: rest) (hw : (rest.map fun v => v.category).sum ≤ 8) (hf : cells + mc ≤ rm.cells ∧ slots + ms ≤ rm.slots) (hdg : decode cc pc = .ok (.invokeinterface idx cnt, 5))
    (kn : ∀ v ad' ct', Post v ad' ct' → xX F Q ad' ct' (cells + mc) (slots + ms) (pc + 5) lv (v.toList ++ rest)) (kx : ∀ E ad' ct', PX E ad' ct' → xT F Q ad' ct' (cells + mc) (slots + ms) pc lv E) : xX F Q ad ct cells slots pc lv st := by
  refine x_of_run5 (a := (Value.ref b :: As).toArray) (fun H locs ls w hS h0 => ?_) kn kx
  exact vx_runF (C.K.1 ci _ hci.1).2 C.fix hM (va_cwF As.length C.hts hT rfl rfl rfl (C.S.1.2.2.2.2.2.2.2.2.1 _ hF) hd (by rw [C.hR]; exact hR)) ⟨xPc_blind, xR_recv C w hS hrc, xPc_here C w hS⟩ rfl rfl (h0.1.trans C.hml) hst (lv_room hw) hdg (by rw [C.hR]; exact hf)
/-! the ends -/
variable {Post0 : Option Value → (Nat → Nat) → xCt → Prop} {PX0 : String → (Nat → Nat) → xCt → Prop} {mc0 ms0 : Nat}
theorem x_iret (C : xC F cc nL own (some .int) rm nm tb) {v : Int32} (hdg : decode cc pc = .ok (.ireturn, 1)) (hc : cells ≤ mc0) (hs : slots ≤ ms0) (hp : Post0 (some (.int v)) ad ct) : xX F (xQ F Post0 PX0 mc0 ms0) ad ct cells slots pc lv [.int v] :=
  fun H locs ls w hS h0 => vx_ret (W.widen hc hs (W.iret C.hx C.hb C.hr (fun t ht hW => ⟨⟨_, ad, ct, rfl, hp, by rw [ht]; exact w⟩, hS.F ht⟩) hS.2.2 hdg C.hlk))
theorem x_zret {ty : FieldType} (C : xC F cc nL own (some ty) rm nm tb) {v : Int32} (hn : narrow ty (.int v) = .int v) (hdg : decode cc pc = .ok (.ireturn, 1)) (hc : cells ≤ mc0) (hs : slots ≤ ms0) (hp : Post0 (some (.int v)) ad ct) : xX F (xQ F Post0 PX0 mc0 ms0) ad ct cells slots pc lv [.int v] :=
  fun H locs ls w hS h0 => vx_ret (W.widen hc hs (W.zret C.hx C.hb C.hr hn (fun t ht hW => ⟨⟨_, ad, ct, rfl, hp, by rw [ht]; exact w⟩, hS.F ht⟩) hS.2.2 hdg C.hlk))
theorem x_lret (C : xC F cc nL own (some .long) rm nm tb) {v : Int64} (hdg : decode cc pc = .ok (.lreturn, 1)) (hc : cells ≤ mc0) (hs : slots ≤ ms0) (hp : Post0 (some (.long v)) ad ct) : xX F (xQ F Post0 PX0 mc0 ms0) ad ct cells slots pc lv [.long v] :=
  fun H locs ls w hS h0 => vx_ret (W.widen hc hs (W.lret C.hx C.hb C.hr (fun t ht hW => ⟨⟨_, ad, ct, rfl, hp, by rw [ht]; exact w⟩, hS.F ht⟩) hS.2.2 hdg C.hlk))
theorem x_fret (C : xC F cc nL own (some .float) rm nm tb) {v : UInt32} (hdg : decode cc pc = .ok (.freturn, 1)) (hc : cells ≤ mc0) (hs : slots ≤ ms0) (hp : Post0 (some (.float v)) ad ct) : xX F (xQ F Post0 PX0 mc0 ms0) ad ct cells slots pc lv [.float v] :=
  fun H locs ls w hS h0 => vx_ret (W.widen hc hs (W.fret C.hx C.hb C.hr (fun t ht hW => ⟨⟨_, ad, ct, rfl, hp, by rw [ht]; exact w⟩, hS.F ht⟩) hS.2.2 hdg C.hlk))
theorem x_dret (C : xC F cc nL own (some .double) rm nm tb) {v : UInt64} (hdg : decode cc pc = .ok (.dreturn, 1)) (hc : cells ≤ mc0) (hs : slots ≤ ms0) (hp : Post0 (some (.double v)) ad ct) : xX F (xQ F Post0 PX0 mc0 ms0) ad ct cells slots pc lv [.double v] :=
  fun H locs ls w hS h0 => vx_ret (W.widen hc hs (W.dret C.hx C.hb C.hr (fun t ht hW => ⟨⟨_, ad, ct, rfl, hp, by rw [ht]; exact w⟩, hS.F ht⟩) hS.2.2 hdg C.hlk))
theorem x_vret (C : xC F cc nL own none rm nm tb) (hdg : decode cc pc = .ok (.return_, 1)) (hc : cells ≤ mc0) (hs : slots ≤ ms0) (hp : Post0 none ad ct) : xX F (xQ F Post0 PX0 mc0 ms0) ad ct cells slots pc lv [] :=
  fun H locs ls w hS h0 => vx_ret (W.widen hc hs (W.vret C.hx C.hb C.hr (fun t ht hW => ⟨⟨_, ad, ct, rfl, hp, by rw [ht]; exact w⟩, hS.F ht⟩) hS.2.2 hdg C.hlk))
theorem x_aret {rt : FieldType} (C : xC F cc nL own (some rt) rm nm tb) {v : Value} (hrt : (∃ n, rt = .object n) ∨ ∃ t, rt = .array t) (hv : v = .null ∨ ∃ a, v = .ref a) (hdg : decode cc pc = .ok (.areturn, 1)) (hc : cells ≤ mc0) (hs : slots ≤ ms0) (hp : Post0 (some v) ad ct) : xX F (xQ F Post0 PX0 mc0 ms0) ad ct cells slots pc lv [v] :=
  fun H locs ls w hS h0 => vx_ret (W.widen hc hs (W.aret C.hx C.hb C.hr hrt hv (fun t ht hW => ⟨⟨_, ad, ct, rfl, hp, by rw [ht]; exact w⟩, hS.F ht⟩) hS.2.2 hdg C.hlk))
/-- the exception goes on to the caller -/
theorem x_out (C : xC F cc nL own ret rm nm tb) {E : String} (hout : ∀ x ∈ tb, covers x pc = false) (hc : cells ≤ mc0) (hs : slots ≤ ms0) (hp : PX0 E ad ct) : xT F (xQ F Post0 PX0 mc0 ms0) ad ct cells slots pc lv E :=
  fun H locs ls q ce rest w hS h0 hce hcv hcl => vx_out (by rw [C.htb]; exact hout) C.hlk hce hcv hcl (fun t ht hW => ⟨⟨ad, ct, hp, by rw [ht]; exact w⟩, hS.F ht⟩) hS.2.2 hc hs
/-- .. past rows that name other classes -/
theorem x_outP (C : xC F cc nL own ret rm nm tb) {E : String} (hpass : ∀ z ∈ tb, covers z pc = false ∨ (z.catchType ≠ 0 ∧ ∃ n : String, Cond.classLink own z.catchType n ∈ lw_all ∧ (E, n) ∈ xnc)) (hc : cells ≤ mc0) (hs : slots ≤ ms0) (hp : PX0 E ad ct) : xT F (xQ F Post0 PX0 mc0 ms0) ad ct cells slots pc lv E :=
  fun H locs ls q ce rest w hS h0 hce hcv hcl => vx_outP C.hown C.hlk (by
    rw [C.htb]
    intro z hz
    rcases hpass z hz with h | ⟨h1, n, h2, h3⟩
    · exact Or.inl h
    · exact Or.inr ⟨h1, n, C.hts _ h2, C.S.1.2.2.2.2.2.2.2.2.2.1 _ h3⟩) hce hcv hcl (fun t ht hW => ⟨⟨ad, ct, hp, by rw [ht]; exact w⟩, hS.F ht⟩) hS.2.2 hc hs
/-- caught: the handler's row begins with the exception on the stack -/
theorem x_catch (C : xC F cc nL own ret rm nm tb) {E name : String} (pre : List ExceptionTableEntry) (x : ExceptionTableEntry) (suf : List ExceptionTableEntry) (hsp : tb = pre ++ x :: suf) (hpass : ∀ z ∈ pre, covers z pc = false ∨ (z.catchType ≠ 0 ∧ ∃ n : String, Cond.classLink own z.catchType n ∈ lw_all ∧ (E, n) ∈ xnc)) (hx : covers x pc = true) (h9 : x.catchType ≠ 0)
    (hl : Cond.classLink own x.catchType name ∈ lw_all) (hca : (E, name) ∈ xcast) (kk : ∀ q : Nat, xX F Q ad ct cells slots x.handlerPc lv [.ref q]) : xT F Q ad ct cells slots pc lv E :=
  fun H locs ls q ce rest w hS h0 hce hcv hcl => vx_catch C.hown pre x suf (by rw [C.htb]; exact hsp) (by
    intro z hz
    rcases hpass z hz with h | ⟨h1, n, h2, h3⟩
    · exact Or.inl h
    · exact Or.inr ⟨h1, n, C.hts _ h2, C.S.1.2.2.2.2.2.2.2.2.2.1 _ h3⟩) hx h9 (C.hts _ hl) (va_Nw.use rfl (C.S.1.2.2.2.2.2.2.1 _ hca)) hce hcv hcl (kk q H locs ls w hS h0)
end XCALL
