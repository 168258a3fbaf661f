/-! THE ROWS OVER G: the kit's rows, heap and locals put away (printed by tools/rows.py) -/
set_option maxRecDepth 100000
section GB2
variable {E : gE} {K : gM} {cc : ByteArray} {own : String} {nL : Nat} {rm : Room} {Z : gS} {I : gI} {ck sk pc : Nat} {L : List (Nat × Value)} {st : List Value}

theorem g_iconst (C : gC E K cc own nL rm) {n : Int} {v : Int32} (d : decode cc pc = .ok (.iconst n, 1)) (hv : Int32.ofInt n = v) (k : G E K Z I ck sk L (pc + 1) (.int v :: st)) : G E K Z I ck sk L pc (st) := by
  obtain ⟨⟨p, l, e, R, s, m, args, below, meth, c⟩, A, nL', Q⟩ := K
  obtain ⟨rfl, hx, hb, hml, rfl, hown, hts, rfl, hlk, hK, hA, hE⟩ := C
  intro H locs ls hW hS hl
  exact lv_iconst hx hb d hv (k H locs ls hW hS hl)
theorem g_bipush (C : gC E K cc own nL rm) {n : Int} {v : Int32} (d : decode cc pc = .ok (.bipush n, 2)) (hv : (Int8.ofInt n).toInt32 = v) (k : G E K Z I ck sk L (pc + 2) (.int v :: st)) : G E K Z I ck sk L pc (st) := by
  obtain ⟨⟨p, l, e, R, s, m, args, below, meth, c⟩, A, nL', Q⟩ := K
  obtain ⟨rfl, hx, hb, hml, rfl, hown, hts, rfl, hlk, hK, hA, hE⟩ := C
  intro H locs ls hW hS hl
  exact lv_bipush hx hb d hv (k H locs ls hW hS hl)
theorem g_sipush (C : gC E K cc own nL rm) {n : Int} {v : Int32} (d : decode cc pc = .ok (.sipush n, 3)) (hv : (Int16.ofInt n).toInt32 = v) (k : G E K Z I ck sk L (pc + 3) (.int v :: st)) : G E K Z I ck sk L pc (st) := by
  obtain ⟨⟨p, l, e, R, s, m, args, below, meth, c⟩, A, nL', Q⟩ := K
  obtain ⟨rfl, hx, hb, hml, rfl, hown, hts, rfl, hlk, hK, hA, hE⟩ := C
  intro H locs ls hW hS hl
  exact lv_sipush hx hb d hv (k H locs ls hW hS hl)
theorem g_lconst (C : gC E K cc own nL rm) {n : Fin 2} {v : Int64} (d : decode cc pc = .ok (.lconst n, 1)) (hv : Int64.ofNat (n : Nat) = v) (k : G E K Z I ck sk L (pc + 1) (.long v :: st)) : G E K Z I ck sk L pc (st) := by
  obtain ⟨⟨p, l, e, R, s, m, args, below, meth, c⟩, A, nL', Q⟩ := K
  obtain ⟨rfl, hx, hb, hml, rfl, hown, hts, rfl, hlk, hK, hA, hE⟩ := C
  intro H locs ls hW hS hl
  exact lv_lconst hx hb d hv (k H locs ls hW hS hl)
theorem g_ldc2 (C : gC E K cc own nL rm) {idx : Nat} {v : Int64} (d : decode cc pc = .ok (.ldc2_w idx, 3)) (q : Cond.constantLong own idx v ∈ lw_all) (k : G E K Z I ck sk L (pc + 3) (.long v :: st)) : G E K Z I ck sk L pc (st) := by
  obtain ⟨⟨p, l, e, R, s, m, args, below, meth, c⟩, A, nL', Q⟩ := K
  obtain ⟨rfl, hx, hb, hml, rfl, hown, hts, rfl, hlk, hK, hA, hE⟩ := C
  intro H locs ls hW hS hl
  exact lv_ldc2 hx hb hown (hts _ q) d (k H locs ls hW hS hl)
theorem g_ldc (C : gC E K cc own nL rm) {idx : Nat} {v : Int32} (d : decode cc pc = .ok (.ldc idx, 2)) (q : Cond.constant own idx v ∈ lw_all) (k : G E K Z I ck sk L (pc + 2) (.int v :: st)) : G E K Z I ck sk L pc (st) := by
  obtain ⟨⟨p, l, e, R, s, m, args, below, meth, c⟩, A, nL', Q⟩ := K
  obtain ⟨rfl, hx, hb, hml, rfl, hown, hts, rfl, hlk, hK, hA, hE⟩ := C
  intro H locs ls hW hS hl
  exact lv_ldc hx hb hown (hts _ q) d (k H locs ls hW hS hl)
theorem g_ldcw (C : gC E K cc own nL rm) {idx : Nat} {v : Int32} (d : decode cc pc = .ok (.ldc_w idx, 3)) (q : Cond.constant own idx v ∈ lw_all) (k : G E K Z I ck sk L (pc + 3) (.int v :: st)) : G E K Z I ck sk L pc (st) := by
  obtain ⟨⟨p, l, e, R, s, m, args, below, meth, c⟩, A, nL', Q⟩ := K
  obtain ⟨rfl, hx, hb, hml, rfl, hown, hts, rfl, hlk, hK, hA, hE⟩ := C
  intro H locs ls hW hS hl
  exact lv_ldcw hx hb hown (hts _ q) d (k H locs ls hW hS hl)
theorem g_null (C : gC E K cc own nL rm)  (d : decode cc pc = .ok (.aconst_null, 1))  (k : G E K Z I ck sk L (pc + 1) (.null :: st)) : G E K Z I ck sk L pc (st) := by
  obtain ⟨⟨p, l, e, R, s, m, args, below, meth, c⟩, A, nL', Q⟩ := K
  obtain ⟨rfl, hx, hb, hml, rfl, hown, hts, rfl, hlk, hK, hA, hE⟩ := C
  intro H locs ls hW hS hl
  exact lv_null hx hb d (k H locs ls hW hS hl)
theorem g_iload_n (C : gC E K cc own nL rm) {kf : Fin 4} {i : Nat} {x : Int32} (d : decode cc pc = .ok (.iload_n kf, 1)) (hi : (kf : Nat) = i) (kp : Nat) (hk : L[kp]? = some (i, .int x)) (k : G E K Z I ck sk L (pc + 1) (.int x :: st)) : G E K Z I ck sk L pc (st) := by
  obtain ⟨⟨p, l, e, R, s, m, args, below, meth, c⟩, A, nL', Q⟩ := K
  obtain ⟨rfl, hx, hb, hml, rfl, hown, hts, rfl, hlk, hK, hA, hE⟩ := C
  intro H locs ls hW hS hl
  exact lv_iload_n hx hb d hi (lv_at hl kp hk) (k H locs ls hW hS hl)
theorem g_iload (C : gC E K cc own nL rm) {i : Nat} {x : Int32} (d : decode cc pc = .ok (.iload i, 2)) (kp : Nat) (hk : L[kp]? = some (i, .int x)) (k : G E K Z I ck sk L (pc + 2) (.int x :: st)) : G E K Z I ck sk L pc (st) := by
  obtain ⟨⟨p, l, e, R, s, m, args, below, meth, c⟩, A, nL', Q⟩ := K
  obtain ⟨rfl, hx, hb, hml, rfl, hown, hts, rfl, hlk, hK, hA, hE⟩ := C
  intro H locs ls hW hS hl
  exact lv_iload hx hb d (lv_at hl kp hk) (k H locs ls hW hS hl)
theorem g_istore_n (C : gC E K cc own nL rm) {kf : Fin 4} {i : Nat} {x : Int32} {L' : List (Nat × Value)} (d : decode cc pc = .ok (.istore_n kf, 1)) (hi : (kf : Nat) = i) (hn : i < nL) (hL : (i, Value.int x) :: L.filter (fun q => !(q.1 == i) && !(q.1 + 1 == i && q.2.category == 2)) = L') (k : G E K Z I ck sk L' (pc + 1) st) : G E K Z I ck sk L pc (.int x :: st) := by
  obtain ⟨⟨p, l, e, R, s, m, args, below, meth, c⟩, A, nL', Q⟩ := K
  obtain ⟨rfl, hx, hb, hml, rfl, hown, hts, rfl, hlk, hK, hA, hE⟩ := C
  intro H locs ls hW hS hl
  exact lv_istore_n hx hb d hi hl hn hL (fun ls' hl' => k H locs ls' hW hS hl')
theorem g_istore (C : gC E K cc own nL rm) {i : Nat} {x : Int32} {L' : List (Nat × Value)} (d : decode cc pc = .ok (.istore i, 2)) (hn : i < nL) (hL : (i, Value.int x) :: L.filter (fun q => !(q.1 == i) && !(q.1 + 1 == i && q.2.category == 2)) = L') (k : G E K Z I ck sk L' (pc + 2) st) : G E K Z I ck sk L pc (.int x :: st) := by
  obtain ⟨⟨p, l, e, R, s, m, args, below, meth, c⟩, A, nL', Q⟩ := K
  obtain ⟨rfl, hx, hb, hml, rfl, hown, hts, rfl, hlk, hK, hA, hE⟩ := C
  intro H locs ls hW hS hl
  exact lv_istore hx hb d hl hn hL (fun ls' hl' => k H locs ls' hW hS hl')
theorem g_lload_n (C : gC E K cc own nL rm) {kf : Fin 4} {i : Nat} {x : Int64} (d : decode cc pc = .ok (.lload_n kf, 1)) (hi : (kf : Nat) = i) (kp : Nat) (hk : L[kp]? = some (i, .long x)) (k : G E K Z I ck sk L (pc + 1) (.long x :: st)) : G E K Z I ck sk L pc (st) := by
  obtain ⟨⟨p, l, e, R, s, m, args, below, meth, c⟩, A, nL', Q⟩ := K
  obtain ⟨rfl, hx, hb, hml, rfl, hown, hts, rfl, hlk, hK, hA, hE⟩ := C
  intro H locs ls hW hS hl
  exact lv_lload_n hx hb d hi (lv_at hl kp hk) (k H locs ls hW hS hl)
theorem g_lload (C : gC E K cc own nL rm) {i : Nat} {x : Int64} (d : decode cc pc = .ok (.lload i, 2)) (kp : Nat) (hk : L[kp]? = some (i, .long x)) (k : G E K Z I ck sk L (pc + 2) (.long x :: st)) : G E K Z I ck sk L pc (st) := by
  obtain ⟨⟨p, l, e, R, s, m, args, below, meth, c⟩, A, nL', Q⟩ := K
  obtain ⟨rfl, hx, hb, hml, rfl, hown, hts, rfl, hlk, hK, hA, hE⟩ := C
  intro H locs ls hW hS hl
  exact lv_lload hx hb d (lv_at hl kp hk) (k H locs ls hW hS hl)
theorem g_lstore_n (C : gC E K cc own nL rm) {kf : Fin 4} {i : Nat} {x : Int64} {L' : List (Nat × Value)} (d : decode cc pc = .ok (.lstore_n kf, 1)) (hi : (kf : Nat) = i) (hn : i + 1 < nL) (hL : (i, Value.long x) :: L.filter (fun q => !(q.1 == i) && (!(q.1 == i + 1) && !(q.1 + 1 == i && q.2.category == 2))) = L') (k : G E K Z I ck sk L' (pc + 1) st) : G E K Z I ck sk L pc (.long x :: st) := by
  obtain ⟨⟨p, l, e, R, s, m, args, below, meth, c⟩, A, nL', Q⟩ := K
  obtain ⟨rfl, hx, hb, hml, rfl, hown, hts, rfl, hlk, hK, hA, hE⟩ := C
  intro H locs ls hW hS hl
  exact lv_lstore_n hx hb d hi hl hn hL (fun ls' hl' => k H locs ls' hW hS hl')
theorem g_lstore (C : gC E K cc own nL rm) {i : Nat} {x : Int64} {L' : List (Nat × Value)} (d : decode cc pc = .ok (.lstore i, 2)) (hn : i + 1 < nL) (hL : (i, Value.long x) :: L.filter (fun q => !(q.1 == i) && (!(q.1 == i + 1) && !(q.1 + 1 == i && q.2.category == 2))) = L') (k : G E K Z I ck sk L' (pc + 2) st) : G E K Z I ck sk L pc (.long x :: st) := by
  obtain ⟨⟨p, l, e, R, s, m, args, below, meth, c⟩, A, nL', Q⟩ := K
  obtain ⟨rfl, hx, hb, hml, rfl, hown, hts, rfl, hlk, hK, hA, hE⟩ := C
  intro H locs ls hW hS hl
  exact lv_lstore hx hb d hl hn hL (fun ls' hl' => k H locs ls' hW hS hl')
theorem g_aload_n (C : gC E K cc own nL rm) {kf : Fin 4} {i : Nat} {x : Nat} (d : decode cc pc = .ok (.aload_n kf, 1)) (hi : (kf : Nat) = i) (kp : Nat) (hk : L[kp]? = some (i, .ref x)) (k : G E K Z I ck sk L (pc + 1) (.ref x :: st)) : G E K Z I ck sk L pc (st) := by
  obtain ⟨⟨p, l, e, R, s, m, args, below, meth, c⟩, A, nL', Q⟩ := K
  obtain ⟨rfl, hx, hb, hml, rfl, hown, hts, rfl, hlk, hK, hA, hE⟩ := C
  intro H locs ls hW hS hl
  exact lv_aload_n hx hb d hi (lv_at hl kp hk) (k H locs ls hW hS hl)
theorem g_aload (C : gC E K cc own nL rm) {i : Nat} {x : Nat} (d : decode cc pc = .ok (.aload i, 2)) (kp : Nat) (hk : L[kp]? = some (i, .ref x)) (k : G E K Z I ck sk L (pc + 2) (.ref x :: st)) : G E K Z I ck sk L pc (st) := by
  obtain ⟨⟨p, l, e, R, s, m, args, below, meth, c⟩, A, nL', Q⟩ := K
  obtain ⟨rfl, hx, hb, hml, rfl, hown, hts, rfl, hlk, hK, hA, hE⟩ := C
  intro H locs ls hW hS hl
  exact lv_aload hx hb d (lv_at hl kp hk) (k H locs ls hW hS hl)
theorem g_astore_n (C : gC E K cc own nL rm) {kf : Fin 4} {i : Nat} {x : Nat} {L' : List (Nat × Value)} (d : decode cc pc = .ok (.astore_n kf, 1)) (hi : (kf : Nat) = i) (hn : i < nL) (hL : (i, Value.ref x) :: L.filter (fun q => !(q.1 == i) && !(q.1 + 1 == i && q.2.category == 2)) = L') (k : G E K Z I ck sk L' (pc + 1) st) : G E K Z I ck sk L pc (.ref x :: st) := by
  obtain ⟨⟨p, l, e, R, s, m, args, below, meth, c⟩, A, nL', Q⟩ := K
  obtain ⟨rfl, hx, hb, hml, rfl, hown, hts, rfl, hlk, hK, hA, hE⟩ := C
  intro H locs ls hW hS hl
  exact lv_astore_n hx hb d hi hl hn hL (fun ls' hl' => k H locs ls' hW hS hl')
theorem g_astore (C : gC E K cc own nL rm) {i : Nat} {x : Nat} {L' : List (Nat × Value)} (d : decode cc pc = .ok (.astore i, 2)) (hn : i < nL) (hL : (i, Value.ref x) :: L.filter (fun q => !(q.1 == i) && !(q.1 + 1 == i && q.2.category == 2)) = L') (k : G E K Z I ck sk L' (pc + 2) st) : G E K Z I ck sk L pc (.ref x :: st) := by
  obtain ⟨⟨p, l, e, R, s, m, args, below, meth, c⟩, A, nL', Q⟩ := K
  obtain ⟨rfl, hx, hb, hml, rfl, hown, hts, rfl, hlk, hK, hA, hE⟩ := C
  intro H locs ls hW hS hl
  exact lv_astore hx hb d hl hn hL (fun ls' hl' => k H locs ls' hW hS hl')
theorem g_aload_nN (C : gC E K cc own nL rm) {kf : Fin 4} {i : Nat} (d : decode cc pc = .ok (.aload_n kf, 1)) (hi : (kf : Nat) = i) (kp : Nat) (hk : L[kp]? = some (i, .null)) (k : G E K Z I ck sk L (pc + 1) (.null :: st)) : G E K Z I ck sk L pc (st) := by
  obtain ⟨⟨p, l, e, R, s, m, args, below, meth, c⟩, A, nL', Q⟩ := K
  obtain ⟨rfl, hx, hb, hml, rfl, hown, hts, rfl, hlk, hK, hA, hE⟩ := C
  intro H locs ls hW hS hl
  exact lv_aload_nN hx hb d hi (lv_at hl kp hk) (k H locs ls hW hS hl)
theorem g_aloadN (C : gC E K cc own nL rm) {i : Nat} (d : decode cc pc = .ok (.aload i, 2)) (kp : Nat) (hk : L[kp]? = some (i, .null)) (k : G E K Z I ck sk L (pc + 2) (.null :: st)) : G E K Z I ck sk L pc (st) := by
  obtain ⟨⟨p, l, e, R, s, m, args, below, meth, c⟩, A, nL', Q⟩ := K
  obtain ⟨rfl, hx, hb, hml, rfl, hown, hts, rfl, hlk, hK, hA, hE⟩ := C
  intro H locs ls hW hS hl
  exact lv_aloadN hx hb d (lv_at hl kp hk) (k H locs ls hW hS hl)
theorem g_astore_nN (C : gC E K cc own nL rm) {kf : Fin 4} {i : Nat} {L' : List (Nat × Value)} (d : decode cc pc = .ok (.astore_n kf, 1)) (hi : (kf : Nat) = i) (hn : i < nL) (hL : (i, Value.null) :: L.filter (fun q => !(q.1 == i) && !(q.1 + 1 == i && q.2.category == 2)) = L') (k : G E K Z I ck sk L' (pc + 1) st) : G E K Z I ck sk L pc (.null :: st) := by
  obtain ⟨⟨p, l, e, R, s, m, args, below, meth, c⟩, A, nL', Q⟩ := K
  obtain ⟨rfl, hx, hb, hml, rfl, hown, hts, rfl, hlk, hK, hA, hE⟩ := C
  intro H locs ls hW hS hl
  exact lv_astore_nN hx hb d hi hl hn hL (fun ls' hl' => k H locs ls' hW hS hl')
theorem g_astoreN (C : gC E K cc own nL rm) {i : Nat} {L' : List (Nat × Value)} (d : decode cc pc = .ok (.astore i, 2)) (hn : i < nL) (hL : (i, Value.null) :: L.filter (fun q => !(q.1 == i) && !(q.1 + 1 == i && q.2.category == 2)) = L') (k : G E K Z I ck sk L' (pc + 2) st) : G E K Z I ck sk L pc (.null :: st) := by
  obtain ⟨⟨p, l, e, R, s, m, args, below, meth, c⟩, A, nL', Q⟩ := K
  obtain ⟨rfl, hx, hb, hml, rfl, hown, hts, rfl, hlk, hK, hA, hE⟩ := C
  intro H locs ls hW hS hl
  exact lv_astoreN hx hb d hl hn hL (fun ls' hl' => k H locs ls' hW hS hl')
theorem g_iinc (C : gC E K cc own nL rm) {i : Nat} {n : Int} {x v : Int32} {L' : List (Nat × Value)} (d : decode cc pc = .ok (.iinc i n, 3)) (kp : Nat) (hk : L[kp]? = some (i, .int x)) (hv : x + Int32.ofInt n = v) (hn : i < nL) (hL : (i, Value.int v) :: L.filter (fun q => !(q.1 == i) && !(q.1 + 1 == i && q.2.category == 2)) = L') (k : G E K Z I ck sk L' (pc + 3) st) : G E K Z I ck sk L pc st := by
  obtain ⟨⟨p, l, e, R, s, m, args, below, meth, c⟩, A, nL', Q⟩ := K
  obtain ⟨rfl, hx, hb, hml, rfl, hown, hts, rfl, hlk, hK, hA, hE⟩ := C
  intro H locs ls hW hS hl
  exact lv_iinc hx hb d hl hk hv hn hL (fun ls' hl' => k H locs ls' hW hS hl')
theorem g_locals (C : gC E K cc own nL rm) {L' : List (Nat × Value)} (ks : List Nat) (hL : lv_pick L ks = L') (k : G E K Z I ck sk L' pc st) : G E K Z I ck sk L pc st := by
  obtain ⟨⟨p, l, e, R, s, m, args, below, meth, c⟩, A, nL', Q⟩ := K
  obtain ⟨rfl, hx, hb, hml, rfl, hown, hts, rfl, hlk, hK, hA, hE⟩ := C
  intro H locs ls hW hS hl
  exact k H locs ls hW hS (lv_sub hl ks hL)
theorem g_iadd (C : gC E K cc own nL rm) {x y v : Int32} (d : decode cc pc = .ok (.iadd, 1))  (hv : x + y = v) (k : G E K Z I ck sk L (pc + 1) (.int v :: st)) : G E K Z I ck sk L pc (.int y :: .int x :: st) := by
  obtain ⟨⟨p, l, e, R, s, m, args, below, meth, c⟩, A, nL', Q⟩ := K
  obtain ⟨rfl, hx, hb, hml, rfl, hown, hts, rfl, hlk, hK, hA, hE⟩ := C
  intro H locs ls hW hS hl
  subst hv
  exact lv_iadd hx hb d  (k H locs ls hW hS hl)
theorem g_isub (C : gC E K cc own nL rm) {x y v : Int32} (d : decode cc pc = .ok (.isub, 1))  (hv : x - y = v) (k : G E K Z I ck sk L (pc + 1) (.int v :: st)) : G E K Z I ck sk L pc (.int y :: .int x :: st) := by
  obtain ⟨⟨p, l, e, R, s, m, args, below, meth, c⟩, A, nL', Q⟩ := K
  obtain ⟨rfl, hx, hb, hml, rfl, hown, hts, rfl, hlk, hK, hA, hE⟩ := C
  intro H locs ls hW hS hl
  subst hv
  exact lv_isub hx hb d  (k H locs ls hW hS hl)
theorem g_imul (C : gC E K cc own nL rm) {x y v : Int32} (d : decode cc pc = .ok (.imul, 1))  (hv : x * y = v) (k : G E K Z I ck sk L (pc + 1) (.int v :: st)) : G E K Z I ck sk L pc (.int y :: .int x :: st) := by
  obtain ⟨⟨p, l, e, R, s, m, args, below, meth, c⟩, A, nL', Q⟩ := K
  obtain ⟨rfl, hx, hb, hml, rfl, hown, hts, rfl, hlk, hK, hA, hE⟩ := C
  intro H locs ls hW hS hl
  subst hv
  exact lv_imul hx hb d  (k H locs ls hW hS hl)
theorem g_iand (C : gC E K cc own nL rm) {x y v : Int32} (d : decode cc pc = .ok (.iand, 1))  (hv : x &&& y = v) (k : G E K Z I ck sk L (pc + 1) (.int v :: st)) : G E K Z I ck sk L pc (.int y :: .int x :: st) := by
  obtain ⟨⟨p, l, e, R, s, m, args, below, meth, c⟩, A, nL', Q⟩ := K
  obtain ⟨rfl, hx, hb, hml, rfl, hown, hts, rfl, hlk, hK, hA, hE⟩ := C
  intro H locs ls hW hS hl
  subst hv
  exact lv_iand hx hb d  (k H locs ls hW hS hl)
theorem g_ior (C : gC E K cc own nL rm) {x y v : Int32} (d : decode cc pc = .ok (.ior, 1))  (hv : x ||| y = v) (k : G E K Z I ck sk L (pc + 1) (.int v :: st)) : G E K Z I ck sk L pc (.int y :: .int x :: st) := by
  obtain ⟨⟨p, l, e, R, s, m, args, below, meth, c⟩, A, nL', Q⟩ := K
  obtain ⟨rfl, hx, hb, hml, rfl, hown, hts, rfl, hlk, hK, hA, hE⟩ := C
  intro H locs ls hW hS hl
  subst hv
  exact lv_ior hx hb d  (k H locs ls hW hS hl)
theorem g_ixor (C : gC E K cc own nL rm) {x y v : Int32} (d : decode cc pc = .ok (.ixor, 1))  (hv : x ^^^ y = v) (k : G E K Z I ck sk L (pc + 1) (.int v :: st)) : G E K Z I ck sk L pc (.int y :: .int x :: st) := by
  obtain ⟨⟨p, l, e, R, s, m, args, below, meth, c⟩, A, nL', Q⟩ := K
  obtain ⟨rfl, hx, hb, hml, rfl, hown, hts, rfl, hlk, hK, hA, hE⟩ := C
  intro H locs ls hW hS hl
  subst hv
  exact lv_ixor hx hb d  (k H locs ls hW hS hl)
theorem g_ladd (C : gC E K cc own nL rm) {x y v : Int64} (d : decode cc pc = .ok (.ladd, 1))  (hv : x + y = v) (k : G E K Z I ck sk L (pc + 1) (.long v :: st)) : G E K Z I ck sk L pc (.long y :: .long x :: st) := by
  obtain ⟨⟨p, l, e, R, s, m, args, below, meth, c⟩, A, nL', Q⟩ := K
  obtain ⟨rfl, hx, hb, hml, rfl, hown, hts, rfl, hlk, hK, hA, hE⟩ := C
  intro H locs ls hW hS hl
  subst hv
  exact lv_ladd hx hb d  (k H locs ls hW hS hl)
theorem g_lsub (C : gC E K cc own nL rm) {x y v : Int64} (d : decode cc pc = .ok (.lsub, 1))  (hv : x - y = v) (k : G E K Z I ck sk L (pc + 1) (.long v :: st)) : G E K Z I ck sk L pc (.long y :: .long x :: st) := by
  obtain ⟨⟨p, l, e, R, s, m, args, below, meth, c⟩, A, nL', Q⟩ := K
  obtain ⟨rfl, hx, hb, hml, rfl, hown, hts, rfl, hlk, hK, hA, hE⟩ := C
  intro H locs ls hW hS hl
  subst hv
  exact lv_lsub hx hb d  (k H locs ls hW hS hl)
theorem g_lmul (C : gC E K cc own nL rm) {x y v : Int64} (d : decode cc pc = .ok (.lmul, 1))  (hv : x * y = v) (k : G E K Z I ck sk L (pc + 1) (.long v :: st)) : G E K Z I ck sk L pc (.long y :: .long x :: st) := by
  obtain ⟨⟨p, l, e, R, s, m, args, below, meth, c⟩, A, nL', Q⟩ := K
  obtain ⟨rfl, hx, hb, hml, rfl, hown, hts, rfl, hlk, hK, hA, hE⟩ := C
  intro H locs ls hW hS hl
  subst hv
  exact lv_lmul hx hb d  (k H locs ls hW hS hl)
theorem g_idiv (C : gC E K cc own nL rm) {x y v : Int32} (d : decode cc pc = .ok (.idiv, 1)) (hne : ¬ y = 0) (hv : x / y = v) (k : G E K Z I ck sk L (pc + 1) (.int v :: st)) : G E K Z I ck sk L pc (.int y :: .int x :: st) := by
  obtain ⟨⟨p, l, e, R, s, m, args, below, meth, c⟩, A, nL', Q⟩ := K
  obtain ⟨rfl, hx, hb, hml, rfl, hown, hts, rfl, hlk, hK, hA, hE⟩ := C
  intro H locs ls hW hS hl
  subst hv
  exact lv_idiv hx hb d hne (k H locs ls hW hS hl)
theorem g_irem (C : gC E K cc own nL rm) {x y v : Int32} (d : decode cc pc = .ok (.irem, 1)) (hne : ¬ y = 0) (hv : x - x / y * y = v) (k : G E K Z I ck sk L (pc + 1) (.int v :: st)) : G E K Z I ck sk L pc (.int y :: .int x :: st) := by
  obtain ⟨⟨p, l, e, R, s, m, args, below, meth, c⟩, A, nL', Q⟩ := K
  obtain ⟨rfl, hx, hb, hml, rfl, hown, hts, rfl, hlk, hK, hA, hE⟩ := C
  intro H locs ls hW hS hl
  subst hv
  exact lv_irem hx hb d hne (k H locs ls hW hS hl)
theorem g_ldiv (C : gC E K cc own nL rm) {x y v : Int64} (d : decode cc pc = .ok (.ldiv, 1)) (hne : ¬ y = 0) (hv : x / y = v) (k : G E K Z I ck sk L (pc + 1) (.long v :: st)) : G E K Z I ck sk L pc (.long y :: .long x :: st) := by
  obtain ⟨⟨p, l, e, R, s, m, args, below, meth, c⟩, A, nL', Q⟩ := K
  obtain ⟨rfl, hx, hb, hml, rfl, hown, hts, rfl, hlk, hK, hA, hE⟩ := C
  intro H locs ls hW hS hl
  subst hv
  exact lv_ldiv hx hb d hne (k H locs ls hW hS hl)
theorem g_lrem (C : gC E K cc own nL rm) {x y v : Int64} (d : decode cc pc = .ok (.lrem, 1)) (hne : ¬ y = 0) (hv : x - x / y * y = v) (k : G E K Z I ck sk L (pc + 1) (.long v :: st)) : G E K Z I ck sk L pc (.long y :: .long x :: st) := by
  obtain ⟨⟨p, l, e, R, s, m, args, below, meth, c⟩, A, nL', Q⟩ := K
  obtain ⟨rfl, hx, hb, hml, rfl, hown, hts, rfl, hlk, hK, hA, hE⟩ := C
  intro H locs ls hW hS hl
  subst hv
  exact lv_lrem hx hb d hne (k H locs ls hW hS hl)
theorem g_ineg (C : gC E K cc own nL rm) {x v : Int32} (d : decode cc pc = .ok (.ineg, 1)) (hv : -x = v) (k : G E K Z I ck sk L (pc + 1) (.int v :: st)) : G E K Z I ck sk L pc (.int x :: st) := by
  obtain ⟨⟨p, l, e, R, s, m, args, below, meth, c⟩, A, nL', Q⟩ := K
  obtain ⟨rfl, hx, hb, hml, rfl, hown, hts, rfl, hlk, hK, hA, hE⟩ := C
  intro H locs ls hW hS hl
  subst hv
  exact lv_ineg hx hb d (k H locs ls hW hS hl)
theorem g_ishl (C : gC E K cc own nL rm) {x y v : Int32} (d : decode cc pc = .ok (.ishl, 1)) (hv : x <<< (y &&& 31) = v) (k : G E K Z I ck sk L (pc + 1) (.int v :: st)) : G E K Z I ck sk L pc (.int y :: .int x :: st) := by
  obtain ⟨⟨p, l, e, R, s, m, args, below, meth, c⟩, A, nL', Q⟩ := K
  obtain ⟨rfl, hx, hb, hml, rfl, hown, hts, rfl, hlk, hK, hA, hE⟩ := C
  intro H locs ls hW hS hl
  subst hv
  exact lv_ishl hx hb d (k H locs ls hW hS hl)
theorem g_ishr (C : gC E K cc own nL rm) {x y v : Int32} (d : decode cc pc = .ok (.ishr, 1)) (hv : x >>> (y &&& 31) = v) (k : G E K Z I ck sk L (pc + 1) (.int v :: st)) : G E K Z I ck sk L pc (.int y :: .int x :: st) := by
  obtain ⟨⟨p, l, e, R, s, m, args, below, meth, c⟩, A, nL', Q⟩ := K
  obtain ⟨rfl, hx, hb, hml, rfl, hown, hts, rfl, hlk, hK, hA, hE⟩ := C
  intro H locs ls hW hS hl
  subst hv
  exact lv_ishr hx hb d (k H locs ls hW hS hl)
theorem g_iushr (C : gC E K cc own nL rm) {x y v : Int32} (d : decode cc pc = .ok (.iushr, 1)) (hv : (x.toUInt32 >>> (y.toUInt32 &&& Int32.toUInt32 31)).toInt32 = v) (k : G E K Z I ck sk L (pc + 1) (.int v :: st)) : G E K Z I ck sk L pc (.int y :: .int x :: st) := by
  obtain ⟨⟨p, l, e, R, s, m, args, below, meth, c⟩, A, nL', Q⟩ := K
  obtain ⟨rfl, hx, hb, hml, rfl, hown, hts, rfl, hlk, hK, hA, hE⟩ := C
  intro H locs ls hW hS hl
  exact lv_iushr hx hb d hv (k H locs ls hW hS hl)
theorem g_i2l (C : gC E K cc own nL rm) {x : Int32} {v : Int64} (d : decode cc pc = .ok (.i2l, 1)) (hv : x.toInt64 = v) (k : G E K Z I ck sk L (pc + 1) (.long v :: st)) : G E K Z I ck sk L pc (.int x :: st) := by
  obtain ⟨⟨p, l, e, R, s, m, args, below, meth, c⟩, A, nL', Q⟩ := K
  obtain ⟨rfl, hx, hb, hml, rfl, hown, hts, rfl, hlk, hK, hA, hE⟩ := C
  intro H locs ls hW hS hl
  exact lv_i2l hx hb d hv (k H locs ls hW hS hl)
theorem g_l2i (C : gC E K cc own nL rm) {x : Int64} {v : Int32} (d : decode cc pc = .ok (.l2i, 1)) (hv : x.toInt32 = v) (k : G E K Z I ck sk L (pc + 1) (.int v :: st)) : G E K Z I ck sk L pc (.long x :: st) := by
  obtain ⟨⟨p, l, e, R, s, m, args, below, meth, c⟩, A, nL', Q⟩ := K
  obtain ⟨rfl, hx, hb, hml, rfl, hown, hts, rfl, hlk, hK, hA, hE⟩ := C
  intro H locs ls hW hS hl
  exact lv_l2i hx hb d hv (k H locs ls hW hS hl)
theorem g_i2b (C : gC E K cc own nL rm) {x : Int32} {v : Int32} (d : decode cc pc = .ok (.i2b, 1)) (hv : x.toInt8.toInt32 = v) (k : G E K Z I ck sk L (pc + 1) (.int v :: st)) : G E K Z I ck sk L pc (.int x :: st) := by
  obtain ⟨⟨p, l, e, R, s, m, args, below, meth, c⟩, A, nL', Q⟩ := K
  obtain ⟨rfl, hx, hb, hml, rfl, hown, hts, rfl, hlk, hK, hA, hE⟩ := C
  intro H locs ls hW hS hl
  exact lv_i2b hx hb d hv (k H locs ls hW hS hl)
theorem g_i2s (C : gC E K cc own nL rm) {x : Int32} {v : Int32} (d : decode cc pc = .ok (.i2s, 1)) (hv : x.toInt16.toInt32 = v) (k : G E K Z I ck sk L (pc + 1) (.int v :: st)) : G E K Z I ck sk L pc (.int x :: st) := by
  obtain ⟨⟨p, l, e, R, s, m, args, below, meth, c⟩, A, nL', Q⟩ := K
  obtain ⟨rfl, hx, hb, hml, rfl, hown, hts, rfl, hlk, hK, hA, hE⟩ := C
  intro H locs ls hW hS hl
  exact lv_i2s hx hb d hv (k H locs ls hW hS hl)
theorem g_lcmp (C : gC E K cc own nL rm) {x y : Int64} {v : Int32} (d : decode cc pc = .ok (.lcmp, 1)) (hv : lg_cmp x y = v) (k : G E K Z I ck sk L (pc + 1) (.int v :: st)) : G E K Z I ck sk L pc (.long y :: .long x :: st) := by
  obtain ⟨⟨p, l, e, R, s, m, args, below, meth, c⟩, A, nL', Q⟩ := K
  obtain ⟨rfl, hx, hb, hml, rfl, hown, hts, rfl, hlk, hK, hA, hE⟩ := C
  intro H locs ls hW hS hl
  subst hv
  exact W.lcmp hx hb d (k H locs ls hW hS hl)
theorem g_dup (C : gC E K cc own nL rm) {v : Value} (d : decode cc pc = .ok (.dup, 1)) (h1 : v.category = 1) (k : G E K Z I ck sk L (pc + 1) (v :: v :: st)) : G E K Z I ck sk L pc (v :: st) := by
  obtain ⟨⟨p, l, e, R, s, m, args, below, meth, c⟩, A, nL', Q⟩ := K
  obtain ⟨rfl, hx, hb, hml, rfl, hown, hts, rfl, hlk, hK, hA, hE⟩ := C
  intro H locs ls hW hS hl
  exact lv_dup hx hb d h1 (k H locs ls hW hS hl)
theorem g_dup2 (C : gC E K cc own nL rm) {v w : Value} (d : decode cc pc = .ok (.dup2, 1)) (h1 : v.category = 1) (h2 : w.category = 1) (k : G E K Z I ck sk L (pc + 1) (v :: w :: v :: w :: st)) : G E K Z I ck sk L pc (v :: w :: st) := by
  obtain ⟨⟨p, l, e, R, s, m, args, below, meth, c⟩, A, nL', Q⟩ := K
  obtain ⟨rfl, hx, hb, hml, rfl, hown, hts, rfl, hlk, hK, hA, hE⟩ := C
  intro H locs ls hW hS hl
  exact lv_dup2_11 hx hb d h1 h2 (k H locs ls hW hS hl)
theorem g_pop (C : gC E K cc own nL rm) {v : Value} (d : decode cc pc = .ok (.pop, 1)) (h1 : v.category = 1) (k : G E K Z I ck sk L (pc + 1) st) : G E K Z I ck sk L pc (v :: st) := by
  obtain ⟨⟨p, l, e, R, s, m, args, below, meth, c⟩, A, nL', Q⟩ := K
  obtain ⟨rfl, hx, hb, hml, rfl, hown, hts, rfl, hlk, hK, hA, hE⟩ := C
  intro H locs ls hW hS hl
  exact lv_pop hx hb d h1 (k H locs ls hW hS hl)
theorem g_goto (C : gC E K cc own nL rm) {off : Int} {tgt : Nat} (d : decode cc pc = .ok (.goto off, 3)) (ht : (pc : Int) + off = (tgt : Int)) (k : G E K Z I ck sk L tgt st) : G E K Z I ck sk L pc st := by
  obtain ⟨⟨p, l, e, R, s, m, args, below, meth, c⟩, A, nL', Q⟩ := K
  obtain ⟨rfl, hx, hb, hml, rfl, hown, hts, rfl, hlk, hK, hA, hE⟩ := C
  intro H locs ls hW hS hl
  exact lv_goto hx hb d ht (k H locs ls hW hS hl)
theorem g_if_eq (C : gC E K cc own nL rm) {x : Int32} {off : Int} {tgt : Nat} (d : decode cc pc = .ok (.ifCond .eq off, 3)) (ht : (pc : Int) + off = (tgt : Int)) (kt : x = 0 → G E K Z I ck sk L tgt st) (kf : ¬ x = 0 → G E K Z I ck sk L (pc + 3) st) : G E K Z I ck sk L pc (.int x :: st) := by
  obtain ⟨⟨p, l, e, R, s, m, args, below, meth, c⟩, A, nL', Q⟩ := K
  obtain ⟨rfl, hx, hb, hml, rfl, hown, hts, rfl, hlk, hK, hA, hE⟩ := C
  intro H locs ls hW hS hl
  exact lv_if_eq hx hb d ht (fun q => kt q H locs ls hW hS hl) (fun q => kf q H locs ls hW hS hl)
theorem g_icmp_eq (C : gC E K cc own nL rm) {x y : Int32} {off : Int} {tgt : Nat} (d : decode cc pc = .ok (.if_icmp .eq off, 3)) (ht : (pc : Int) + off = (tgt : Int)) (kt : x = y → G E K Z I ck sk L tgt st) (kf : ¬ x = y → G E K Z I ck sk L (pc + 3) st) : G E K Z I ck sk L pc (.int y :: .int x :: st) := by
  obtain ⟨⟨p, l, e, R, s, m, args, below, meth, c⟩, A, nL', Q⟩ := K
  obtain ⟨rfl, hx, hb, hml, rfl, hown, hts, rfl, hlk, hK, hA, hE⟩ := C
  intro H locs ls hW hS hl
  exact lv_icmp_eq hx hb d ht (fun q => kt q H locs ls hW hS hl) (fun q => kf q H locs ls hW hS hl)
theorem g_if_ne (C : gC E K cc own nL rm) {x : Int32} {off : Int} {tgt : Nat} (d : decode cc pc = .ok (.ifCond .ne off, 3)) (ht : (pc : Int) + off = (tgt : Int)) (kt : ¬ x = 0 → G E K Z I ck sk L tgt st) (kf : x = 0 → G E K Z I ck sk L (pc + 3) st) : G E K Z I ck sk L pc (.int x :: st) := by
  obtain ⟨⟨p, l, e, R, s, m, args, below, meth, c⟩, A, nL', Q⟩ := K
  obtain ⟨rfl, hx, hb, hml, rfl, hown, hts, rfl, hlk, hK, hA, hE⟩ := C
  intro H locs ls hW hS hl
  exact lv_if_ne hx hb d ht (fun q => kt q H locs ls hW hS hl) (fun q => kf q H locs ls hW hS hl)
theorem g_icmp_ne (C : gC E K cc own nL rm) {x y : Int32} {off : Int} {tgt : Nat} (d : decode cc pc = .ok (.if_icmp .ne off, 3)) (ht : (pc : Int) + off = (tgt : Int)) (kt : ¬ x = y → G E K Z I ck sk L tgt st) (kf : x = y → G E K Z I ck sk L (pc + 3) st) : G E K Z I ck sk L pc (.int y :: .int x :: st) := by
  obtain ⟨⟨p, l, e, R, s, m, args, below, meth, c⟩, A, nL', Q⟩ := K
  obtain ⟨rfl, hx, hb, hml, rfl, hown, hts, rfl, hlk, hK, hA, hE⟩ := C
  intro H locs ls hW hS hl
  exact lv_icmp_ne hx hb d ht (fun q => kt q H locs ls hW hS hl) (fun q => kf q H locs ls hW hS hl)
theorem g_if_lt (C : gC E K cc own nL rm) {x : Int32} {off : Int} {tgt : Nat} (d : decode cc pc = .ok (.ifCond .lt off, 3)) (ht : (pc : Int) + off = (tgt : Int)) (kt : x < 0 → G E K Z I ck sk L tgt st) (kf : ¬ x < 0 → G E K Z I ck sk L (pc + 3) st) : G E K Z I ck sk L pc (.int x :: st) := by
  obtain ⟨⟨p, l, e, R, s, m, args, below, meth, c⟩, A, nL', Q⟩ := K
  obtain ⟨rfl, hx, hb, hml, rfl, hown, hts, rfl, hlk, hK, hA, hE⟩ := C
  intro H locs ls hW hS hl
  exact lv_if_lt hx hb d ht (fun q => kt q H locs ls hW hS hl) (fun q => kf q H locs ls hW hS hl)
theorem g_icmp_lt (C : gC E K cc own nL rm) {x y : Int32} {off : Int} {tgt : Nat} (d : decode cc pc = .ok (.if_icmp .lt off, 3)) (ht : (pc : Int) + off = (tgt : Int)) (kt : x < y → G E K Z I ck sk L tgt st) (kf : ¬ x < y → G E K Z I ck sk L (pc + 3) st) : G E K Z I ck sk L pc (.int y :: .int x :: st) := by
  obtain ⟨⟨p, l, e, R, s, m, args, below, meth, c⟩, A, nL', Q⟩ := K
  obtain ⟨rfl, hx, hb, hml, rfl, hown, hts, rfl, hlk, hK, hA, hE⟩ := C
  intro H locs ls hW hS hl
  exact lv_icmp_lt hx hb d ht (fun q => kt q H locs ls hW hS hl) (fun q => kf q H locs ls hW hS hl)
theorem g_if_ge (C : gC E K cc own nL rm) {x : Int32} {off : Int} {tgt : Nat} (d : decode cc pc = .ok (.ifCond .ge off, 3)) (ht : (pc : Int) + off = (tgt : Int)) (kt : 0 ≤ x → G E K Z I ck sk L tgt st) (kf : ¬ 0 ≤ x → G E K Z I ck sk L (pc + 3) st) : G E K Z I ck sk L pc (.int x :: st) := by
  obtain ⟨⟨p, l, e, R, s, m, args, below, meth, c⟩, A, nL', Q⟩ := K
  obtain ⟨rfl, hx, hb, hml, rfl, hown, hts, rfl, hlk, hK, hA, hE⟩ := C
  intro H locs ls hW hS hl
  exact lv_if_ge hx hb d ht (fun q => kt q H locs ls hW hS hl) (fun q => kf q H locs ls hW hS hl)
theorem g_icmp_ge (C : gC E K cc own nL rm) {x y : Int32} {off : Int} {tgt : Nat} (d : decode cc pc = .ok (.if_icmp .ge off, 3)) (ht : (pc : Int) + off = (tgt : Int)) (kt : y ≤ x → G E K Z I ck sk L tgt st) (kf : ¬ y ≤ x → G E K Z I ck sk L (pc + 3) st) : G E K Z I ck sk L pc (.int y :: .int x :: st) := by
  obtain ⟨⟨p, l, e, R, s, m, args, below, meth, c⟩, A, nL', Q⟩ := K
  obtain ⟨rfl, hx, hb, hml, rfl, hown, hts, rfl, hlk, hK, hA, hE⟩ := C
  intro H locs ls hW hS hl
  exact lv_icmp_ge hx hb d ht (fun q => kt q H locs ls hW hS hl) (fun q => kf q H locs ls hW hS hl)
theorem g_if_gt (C : gC E K cc own nL rm) {x : Int32} {off : Int} {tgt : Nat} (d : decode cc pc = .ok (.ifCond .gt off, 3)) (ht : (pc : Int) + off = (tgt : Int)) (kt : 0 < x → G E K Z I ck sk L tgt st) (kf : ¬ 0 < x → G E K Z I ck sk L (pc + 3) st) : G E K Z I ck sk L pc (.int x :: st) := by
  obtain ⟨⟨p, l, e, R, s, m, args, below, meth, c⟩, A, nL', Q⟩ := K
  obtain ⟨rfl, hx, hb, hml, rfl, hown, hts, rfl, hlk, hK, hA, hE⟩ := C
  intro H locs ls hW hS hl
  exact lv_if_gt hx hb d ht (fun q => kt q H locs ls hW hS hl) (fun q => kf q H locs ls hW hS hl)
theorem g_icmp_gt (C : gC E K cc own nL rm) {x y : Int32} {off : Int} {tgt : Nat} (d : decode cc pc = .ok (.if_icmp .gt off, 3)) (ht : (pc : Int) + off = (tgt : Int)) (kt : y < x → G E K Z I ck sk L tgt st) (kf : ¬ y < x → G E K Z I ck sk L (pc + 3) st) : G E K Z I ck sk L pc (.int y :: .int x :: st) := by
  obtain ⟨⟨p, l, e, R, s, m, args, below, meth, c⟩, A, nL', Q⟩ := K
  obtain ⟨rfl, hx, hb, hml, rfl, hown, hts, rfl, hlk, hK, hA, hE⟩ := C
  intro H locs ls hW hS hl
  exact lv_icmp_gt hx hb d ht (fun q => kt q H locs ls hW hS hl) (fun q => kf q H locs ls hW hS hl)
theorem g_if_le (C : gC E K cc own nL rm) {x : Int32} {off : Int} {tgt : Nat} (d : decode cc pc = .ok (.ifCond .le off, 3)) (ht : (pc : Int) + off = (tgt : Int)) (kt : x ≤ 0 → G E K Z I ck sk L tgt st) (kf : ¬ x ≤ 0 → G E K Z I ck sk L (pc + 3) st) : G E K Z I ck sk L pc (.int x :: st) := by
  obtain ⟨⟨p, l, e, R, s, m, args, below, meth, c⟩, A, nL', Q⟩ := K
  obtain ⟨rfl, hx, hb, hml, rfl, hown, hts, rfl, hlk, hK, hA, hE⟩ := C
  intro H locs ls hW hS hl
  exact lv_if_le hx hb d ht (fun q => kt q H locs ls hW hS hl) (fun q => kf q H locs ls hW hS hl)
theorem g_icmp_le (C : gC E K cc own nL rm) {x y : Int32} {off : Int} {tgt : Nat} (d : decode cc pc = .ok (.if_icmp .le off, 3)) (ht : (pc : Int) + off = (tgt : Int)) (kt : x ≤ y → G E K Z I ck sk L tgt st) (kf : ¬ x ≤ y → G E K Z I ck sk L (pc + 3) st) : G E K Z I ck sk L pc (.int y :: .int x :: st) := by
  obtain ⟨⟨p, l, e, R, s, m, args, below, meth, c⟩, A, nL', Q⟩ := K
  obtain ⟨rfl, hx, hb, hml, rfl, hown, hts, rfl, hlk, hK, hA, hE⟩ := C
  intro H locs ls hW hS hl
  exact lv_icmp_le hx hb d ht (fun q => kt q H locs ls hW hS hl) (fun q => kf q H locs ls hW hS hl)
theorem g_icmpN_eq (C : gC E K cc own nL rm) {a b : Nat} {off : Int} {tgt : Nat} (d : decode cc pc = .ok (.if_icmp .eq off, 3)) (ht : (pc : Int) + off = (tgt : Int)) (ha : a < 2 ^ 31) (hb : b < 2 ^ 31) (kt : a = b → G E K Z I ck sk L tgt st) (kf : a ≠ b → G E K Z I ck sk L (pc + 3) st) : G E K Z I ck sk L pc (.int (nI b) :: .int (nI a) :: st) :=
  g_icmp_eq C d ht (fun q => kt ((nI_eq ha hb).mp q)) (fun q => kf (fun z => q ((nI_eq ha hb).mpr z)))
theorem g_icmpN_ne (C : gC E K cc own nL rm) {a b : Nat} {off : Int} {tgt : Nat} (d : decode cc pc = .ok (.if_icmp .ne off, 3)) (ht : (pc : Int) + off = (tgt : Int)) (ha : a < 2 ^ 31) (hb : b < 2 ^ 31) (kt : a ≠ b → G E K Z I ck sk L tgt st) (kf : a = b → G E K Z I ck sk L (pc + 3) st) : G E K Z I ck sk L pc (.int (nI b) :: .int (nI a) :: st) :=
  g_icmp_ne C d ht (fun q => kt (fun z => q ((nI_eq ha hb).mpr z))) (fun q => kf ((nI_eq ha hb).mp q))
theorem g_icmpN_lt (C : gC E K cc own nL rm) {a b : Nat} {off : Int} {tgt : Nat} (d : decode cc pc = .ok (.if_icmp .lt off, 3)) (ht : (pc : Int) + off = (tgt : Int)) (ha : a < 2 ^ 31) (hb : b < 2 ^ 31) (kt : a < b → G E K Z I ck sk L tgt st) (kf : b ≤ a → G E K Z I ck sk L (pc + 3) st) : G E K Z I ck sk L pc (.int (nI b) :: .int (nI a) :: st) :=
  g_icmp_lt C d ht (fun q => kt ((nI_ltI ha hb).mp q)) (fun q => kf (Nat.le_of_not_lt (fun z => q ((nI_ltI ha hb).mpr z))))
theorem g_icmpN_ge (C : gC E K cc own nL rm) {a b : Nat} {off : Int} {tgt : Nat} (d : decode cc pc = .ok (.if_icmp .ge off, 3)) (ht : (pc : Int) + off = (tgt : Int)) (ha : a < 2 ^ 31) (hb : b < 2 ^ 31) (kt : b ≤ a → G E K Z I ck sk L tgt st) (kf : a < b → G E K Z I ck sk L (pc + 3) st) : G E K Z I ck sk L pc (.int (nI b) :: .int (nI a) :: st) :=
  g_icmp_ge C d ht (fun q => kt ((nI_leI hb ha).mp q)) (fun q => kf (Nat.lt_of_not_le (fun z => q ((nI_leI hb ha).mpr z))))
theorem g_icmpN_gt (C : gC E K cc own nL rm) {a b : Nat} {off : Int} {tgt : Nat} (d : decode cc pc = .ok (.if_icmp .gt off, 3)) (ht : (pc : Int) + off = (tgt : Int)) (ha : a < 2 ^ 31) (hb : b < 2 ^ 31) (kt : b < a → G E K Z I ck sk L tgt st) (kf : a ≤ b → G E K Z I ck sk L (pc + 3) st) : G E K Z I ck sk L pc (.int (nI b) :: .int (nI a) :: st) :=
  g_icmp_gt C d ht (fun q => kt ((nI_ltI hb ha).mp q)) (fun q => kf (Nat.le_of_not_lt (fun z => q ((nI_ltI hb ha).mpr z))))
theorem g_icmpN_le (C : gC E K cc own nL rm) {a b : Nat} {off : Int} {tgt : Nat} (d : decode cc pc = .ok (.if_icmp .le off, 3)) (ht : (pc : Int) + off = (tgt : Int)) (ha : a < 2 ^ 31) (hb : b < 2 ^ 31) (kt : a ≤ b → G E K Z I ck sk L tgt st) (kf : b < a → G E K Z I ck sk L (pc + 3) st) : G E K Z I ck sk L pc (.int (nI b) :: .int (nI a) :: st) :=
  g_icmp_le C d ht (fun q => kt ((nI_leI ha hb).mp q)) (fun q => kf (Nat.lt_of_not_le (fun z => q ((nI_leI ha hb).mpr z))))
theorem g_ifnull_r (C : gC E K cc own nL rm) {x : Nat} {off : Int} (d : decode cc pc = .ok (.ifnull off, 3)) (k : G E K Z I ck sk L (pc + 3) st) : G E K Z I ck sk L pc (.ref x :: st) := by
  obtain ⟨⟨p, l, e, R, s, m, args, below, meth, c⟩, A, nL', Q⟩ := K
  obtain ⟨rfl, hx, hb, hml, rfl, hown, hts, rfl, hlk, hK, hA, hE⟩ := C
  intro H locs ls hW hS hl
  exact lv_ifnull hx hb d (k H locs ls hW hS hl)
theorem g_ifnonnull_r (C : gC E K cc own nL rm) {x : Nat} {off : Int} {tgt : Nat} (d : decode cc pc = .ok (.ifnonnull off, 3)) (ht : (pc : Int) + off = (tgt : Int)) (k : G E K Z I ck sk L tgt st) : G E K Z I ck sk L pc (.ref x :: st) := by
  obtain ⟨⟨p, l, e, R, s, m, args, below, meth, c⟩, A, nL', Q⟩ := K
  obtain ⟨rfl, hx, hb, hml, rfl, hown, hts, rfl, hlk, hK, hA, hE⟩ := C
  intro H locs ls hW hS hl
  exact lv_ifnonnull hx hb d ht (k H locs ls hW hS hl)
theorem g_ifnull_n (C : gC E K cc own nL rm) {off : Int} {tgt : Nat} (d : decode cc pc = .ok (.ifnull off, 3)) (ht : (pc : Int) + off = (tgt : Int)) (k : G E K Z I ck sk L tgt st) : G E K Z I ck sk L pc (.null :: st) := by
  obtain ⟨⟨p, l, e, R, s, m, args, below, meth, c⟩, A, nL', Q⟩ := K
  obtain ⟨rfl, hx, hb, hml, rfl, hown, hts, rfl, hlk, hK, hA, hE⟩ := C
  intro H locs ls hW hS hl
  exact lv_ifnullN hx hb d ht (k H locs ls hW hS hl)
theorem g_ifnonnull_n (C : gC E K cc own nL rm) {off : Int} (d : decode cc pc = .ok (.ifnonnull off, 3)) (k : G E K Z I ck sk L (pc + 3) st) : G E K Z I ck sk L pc (.null :: st) := by
  obtain ⟨⟨p, l, e, R, s, m, args, below, meth, c⟩, A, nL', Q⟩ := K
  obtain ⟨rfl, hx, hb, hml, rfl, hown, hts, rfl, hlk, hK, hA, hE⟩ := C
  intro H locs ls hW hS hl
  exact lv_ifnonnullN hx hb d (k H locs ls hW hS hl)
theorem g_tswOut (C : gC E K cc own nL rm) {dflt lo hi : Int} {offs : Array Int} {len : Nat} {x : Int32} {tgt : Nat} (d : decode cc pc = .ok (.tableswitch dflt lo hi offs, len)) (h : x.toInt < lo ∨ hi < x.toInt) (ht : (pc : Int) + dflt = (tgt : Int)) (k : G E K Z I ck sk L tgt st) : G E K Z I ck sk L pc (.int x :: st) := by
  obtain ⟨⟨p, l, e, R, s, m, args, below, meth, c⟩, A, nL', Q⟩ := K
  obtain ⟨rfl, hx, hb, hml, rfl, hown, hts, rfl, hlk, hK, hA, hE⟩ := C
  intro H locs ls hW hS hl
  exact lv_tableOut hx hb d h ht (k H locs ls hW hS hl)
theorem g_tswIn (C : gC E K cc own nL rm) {dflt lo hi : Int} {offs : Array Int} {len : Nat} {x : Int32} {off : Int} {tgt : Nat} (d : decode cc pc = .ok (.tableswitch dflt lo hi offs, len)) (h1 : ¬ x.toInt < lo) (h2 : ¬ hi < x.toInt) (ho : offs[(x.toInt - lo).toNat]? = some off) (ht : (pc : Int) + off = (tgt : Int)) (k : G E K Z I ck sk L tgt st) : G E K Z I ck sk L pc (.int x :: st) := by
  obtain ⟨⟨p, l, e, R, s, m, args, below, meth, c⟩, A, nL', Q⟩ := K
  obtain ⟨rfl, hx, hb, hml, rfl, hown, hts, rfl, hlk, hK, hA, hE⟩ := C
  intro H locs ls hW hS hl
  exact lv_tableIn hx hb d h1 h2 ho ht (k H locs ls hW hS hl)
theorem g_lsw (C : gC E K cc own nL rm) {dflt : Int} {ps : Array (Int × Int)} {len : Nat} {x : Int32} {off : Int} {tgt : Nat} (d : decode cc pc = .ok (.lookupswitch dflt ps, len)) (hp : (ps.toList.zip (ps.toList.drop 1)).all (fun (a, next) => a.1 < next.1) = true) (ho : Op.lookupswitch.offset ps.toList dflt x.toInt = off) (ht : (pc : Int) + off = (tgt : Int)) (k : G E K Z I ck sk L tgt st) : G E K Z I ck sk L pc (.int x :: st) := by
  obtain ⟨⟨p, l, e, R, s, m, args, below, meth, c⟩, A, nL', Q⟩ := K
  obtain ⟨rfl, hx, hb, hml, rfl, hown, hts, rfl, hlk, hK, hA, hE⟩ := C
  intro H locs ls hW hS hl
  exact lv_lookup hx hb d hp ho ht (k H locs ls hW hS hl)
theorem g_widen {ck' sk' : Nat} (h1 : ck ≤ ck') (h2 : sk ≤ sk') (k : G E K Z I ck' sk' L pc st) : G E K Z I ck sk L pc st := by
  obtain ⟨⟨p, l, e, R, s, m, args, below, meth, c⟩, A, nL', Q⟩ := K
  intro H locs ls hW hS hl
  exact W.widen h1 h2 (k H locs ls hW hS hl)
theorem g_name {P : Int32 → Prop} {x : Int32} (hx : P x) (k : ∀ y : Int32, P y → G E K Z I ck sk L pc (.int y :: st)) : G E K Z I ck sk L pc (.int x :: st) := k x hx
theorem g_store {P : gI → Prop} (hI : P I) (k : ∀ J : gI, P J → G E K Z J ck sk L pc st) : G E K Z I ck sk L pc st := k I hI
theorem g_eqI {J : gI} (h : I = J) (k : G E K Z J ck sk L pc st) : G E K Z I ck sk L pc st := h ▸ k
theorem g_eqv {x y : Int32} (h : x = y) (k : G E K Z I ck sk L pc (.int y :: st)) : G E K Z I ck sk L pc (.int x :: st) := h ▸ k
end GB2