/-! Fields, arrays, calls, starts and ends over G -/
set_option maxRecDepth 100000
section GB3
variable {E : gE} {K : gM} {cc : ByteArray} {own : String} {nL : Nat} {rm : Room} {Z : gS} {I : gI} {ck sk pc : Nat} {L : List (Nat × Value)} {st : List Value}
/-- getfield of thing o, its field k -/
theorem g_get (C : gC E K cc own nL rm) (o k : Nat) {ci N idx : Nat} {Cn : String} {Tn : u_T} (hs : Z.2.1 o = some (20 + ci, N)) (hc : vwCl[ci]? = some (Cn, Tn, N)) (hin : ∀ w ∈ u_ws Cn Tn N, w ∈ lw_all) (hk : k < N) (hlink : Cond.fieldLink own idx (Tn k).1 (Tn k).2.1 (Tn k).2.2.1 ∈ lw_all) {v : Value} (hv : gfv ci k (I o k) (Z.2.2 o k) = v) (d : decode cc pc = .ok (.getfield idx, 3))
    (kk : G E K Z I ck sk L (pc + 3) (v :: st)) : G E K Z I ck sk L pc (.ref (Z.1 o) :: st) := by
  obtain ⟨⟨p, l, e, R, s, m, args, below, meth, c⟩, A, nL', Q⟩ := K
  obtain ⟨rfl, hx, hb, hml, rfl, hown, hts, rfl, hlk, hK, hA, hE⟩ := C
  intro H locs ls hW hS hl
  obtain ⟨cell, q1, q2, q3, q4⟩ := gCell_o.mp (hW.1 o _ hs).1
  obtain ⟨hS9, hfc, kC, hkC, hkind⟩ := hK.1 ci _ hc
  obtain ⟨cf, kf, fi, f, hi, hsl⟩ := hS9 k hk
  refine W.getf hx hb hown (hts _ hlink) hi (u_facts hfc hkC (u_lays hts hin hk) hi).1 q1 (by rw [q3]; exact fun h => by cases h) (v := v) ?_ rfl rfl d (kk H locs ls hW hS hl)
  rw [hsl, q4 k hk, ← hv]
/-- putfield of an int -/
theorem g_put (C : gC E K cc own nL rm) (o k : Nat) {ci N idx : Nat} {Cn : String} {Tn : u_T} (hs : Z.2.1 o = some (20 + ci, N)) (hc : vwCl[ci]? = some (Cn, Tn, N)) (hin : ∀ w ∈ u_ws Cn Tn N, w ∈ lw_all) (hnm : ∀ a, a < N → ∀ b, b < N → a ≠ b → (Tn a).2.1 ≠ (Tn b).2.1) {ty0 : Nat → FieldType} (hty : ∀ k, k < N → parseFieldDescriptor (Tn k).2.2.1 = some (ty0 k)) (hk : k < N) (hlink : Cond.fieldLink own idx (Tn k).1 (Tn k).2.1 (Tn k).2.2.1 ∈ lw_all) (hfin : (Tn k).2.2.2 = false) {x : Int32} {v : Value} (hv : ∀ y, gfv ci k x y = v) (hn : narrow (ty0 k) v = v) (hfit : fits (ty0 k) v = true) (d : decode cc pc = .ok (.putfield idx, 3))
    (kk : G E K Z (up2 I o k x) ck sk L (pc + 3) st) : G E K Z I ck sk L pc (v :: .ref (Z.1 o) :: st) := by
  obtain ⟨⟨p, l, e, R, s, m, args, below, meth, c⟩, A, nL', Q⟩ := K
  obtain ⟨rfl, hx, hb, hml, rfl, hown, hts, rfl, hlk, hK, hA, hE⟩ := C
  intro H locs ls hW hS hl
  have hap := va_apart (own := own) hts hin ty0 hty hnm hK hc
  obtain ⟨cell, q1, q2, q3, q4⟩ := gCell_o.mp (hW.1 o _ hs).1
  obtain ⟨hS9, hfc, kC, hkC, hkind⟩ := hK.1 ci _ hc
  obtain ⟨cf, kf, fi, f, hi, hsl⟩ := hS9 k hk
  have hlay := hts _ (hin _ (u_in_lay hk))
  unfold u_lay at hlay
  rw [if_neg (by rw [hfin]; decide)] at hlay
  have hst := (u_facts hfc hkC (u_lays hts hin hk) hi).1
  have h6 := u_store hfc hkC hkind hlay hi (hty k hk) hn hfit
  refine W.putK hx hb (f := f) ⟨hown, hts _ hlink, ⟨_, _, _, hi⟩, hst⟩ (by rw [q2]; exact h6) q1 q3 (by rw [hsl]; exact k2_hasslot (q4 k hk)) rfl rfl d fun H' e1 e2 e3 => ?_
  rw [hsl] at e1 ⊢
  refine kk H' _ ls (hW.setI hs (gCell_o.mpr (t_OB.to (V := updV (fun k => gfv ci k (I o k) (Z.2.2 o k)) k v) ⟨_, e1, q2, q3, t_set q4 hap hk v⟩ (fun j _ => ?_))) e3) (hS.put e2 e3 (hW.1 o _ hs).2) hl
  by_cases hj : j = k
  · subst hj
    simp only [updV, if_pos rfl, up2_s]
    exact (hv _).symm
  · simp [updV, up2, hj]
/-- putfield of a reference -/
theorem g_putr (C : gC E K cc own nL rm) (o k : Nat) {ci N idx : Nat} {Cn : String} {Tn : u_T} (hs : Z.2.1 o = some (20 + ci, N)) (hc : vwCl[ci]? = some (Cn, Tn, N)) (hin : ∀ w ∈ u_ws Cn Tn N, w ∈ lw_all) (hnm : ∀ a, a < N → ∀ b, b < N → a ≠ b → (Tn a).2.1 ≠ (Tn b).2.1) {ty0 : Nat → FieldType} (hty : ∀ k, k < N → parseFieldDescriptor (Tn k).2.2.1 = some (ty0 k)) (hk : k < N) (hlink : Cond.fieldLink own idx (Tn k).1 (Tn k).2.1 (Tn k).2.2.1 ∈ lw_all) (hfin : (Tn k).2.2.2 = false) {x : Option Nat} {v : Value} (hv : ∀ y, gfv ci k y x = v) (hn : narrow (ty0 k) v = v) (hfit : fits (ty0 k) v = true) (d : decode cc pc = .ok (.putfield idx, 3))
    (kk : G E K (gSR Z o k x) I ck sk L (pc + 3) st) : G E K Z I ck sk L pc (v :: .ref (Z.1 o) :: st) := by
  obtain ⟨⟨p, l, e, R, s, m, args, below, meth, c⟩, A, nL', Q⟩ := K
  obtain ⟨rfl, hx, hb, hml, rfl, hown, hts, rfl, hlk, hK, hA, hE⟩ := C
  intro H locs ls hW hS hl
  have hap := va_apart (own := own) hts hin ty0 hty hnm hK hc
  obtain ⟨cell, q1, q2, q3, q4⟩ := gCell_o.mp (hW.1 o _ hs).1
  obtain ⟨hS9, hfc, kC, hkC, hkind⟩ := hK.1 ci _ hc
  obtain ⟨cf, kf, fi, f, hi, hsl⟩ := hS9 k hk
  have hlay := hts _ (hin _ (u_in_lay hk))
  unfold u_lay at hlay
  rw [if_neg (by rw [hfin]; decide)] at hlay
  have hst := (u_facts hfc hkC (u_lays hts hin hk) hi).1
  have h6 := u_store hfc hkC hkind hlay hi (hty k hk) hn hfit
  refine W.putK hx hb (f := f) ⟨hown, hts _ hlink, ⟨_, _, _, hi⟩, hst⟩ (by rw [q2]; exact h6) q1 q3 (by rw [hsl]; exact k2_hasslot (q4 k hk)) rfl rfl d fun H' e1 e2 e3 => ?_
  rw [hsl] at e1 ⊢
  refine kk H' _ ls (hW.setR hs (gCell_o.mpr (t_OB.to (V := updV (fun k => gfv ci k (I o k) (Z.2.2 o k)) k v) ⟨_, e1, q2, q3, t_set q4 hap hk v⟩ (fun j _ => ?_))) e3) (hS.put e2 e3 (hW.1 o _ hs).2) hl
  by_cases hj : j = k
  · subst hj
    simp only [updV, if_pos rfl, upR]
    simp only [and_self, if_true]
    exact (hv _).symm
  · simp [updV, upR, hj]
theorem g_wi {j n : Nat} {c : ClassId} {f : Nat → Value} (hj : j < n) (hn : n < 2 ^ 31) : ¬ (nI j < 0 ∨ (arrV c n f).slots.size ≤ (nI j).toNatClampNeg) := by
  rw [arrV_size]; exact nI_in hj hn
theorem g_wr {j n : Nat} {c : ClassId} {f : Nat → Value} (hj : j < n) (hn : n < 2 ^ 31) : (arrV c n f).slots[(nI j).toNatClampNeg]? = some (f j) := by
  rw [nI_clamp (by omega), arrV_read _ _ hj]
theorem g_iald (C : gC E K cc own nL rm) (o j : Nat) {n : Nat} (hs : Z.2.1 o = some (0, n)) (hj : j < n) (hn : n < 2 ^ 31) (d : decode cc pc = .ok (.iaload, 1)) (kk : G E K Z I ck sk L (pc + 1) (.int (I o j) :: st)) : G E K Z I ck sk L pc (.int (nI j) :: .ref (Z.1 o) :: st) := by
  obtain ⟨⟨p, l, e, R, s, m, args, below, meth, c⟩, A, nL', Q⟩ := K
  obtain ⟨rfl, hx, hb, hml, rfl, hown, hts, rfl, hlk, hK, hA, hE⟩ := C
  intro H locs ls hW hS hl
  exact W.iald hx hb ((gCell_i (by decide)).mp (hW.1 o _ hs).1) ((hK.2 0 _ rfl).1 n _) (fun q => by cases q) (g_wi hj hn) (g_wr hj hn) rfl rfl d (kk H locs ls hW hS hl)
theorem g_bald (C : gC E K cc own nL rm) (o j : Nat) {n : Nat} (hs : Z.2.1 o = some (1, n)) (hj : j < n) (hn : n < 2 ^ 31) (d : decode cc pc = .ok (.baload, 1)) (kk : G E K Z I ck sk L (pc + 1) (.int (I o j) :: st)) : G E K Z I ck sk L pc (.int (nI j) :: .ref (Z.1 o) :: st) := by
  obtain ⟨⟨p, l, e, R, s, m, args, below, meth, c⟩, A, nL', Q⟩ := K
  obtain ⟨rfl, hx, hb, hml, rfl, hown, hts, rfl, hlk, hK, hA, hE⟩ := C
  intro H locs ls hW hS hl
  exact W.bald hx hb ((gCell_i (by decide)).mp (hW.1 o _ hs).1) ((hK.2 1 _ rfl).1 n _) (fun q => by cases q) (g_wi hj hn) (g_wr hj hn) rfl rfl d (kk H locs ls hW hS hl)
theorem g_sald (C : gC E K cc own nL rm) (o j : Nat) {n : Nat} (hs : Z.2.1 o = some (2, n)) (hj : j < n) (hn : n < 2 ^ 31) (d : decode cc pc = .ok (.saload, 1)) (kk : G E K Z I ck sk L (pc + 1) (.int (I o j) :: st)) : G E K Z I ck sk L pc (.int (nI j) :: .ref (Z.1 o) :: st) := by
  obtain ⟨⟨p, l, e, R, s, m, args, below, meth, c⟩, A, nL', Q⟩ := K
  obtain ⟨rfl, hx, hb, hml, rfl, hown, hts, rfl, hlk, hK, hA, hE⟩ := C
  intro H locs ls hW hS hl
  exact W.sald hx hb ((gCell_i (by decide)).mp (hW.1 o _ hs).1) ((hK.2 2 _ rfl).1 n _) (fun q => by cases q) (g_wi hj hn) (g_wr hj hn) rfl rfl d (kk H locs ls hW hS hl)
theorem g_zald (C : gC E K cc own nL rm) (o j : Nat) {n : Nat} (hs : Z.2.1 o = some (3, n)) (hj : j < n) (hn : n < 2 ^ 31) (d : decode cc pc = .ok (.baload, 1)) (kk : G E K Z I ck sk L (pc + 1) (.int (I o j) :: st)) : G E K Z I ck sk L pc (.int (nI j) :: .ref (Z.1 o) :: st) := by
  obtain ⟨⟨p, l, e, R, s, m, args, below, meth, c⟩, A, nL', Q⟩ := K
  obtain ⟨rfl, hx, hb, hml, rfl, hown, hts, rfl, hlk, hK, hA, hE⟩ := C
  intro H locs ls hW hS hl
  exact W.zald hx hb ((gCell_i (by decide)).mp (hW.1 o _ hs).1) ((hK.2 3 _ rfl).1 n _) (fun q => by cases q) (g_wi hj hn) (g_wr hj hn) rfl rfl d (kk H locs ls hW hS hl)
theorem g_iast (C : gC E K cc own nL rm) (o j : Nat) {n : Nat} {x : Int32} (hs : Z.2.1 o = some (0, n)) (hj : j < n) (hn : n < 2 ^ 31) (d : decode cc pc = .ok (.iastore, 1)) (kk : G E K Z (up2 I o j x) ck sk L (pc + 1) st) : G E K Z I ck sk L pc (.int x :: .int (nI j) :: .ref (Z.1 o) :: st) := by
  obtain ⟨⟨p, l, e, R, s, m, args, below, meth, c⟩, A, nL', Q⟩ := K
  obtain ⟨rfl, hx, hb, hml, rfl, hown, hts, rfl, hlk, hK, hA, hE⟩ := C
  intro H locs ls hW hS hl
  refine W.iast hx hb ((gCell_i (by decide)).mp (hW.1 o _ hs).1) ((hK.2 0 _ rfl).1 n _) (fun q => by cases q) (g_wi hj hn) rfl rfl d fun H1 e1 z oq => ?_
  rw [nI_clamp (by omega), arrV_store, ← up2_uV] at e1
  exact kk H1 _ ls (hW.setI hs ((gCell_i (by decide)).mpr e1) oq) (hS.put z oq (hW.1 o _ hs).2) hl
theorem g_bast (C : gC E K cc own nL rm) (o j : Nat) {n : Nat} {x : Int32} (hs : Z.2.1 o = some (1, n)) (hj : j < n) (hn : n < 2 ^ 31) (d : decode cc pc = .ok (.bastore, 1)) (kk : G E K Z (up2 I o j x.toInt8.toInt32) ck sk L (pc + 1) st) : G E K Z I ck sk L pc (.int x :: .int (nI j) :: .ref (Z.1 o) :: st) := by
  obtain ⟨⟨p, l, e, R, s, m, args, below, meth, c⟩, A, nL', Q⟩ := K
  obtain ⟨rfl, hx, hb, hml, rfl, hown, hts, rfl, hlk, hK, hA, hE⟩ := C
  intro H locs ls hW hS hl
  refine W.bast hx hb ((gCell_i (by decide)).mp (hW.1 o _ hs).1) ((hK.2 1 _ rfl).1 n _) (fun q => by cases q) (g_wi hj hn) rfl rfl d fun H1 e1 z oq => ?_
  rw [nI_clamp (by omega), arrV_store] at e1
  have e1 : H1[Z.1 o]? = some (arrV (E.2.2.1 1) n (updV (fun b => Value.int (I o b)) j (.int x.toInt8.toInt32))) := e1
  rw [← up2_uV] at e1
  exact kk H1 _ ls (hW.setI hs ((gCell_i (by decide)).mpr e1) oq) (hS.put z oq (hW.1 o _ hs).2) hl
theorem g_sast (C : gC E K cc own nL rm) (o j : Nat) {n : Nat} {x : Int32} (hs : Z.2.1 o = some (2, n)) (hj : j < n) (hn : n < 2 ^ 31) (d : decode cc pc = .ok (.sastore, 1)) (kk : G E K Z (up2 I o j x.toInt16.toInt32) ck sk L (pc + 1) st) : G E K Z I ck sk L pc (.int x :: .int (nI j) :: .ref (Z.1 o) :: st) := by
  obtain ⟨⟨p, l, e, R, s, m, args, below, meth, c⟩, A, nL', Q⟩ := K
  obtain ⟨rfl, hx, hb, hml, rfl, hown, hts, rfl, hlk, hK, hA, hE⟩ := C
  intro H locs ls hW hS hl
  refine W.sast hx hb ((gCell_i (by decide)).mp (hW.1 o _ hs).1) ((hK.2 2 _ rfl).1 n _) (fun q => by cases q) (g_wi hj hn) rfl rfl d fun H1 e1 z oq => ?_
  rw [nI_clamp (by omega), arrV_store] at e1
  have e1 : H1[Z.1 o]? = some (arrV (E.2.2.1 2) n (updV (fun b => Value.int (I o b)) j (.int x.toInt16.toInt32))) := e1
  rw [← up2_uV] at e1
  exact kk H1 _ ls (hW.setI hs ((gCell_i (by decide)).mpr e1) oq) (hS.put z oq (hW.1 o _ hs).2) hl
theorem g_zast (C : gC E K cc own nL rm) (o j : Nat) {n : Nat} {x : Int32} (hs : Z.2.1 o = some (3, n)) (hj : j < n) (hn : n < 2 ^ 31) (hx1 : narrow .boolean (.int x) = .int x) (d : decode cc pc = .ok (.bastore, 1)) (kk : G E K Z (up2 I o j x) ck sk L (pc + 1) st) : G E K Z I ck sk L pc (.int x :: .int (nI j) :: .ref (Z.1 o) :: st) := by
  obtain ⟨⟨p, l, e, R, s, m, args, below, meth, c⟩, A, nL', Q⟩ := K
  obtain ⟨rfl, hx, hb, hml, rfl, hown, hts, rfl, hlk, hK, hA, hE⟩ := C
  intro H locs ls hW hS hl
  refine W.zast hx hb ((gCell_i (by decide)).mp (hW.1 o _ hs).1) ((hK.2 3 _ rfl).1 n _) (fun q => by cases q) (g_wi hj hn) rfl rfl d fun H1 e1 z oq => ?_
  rw [nI_clamp (by omega), hx1, arrV_store, ← up2_uV] at e1
  exact kk H1 _ ls (hW.setI hs ((gCell_i (by decide)).mpr e1) oq) (hS.put z oq (hW.1 o _ hs).2) hl
/-- aaload: an array of references -/
theorem g_aald (C : gC E K cc own nL rm) (o j t : Nat) {kd n : Nat} {ty : FieldType} (hs : Z.2.1 o = some (kd, n)) (h1 : ¬ kd < 10) (h2 : kd < 20) (ht : (gTys E.2.2.1)[t]? = some (E.2.2.1 kd, ty)) (hty : ty.isReference = true) (hj : j < n) (hn : n < 2 ^ 31) {v : Value} (hv : va_rf (Z.2.2 o j) = v) (d : decode cc pc = .ok (.aaload, 1)) (kk : G E K Z I ck sk L (pc + 1) (v :: st)) : G E K Z I ck sk L pc (.int (nI j) :: .ref (Z.1 o) :: st) := by
  obtain ⟨⟨p, l, e, R, s, m, args, below, meth, c⟩, A, nL', Q⟩ := K
  obtain ⟨rfl, hx, hb, hml, rfl, hown, hts, rfl, hlk, hK, hA, hE⟩ := C
  intro H locs ls hW hS hl
  subst hv
  exact W.aald hx hb ((gCell_q h1 h2).mp (hW.1 o _ hs).1) ((hK.2 t _ ht).1 n _) hty (fun q => by cases q) (g_wi hj hn) (g_wr hj hn) rfl rfl d (kk H locs ls hW hS hl)
theorem g_alen (C : gC E K cc own nL rm) (o t : Nat) {kd n : Nat} {ty : FieldType} (hs : Z.2.1 o = some (kd, n)) (h2 : kd < 20) (ht : (gTys E.2.2.1)[t]? = some (E.2.2.1 kd, ty)) (d : decode cc pc = .ok (.arraylength, 1)) (kk : G E K Z I ck sk L (pc + 1) (.int (nI n) :: st)) : G E K Z I ck sk L pc (.ref (Z.1 o) :: st) := by
  obtain ⟨⟨p, l, e, R, s, m, args, below, meth, c⟩, A, nL', Q⟩ := K
  obtain ⟨rfl, hx, hb, hml, rfl, hown, hts, rfl, hlk, hK, hA, hE⟩ := C
  intro H locs ls hW hS hl
  by_cases h1 : kd < 10
  · exact W.alen (n := nI n) hx hb ((gCell_i h1).mp (hW.1 o _ hs).1) ((hK.2 t _ ht).1 n _) (by rw [arrV_size]; rfl) rfl rfl d (kk H locs ls hW hS hl)
  · exact W.alen (n := nI n) hx hb ((gCell_q h1 h2).mp (hW.1 o _ hs).1) ((hK.2 t _ ht).1 n _) (by rw [arrV_size]; rfl) rfl rfl d (kk H locs ls hW hS hl)
/-! calls -/
def gRun (E : gE) (K : gM) (Z : gS) (I : gI) (ck sk mc ms : Nat) (L : List (Nat × Value)) (pc : Nat) (st rest : List Value) (Qa : Nat → State → Outcome → State → Prop) : Prop := match K with
  | ((p, l, e, R, s, m, args, below, meth, c), A, nL, _) => ∀ (H : Heap) (locs : List Loc) (ls : Array Slot), cW E.2.1 E.2.2.1 A Z I H → va_S A s.heap H locs → lv_has ls nL L → va_Run p l e R s m args below meth c H locs ck sk mc ms (F0 m pc ls st) rest (Qa H.size) (cA Z H.size)
theorem g_blind (E : gE) (Z : gS) (I : gI) (av : List Value) (sz : Nat) : FrameBlind (cPre E Z I av sz) := fun a U g mk q => by
  obtain ⟨q0, q1, qW, qK, qP⟩ := q
  exact ⟨q0, q1, qW, va_K.moved (u := U) (U := U.calling g mk a) (Vm.Alike.refl U.vm) qK, E.2.2.2.2 _ _ U _ (fun _ h => h) (Vm.Alike.refl U.vm) (fun _ _ _ => rfl) qP⟩
theorem g_pre {E : gE} {Z : gS} {I : gI} {av : List Value} {A : Nat → Prop} {s U : State} {H : Heap} {locs : List Loc} (hK : cK E.2.1 E.2.2.1 s) (hA : ∀ q : Nat, s.heap.size ≤ q → A q) (hE : E.2.2.2.1 A s) (hW : cW E.2.1 E.2.2.1 A Z I H) (hS : va_S A s.heap H locs) (hU : U.heap = H) (hWm : s.WarmedH U.vm) : cPre E Z I av H.size av.toArray U := by
  refine ⟨rfl, by rw [hU], by rw [hU]; exact hW.self _, va_K.moved hWm.alike hK, E.2.2.2.2 A _ s U (hW.sub (fun q hq => hA q (Nat.le_trans hS.1 hq))) hWm.alike (fun a h1 h2 => by rw [hU]; exact hS.2.1 a h1 h2) hE⟩
theorem g_recv {D : va_G} {T : Nat → ClassId} {A : Nat → Prop} {Z : gS} {I : gI} {H : Heap} {s : State} {o ci N : Nat} {Cn : String} {Tn : u_T} (hK : cK D T s) (hW : cW D T A Z I H) (hs : Z.2.1 o = some (20 + ci, N)) (hc : vwCl[ci]? = some (Cn, Tn, N)) : ∃ cell : Cell, H[Z.1 o]? = some cell ∧ cell.vm.isStatics = false ∧ s.vm.findClass Cn = some cell.cls := by
  obtain ⟨cell, q1, q2, q3, -⟩ := gCell_o.mp (hW.1 o _ hs).1
  exact ⟨cell, q1, by rw [q3]; rfl, by rw [q2]; exact (hK.1 ci _ hc).2.1⟩
variable {y : MethodName} {bytes : ByteArray} {maxL mc ms index n : Nat} {ret : Option FieldType} {ws ws' : List Cond} {rm' : Room} {As rest : List Value} {Qf : Nat → Array Value → State → Outcome → State → Prop}
theorem g_runV (C : gC E K cc own nL rm) (o : Nat) {ci N : Nat} {Cn : String} {Tn : u_T} (hM : gMet E y ws rm' Z I (.ref (Z.1 o) :: As) Qf mc ms) (hV : GoodIn lw_all (wsV own index Cn y ws)) (hw : ws = Cond.code y bytes maxL ret :: ws') (hrc : rm'.cells = mc) (hrs : rm'.slots = ms) (hd : y.cls = Cn ∧ y.cls ≠ "java/lang/invoke/MethodHandle" ∧ y.cls ≠ "java/lang/invoke/VarHandle" ∧ (parseMethodDescriptor y.desc).map (fun d => d.parameters.length) = some n) (hR : rm'.frames + 1 ≤ rm.frames ∧ 8 + (maxL + 11) + rm'.locals ≤ rm.locals) (hs : Z.2.1 o = some (20 + ci, N)) (hc : vwCl[ci]? = some (Cn, Tn, N)) (hn : As.length = n) (hst : st = As.reverse ++ .ref (Z.1 o) :: rest) (hW8 : (rest.map fun v => v.category).sum ≤ 8) (d : decode cc pc = .ok (.invokevirtual index, 3)) (hf : ck + mc ≤ rm.cells ∧ sk + ms ≤ rm.slots) :
    gRun E K Z I ck sk mc ms L pc st rest (fun sz => Qf sz (Value.ref (Z.1 o) :: As).toArray) := by
  obtain ⟨⟨p, l, e, R, s, m, args, below, meth, c⟩, A, nL', Q⟩ := K
  obtain ⟨rfl, hx, hb, hml, rfl, hown, hts, rfl, hlk, hK, hA, hE⟩ := C
  intro H locs ls hW hS hl
  exact va_runV (nL := nL') ⟨hx, hb, hml, hown, hts⟩ (hM H.size) (cwV n hts hV hw hrc hrs hd hR) ⟨g_blind _ _ _ _ _, g_recv hK hW hs hc, fun U hU hWm => g_pre hK hA hE hW hS hU hWm⟩ rfl hn hl.1 hst (lv_room hW8) d hf
theorem g_runVW (C : gC E K cc own nL rm) (o : Nat) {ci N : Nat} {Cn : String} {Tn : u_T} {hh : List (Nat × Nat × Nat × Nat)} (hM : gMet E y ws rm' Z I (.ref (Z.1 o) :: As) Qf mc ms) (hV : GoodIn lw_all (wsV own index Cn y ws)) (hw : ws = Cond.codeWith y bytes maxL ret hh :: ws') (hrc : rm'.cells = mc) (hrs : rm'.slots = ms) (hd : y.cls = Cn ∧ y.cls ≠ "java/lang/invoke/MethodHandle" ∧ y.cls ≠ "java/lang/invoke/VarHandle" ∧ (parseMethodDescriptor y.desc).map (fun d => d.parameters.length) = some n) (hR : rm'.frames + 1 ≤ rm.frames ∧ 8 + (maxL + 11) + rm'.locals ≤ rm.locals) (hs : Z.2.1 o = some (20 + ci, N)) (hc : vwCl[ci]? = some (Cn, Tn, N)) (hn : As.length = n) (hst : st = As.reverse ++ .ref (Z.1 o) :: rest) (hW8 : (rest.map fun v => v.category).sum ≤ 8) (d : decode cc pc = .ok (.invokevirtual index, 3)) (hf : ck + mc ≤ rm.cells ∧ sk + ms ≤ rm.slots) :
    gRun E K Z I ck sk mc ms L pc st rest (fun sz => Qf sz (Value.ref (Z.1 o) :: As).toArray) := by
  obtain ⟨⟨p, l, e, R, s, m, args, below, meth, c⟩, A, nL', Q⟩ := K
  obtain ⟨rfl, hx, hb, hml, rfl, hown, hts, rfl, hlk, hK, hA, hE⟩ := C
  intro H locs ls hW hS hl
  exact vx_runVW (nL := nL') ⟨hx, hb, hml, hown, hts⟩ (hM H.size) (vx_cwVW n hts hV hw hrc hrs hd hR) ⟨g_blind _ _ _ _ _, g_recv hK hW hs hc, fun U hU hWm => g_pre hK hA hE hW hS hU hWm⟩ rfl hn hl.1 hst (lv_room hW8) d hf
theorem g_runS (C : gC E K cc own nL rm) (hM : gMet E y ws rm' Z I As Qf mc ms) (hV : GoodIn lw_all (va_wsS own index y ws)) (hw : ws = Cond.code y bytes maxL ret :: ws') (hrc : rm'.cells = mc) (hrs : rm'.slots = ms) (hd : y.cls ≠ "java/lang/invoke/MethodHandle" ∧ y.cls ≠ "java/lang/invoke/VarHandle" ∧ (parseMethodDescriptor y.desc).map (fun d => d.parameters.length) = some n) (hR : rm'.frames + 1 ≤ rm.frames ∧ 8 + (maxL + 11) + rm'.locals ≤ rm.locals) (hn : As.length = n) (hst : st = As.reverse ++ rest) (hW8 : (rest.map fun v => v.category).sum ≤ 8) (d : decode cc pc = .ok (.invokestatic index, 3)) (hf : ck + mc ≤ rm.cells ∧ sk + ms ≤ rm.slots) :
    gRun E K Z I ck sk mc ms L pc st rest (fun sz => Qf sz As.toArray) := by
  obtain ⟨⟨p, l, e, R, s, m, args, below, meth, c⟩, A, nL', Q⟩ := K
  obtain ⟨rfl, hx, hb, hml, rfl, hown, hts, rfl, hlk, hK, hA, hE⟩ := C
  intro H locs ls hW hS hl
  exact va_runS (nL := nL') ⟨hx, hb, hml, hown, hts⟩ (hM H.size) (va_cwS n hts hV hw hrc hrs hd hR) ⟨g_blind _ _ _ _ _, fun U hU hWm => g_pre hK hA hE hW hS hU hWm⟩ rfl hn hl.1 hst (lv_room hW8) d hf
theorem g_runI (C : gC E K cc own nL rm) {b : Nat} (hM : gMet E y ws rm' Z I (.ref b :: As) Qf mc ms) (hG : GoodIn lw_all ws) (hw : ws = Cond.code y bytes maxL none :: ws') (hrc : rm'.cells = mc) (hrs : rm'.slots = ms) (hini : Cond.initialized y.cls ∈ lw_all) (hlink : Cond.methodLink own index y ∈ lw_all) (hinst : Cond.instanceMethod y ∈ lw_all) (hyn : y.name = "<init>") (hd : y.cls ≠ "java/lang/invoke/MethodHandle" ∧ y.cls ≠ "java/lang/invoke/VarHandle" ∧ (parseMethodDescriptor y.desc).map (fun d => d.parameters.length) = some n) (hR : rm'.frames + 1 ≤ rm.frames ∧ 8 + (maxL + 11) + rm'.locals ≤ rm.locals) (hn : As.length = n) (hst : st = As.reverse ++ .ref b :: rest) (hW8 : (rest.map fun v => v.category).sum ≤ 8) (d : decode cc pc = .ok (.invokespecial index, 3)) (hf : ck + mc ≤ rm.cells ∧ sk + ms ≤ rm.slots) :
    gRun E K Z I ck sk mc ms L pc st rest (fun sz => Qf sz (Value.ref b :: As).toArray) := by
  obtain ⟨⟨p, l, e, R, s, m, args, below, meth, c⟩, A, nL', Q⟩ := K
  obtain ⟨rfl, hx, hb, hml, rfl, hown, hts, rfl, hlk, hK, hA, hE⟩ := C
  intro H locs ls hW hS hl
  exact va_runI (nL := nL') ⟨hx, hb, hml, hown, hts⟩ (hM H.size) (cwI n hts hG hw hrc hrs (hts _ hini) (hts _ hlink) (hts _ hinst) hyn hd hR) ⟨g_blind _ _ _ _ _, fun U hU hWm => g_pre hK hA hE hW hS hU hWm⟩ rfl hn hl.1 hst (lv_room hW8) d hf
theorem g_goi {post : Int32 → gI → Prop} {a : Array Value} (C : gC E K cc own nL rm) (hr : gRun E K Z I ck sk 0 0 L pc st rest (fun sz => cQi E Z post sz a)) (kk : ∀ (r : Int32) (J : gI), post r J → G E K Z J ck sk L (pc + 3) (.int r :: rest)) : G E K Z I ck sk L pc st := by
  obtain ⟨⟨p, l, e, R, s, m, args, below, meth, c⟩, A, nL', Q⟩ := K
  obtain ⟨rfl, hx, hb, hml, rfl, hown, hts, rfl, hlk, hK, hA, hE⟩ := C
  intro H locs ls hW hS hl
  have hF := hW.sub (sz := H.size) (fun q hq => hA q (Nat.le_trans hS.1 hq))
  exact va_calli (hr H locs ls hW hS hl) hS (fun q _ h => hF q h) hF (fun r u t H1 locs1 ht hvm hp hB hz hk1 hS1 => kk r u hp H1 locs1 ls (by rw [← ht]; exact hB.weaken hF) hS1 hl)
theorem g_gol {post : Int64 → gI → Prop} {a : Array Value} (C : gC E K cc own nL rm) (hr : gRun E K Z I ck sk 0 0 L pc st rest (fun sz => cQl E Z post sz a)) (kk : ∀ (r : Int64) (J : gI), post r J → G E K Z J ck sk L (pc + 3) (.long r :: rest)) : G E K Z I ck sk L pc st := by
  obtain ⟨⟨p, l, e, R, s, m, args, below, meth, c⟩, A, nL', Q⟩ := K
  obtain ⟨rfl, hx, hb, hml, rfl, hown, hts, rfl, hlk, hK, hA, hE⟩ := C
  intro H locs ls hW hS hl
  have hF := hW.sub (sz := H.size) (fun q hq => hA q (Nat.le_trans hS.1 hq))
  exact va_calll (hr H locs ls hW hS hl) hS (fun q _ h => hF q h) hF (fun r u t H1 locs1 ht hvm hp hB hz hk1 hS1 => kk r u hp H1 locs1 ls (by rw [← ht]; exact hB.weaken hF) hS1 hl)
theorem g_gov {post : gI → Prop} {a : Array Value} (C : gC E K cc own nL rm) (hr : gRun E K Z I ck sk 0 0 L pc st rest (fun sz => cQv E Z post sz a)) (kk : ∀ (J : gI), post J → G E K Z J ck sk L (pc + 3) rest) : G E K Z I ck sk L pc st := by
  obtain ⟨⟨p, l, e, R, s, m, args, below, meth, c⟩, A, nL', Q⟩ := K
  obtain ⟨rfl, hx, hb, hml, rfl, hown, hts, rfl, hlk, hK, hA, hE⟩ := C
  intro H locs ls hW hS hl
  have hF := hW.sub (sz := H.size) (fun q hq => hA q (Nat.le_trans hS.1 hq))
  exact va_callv (hr H locs ls hW hS hl) hS (fun q _ h => hF q h) hF (fun u t H1 locs1 ht hvm hp hB hz hk1 hS1 => kk u hp H1 locs1 ls (by rw [← ht]; exact hB.weaken hF) hS1 hl)
theorem g_goiA {post : Int32 → gS → gI → Prop} {a : Array Value} (C : gC E K cc own nL rm) (hr : gRun E K Z I ck sk mc ms L pc st rest (fun sz => cQiA E Z post sz a)) (kk : ∀ (r : Int32) (Y : gS) (J : gI), post r Y J → G E K Y J (ck + mc) (sk + ms) L (pc + 3) (.int r :: rest)) : G E K Z I ck sk L pc st := by
  obtain ⟨⟨p, l, e, R, s, m, args, below, meth, c⟩, A, nL', Q⟩ := K
  obtain ⟨rfl, hx, hb, hml, rfl, hown, hts, rfl, hlk, hK, hA, hE⟩ := C
  intro H locs ls hW hS hl
  have hF := hW.sub (sz := H.size) (fun q hq => hA q (Nat.le_trans hS.1 hq))
  exact va_calli (hr H locs ls hW hS hl) hS (fun q _ h => hF q h) hF (fun r u t H1 locs1 ht hvm hp hB hz hk1 hS1 => kk r u.1 u.2 hp H1 locs1 ls (by rw [← ht]; exact hB.weaken hF) hS1 hl)
theorem g_govA {post : gS → gI → Prop} {a : Array Value} (C : gC E K cc own nL rm) (hr : gRun E K Z I ck sk mc ms L pc st rest (fun sz => cQvA E Z post sz a)) (kk : ∀ (Y : gS) (J : gI), post Y J → G E K Y J (ck + mc) (sk + ms) L (pc + 3) rest) : G E K Z I ck sk L pc st := by
  obtain ⟨⟨p, l, e, R, s, m, args, below, meth, c⟩, A, nL', Q⟩ := K
  obtain ⟨rfl, hx, hb, hml, rfl, hown, hts, rfl, hlk, hK, hA, hE⟩ := C
  intro H locs ls hW hS hl
  have hF := hW.sub (sz := H.size) (fun q hq => hA q (Nat.le_trans hS.1 hq))
  exact va_callv (hr H locs ls hW hS hl) hS (fun q _ h => hF q h) hF (fun u t H1 locs1 ht hvm hp hB hz hk1 hS1 => kk u.1 u.2 hp H1 locs1 ls (by rw [← ht]; exact hB.weaken hF) hS1 hl)
theorem g_gorA {post : Nat → gS → gI → Prop} {a : Array Value} (C : gC E K cc own nL rm) (hr : gRun E K Z I ck sk mc ms L pc st rest (fun sz => cQrA E Z post sz a)) (kk : ∀ (r : Nat) (Y : gS) (J : gI), post r Y J → G E K Y J (ck + mc) (sk + ms) L (pc + 3) (.ref r :: rest)) : G E K Z I ck sk L pc st := by
  obtain ⟨⟨p, l, e, R, s, m, args, below, meth, c⟩, A, nL', Q⟩ := K
  obtain ⟨rfl, hx, hb, hml, rfl, hown, hts, rfl, hlk, hK, hA, hE⟩ := C
  intro H locs ls hW hS hl
  have hF := hW.sub (sz := H.size) (fun q hq => hA q (Nat.le_trans hS.1 hq))
  exact va_callr (hr H locs ls hW hS hl) hS (fun q _ h => hF q h) hF (fun u ra t H1 locs1 ht hvm hp hB hz hk1 hS1 => by
    obtain ⟨rfl, hB⟩ := hB
    exact kk u.2.2 u.1 u.2.1 hp H1 locs1 ls (by rw [← ht]; exact hB.weaken hF) hS1 hl)
/-! starts and ends -/
theorem g_hp {P : Heap → Prop} {t : State} {H : Heap} (ht : t.heap = H) (h : P H) : P t.heap := by rw [ht]; exact h
def gR (K : gM) (Z0 : gS) (ret : Option FieldType) (Qf : Nat → Array Value → State → Outcome → State → Prop) (mc ms : Nat) : Prop := match K with
  | ((_, _, _, _, s, _, args, below, meth, _), A, _, Q) => meth.sig.returnType = ret ∧ A = cA Z0 s.heap.size ∧ Q = MQ below (Qf s.heap.size) args s mc ms A
theorem g_of {av : List Value} {L0 : List (Nat × Value)} (hy : plainName y.cls = true) (hown : y.cls = own) (hw : ws = Cond.code y cc nL ret :: ws') (hwa : ws' = lw_all) (hsz : (lg_sl av).length ≤ nL) (hL : lv_args 0 av = L0)
    (body : ∀ K : gM, gC E K cc own nL rm → gR K Z ret Qf mc ms → (y.name = "<init>" → gInit K) → G E K Z I 0 0 L0 0 []) : gMet E y ws rm Z I av Qf mc ms := by
  intro sz
  refine Met.ofW (cc := cc) (maxL := nL) (ret := ret) hy hw ?_
  intro p e s m args below meth c s₁ B hml hv
  obtain ⟨rfl, hsz9, hW, hK, hP⟩ := hv
  subst hsz9
  subst hown
  subst hL
  have hts := atoms_spec (ws := ws) B.pre
  have hts : ∀ w ∈ lw_all, w.before _ s = true := fun w h => hts w (by rw [hw, hwa]; exact List.mem_cons_of_mem _ h)
  have h := body ((p, E.1, e, rm, s, m, av.toArray, below, meth, c), cA Z s.heap.size, nL, MQ below (Qf s.heap.size) av.toArray s mc ms (cA Z s.heap.size)) ⟨rfl, B.exec, B.bytes, hml, rfl, findClass_of_methodNamed B.named, hts, rfl, B.notSynchronized, hK, fun q hq => Or.inr hq, hP⟩ ⟨B.returns, rfl, rfl⟩ (fun hn => (name_of_methodNamed B.named B.method).1.trans hn)
  rw [lg_entry_eq]
  exact h s.heap [] _ hW va_S.rf (lv_entry av hsz)
theorem g_ofH {av : List Value} {L0 : List (Nat × Value)} {hh : List (Nat × Nat × Nat × Nat)} (hy : plainName y.cls = true) (hown : y.cls = own) (hw : ws = Cond.codeWith y cc nL ret hh :: ws') (hwa : ws' = lw_all) (hsz : (lg_sl av).length ≤ nL) (hL : lv_args 0 av = L0)
    (body : ∀ K : gM, gC E K cc own nL rm → gR K Z ret Qf mc ms → G E K Z I 0 0 L0 0 []) : gMet E y ws rm Z I av Qf mc ms := by
  intro sz
  refine MetFree.of_bodyS (code := cc) (maxLocals := nL) (ret := ret) hy ?_ ?_
  · intro args s m h hn
    obtain ⟨m9, meth, c, hn9, h1, h2, h3, h4, -, h5, h6, -⟩ := Cond.codeWith_spec (atoms_spec (ws := ws) h _ (by rw [hw]; exact List.mem_cons_self))
    cases hn.symm.trans hn9
    exact ⟨meth, c, h1, h2, h3, h4, h5, h6⟩
  · intro p e s m args below meth c s₁ B hml hv _
    have hh0 : s₁.heap = s.heap := by rw [B.state]; rfl
    obtain ⟨rfl, hsz9, hW, hK, hP⟩ := hv
    subst hsz9
    subst hown
    subst hL
    have hts := atoms_spec (ws := ws) B.pre
    have hts : ∀ w ∈ lw_all, w.before _ s = true := fun w h => hts w (by rw [hw, hwa]; exact List.mem_cons_of_mem _ h)
    have h := body ((p, E.1, e, rm, s, m, av.toArray, below, meth, c), cA Z s.heap.size, nL, MQ below (Qf s.heap.size) av.toArray s mc ms (cA Z s.heap.size)) ⟨rfl, B.exec, B.bytes, hml, rfl, findClass_of_methodNamed B.named, hts, rfl, B.notSynchronized, hK, fun q hq => Or.inr hq, hP⟩ ⟨B.returns, rfl, rfl⟩
    have h2 := h s.heap [] _ hW va_S.rf (lv_entry av hsz)
    rw [← lg_entry_eq] at h2
    obtain ⟨t, a1, o, b1, b2, b3⟩ := h2 s₁ hh0 (Stand.of_body B)
    exact ⟨t, o, a1, b1, b2, ⟨b3.1, b3.2⟩⟩
variable {Z0 : gS}
theorem g_iret {post : Int32 → gI → Prop} {v : Int32} (C : gC E K cc own nL rm) (hR : gR K Z (some .int) (cQi E Z post) ck sk) (d : decode cc pc = .ok (.ireturn, 1)) (h : post v I) : G E K Z I ck sk L pc [.int v] := by
  obtain ⟨⟨p, l, e, R, s, m, args, below, meth, c⟩, A, nL', Q⟩ := K
  obtain ⟨rfl, hx, hb, hml, rfl, hown, hts, rfl, hlk, hK, hA, hE⟩ := C
  obtain ⟨hr, rfl, rfl⟩ := hR
  intro H locs ls hW hS hl
  exact W.iret hx hb hr (fun t ht hwm => ⟨⟨v, I, rfl, h, g_hp ht hW⟩, hS.F ht⟩) hS.2.2 d hlk
theorem g_n01 {v : Int32} (h : v = 0 ∨ v = 1) : narrow .boolean (.int v) = .int v := by rcases h with rfl | rfl <;> rfl
theorem g_zret {post : Int32 → gI → Prop} {v : Int32} (C : gC E K cc own nL rm) (hR : gR K Z (some .boolean) (cQi E Z post) ck sk) (d : decode cc pc = .ok (.ireturn, 1)) (hv : v = 0 ∨ v = 1) (h : post v I) : G E K Z I ck sk L pc [.int v] := by
  obtain ⟨⟨p, l, e, R, s, m, args, below, meth, c⟩, A, nL', Q⟩ := K
  obtain ⟨rfl, hx, hb, hml, rfl, hown, hts, rfl, hlk, hK, hA, hE⟩ := C
  obtain ⟨hr, rfl, rfl⟩ := hR
  intro H locs ls hW hS hl
  exact W.zret hx hb hr (g_n01 hv) (fun t ht hwm => ⟨⟨v, I, rfl, h, g_hp ht hW⟩, hS.F ht⟩) hS.2.2 d hlk
theorem g_lret {post : Int64 → gI → Prop} {v : Int64} (C : gC E K cc own nL rm) (hR : gR K Z (some .long) (cQl E Z post) ck sk) (d : decode cc pc = .ok (.lreturn, 1)) (h : post v I) : G E K Z I ck sk L pc [.long v] := by
  obtain ⟨⟨p, l, e, R, s, m, args, below, meth, c⟩, A, nL', Q⟩ := K
  obtain ⟨rfl, hx, hb, hml, rfl, hown, hts, rfl, hlk, hK, hA, hE⟩ := C
  obtain ⟨hr, rfl, rfl⟩ := hR
  intro H locs ls hW hS hl
  exact W.lret hx hb hr (fun t ht hwm => ⟨⟨v, I, rfl, h, g_hp ht hW⟩, hS.F ht⟩) hS.2.2 d hlk
theorem g_vret {post : gI → Prop} (C : gC E K cc own nL rm) (hR : gR K Z none (cQv E Z post) ck sk) (d : decode cc pc = .ok (.return_, 1)) (h : post I) : G E K Z I ck sk L pc [] := by
  obtain ⟨⟨p, l, e, R, s, m, args, below, meth, c⟩, A, nL', Q⟩ := K
  obtain ⟨rfl, hx, hb, hml, rfl, hown, hts, rfl, hlk, hK, hA, hE⟩ := C
  obtain ⟨hr, rfl, rfl⟩ := hR
  intro H locs ls hW hS hl
  exact W.vret hx hb hr (fun t ht hwm => ⟨⟨I, rfl, h, g_hp ht hW⟩, hS.F ht⟩) hS.2.2 d hlk
theorem g_iretA {post : Int32 → gS → gI → Prop} {v : Int32} (C : gC E K cc own nL rm) (hR : gR K Z0 (some .int) (cQiA E Z0 post) ck sk) (d : decode cc pc = .ok (.ireturn, 1)) (h : post v Z I) : G E K Z I ck sk L pc [.int v] := by
  obtain ⟨⟨p, l, e, R, s, m, args, below, meth, c⟩, A, nL', Q⟩ := K
  obtain ⟨rfl, hx, hb, hml, rfl, hown, hts, rfl, hlk, hK, hA, hE⟩ := C
  obtain ⟨hr, rfl, rfl⟩ := hR
  intro H locs ls hW hS hl
  exact W.iret hx hb hr (fun t ht hwm => ⟨⟨v, (Z, I), rfl, h, g_hp ht hW⟩, hS.F ht⟩) hS.2.2 d hlk
theorem g_zretA {post : Int32 → gS → gI → Prop} {v : Int32} (C : gC E K cc own nL rm) (hR : gR K Z0 (some .boolean) (cQiA E Z0 post) ck sk) (d : decode cc pc = .ok (.ireturn, 1)) (hv : v = 0 ∨ v = 1) (h : post v Z I) : G E K Z I ck sk L pc [.int v] := by
  obtain ⟨⟨p, l, e, R, s, m, args, below, meth, c⟩, A, nL', Q⟩ := K
  obtain ⟨rfl, hx, hb, hml, rfl, hown, hts, rfl, hlk, hK, hA, hE⟩ := C
  obtain ⟨hr, rfl, rfl⟩ := hR
  intro H locs ls hW hS hl
  exact W.zret hx hb hr (g_n01 hv) (fun t ht hwm => ⟨⟨v, (Z, I), rfl, h, g_hp ht hW⟩, hS.F ht⟩) hS.2.2 d hlk
theorem g_vretA {post : gS → gI → Prop} (C : gC E K cc own nL rm) (hR : gR K Z0 none (cQvA E Z0 post) ck sk) (d : decode cc pc = .ok (.return_, 1)) (h : post Z I) : G E K Z I ck sk L pc [] := by
  obtain ⟨⟨p, l, e, R, s, m, args, below, meth, c⟩, A, nL', Q⟩ := K
  obtain ⟨rfl, hx, hb, hml, rfl, hown, hts, rfl, hlk, hK, hA, hE⟩ := C
  obtain ⟨hr, rfl, rfl⟩ := hR
  intro H locs ls hW hS hl
  exact W.vret hx hb hr (fun t ht hwm => ⟨⟨(Z, I), rfl, h, g_hp ht hW⟩, hS.F ht⟩) hS.2.2 d hlk
theorem g_aretA {post : Nat → gS → gI → Prop} {v : Nat} {rt : FieldType} (C : gC E K cc own nL rm) (hR : gR K Z0 (some rt) (cQrA E Z0 post) ck sk) (hrt : (∃ n, rt = .object n) ∨ ∃ t, rt = .array t) (d : decode cc pc = .ok (.areturn, 1)) (h : post v Z I) : G E K Z I ck sk L pc [.ref v] := by
  obtain ⟨⟨p, l, e, R, s, m, args, below, meth, c⟩, A, nL', Q⟩ := K
  obtain ⟨rfl, hx, hb, hml, rfl, hown, hts, rfl, hlk, hK, hA, hE⟩ := C
  obtain ⟨hr, rfl, rfl⟩ := hR
  intro H locs ls hW hS hl
  exact W.aret hx hb hr hrt (Or.inr ⟨v, rfl⟩) (fun t ht hwm => ⟨⟨(Z, I, v), v, rfl, h, rfl, g_hp ht hW⟩, hS.F ht⟩) hS.2.2 d hlk
end GB3
