/-! THE SYSTEM's STORE. Every object and array of one of the two systems has a number of its own (k); Z says where it lies, what it is, which references it holds; I the ints that it holds. -/
section GB1
abbrev vwCl : List vw_C := [(RX0, TX0, 33), (RX8, TX8, 41), (RX9, TX9, 4), (RX10, TX10, 4), (RX11, TX11, 4), (RX12, TX12, 4), (RX13, TX13, 4), (RX14, TX14, 4), (RX2, TX2, 1), (RX4, TX4, 2), (RX5, TX5, 1), (RX6, TX6, 2), (RX7, TX7, 3), (RX1, TX1, 6)]
/-- a field's sort: 0 an int, 1 a reference, 2 a long that is an int's -/
def gfk (ci k : Nat) : Nat := match ci with
  | 0 => match k with
    | 0 => 1
    | 4 => 1
    | 7 => 1
    | 9 => 1
    | 10 => 1
    | 11 => 1
    | 21 => 1
    | 22 => 1
    | 23 => 1
    | 24 => 1
    | 25 => 1
    | 30 => 1
    | 31 => 1
    | 32 => 1
    | _ => 0
  | 1 => match k with
    | 1 => 1
    | 2 => 1
    | 5 => 1
    | 9 => 1
    | 10 => 1
    | 23 => 2
    | 27 => 1
    | 32 => 1
    | 37 => 1
    | 38 => 1
    | 39 => 1
    | 40 => 1
    | _ => 0
  | 8 => 1
  | 9 => match k with
    | 0 => 1
    | _ => 0
  | 11 => match k with
    | 1 => 1
    | _ => 0
  | 12 => match k with
    | 0 => 0
    | _ => 1
  | 13 => match k with
    | 5 => 0
    | _ => 1
  | _ => 0
def gfv (ci k : Nat) (x : Int32) (y : Option Nat) : Value := match gfk ci k with
  | 0 => .int x
  | 1 => va_rf y
  | _ => .long x.toInt64
abbrev gI : Type := Nat → Nat → Int32
/-- where, what (a sort and a length: below 10 arrays of ints, below 20 of references, 20 + c objects of class c), references -/
abbrev gS : Type := (Nat → Nat) × (Nat → Option (Nat × Nat)) × (Nat → Nat → Option Nat)
def gCell (D : va_G) (T : Nat → ClassId) (a : Nat) (sh : Nat × Nat) (i : Nat → Int32) (r : Nat → Option Nat) (H : Heap) : Prop :=
  if sh.1 < 10 then H[a]? = some (arrV (T sh.1) sh.2 (fun j => .int (i j)))
  else if sh.1 < 20 then H[a]? = some (arrV (T sh.1) sh.2 (fun j => va_rf (r j)))
  else t_OB a (D.1 (sh.1 - 20)) sh.2 (D.2 (sh.1 - 20)) H (fun k => gfv (sh.1 - 20) k (i k) (r k))
def cW (D : va_G) (T : Nat → ClassId) (A : Nat → Prop) (Z : gS) (I : gI) (H : Heap) : Prop :=
  (∀ (k : Nat) (sh : Nat × Nat), Z.2.1 k = some sh → gCell D T (Z.1 k) sh (I k) (Z.2.2 k) H ∧ A (Z.1 k)) ∧ (∀ (j k : Nat) (sj sk : Nat × Nat), Z.2.1 j = some sj → Z.2.1 k = some sk → Z.1 j = Z.1 k → j = k)
/-- what a method may change: its store's cells, and what it makes -/
def cA (Z : gS) (sz : Nat) : Nat → Prop := fun q => (∃ (k : Nat) (sh : Nat × Nat), Z.2.1 k = some sh ∧ Z.1 k = q) ∨ sz ≤ q
def up2 (I : gI) (k j : Nat) (v : Int32) : gI := fun a b => if a = k ∧ b = j then v else I a b
def upR (R : Nat → Nat → Option Nat) (k j : Nat) (v : Option Nat) : Nat → Nat → Option Nat := fun a b => if a = k ∧ b = j then v else R a b
def gSR (Z : gS) (k j : Nat) (v : Option Nat) : gS := (Z.1, Z.2.1, upR Z.2.2 k j v)
/-- a new thing, number k, at q -/
def gSN (Z : gS) (k q : Nat) (sh : Nat × Nat) : gS := (va_up Z.1 k q, va_up Z.2.1 k (some sh), fun a b => if a = k then none else Z.2.2 a b)
def gIN (I : gI) (k : Nat) : gI := fun a b => if a = k then 0 else I a b
theorem up2_s (I : gI) (k j : Nat) (v : Int32) : up2 I k j v k j = v := by simp [up2]
theorem up2_n (I : gI) {k j a b : Nat} (v : Int32) (h : ¬ (a = k ∧ b = j)) : up2 I k j v a b = I a b := by simp [up2, h]
theorem up2_k (I : gI) {k j a : Nat} (v : Int32) (h : a ≠ k) : up2 I k j v a = I a := by funext b; simp [up2, h]
theorem up2_u (I : gI) (k j : Nat) (v : Int32) : up2 I k j v k = upd (I k) j v := by funext b; simp [up2, upd]
theorem up2_uV (I : gI) (k j : Nat) (v : Int32) : (fun b => Value.int (up2 I k j v k b)) = updV (fun b => Value.int (I k b)) j (.int v) := by
  funext b; by_cases h : b = j <;> simp [up2, updV, h]
theorem upR_k (R : Nat → Nat → Option Nat) {k j a : Nat} (v : Option Nat) (h : a ≠ k) : upR R k j v a = R a := by funext b; simp [upR, h]
theorem upR_uV (R : Nat → Nat → Option Nat) (k j : Nat) (v : Option Nat) : (fun b => va_rf (upR R k j v k b)) = updV (fun b => va_rf (R k b)) j (va_rf v) := by
  funext b; by_cases h : b = j <;> simp [upR, updV, h]
theorem gCell_i {D : va_G} {T : Nat → ClassId} {a c n : Nat} {i : Nat → Int32} {r : Nat → Option Nat} {H : Heap} (hc : c < 10) : gCell D T a (c, n) i r H ↔ H[a]? = some (arrV (T c) n (fun j => .int (i j))) := by
  unfold gCell; rw [if_pos hc]
theorem gCell_q {D : va_G} {T : Nat → ClassId} {a c n : Nat} {i : Nat → Int32} {r : Nat → Option Nat} {H : Heap} (h1 : ¬ c < 10) (h2 : c < 20) : gCell D T a (c, n) i r H ↔ H[a]? = some (arrV (T c) n (fun j => va_rf (r j))) := by
  unfold gCell; rw [if_neg h1, if_pos h2]
theorem gCell_o {D : va_G} {T : Nat → ClassId} {a ci n : Nat} {i : Nat → Int32} {r : Nat → Option Nat} {H : Heap} : gCell D T a (20 + ci, n) i r H ↔ t_OB a (D.1 ci) n (D.2 ci) H (fun k => gfv ci k (i k) (r k)) := by
  unfold gCell; rw [if_neg (by omega), if_neg (by omega), Nat.add_sub_cancel_left]
theorem gCell.kept {D : va_G} {T : Nat → ClassId} {a : Nat} {sh : Nat × Nat} {i : Nat → Int32} {r : Nat → Option Nat} {H H1 : Heap} (h : gCell D T a sh i r H) (q : H1[a]? = H[a]?) : gCell D T a sh i r H1 := by
  unfold gCell at h ⊢
  split
  · rw [if_pos (by assumption)] at h; rw [q]; exact h
  · rw [if_neg (by assumption)] at h
    split
    · rw [if_pos (by assumption)] at h; rw [q]; exact h
    · rw [if_neg (by assumption)] at h; exact h.kept q
theorem gCell.lt {D : va_G} {T : Nat → ClassId} {a : Nat} {sh : Nat × Nat} {i : Nat → Int32} {r : Nat → Option Nat} {H : Heap} (h : gCell D T a sh i r H) : a < H.size := by
  unfold gCell at h
  split at h
  · exact (Array.getElem?_eq_some_iff.mp h).1
  · split at h
    · exact (Array.getElem?_eq_some_iff.mp h).1
    · obtain ⟨cell, h1, -⟩ := h
      exact (Array.getElem?_eq_some_iff.mp h1).1
section
variable {D : va_G} {T : Nat → ClassId} {A : Nat → Prop} {Z : gS} {I : gI} {H H1 : Heap} {k j : Nat} {sh : Nat × Nat}
theorem cW.lt (h : cW D T A Z I H) (hs : Z.2.1 k = some sh) : Z.1 k < H.size := (h.1 k sh hs).1.lt
theorem cW.weaken {B : Nat → Prop} (h : cW D T A Z I H) (hAB : ∀ q, A q → B q) : cW D T B Z I H := ⟨fun k sh hs => ⟨(h.1 k sh hs).1, hAB _ (h.1 k sh hs).2⟩, h.2⟩
theorem cW.self (h : cW D T A Z I H) (sz : Nat) : cW D T (cA Z sz) Z I H := ⟨fun k sh hs => ⟨(h.1 k sh hs).1, Or.inl ⟨k, sh, hs, rfl⟩⟩, h.2⟩
theorem cW.sub (h : cW D T A Z I H) {sz : Nat} (hA : ∀ q, sz ≤ q → A q) : ∀ q, cA Z sz q → A q := by
  intro q hq
  rcases hq with ⟨k, sh, hs, rfl⟩ | hq
  · exact (h.1 k sh hs).2
  · exact hA q hq
theorem cW.setI {v : Int32} (hW : cW D T A Z I H) (hs : Z.2.1 k = some sh) (hc : gCell D T (Z.1 k) sh (up2 I k j v k) (Z.2.2 k) H1) (oq : ∀ q : Nat, q ≠ Z.1 k → H1[q]? = H[q]?) : cW D T A Z (up2 I k j v) H1 := by
  refine ⟨fun a sa ha => ?_, hW.2⟩
  by_cases hak : a = k
  · subst hak
    cases hs.symm.trans ha
    exact ⟨hc, (hW.1 a _ ha).2⟩
  · rw [up2_k I v hak]
    exact ⟨(hW.1 a sa ha).1.kept (oq _ (fun e => hak (hW.2 a k sa sh ha hs e))), (hW.1 a sa ha).2⟩
theorem cW.setR {v : Option Nat} (hW : cW D T A Z I H) (hs : Z.2.1 k = some sh) (hc : gCell D T (Z.1 k) sh (I k) (upR Z.2.2 k j v k) H1) (oq : ∀ q : Nat, q ≠ Z.1 k → H1[q]? = H[q]?) : cW D T A (gSR Z k j v) I H1 := by
  refine ⟨fun a sa ha => ?_, hW.2⟩
  have ha : Z.2.1 a = some sa := ha
  by_cases hak : a = k
  · subst hak
    cases hs.symm.trans ha
    exact ⟨hc, (hW.1 a _ ha).2⟩
  · show gCell D T (Z.1 a) sa (I a) (upR Z.2.2 k j v a) H1 ∧ A (Z.1 a)
    rw [upR_k _ v hak]
    exact ⟨(hW.1 a sa ha).1.kept (oq _ (fun e => hak (hW.2 a k sa sh ha hs e))), (hW.1 a sa ha).2⟩
theorem cW.new (hW : cW D T A Z I H) (hn : Z.2.1 k = none) (hc : gCell D T H.size sh (fun _ => 0) (fun _ => none) H1) (oq : ∀ q : Nat, q < H.size → H1[q]? = H[q]?) (hA : A H.size) : cW D T A (gSN Z k H.size sh) (gIN I k) H1 := by
  refine ⟨fun a sa ha => ?_, fun a b sa sb ha hb hab => ?_⟩
  · have ha : va_up Z.2.1 k (some sh) a = some sa := ha
    show gCell D T (va_up Z.1 k H.size a) sa (gIN I k a) (fun b => if a = k then none else Z.2.2 a b) H1 ∧ A (va_up Z.1 k H.size a)
    by_cases hak : a = k
    · subst hak
      rw [va_up_self] at ha ⊢
      cases ha
      have e1 : gIN I a a = fun _ => 0 := by funext b; simp [gIN]
      rw [e1]
      simp only [if_pos rfl]
      exact ⟨hc, hA⟩
    · rw [va_up_ne _ _ hak] at ha ⊢
      have e1 : gIN I k a = I a := by funext b; simp [gIN, hak]
      have e2 : (fun b => if a = k then none else Z.2.2 a b) = Z.2.2 a := by funext b; simp [hak]
      rw [e1, e2]
      exact ⟨(hW.1 a sa ha).1.kept (oq _ (hW.lt ha)), (hW.1 a sa ha).2⟩
  · have ha : va_up Z.2.1 k (some sh) a = some sa := ha
    have hb : va_up Z.2.1 k (some sh) b = some sb := hb
    have hab : va_up Z.1 k H.size a = va_up Z.1 k H.size b := hab
    by_cases hak : a = k <;> by_cases hbk : b = k
    · rw [hak, hbk]
    · subst hak
      rw [va_up_self, va_up_ne _ _ hbk] at hab
      rw [va_up_ne _ _ hbk] at hb
      have := hW.lt hb
      omega
    · subst hbk
      rw [va_up_self, va_up_ne _ _ hak] at hab
      rw [va_up_ne _ _ hak] at ha
      have := hW.lt ha
      omega
    · rw [va_up_ne _ _ hak] at ha hab
      rw [va_up_ne _ _ hbk] at hb hab
      exact hW.2 a b sa sb ha hb hab
end
abbrev gTys (T : Nat → ClassId) : List (ClassId × FieldType) := [(T 0, .int), (T 1, .byte), (T 2, .short), (T 3, .boolean), (T 10, .object "LoserKeepsTheBoard$Player"), (T 11, .object "LoserKeepsTheBoard$Node"), (T 12, .array (.object "LoserKeepsTheBoard$Node")), (T 13, .object "java/lang/String"), (T 14, .array .int), (T 15, .object "LoserKeepsTheBoard$Sheet")]
abbrev cK (D : va_G) (T : Nat → ClassId) (U : State) : Prop := va_K D vwCl (gTys T) U
/-- a fact of a state that only the tables and the cells outside A decide -/
def gCl (P : (Nat → Prop) → State → Prop) : Prop := ∀ (A B : Nat → Prop) (u U : State), (∀ q, B q → A q) → u.vm.Alike U.vm → (∀ a : Nat, a < u.heap.size → ¬ A a → U.heap[a]? = u.heap[a]?) → P A u → P B U
/-- what all methods of a run share: the launch, the classes, and a fact that stays -/
abbrev gE : Type := Launch × va_G × (Nat → ClassId) × { P : (Nat → Prop) → State → Prop // gCl P }
/-- a method's machine: what is fixed from its start to its end -/
abbrev gM : Type := (Program × Launch × Env × Room × State × MethodId × Array Value × List Frame × Method × Code) × (Nat → Prop) × Nat × (State → Prop)
def G (E : gE) (K : gM) (Z : gS) (I : gI) (ck sk : Nat) (L : List (Nat × Value)) (pc : Nat) (st : List Value) : Prop := match K with
  | ((p, l, e, R, s, m, args, below, meth, c), A, nL, Q) => ∀ (H : Heap) (locs : List Loc) (ls : Array Slot), cW E.2.1 E.2.2.1 A Z I H → va_S A s.heap H locs → lv_has ls nL L → W p l e R s m args below meth c H locs ck sk Q (F0 m pc ls st)
def gC (E : gE) (K : gM) (cc : ByteArray) (own : String) (nL : Nat) (rm : Room) : Prop := match K with
  | ((p, l, _, R, s, m, args, _, meth, c), A, nL', _) => l = E.1 ∧ p.tables.exec = Jvm.exec ∧ c.code = cc ∧ c.maxLocals = nL' ∧ nL' = nL ∧ s.vm.findClass own = some m.cls ∧ (∀ w ∈ lw_all, w.before args s = true) ∧ R = rm ∧ meth.locks = false ∧ cK E.2.1 E.2.2.1 s ∧ (∀ q : Nat, s.heap.size ≤ q → A q) ∧ E.2.2.2.1 A s
def gInit (K : gM) : Prop := match K with
  | ((_, _, _, _, _, _, _, _, meth, _), _, _, _) => meth.name = "<init>"
/-- a method's start -/
def cPre (E : gE) (Z : gS) (I : gI) (av : List Value) (sz : Nat) : Array Value → State → Prop := va_Pc av (fun U => U.heap.size = sz ∧ cW E.2.1 E.2.2.1 (cA Z sz) Z I U.heap ∧ cK E.2.1 E.2.2.1 U ∧ E.2.2.2.1 (cA Z sz) U)
/-- a contract: any store, any caller -/
def gMet (E : gE) (y : MethodName) (ws : List Cond) (rm : Room) (Z : gS) (I : gI) (av : List Value) (Qf : Nat → Array Value → State → Outcome → State → Prop) (mc ms : Nat) : Prop := ∀ sz : Nat, Met E.1 y ws rm (cPre E Z I av sz) (Qf sz) mc ms (cA Z sz)
def cQi (E : gE) (Z : gS) (post : Int32 → gI → Prop) (sz : Nat) : Array Value → State → Outcome → State → Prop := va_Qi post (fun I' t => cW E.2.1 E.2.2.1 (cA Z sz) Z I' t.heap) (cA Z sz)
def cQl (E : gE) (Z : gS) (post : Int64 → gI → Prop) (sz : Nat) : Array Value → State → Outcome → State → Prop := va_Ql post (fun I' t => cW E.2.1 E.2.2.1 (cA Z sz) Z I' t.heap) (cA Z sz)
def cQv (E : gE) (Z : gS) (post : gI → Prop) (sz : Nat) : Array Value → State → Outcome → State → Prop := va_Qv post (fun I' t => cW E.2.1 E.2.2.1 (cA Z sz) Z I' t.heap) (cA Z sz)
/-- .. of methods that make things -/
def cQiA (E : gE) (Z : gS) (post : Int32 → gS → gI → Prop) (sz : Nat) : Array Value → State → Outcome → State → Prop := va_Qi (S := gS × gI) (fun r u => post r u.1 u.2) (fun u t => cW E.2.1 E.2.2.1 (cA Z sz) u.1 u.2 t.heap) (cA Z sz)
def cQvA (E : gE) (Z : gS) (post : gS → gI → Prop) (sz : Nat) : Array Value → State → Outcome → State → Prop := va_Qv (S := gS × gI) (fun u => post u.1 u.2) (fun u t => cW E.2.1 E.2.2.1 (cA Z sz) u.1 u.2 t.heap) (cA Z sz)
def cQrA (E : gE) (Z : gS) (post : Nat → gS → gI → Prop) (sz : Nat) : Array Value → State → Outcome → State → Prop := va_Qr (S := gS × gI × Nat) (fun u => post u.2.2 u.1 u.2.1) (fun u a t => u.2.2 = a ∧ cW E.2.1 E.2.2.1 (cA Z sz) u.1 u.2.1 t.heap) (cA Z sz)
end GB1
