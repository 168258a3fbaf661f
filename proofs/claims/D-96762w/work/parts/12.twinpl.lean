/-! the twin's game: one game, what is laid aside -/
section TP2
def agr (S : Nat → Nat → Prop) (I J : gI) : Prop := ∀ k j, ¬ S k j → J k j = I k j
theorem agr.rf {S : Nat → Nat → Prop} {I : gI} : agr S I I := fun _ _ _ => rfl
theorem agr.tr {S S1 S2 : Nat → Nat → Prop} {I J Q : gI} (h1 : agr S1 I J) (h2 : agr S2 J Q) (a : ∀ k j, S1 k j → S k j) (b : ∀ k j, S2 k j → S k j) : agr S I Q := fun k j h => (h2 k j (fun q => h (b k j q))).trans (h1 k j (fun q => h (a k j q)))
theorem agr.up {S S1 : Nat → Nat → Prop} {I J : gI} {a c : Nat} {v : Int32} (h : agr S1 I J) (s : ∀ k j, S1 k j → S k j) (q : S a c) : agr S I (up2 J a c v) := fun k j n => (up2_n _ _ (fun e => n (by rw [e.1, e.2]; exact q))).trans (h k j (fun z => n (s k j z)))
/-- the places that the reading of a text may change -/
def SR (k j : Nat) : Prop := k = 0 ∧ 18 ≤ j ∧ j ≤ 26
/-- .. what a question may change -/
def SY (k j : Nat) : Prop := k = 0 ∧ 12 ≤ j ∧ j ≤ 26
/-- .. a game, or what is tried -/
def SG (k j : Nat) : Prop := k = 5 ∨ k = 6 ∨ (k = 0 ∧ (7 ≤ j ∧ j ≤ 8 ∨ 12 ≤ j ∧ j ≤ 26 ∨ 28 ≤ j ∧ j ≤ 31))
def SGm (k j : Nat) : Prop := k = 5 ∨ (k = 0 ∧ (j = 7 ∨ j = 8))
/-- text t is good, and means s -/
def tT (I : gI) (t : Nat) (s : gSm) : Prop := ∃ (n : Nat) (b : Nat → Nat), n ≤ 160 ∧ I 2 t = nI n ∧ (∀ i, i < n → b i < 256 ∧ I 1 (160 * t + i) = nI (b i)) ∧ (txt b n).2 = .inr s
/-- what a run's questions rest on: how many players, their kinds, the rule, the texts -/
def tX (I : gI) (mn : Nat) (kd : Nat → Nat) (rl tn : Nat) (sm : Nat → gSm) : Prop := I 0 11 = nI mn ∧ mn ≤ 6 ∧ (∀ p, p < mn → I 4 p = nI (kd p) ∧ kd p ≤ 5) ∧ I 0 4 = nI rl ∧ rl < tn ∧ tn ≤ 6 ∧ I 0 3 = nI tn ∧ ∀ t, t < tn → tT I t (sm t)
/-- the store I, out of I0 by games: the state g, am things laid aside, the f-th fr f -/
def tV (I0 I : gI) (g : gG) (am : Nat) (fr : Nat → gG) : Prop := agr SG I0 I ∧ (∀ j, j < 24 → I 5 j = g j) ∧ I 0 8 = g 24 ∧ I 0 7 = g 25 ∧ I 0 28 = nI am ∧ am ≤ 8 ∧ ∀ f k, f < am → k < 26 → I 6 (26 * f + k) = fr f k
def tP (I0 : gI) (mn : Nat) (kd : Nat → Nat) (rl tn : Nat) (sm : Nat → gSm) (am : Nat) (fr : Nat → gG) (g : gG) (I : gI) : Prop := tX I0 mn kd rl tn sm ∧ gB mn g ∧ tV I0 I g am fr
section
variable {I0 I J : gI} {mn rl tn am : Nat} {kd : Nat → Nat} {sm : Nat → gSm} {fr : Nat → gG} {g : gG}
theorem tP.many (h : tP I0 mn kd rl tn sm am fr g I) : I 0 11 = nI mn := (h.2.2.1 0 11 (by unfold SG; omega)).trans h.1.1
theorem tP.mn6 (h : tP I0 mn kd rl tn sm am fr g I) : mn ≤ 6 := h.1.2.1
theorem tP.kind (h : tP I0 mn kd rl tn sm am fr g I) {p : Nat} (hp : p < mn) : I 4 p = nI (kd p) := (h.2.2.1 4 p (by unfold SG; omega)).trans (h.1.2.2.1 p hp).1
theorem tP.kd5 (h : tP I0 mn kd rl tn sm am fr g I) {p : Nat} (hp : p < mn) : kd p ≤ 5 := (h.1.2.2.1 p hp).2
theorem tP.rule (h : tP I0 mn kd rl tn sm am fr g I) : I 0 4 = nI rl := (h.2.2.1 0 4 (by unfold SG; omega)).trans h.1.2.2.2.1
theorem tP.rl6 (h : tP I0 mn kd rl tn sm am fr g I) : rl < 6 := Nat.lt_of_lt_of_le h.1.2.2.2.2.1 h.1.2.2.2.2.2.1
theorem tP.row (h : tP I0 mn kd rl tn sm am fr g I) {j : Nat} (hj : j < 24) : I 5 j = g j := h.2.2.2.1 j hj
theorem tP.hall (h : tP I0 mn kd rl tn sm am fr g I) : I 0 8 = g 24 := h.2.2.2.2.1
theorem tP.round (h : tP I0 mn kd rl tn sm am fr g I) : I 0 7 = g 25 := h.2.2.2.2.2.1
theorem tP.amN (h : tP I0 mn kd rl tn sm am fr g I) : I 0 28 = nI am := h.2.2.2.2.2.2.1
theorem tP.am8 (h : tP I0 mn kd rl tn sm am fr g I) : am ≤ 8 := h.2.2.2.2.2.2.2.1
theorem tP.frm (h : tP I0 mn kd rl tn sm am fr g I) {f k : Nat} (hf : f < am) (hk : k < 26) : I 6 (26 * f + k) = fr f k := h.2.2.2.2.2.2.2.2 f k hf hk
theorem tP.gB9 (h : tP I0 mn kd rl tn sm am fr g I) : gB mn g := h.2.1
theorem tP.has (h : tP I0 mn kd rl tn sm am fr g I) {p : Nat} (hp : p < mn) : ∃ n, n < 256 ∧ g (4 * p + 3) = nI n := h.2.1.1 p hp
theorem tP.hallB (h : tP I0 mn kd rl tn sm am fr g I) : ∃ n, n < 256 ∧ g 24 = nI n := h.2.1.2
theorem tT.agr {t : Nat} {s : gSm} (h : tT I t s) (a : ∀ k j, (k = 1 ∨ k = 2) → J k j = I k j) : tT J t s := by
  obtain ⟨n, b, h1, h2, h3, h4⟩ := h
  exact ⟨n, b, h1, (a 2 t (Or.inr rfl)).trans h2, fun i hi => ⟨(h3 i hi).1, (a 1 _ (Or.inl rfl)).trans (h3 i hi).2⟩, h4⟩
theorem tP.text (h : tP I0 mn kd rl tn sm am fr g I) : tT I rl (sm rl) := (h.1.2.2.2.2.2.2.2 rl h.1.2.2.2.2.1).agr (fun k j q => h.2.2.1 k j (by unfold SG; omega))
theorem tP.mono (h : tP I0 mn kd rl tn sm am fr g I) (a : agr SY I J) : tP I0 mn kd rl tn sm am fr g J := by
  refine ⟨h.1, h.2.1, h.2.2.1.tr a (fun _ _ q => q) (fun k j q => by unfold SY at q; unfold SG; omega), fun j hj => (a 5 j (by unfold SY; omega)).trans (h.row hj), (a 0 8 (by unfold SY; omega)).trans h.hall, (a 0 7 (by unfold SY; omega)).trans h.round, (a 0 28 (by unfold SY; omega)).trans h.amN, h.am8, fun f k hf hk => (a 6 _ (by unfold SY; omega)).trans (h.frm hf hk)⟩
theorem tP.upd (h : tP I0 mn kd rl tn sm am fr g I) {g' : gG} (a : agr SGm I J) (h5 : ∀ j, j < 24 → J 5 j = g' j) (h8 : J 0 8 = g' 24) (h7 : J 0 7 = g' 25) (hB : gB mn g') : tP I0 mn kd rl tn sm am fr g' J :=
  ⟨h.1, hB, h.2.2.1.tr a (fun _ _ q => q) (fun k j q => by unfold SGm at q; unfold SG; omega), h5, h8, h7, (a 0 28 (by unfold SGm; omega)).trans h.amN, h.am8, fun f k hf hk => (a 6 _ (by unfold SGm; omega)).trans (h.frm hf hk)⟩
/-- one place laid aside -/
theorem tP.asd (h : tP I0 mn kd rl tn sm am fr g I) {k : Nat} {v : Int32} (hk : k < 26) : tP I0 mn kd rl tn sm am fr g (up2 I 6 (26 * am + k) v) :=
  ⟨h.1, h.2.1, h.2.2.1.up (fun _ _ q => q) (by unfold SG; omega), fun j hj => (up2_n _ _ (by omega)).trans (h.row hj), (up2_n _ _ (by omega)).trans h.hall, (up2_n _ _ (by omega)).trans h.round, (up2_n _ _ (by omega)).trans h.amN, h.am8, fun f j hf hj => (up2_n _ _ (by omega)).trans (h.frm hf hj)⟩
theorem asd_s {i : Nat} {J : gI} {v : Int32} (hc : ∀ k, k < i → J 6 (26 * am + k) = g k) (hv : v = g i := by rfl) : ∀ k, k < i + 1 → up2 J 6 (26 * am + i) v 6 (26 * am + k) = g k := by
  intro k hk
  by_cases e : k = i
  · subst e
    rw [up2_s, hv]
  · rw [up2_n _ _ (by omega)]
    exact hc k (by omega)
theorem tP.push (h : tP I0 mn kd rl tn sm am fr g I) (h8 : am < 8) (hc : ∀ k, k < 24 → I 6 (26 * am + k) = g k) (_ : True := trivial) : tP I0 mn kd rl tn sm (am + 1) (va_up fr am g) g (up2 (up2 (up2 I 6 (26 * am + 24) (g 24)) 6 (26 * am + 25) (g 25)) 0 28 (nI (am + 1))) := by
  refine ⟨h.1, h.2.1, ((h.2.2.1.up (S := SG) (fun _ _ q => q) (by unfold SG; omega)).up (S := SG) (fun _ _ q => q) (by unfold SG; omega)).up (fun _ _ q => q) (by unfold SG; omega), fun j hj => ?_, ?_, ?_, ?_, by omega, fun f k hf hk => ?_⟩
  · rw [up2_n _ _ (by omega), up2_n _ _ (by omega), up2_n _ _ (by omega)]; exact h.row hj
  · rw [up2_n _ _ (by omega), up2_n _ _ (by omega), up2_n _ _ (by omega)]; exact h.hall
  · rw [up2_n _ _ (by omega), up2_n _ _ (by omega), up2_n _ _ (by omega)]; exact h.round
  · rw [up2_s]
  · by_cases e : f = am
    · subst e
      rw [va_up_self, up2_n _ _ (by omega)]
      by_cases e5 : k = 25
      · subst e5; rw [up2_s]
      · rw [up2_n _ _ (by omega)]
        by_cases e4 : k = 24
        · subst e4; rw [up2_s]
        · rw [up2_n _ _ (by omega)]; exact hc k (by omega)
    · rw [va_up_ne _ _ e, up2_n _ _ (by omega), up2_n _ _ (by omega), up2_n _ _ (by omega)]
      exact h.frm (by omega) hk
theorem tP.frc (h : tP I0 mn kd rl tn sm am fr g I) {fr' : Nat → gG} (hf : ∀ f, f < am → fr f = fr' f) : tP I0 mn kd rl tn sm am fr' g I :=
  ⟨h.1, h.2.1, h.2.2.1, h.2.2.2.1, h.hall, h.round, h.amN, h.am8, fun f k h1 h2 => by rw [← hf f h1]; exact h.frm h1 h2⟩
theorem tP.unp {g0 : gG} (h : tP I0 mn kd rl tn sm am (va_up fr am g0) (va_up fr am g0 am) I) : tP I0 mn kd rl tn sm am fr g0 I := by
  rw [va_up_self] at h
  exact h.frc (fun f hf => va_up_ne _ _ (by omega))
/-- while it is laid back: i places of the rows are done -/
def lbI (I0 : gI) (mn : Nat) (kd : Nat → Nat) (rl tn : Nat) (sm : Nat → gSm) (am : Nat) (fr : Nat → gG) (i : Nat) (J : gI) : Prop := J 0 28 = nI am ∧ (tX I0 mn kd rl tn sm ∧ agr SG I0 J ∧ am ≤ 8 ∧ (∀ j, j < i → J 5 j = fr am j) ∧ ∀ f k, f < am → k < 26 → J 6 (26 * f + k) = fr f k) ∧ ∀ k, k < 26 → J 6 (26 * am + k) = fr am k
theorem tP.lb0 (h : tP I0 mn kd rl tn sm (am + 1) fr g I) : lbI I0 mn kd rl tn sm am fr 0 (up2 I 0 28 (nI am)) := by
  have h8 := h.am8
  exact ⟨up2_s _ _ _ _, ⟨h.1, h.2.2.1.up (fun _ _ q => q) (by unfold SG; omega), by omega, fun j hj => absurd hj (by omega), fun f k hf hk => (up2_n _ _ (by omega)).trans (h.frm (by omega) hk)⟩, fun k hk => (up2_n _ _ (by omega)).trans (h.frm (by omega) hk)⟩
theorem lbI.lbs {i : Nat} (h : lbI I0 mn kd rl tn sm am fr i I) (hi : i < 24) : lbI I0 mn kd rl tn sm am fr (i + 1) (up2 I 5 i (fr am i)) := by
  obtain ⟨h1, ⟨h2, h3, h4, h5, h6⟩, h7⟩ := h
  refine ⟨(up2_n _ _ (by omega)).trans h1, ⟨h2, h3.up (fun _ _ q => q) (by unfold SG; omega), h4, fun j hj => ?_, fun f k hf hk => (up2_n _ _ (by omega)).trans (h6 f k hf hk)⟩, fun k hk => (up2_n _ _ (by omega)).trans (h7 k hk)⟩
  by_cases e : j = i
  · subst e; rw [up2_s]
  · rw [up2_n _ _ (by omega)]; exact h5 j (by omega)
theorem lbI.fin {i : Nat} (h : lbI I0 mn kd rl tn sm am fr i I) (hi : 24 ≤ i) (hg : gB mn (fr am)) : tP I0 mn kd rl tn sm am fr (fr am) (up2 (up2 I 0 8 (fr am 24)) 0 7 (fr am 25)) := by
  obtain ⟨h1, ⟨h2, h3, h4, h5, h6⟩, h7⟩ := h
  refine ⟨h2, hg, (h3.up (S := SG) (fun _ _ q => q) (by unfold SG; omega)).up (fun _ _ q => q) (by unfold SG; omega), fun j hj => ?_, ?_, ?_, ?_, h4, fun f k hf hk => ?_⟩
  · rw [up2_n _ _ (by omega), up2_n _ _ (by omega)]; exact h5 j (by omega)
  · rw [up2_n _ _ (by omega), up2_s]
  · rw [up2_s]
  · rw [up2_n _ _ (by omega), up2_n _ _ (by omega)]; exact h1
  · rw [up2_n _ _ (by omega), up2_n _ _ (by omega)]; exact h6 f k hf hk
end
/-- what a question answers -/
def sy (s : gSm) (which : Nat) (e : Nat → Int32) : Int32 := if which = 0 then wi (s 0 e) 0 99 else if which = 2 then wi (s 2 e) (-9) 9 else s which e
/-- what the names say -/
def ofE (I : gI) : Nat → Int32 := fun k => match k with
  | 0 => I 0 12
  | 1 => I 0 13
  | 2 => I 0 14
  | 3 => I 0 15
  | 4 => I 0 16
  | _ => I 0 17
end TP2
section TP2b
theorem nI_m1 {a : Nat} (h : a < 2 ^ 31) : nI a ≠ -1 := by
  intro e
  have := congrArg Int32.toInt e
  rw [nI_toInt h] at this
  have e2 : (-1 : Int32).toInt = -1 := by decide
  omega
theorem nI_m1r {a : Nat} (h : a < 2 ^ 31) : (-1 : Int32) ≠ nI a := fun e => nI_m1 h e.symm
theorem nI_2 : nI 2 = 2 := rfl
theorem nI_3 : nI 3 = 3 := rfl
theorem nI_4 : nI 4 = 4 := rfl
theorem nI_9 : nI 9 = 9 := rfl
theorem nI_10 : nI 10 = 10 := rfl
theorem nI_50 : nI 50 = 50 := rfl
theorem nI_99 : nI 99 = 99 := rfl
theorem nI_999 : nI 999 = 999 := rfl
theorem wi_0 : wi 0 0 999 = 0 := by decide
theorem wi_0t : wi 0 (-99) 99 = 0 := by decide
theorem wn_lt (kd : Nat → Nat) (s : gSm) (g : gG) (a b : Nat) : wn kd s g a b < 3 := by
  unfold wn
  split
  · omega
  · split <;> omega
theorem wn_0 {kd : Nat → Nat} {s : gSm} {g : gG} {a b : Nat} (h : ¬ pw kd s g a b ≤ pw kd s g b a) : nI a = wnI (wn kd s g a b) a b := by
  have h := k2_lt h
  simp [wn, h, wnI]
theorem wn_1 {kd : Nat → Nat} {s : gSm} {g : gG} {a b : Nat} (h : pw kd s g a b ≤ pw kd s g b a) (h2 : ¬ pw kd s g b a ≤ pw kd s g a b) : nI b = wnI (wn kd s g a b) a b := by
  have h := k2_nlt h
  have h2 := k2_lt h2
  simp [wn, h, h2, wnI]
theorem wn_2 {kd : Nat → Nat} {s : gSm} {g : gG} {a b : Nat} (h : pw kd s g a b ≤ pw kd s g b a) (h2 : pw kd s g b a ≤ pw kd s g a b) : (-1 : Int32) = wnI (wn kd s g a b) a b := by
  have h := k2_nlt h
  have h2 := k2_nlt h2
  simp [wn, h, h2, wnI]
theorem nI_or (a b : Nat) : nI a ||| nI b = nI (a ||| b) := by
  apply Int32.toBitVec_inj.mp
  rw [Int32.toBitVec_or]
  show BitVec.ofNat 32 a ||| BitVec.ofNat 32 b = BitVec.ofNat 32 (a ||| b)
  apply BitVec.eq_of_toNat_eq
  rw [BitVec.toNat_or, BitVec.toNat_ofNat, BitVec.toNat_ofNat, BitVec.toNat_ofNat, Nat.or_mod_two_pow]
theorem sg_B {mn : Nat} {g : gG} {a b : Nat} (h : gB mn g) (ha : a < mn) (hb : b < mn) : ∃ n, n < 256 ∧ sg g a b = nI n := by
  obtain ⟨x, hx, ex⟩ := h.1 a ha
  obtain ⟨y, hy, ey⟩ := h.1 b hb
  obtain ⟨z, hz, ez⟩ := h.2
  refine ⟨x ||| y ||| z, Nat.or_lt_two_pow (n := 8) (Nat.or_lt_two_pow (n := 8) hx hy) hz, ?_⟩
  unfold sg
  rw [ex, ey, ez, nI_or, nI_or]
theorem gme_gB {mn : Nat} {kd : Nat → Nat} {s : gSm} {g : gG} {a b : Nat} (h : gB mn g) (ha : a < mn) (hb : b < mn) : gB mn (gme kd s g a b) := by
  have h0 : ∃ n, n < 256 ∧ (0 : Int32) = nI n := ⟨0, by omega, rfl⟩
  have hs := sg_B h ha hb
  refine ⟨fun p hp => ?_, ?_⟩
  · have hp0 := h.1 p hp
    simp only [gme]
    have n1 : ¬ 4 * p + 3 = 4 * a + 2 := by omega
    have n2 : ¬ 4 * p + 3 = 4 * b + 2 := by omega
    have n3 : ¬ 4 * p + 3 = 4 * a + 1 := by omega
    have n4 : ¬ 4 * p + 3 = 4 * b + 1 := by omega
    have n5 : ¬ 4 * p + 3 = 24 := by omega
    have n6 : ¬ 4 * p + 3 = 25 ∨ 4 * p + 3 = 25 := by omega
    simp only [n1, n2, n3, n4, n5, if_false]
    by_cases e5 : 4 * p + 3 = 25
    · omega
    · simp only [e5, if_false]
      split
      · split <;> assumption
      · split
        · split <;> assumption
        · exact hp0
  · simp only [gme]
    simp only [show ¬ 24 = 25 by omega, if_false, if_true]
    split <;> assumption
theorem gme_w0 {kd : Nat → Nat} {s : gSm} {g : gG} {a b j : Nat} {J : gI} {x7 x8 : Int32} (hab : a ≠ b) (hw : wn kd s g a b = 0) (hj : j < 24) (h : J 5 j = g j) : (up2 (up2 (up2 (up2 (up2 (up2 (up2 (up2 J 5 (4 * a + 3) (nI 0)) 5 (4 * b + 3) (nI 0)) 0 8 x8) 5 (4 * b + 3) (sg g a b)) 5 (4 * a + 2) (wi (g (4 * a + 2) + nI 1) (nI 0) (nI 999))) 5 (4 * a + 1) (wi (g (4 * a + 1) - ti kd s g a b true) (nI 0) (nI 99))) 5 (4 * b + 1) (wi (g (4 * b + 1) - ti kd s g b a false) (nI 0) (nI 99))) 0 7 x7) 5 j = gme kd s g a b j := by
  have e : gme kd s g a b j = (if j = 25 then g 25 + 1 else if j = 24 then (0) else if j = 4 * a + 3 then 0 else if j = 4 * b + 3 then sg g a b else if j = 4 * a + 2 then wi (g j + 1) 0 999 else if j = 4 * b + 2 then g j else if j = 4 * a + 1 then wi (g j - ti kd s g a b true) 0 99 else if j = 4 * b + 1 then wi (g j - ti kd s g b a false) 0 99 else g j) := by unfold gme; rw [hw]; rfl
  rw [e]
  simp only [up2, nI_lit0, nI_one, nI_99, nI_999]
  grind
theorem gme_w1 {kd : Nat → Nat} {s : gSm} {g : gG} {a b j : Nat} {J : gI} {x7 x8 : Int32} (hab : a ≠ b) (hw : wn kd s g a b = 1) (hj : j < 24) (h : J 5 j = g j) : (up2 (up2 (up2 (up2 (up2 (up2 (up2 (up2 J 5 (4 * a + 3) (nI 0)) 5 (4 * b + 3) (nI 0)) 0 8 x8) 5 (4 * a + 3) (sg g a b)) 5 (4 * b + 2) (wi (g (4 * b + 2) + nI 1) (nI 0) (nI 999))) 5 (4 * a + 1) (wi (g (4 * a + 1) - ti kd s g a b false) (nI 0) (nI 99))) 5 (4 * b + 1) (wi (g (4 * b + 1) - ti kd s g b a true) (nI 0) (nI 99))) 0 7 x7) 5 j = gme kd s g a b j := by
  have e : gme kd s g a b j = (if j = 25 then g 25 + 1 else if j = 24 then (0) else if j = 4 * a + 3 then sg g a b else if j = 4 * b + 3 then 0 else if j = 4 * a + 2 then g j else if j = 4 * b + 2 then wi (g j + 1) 0 999 else if j = 4 * a + 1 then wi (g j - ti kd s g a b false) 0 99 else if j = 4 * b + 1 then wi (g j - ti kd s g b a true) 0 99 else g j) := by unfold gme; rw [hw]; rfl
  rw [e]
  simp only [up2, nI_lit0, nI_one, nI_99, nI_999]
  grind
theorem gme_w2 {kd : Nat → Nat} {s : gSm} {g : gG} {a b j : Nat} {J : gI} {x7 x8 : Int32} (hab : a ≠ b) (hw : wn kd s g a b = 2) (hj : j < 24) (h : J 5 j = g j) : (up2 (up2 (up2 (up2 (up2 (up2 J 5 (4 * a + 3) (nI 0)) 5 (4 * b + 3) (nI 0)) 0 8 x8) 5 (4 * a + 1) (wi (g (4 * a + 1) - ti kd s g a b false) (nI 0) (nI 99))) 5 (4 * b + 1) (wi (g (4 * b + 1) - ti kd s g b a false) (nI 0) (nI 99))) 0 7 x7) 5 j = gme kd s g a b j := by
  have e : gme kd s g a b j = (if j = 25 then g 25 + 1 else if j = 24 then (sg g a b) else if j = 4 * a + 3 then 0 else if j = 4 * b + 3 then 0 else if j = 4 * a + 2 then g j else if j = 4 * b + 2 then g j else if j = 4 * a + 1 then wi (g j - ti kd s g a b false) 0 99 else if j = 4 * b + 1 then wi (g j - ti kd s g b a false) 0 99 else g j) := by unfold gme; rw [hw]; rfl
  rw [e]
  simp only [up2, nI_lit0, nI_one, nI_99, nI_999]
  grind
end TP2b
