/-! what rests on games: evenings, orders .. : plain facts -/
section TP3
theorem tP.base {I0 I : gI} {mn rl tn am : Nat} {kd : Nat → Nat} {sm : Nat → gSm} {fr : Nat → gG} {g : gG} (h : tP I0 mn kd rl tn sm am fr g I) {k j : Nat} (n : ¬ SG k j) : I k j = I0 k j := h.2.2.1 k j n
/-- the sheets of a store: which are there, their sorts, sizes, items -/
def shI (I : gI) (th : Nat → Bool) (so sz : Nat → Nat) (it : Nat → Nat → Int32) : Prop := ∀ k, k < 4 → I 8 k = bI (th k) ∧ (th k = true → I 9 k = nI (so k) ∧ so k < 3 ∧ I 10 k = nI (sz k) ∧ sz k ≤ 40 ∧ ∀ j, j < sz k → I 11 (40 * k + j) = it k j)
def nt (a : Int32) : Nat := a.toInt.toNat
theorem nt_nI {p : Nat} (h : p < 2 ^ 31) : nt (nI p) = p := by unfold nt; rw [nI_toInt h]; omega
theorem ar2_of {mn : Nat} {a b : Int32} (hm : mn ≤ 6) (h : ar2 mn a b = true) : ∃ p q : Nat, p < mn ∧ q < mn ∧ p ≠ q ∧ a = nI p ∧ b = nI q := by
  unfold ar2 at h
  simp only [Bool.and_eq_true, decide_eq_true_eq] at h
  obtain ⟨p, hp, rfl⟩ := isP_of hm h.1.1
  obtain ⟨q, hq, rfl⟩ := isP_of hm h.1.2
  exact ⟨p, q, hp, hq, fun e => h.2 (by rw [e]), rfl, rfl⟩
theorem ar2_nI {mn p q : Nat} (hp : p < 2 ^ 31) (hq : q < 2 ^ 31) : ar2 mn (nI p) (nI q) = (decide (p < mn) && decide (q < mn) && decide (p ≠ q)) := by
  unfold ar2
  rw [isP_nI hp, isP_nI hq]
  congr 1
  simp only [ne_eq, nI_eq hp hq]
theorem gm_1 {mn : Nat} {v : Int32} (h : isP 56 v = false) : gmOk mn v = false := by simp [gmOk, h]
theorem gm_2 {mn z : Nat} {v : Int32} {b : Bool} (hz : z < 56) (e : v = nI z) (h : ar2 mn (nI (z / 10)) (nI (z % 10)) = b) : gmOk mn v = b := by
  rw [ar2_nI (by omega) (by omega)] at h
  unfold gmOk
  rw [e, isP_nI (by omega), nI_toInt (by omega)]
  have e1 : ((z : Int).toNat) = z := by omega
  rw [e1, h]
  simp [hz]
theorem gm_of {mn : Nat} {v : Int32} (h : gmOk mn v = true) : ∃ z, z < 56 ∧ v = nI z ∧ z / 10 < mn ∧ z % 10 < mn ∧ z / 10 ≠ z % 10 ∧ iA v = z / 10 ∧ iB v = z % 10 := by
  unfold gmOk at h
  simp only [Bool.and_eq_true, decide_eq_true_eq] at h
  obtain ⟨z, hz, rfl⟩ := isP_ofN (by decide) h.1
  rw [nI_toInt (by omega)] at h
  have e1 : ((z : Int).toNat) = z := by omega
  rw [e1] at h
  refine ⟨z, hz, rfl, h.2.1.1, h.2.1.2, h.2.2, ?_, ?_⟩
  · unfold iA; rw [nI_toInt (by omega), e1]
  · unfold iB; rw [nI_toInt (by omega), e1]
theorem ev_f {mn : Nat} {it : Nat → Int32} {i : Nat} (h : gmOk mn (it i) = false) : ∀ {n : Nat}, i < n → evOk mn it n = false
  | 0, hi => absurd hi (by omega)
  | n + 1, hi => by
    unfold evOk
    by_cases e : i = n
    · subst e; rw [h, Bool.and_false]
    · rw [ev_f h (by omega), Bool.false_and]
theorem ev_s {mn : Nat} {it : Nat → Int32} {i : Nat} (h : evOk mn it i = true) (h2 : gmOk mn (it i) = true) : evOk mn it (i + 1) = true := by
  unfold evOk; rw [h, h2]; rfl
theorem ev_of {mn : Nat} {it : Nat → Int32} {i : Nat} : ∀ {n : Nat}, evOk mn it n = true → i < n → gmOk mn (it i) = true
  | 0, _, hi => absurd hi (by omega)
  | n + 1, h, hi => by
    unfold evOk at h
    rw [Bool.and_eq_true] at h
    by_cases e : i = n
    · subst e; exact h.2
    · exact ev_of h.1 (by omega)
/-- what is wrong with a sheet of games -/
def ebV (mn : Nat) (th : Bool) (it : Nat → Int32) (n : Nat) : Int32 := if th then (if evOk mn it n then 0 else -2) else -11
theorem bc_0 : bc 0 = 0 := by decide
theorem bc_pos {n : Nat} (h : n < 256) (h0 : ¬ nI n = 0) : 0 < bc (nI n) := by
  have h1 : 0 < n := Nat.pos_of_ne_zero (fun e => h0 (by rw [e]; rfl))
  rw [bc_nI h, ← nI_lit0]
  have := bc_st h h1
  exact nI_lt (by omega) (by unfold bcN; omega)
theorem bc_nn {n : Nat} (h : n < 256) : ¬ bc (nI n) < 0 := by
  rw [bc_nI h]
  exact nI_pos (by unfold bcN; omega)
theorem rch_s (g : gG) (i : Nat) : rch g (i + 1) = (if (rch g i).2 < bc (g (4 * i + 3)) then (nI i, bc (g (4 * i + 3))) else rch g i) := rfl
theorem rch_c {mn : Nat} {g : gG} (hg : gB mn g) : ∀ {i : Nat}, i ≤ mn → rch g i = (-1, 0) ∨ ∃ j, j < i ∧ rch g i = (nI j, bc (g (4 * j + 3)))
  | 0, _ => Or.inl rfl
  | i + 1, h => by
    rw [rch_s]
    split
    · exact Or.inr ⟨i, by omega, rfl⟩
    · rcases rch_c hg (i := i) (by omega) with e | ⟨j, hj, e⟩
      · exact Or.inl e
      · exact Or.inr ⟨j, by omega, e⟩
theorem rch_nn {mn : Nat} {g : gG} (hg : gB mn g) {i : Nat} (h : i ≤ mn) : ¬ (rch g i).2 < 0 := by
  rcases rch_c hg h with e | ⟨j, hj, e⟩
  · rw [e]; decide
  · rw [e]
    obtain ⟨n, hn, en⟩ := hg.1 j (by omega)
    show ¬ bc _ < 0
    rw [en]
    exact bc_nn hn
theorem rch_1 {mn : Nat} {g : gG} (hg : gB mn g) {i : Nat} (h : i < mn) (h0 : g (4 * i + 3) = 0) : (rch g i).1 = (rch g (i + 1)).1 := by
  rw [rch_s, h0, bc_0, if_neg (rch_nn hg (by omega))]
theorem rch_2 {mn : Nat} {g : gG} (hg : gB mn g) {i : Nat} (h : i < mn) (h0 : ¬ g (4 * i + 3) = 0) (e : rch g i = (-1, 0)) : nI i = (rch g (i + 1)).1 := by
  obtain ⟨n, hn, en⟩ := hg.1 i h
  rw [rch_s, e, if_pos (by show 0 < bc _; rw [en] at h0 ⊢; exact bc_pos hn h0)]
theorem rch_3 {g : gG} {i j : Nat} (e : rch g i = (nI j, bc (g (4 * j + 3)))) (c : ¬ bc (g (4 * i + 3)) ≤ bc (g (4 * j + 3))) : nI i = (rch g (i + 1)).1 := by
  rw [rch_s, e, if_pos (k2_lt c)]
theorem rch_4 {g : gG} {i j : Nat} (e : rch g i = (nI j, bc (g (4 * j + 3)))) (c : bc (g (4 * i + 3)) ≤ bc (g (4 * j + 3))) : nI j = (rch g (i + 1)).1 := by
  rw [rch_s, e, if_neg (k2_nlt c)]
section
variable {kd : Nat → Nat} {s : gSm} {mn : Nat}
def rbS (kd : Nat → Nat) (s : gSm) (but : Int32) (a : Nat) (d : Nat) (g : gG) : gG := if nI (10 * a + (a + 1 + d)) = but then g else gme kd s g a (a + 1 + d)
theorem rbS_1 {but : Int32} {a d : Nat} {g : gG} (h : nI (10 * a + (a + 1 + d)) = but) : rbS kd s but a d g = g := if_pos h
theorem rbS_2 {but : Int32} {a d : Nat} {g : gG} (h : ¬ nI (10 * a + (a + 1 + d)) = but) : rbS kd s but a d g = gme kd s g a (a + 1 + d) := if_neg h
theorem rbs_e (but : Int32) (g : gG) : rbs kd s mn but g = lpz (fun a g => lpz (rbS kd s but a) (mn - (a + 1)) g) mn g := rfl
theorem gos_e {it : Nat → Int32} {i x y : Nat} {g : gG} (eA : iA (it i) = x) (eB : iB (it i) = y) : (gos kd s it (i + 1) g).1 = gme kd s (gos kd s it i g).1 x y := by
  show gme kd s (gos kd s it i g).1 (iA (it i)) (iB (it i)) = _
  rw [eA, eB]
theorem gos_n {it : Nat → Int32} {i x y d : Nat} {g : gG} (eA : iA (it i) = x) (eB : iB (it i) = y) (h : (if wn kd s (gos kd s it i g).1 x y = 2 then 1 else 0) = d) : (gos kd s it i g).2 + d = (gos kd s it (i + 1) g).2 := by
  show _ = (gos kd s it i g).2 + (if wn kd s (gos kd s it i g).1 (iA (it i)) (iB (it i)) = 2 then 1 else 0)
  rw [eA, eB, h]
end
end TP3
