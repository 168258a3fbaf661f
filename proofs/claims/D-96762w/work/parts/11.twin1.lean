/-! the twin's small methods -/
section TP1
theorem in_lt {v lo hi : Int64} (h : lg_cmp v lo < 0) : nI 0 = bI (decide (lo ≤ v ∧ v ≤ hi)) := by
  have h2 : ¬ lo ≤ v := fun q => absurd ((lg_cmp_ge v lo).mpr q) (by simp only [Int32.le_iff_toInt_le, Int32.lt_iff_toInt_lt] at h ⊢; omega)
  simp [bI, h2, nI_0]
theorem in_gt {v lo hi : Int64} (h : 0 < lg_cmp v hi) : nI 0 = bI (decide (lo ≤ v ∧ v ≤ hi)) := by
  have h2 : ¬ v ≤ hi := by
    unfold lg_cmp at h
    simp only [Int64.le_iff_toInt_le, gt_iff_lt, Int64.lt_iff_toInt_lt, ← Int64.toInt_inj] at h ⊢
    split at h
    · omega
    · split at h <;> exact absurd h (by decide)
  simp [bI, h2, nI_0]
theorem in_ok {v lo hi : Int64} (h1 : ¬ lg_cmp v lo < 0) (h2 : ¬ 0 < lg_cmp v hi) : nI 1 = bI (decide (lo ≤ v ∧ v ≤ hi)) := by
  have h3 : lo ≤ v := (lg_cmp_ge v lo).mp (by simp only [Int32.le_iff_toInt_le, Int32.lt_iff_toInt_lt] at h1 ⊢; omega)
  have h4 : v ≤ hi := by
    unfold lg_cmp at h2
    simp only [Int64.le_iff_toInt_le, gt_iff_lt, Int64.lt_iff_toInt_lt] at h2 ⊢
    split at h2
    · exact absurd (by decide) h2
    · omega
  simp [bI, h3, h4]
  rfl
theorem wi_1 {v lo hi : Int32} (h : ¬ lo ≤ v) : lo = wi v lo hi := by
  have : v < lo := k2_lt h
  simp [wi, this]
theorem wi_2 {v lo hi : Int32} (h : lo ≤ v) (h2 : ¬ v ≤ hi) : hi = wi v lo hi := by
  have h3 : ¬ v < lo := k2_nlt h
  have h4 : hi < v := k2_lt h2
  simp [wi, h3, h4]
theorem wi_3 {v lo hi : Int32} (h : lo ≤ v) (h2 : v ≤ hi) : v = wi v lo hi := by
  have h3 : ¬ v < lo := k2_nlt h
  have h4 : ¬ hi < v := k2_nlt h2
  simp [wi, h3, h4]
theorem isP_in {mn : Nat} {a : Int32} (hm : mn ≤ 6) : decide ((0 : Int64) ≤ a.toInt64 ∧ a.toInt64 ≤ (nI mn - nI 1).toInt64) = isP mn a := by
  unfold isP
  congr 1
  apply propext
  rw [Int64.le_iff_toInt_le, Int64.le_iff_toInt_le, Int32.toInt_toInt64, Int32.toInt_toInt64, pk_sub_toInt (by omega) (by omega)]
  have : (0 : Int64).toInt = 0 := by decide
  omega
theorem isP_in8 {a : Int32} : decide ((0 : Int64) ≤ a.toInt64 ∧ a.toInt64 ≤ (7 : Int64)) = isP 8 a := by
  unfold isP
  congr 1
  apply propext
  rw [Int64.le_iff_toInt_le, Int64.le_iff_toInt_le, Int32.toInt_toInt64]
  have : (0 : Int64).toInt = 0 := by decide
  have : (7 : Int64).toInt = 7 := by decide
  omega
theorem nI_one : nI 1 = 1 := rfl
theorem nI_lit0 : nI 0 = 0 := rfl
def ar2 (mn : Nat) (a b : Int32) : Bool := isP mn a && isP mn b && decide (a ≠ b)
theorem bc_tab : ∀ m : Fin 256, (0 < m.val → m.val &&& (m.val - 1) < m.val) ∧ (0 < m.val → bcN (m.val &&& (m.val - 1)) + 1 = bcN m.val) ∧ (nI m.val).toBitVec.toNat = m.val := by decide +kernel
theorem bc_dn {m : Nat} (h : 0 < m ∧ m < 256) : m &&& (m - 1) < m := (bc_tab ⟨m, h.2⟩).1 h.1
theorem bc_lt {m : Nat} (h : m < 256) : m &&& (m - 1) < 256 := Nat.lt_of_le_of_lt Nat.and_le_left h
theorem bc_st {m : Nat} (h : m < 256) (h0 : 0 < m) : bcN (m &&& (m - 1)) + 1 = bcN m := (bc_tab ⟨m, h⟩).2.1 h0
theorem bc_nI {m : Nat} (h : m < 256) : bc (nI m) = nI (bcN m) := by
  unfold bc
  rw [(bc_tab ⟨m, h⟩).2.2]
theorem bc_and {m : Nat} (h0 : 0 < m) (h : m < 256) : nI m &&& (nI m - nI 1) = nI (m &&& (m - 1)) := by
  rw [pk_sub h0]
  apply Int32.toBitVec_inj.mp
  rw [Int32.toBitVec_and]
  apply BitVec.eq_of_toNat_eq
  rw [BitVec.toNat_and, pk_tn (by omega), pk_tn (by omega), pk_tn (Nat.lt_of_le_of_lt Nat.and_le_left (by omega))]
theorem bc_end {x m n : Nat} (h : x + bcN m = bcN n) (hm : m = 0 ∧ n < 256) : nI x = bc (nI n) := by
  obtain ⟨rfl, hn⟩ := hm
  rw [bc_nI hn, ← h]
  rfl
end TP1
section TP1r
variable {E : gE} {K : gM} {cc : ByteArray} {own : String} {nL : Nat} {rm : Room} {Z : gS} {I : gI} {ck sk pc : Nat} {L : List (Nat × Value)} {st : List Value}
theorem g_ifB_eq (C : gC E K cc own nL rm) {b : Bool} {off : Int} {tgt : Nat} (d : decode cc pc = .ok (.ifCond .eq off, 3)) (ht : (pc : Int) + off = (tgt : Int)) (kt : b = false → G E K Z I ck sk L tgt st) (kf : b = true → G E K Z I ck sk L (pc + 3) st) : G E K Z I ck sk L pc (.int (bI b) :: st) :=
  g_if_eq C d ht (fun q => kt (bI_0.mp q)) (fun q => kf (by cases b with | true => rfl | false => exact absurd rfl q))
theorem g_ifB_ne (C : gC E K cc own nL rm) {b : Bool} {off : Int} {tgt : Nat} (d : decode cc pc = .ok (.ifCond .ne off, 3)) (ht : (pc : Int) + off = (tgt : Int)) (kt : b = true → G E K Z I ck sk L tgt st) (kf : b = false → G E K Z I ck sk L (pc + 3) st) : G E K Z I ck sk L pc (.int (bI b) :: st) :=
  g_if_ne C d ht (fun q => kt (by cases b with | true => rfl | false => exact absurd rfl q)) (fun q => kf (bI_0.mp q))
theorem g_ifN_eq (C : gC E K cc own nL rm) {a : Nat} {off : Int} {tgt : Nat} (d : decode cc pc = .ok (.ifCond .eq off, 3)) (ht : (pc : Int) + off = (tgt : Int)) (ha : a < 2 ^ 31) (kt : a = 0 → G E K Z I ck sk L tgt st) (kf : a ≠ 0 → G E K Z I ck sk L (pc + 3) st) : G E K Z I ck sk L pc (.int (nI a) :: st) :=
  g_if_eq C d ht (fun q => kt ((nI_eq (b := 0) ha (by decide)).mp q)) (fun q => kf (fun z => q ((nI_eq (b := 0) ha (by decide)).mpr z)))
theorem g_ifN_ne (C : gC E K cc own nL rm) {a : Nat} {off : Int} {tgt : Nat} (d : decode cc pc = .ok (.ifCond .ne off, 3)) (ht : (pc : Int) + off = (tgt : Int)) (ha : a < 2 ^ 31) (kt : a ≠ 0 → G E K Z I ck sk L tgt st) (kf : a = 0 → G E K Z I ck sk L (pc + 3) st) : G E K Z I ck sk L pc (.int (nI a) :: st) :=
  g_if_ne C d ht (fun q => kt (fun z => q ((nI_eq (b := 0) ha (by decide)).mpr z))) (fun q => kf (by
    by_cases z : a = 0
    · exact z
    · exact absurd ((nI_eq (b := 0) ha (by decide)).mp q) z))
end TP1r
/-- where the twin has its things -/
def tZ (Z : gS) : Prop := Z.2.1 0 = some (21, 41) ∧ (Z.2.1 1 = some (0, 960) ∧ Z.2.2 0 1 = some (Z.1 1)) ∧ (Z.2.1 2 = some (0, 6) ∧ Z.2.2 0 2 = some (Z.1 2)) ∧ (Z.2.1 3 = some (0, 160) ∧ Z.2.2 0 5 = some (Z.1 3)) ∧ (Z.2.1 4 = some (0, 6) ∧ Z.2.2 0 9 = some (Z.1 4)) ∧ (Z.2.1 5 = some (0, 24) ∧ Z.2.2 0 10 = some (Z.1 5)) ∧ (Z.2.1 6 = some (0, 208) ∧ Z.2.2 0 27 = some (Z.1 6)) ∧ (Z.2.1 7 = some (0, 24) ∧ Z.2.2 0 32 = some (Z.1 7)) ∧ (Z.2.1 8 = some (3, 4) ∧ Z.2.2 0 37 = some (Z.1 8)) ∧ (Z.2.1 9 = some (0, 4) ∧ Z.2.2 0 38 = some (Z.1 9)) ∧ (Z.2.1 10 = some (0, 4) ∧ Z.2.2 0 39 = some (Z.1 10)) ∧ (Z.2.1 11 = some (0, 160) ∧ Z.2.2 0 40 = some (Z.1 11))
theorem tZ.s0 {Z : gS} (h : tZ Z) : Z.2.1 0 = some (20 + 1, 41) := h.1
theorem tZ.s1 {Z : gS} (h : tZ Z) : Z.2.1 1 = some (0, 960) := h.2.1.1
theorem tZ.r1 {Z : gS} (h : tZ Z) : Z.2.2 0 1 = some (Z.1 1) := h.2.1.2
theorem tZ.s2 {Z : gS} (h : tZ Z) : Z.2.1 2 = some (0, 6) := h.2.2.1.1
theorem tZ.r2 {Z : gS} (h : tZ Z) : Z.2.2 0 2 = some (Z.1 2) := h.2.2.1.2
theorem tZ.s3 {Z : gS} (h : tZ Z) : Z.2.1 3 = some (0, 160) := h.2.2.2.1.1
theorem tZ.r3 {Z : gS} (h : tZ Z) : Z.2.2 0 5 = some (Z.1 3) := h.2.2.2.1.2
theorem tZ.s4 {Z : gS} (h : tZ Z) : Z.2.1 4 = some (0, 6) := h.2.2.2.2.1.1
theorem tZ.r4 {Z : gS} (h : tZ Z) : Z.2.2 0 9 = some (Z.1 4) := h.2.2.2.2.1.2
theorem tZ.s5 {Z : gS} (h : tZ Z) : Z.2.1 5 = some (0, 24) := h.2.2.2.2.2.1.1
theorem tZ.r5 {Z : gS} (h : tZ Z) : Z.2.2 0 10 = some (Z.1 5) := h.2.2.2.2.2.1.2
theorem tZ.s6 {Z : gS} (h : tZ Z) : Z.2.1 6 = some (0, 208) := h.2.2.2.2.2.2.1.1
theorem tZ.r6 {Z : gS} (h : tZ Z) : Z.2.2 0 27 = some (Z.1 6) := h.2.2.2.2.2.2.1.2
theorem tZ.s7 {Z : gS} (h : tZ Z) : Z.2.1 7 = some (0, 24) := h.2.2.2.2.2.2.2.1.1
theorem tZ.r7 {Z : gS} (h : tZ Z) : Z.2.2 0 32 = some (Z.1 7) := h.2.2.2.2.2.2.2.1.2
theorem tZ.s8 {Z : gS} (h : tZ Z) : Z.2.1 8 = some (3, 4) := h.2.2.2.2.2.2.2.2.1.1
theorem tZ.r8 {Z : gS} (h : tZ Z) : Z.2.2 0 37 = some (Z.1 8) := h.2.2.2.2.2.2.2.2.1.2
theorem tZ.s9 {Z : gS} (h : tZ Z) : Z.2.1 9 = some (0, 4) := h.2.2.2.2.2.2.2.2.2.1.1
theorem tZ.r9 {Z : gS} (h : tZ Z) : Z.2.2 0 38 = some (Z.1 9) := h.2.2.2.2.2.2.2.2.2.1.2
theorem tZ.s10 {Z : gS} (h : tZ Z) : Z.2.1 10 = some (0, 4) := h.2.2.2.2.2.2.2.2.2.2.1.1
theorem tZ.r10 {Z : gS} (h : tZ Z) : Z.2.2 0 39 = some (Z.1 10) := h.2.2.2.2.2.2.2.2.2.2.1.2
theorem tZ.s11 {Z : gS} (h : tZ Z) : Z.2.1 11 = some (0, 160) := h.2.2.2.2.2.2.2.2.2.2.2.1
theorem tZ.r11 {Z : gS} (h : tZ Z) : Z.2.2 0 40 = some (Z.1 11) := h.2.2.2.2.2.2.2.2.2.2.2.2
section TW1
variable {E : gE} {K : gM} {cc : ByteArray} {nL : Nat} {rm : Room} {Z : gS} {I : gI} {ck sk pc : Nat} {L : List (Nat × Value)} {st : List Value}
theorem gm_texts (C : gC E K cc RX8 nL rm) (hT : tZ Z) (d : decode cc pc = .ok (.getfield 13, 3)) (kk : G E K Z I ck sk L (pc + 3) (.ref (Z.1 1) :: st)) : G E K Z I ck sk L pc (.ref (Z.1 0) :: st) := g_get C 0 1 hT.s0 rfl in_X8 (by decide) q1269 (congrArg va_rf hT.r1) d kk
theorem gm_textSize (C : gC E K cc RX8 nL rm) (hT : tZ Z) (d : decode cc pc = .ok (.getfield 17, 3)) (kk : G E K Z I ck sk L (pc + 3) (.ref (Z.1 2) :: st)) : G E K Z I ck sk L pc (.ref (Z.1 0) :: st) := g_get C 0 2 hT.s0 rfl in_X8 (by decide) q1270 (congrArg va_rf hT.r2) d kk
theorem gm_textCount (C : gC E K cc RX8 nL rm) (hT : tZ Z) (d : decode cc pc = .ok (.getfield 58, 3)) (kk : G E K Z I ck sk L (pc + 3) (.int (I 0 3) :: st)) : G E K Z I ck sk L pc (.ref (Z.1 0) :: st) := g_get C 0 3 hT.s0 rfl in_X8 (by decide) q1271 rfl d kk
theorem gmp_textCount {x : Int32} (C : gC E K cc RX8 nL rm) (hT : tZ Z) (d : decode cc pc = .ok (.putfield 58, 3)) (kk : G E K Z (up2 I 0 3 x) ck sk L (pc + 3) st) : G E K Z I ck sk L pc (.int x :: .ref (Z.1 0) :: st) := g_put C 0 3 hT.s0 rfl in_X8 nmX8 tyX8_ok (by decide) q1271 rfl (x := x) (fun _ => rfl) rfl rfl d kk
theorem gm_rule (C : gC E K cc RX8 nL rm) (hT : tZ Z) (d : decode cc pc = .ok (.getfield 107, 3)) (kk : G E K Z I ck sk L (pc + 3) (.int (I 0 4) :: st)) : G E K Z I ck sk L pc (.ref (Z.1 0) :: st) := g_get C 0 4 hT.s0 rfl in_X8 (by decide) q1272 rfl d kk
theorem gmp_rule {x : Int32} (C : gC E K cc RX8 nL rm) (hT : tZ Z) (d : decode cc pc = .ok (.putfield 107, 3)) (kk : G E K Z (up2 I 0 4 x) ck sk L (pc + 3) st) : G E K Z I ck sk L pc (.int x :: .ref (Z.1 0) :: st) := g_put C 0 4 hT.s0 rfl in_X8 nmX8 tyX8_ok (by decide) q1272 rfl (x := x) (fun _ => rfl) rfl rfl d kk
theorem gm_tape (C : gC E K cc RX8 nL rm) (hT : tZ Z) (d : decode cc pc = .ok (.getfield 20, 3)) (kk : G E K Z I ck sk L (pc + 3) (.ref (Z.1 3) :: st)) : G E K Z I ck sk L pc (.ref (Z.1 0) :: st) := g_get C 0 5 hT.s0 rfl in_X8 (by decide) q1273 (congrArg va_rf hT.r3) d kk
theorem gm_taped (C : gC E K cc RX8 nL rm) (hT : tZ Z) (d : decode cc pc = .ok (.getfield 127, 3)) (kk : G E K Z I ck sk L (pc + 3) (.int (I 0 6) :: st)) : G E K Z I ck sk L pc (.ref (Z.1 0) :: st) := g_get C 0 6 hT.s0 rfl in_X8 (by decide) q1274 rfl d kk
theorem gmp_taped {x : Int32} (C : gC E K cc RX8 nL rm) (hT : tZ Z) (d : decode cc pc = .ok (.putfield 127, 3)) (kk : G E K Z (up2 I 0 6 x) ck sk L (pc + 3) st) : G E K Z I ck sk L pc (.int x :: .ref (Z.1 0) :: st) := g_put C 0 6 hT.s0 rfl in_X8 nmX8 tyX8_ok (by decide) q1274 rfl (x := x) (fun _ => rfl) rfl rfl d kk
theorem gm_roundNow (C : gC E K cc RX8 nL rm) (hT : tZ Z) (d : decode cc pc = .ok (.getfield 100, 3)) (kk : G E K Z I ck sk L (pc + 3) (.int (I 0 7) :: st)) : G E K Z I ck sk L pc (.ref (Z.1 0) :: st) := g_get C 0 7 hT.s0 rfl in_X8 (by decide) q1275 rfl d kk
theorem gmp_roundNow {x : Int32} (C : gC E K cc RX8 nL rm) (hT : tZ Z) (d : decode cc pc = .ok (.putfield 100, 3)) (kk : G E K Z (up2 I 0 7 x) ck sk L (pc + 3) st) : G E K Z I ck sk L pc (.int x :: .ref (Z.1 0) :: st) := g_put C 0 7 hT.s0 rfl in_X8 nmX8 tyX8_ok (by decide) q1275 rfl (x := x) (fun _ => rfl) rfl rfl d kk
theorem gm_hall (C : gC E K cc RX8 nL rm) (hT : tZ Z) (d : decode cc pc = .ok (.getfield 23, 3)) (kk : G E K Z I ck sk L (pc + 3) (.int (I 0 8) :: st)) : G E K Z I ck sk L pc (.ref (Z.1 0) :: st) := g_get C 0 8 hT.s0 rfl in_X8 (by decide) q1276 rfl d kk
theorem gmp_hall {x : Int32} (C : gC E K cc RX8 nL rm) (hT : tZ Z) (d : decode cc pc = .ok (.putfield 23, 3)) (kk : G E K Z (up2 I 0 8 x) ck sk L (pc + 3) st) : G E K Z I ck sk L pc (.int x :: .ref (Z.1 0) :: st) := g_put C 0 8 hT.s0 rfl in_X8 nmX8 tyX8_ok (by decide) q1276 rfl (x := x) (fun _ => rfl) rfl rfl d kk
theorem gm_kinds (C : gC E K cc RX8 nL rm) (hT : tZ Z) (d : decode cc pc = .ok (.getfield 26, 3)) (kk : G E K Z I ck sk L (pc + 3) (.ref (Z.1 4) :: st)) : G E K Z I ck sk L pc (.ref (Z.1 0) :: st) := g_get C 0 9 hT.s0 rfl in_X8 (by decide) q1277 (congrArg va_rf hT.r4) d kk
theorem gm_rows (C : gC E K cc RX8 nL rm) (hT : tZ Z) (d : decode cc pc = .ok (.getfield 29, 3)) (kk : G E K Z I ck sk L (pc + 3) (.ref (Z.1 5) :: st)) : G E K Z I ck sk L pc (.ref (Z.1 0) :: st) := g_get C 0 10 hT.s0 rfl in_X8 (by decide) q1278 (congrArg va_rf hT.r5) d kk
theorem gm_many (C : gC E K cc RX8 nL rm) (hT : tZ Z) (d : decode cc pc = .ok (.getfield 61, 3)) (kk : G E K Z I ck sk L (pc + 3) (.int (I 0 11) :: st)) : G E K Z I ck sk L pc (.ref (Z.1 0) :: st) := g_get C 0 11 hT.s0 rfl in_X8 (by decide) q1279 rfl d kk
theorem gmp_many {x : Int32} (C : gC E K cc RX8 nL rm) (hT : tZ Z) (d : decode cc pc = .ok (.putfield 61, 3)) (kk : G E K Z (up2 I 0 11 x) ck sk L (pc + 3) st) : G E K Z I ck sk L pc (.int x :: .ref (Z.1 0) :: st) := g_put C 0 11 hT.s0 rfl in_X8 nmX8 tyX8_ok (by decide) q1279 rfl (x := x) (fun _ => rfl) rfl rfl d kk
theorem gm_ofStrong (C : gC E K cc RX8 nL rm) (hT : tZ Z) (d : decode cc pc = .ok (.getfield 185, 3)) (kk : G E K Z I ck sk L (pc + 3) (.int (I 0 12) :: st)) : G E K Z I ck sk L pc (.ref (Z.1 0) :: st) := g_get C 0 12 hT.s0 rfl in_X8 (by decide) q1280 rfl d kk
theorem gmp_ofStrong {x : Int32} (C : gC E K cc RX8 nL rm) (hT : tZ Z) (d : decode cc pc = .ok (.putfield 185, 3)) (kk : G E K Z (up2 I 0 12 x) ck sk L (pc + 3) st) : G E K Z I ck sk L pc (.int x :: .ref (Z.1 0) :: st) := g_put C 0 12 hT.s0 rfl in_X8 nmX8 tyX8_ok (by decide) q1280 rfl (x := x) (fun _ => rfl) rfl rfl d kk
theorem gm_ofHas (C : gC E K cc RX8 nL rm) (hT : tZ Z) (d : decode cc pc = .ok (.getfield 188, 3)) (kk : G E K Z I ck sk L (pc + 3) (.int (I 0 13) :: st)) : G E K Z I ck sk L pc (.ref (Z.1 0) :: st) := g_get C 0 13 hT.s0 rfl in_X8 (by decide) q1281 rfl d kk
theorem gmp_ofHas {x : Int32} (C : gC E K cc RX8 nL rm) (hT : tZ Z) (d : decode cc pc = .ok (.putfield 188, 3)) (kk : G E K Z (up2 I 0 13 x) ck sk L (pc + 3) st) : G E K Z I ck sk L pc (.int x :: .ref (Z.1 0) :: st) := g_put C 0 13 hT.s0 rfl in_X8 nmX8 tyX8_ok (by decide) q1281 rfl (x := x) (fun _ => rfl) rfl rfl d kk
theorem gm_ofNumber (C : gC E K cc RX8 nL rm) (hT : tZ Z) (d : decode cc pc = .ok (.getfield 191, 3)) (kk : G E K Z I ck sk L (pc + 3) (.int (I 0 14) :: st)) : G E K Z I ck sk L pc (.ref (Z.1 0) :: st) := g_get C 0 14 hT.s0 rfl in_X8 (by decide) q1282 rfl d kk
theorem gmp_ofNumber {x : Int32} (C : gC E K cc RX8 nL rm) (hT : tZ Z) (d : decode cc pc = .ok (.putfield 191, 3)) (kk : G E K Z (up2 I 0 14 x) ck sk L (pc + 3) st) : G E K Z I ck sk L pc (.int x :: .ref (Z.1 0) :: st) := g_put C 0 14 hT.s0 rfl in_X8 nmX8 tyX8_ok (by decide) q1282 rfl (x := x) (fun _ => rfl) rfl rfl d kk
theorem gm_ofTheirs (C : gC E K cc RX8 nL rm) (hT : tZ Z) (d : decode cc pc = .ok (.getfield 194, 3)) (kk : G E K Z I ck sk L (pc + 3) (.int (I 0 15) :: st)) : G E K Z I ck sk L pc (.ref (Z.1 0) :: st) := g_get C 0 15 hT.s0 rfl in_X8 (by decide) q1283 rfl d kk
theorem gmp_ofTheirs {x : Int32} (C : gC E K cc RX8 nL rm) (hT : tZ Z) (d : decode cc pc = .ok (.putfield 194, 3)) (kk : G E K Z (up2 I 0 15 x) ck sk L (pc + 3) st) : G E K Z I ck sk L pc (.int x :: .ref (Z.1 0) :: st) := g_put C 0 15 hT.s0 rfl in_X8 nmX8 tyX8_ok (by decide) q1283 rfl (x := x) (fun _ => rfl) rfl rfl d kk
theorem gm_ofRound (C : gC E K cc RX8 nL rm) (hT : tZ Z) (d : decode cc pc = .ok (.getfield 197, 3)) (kk : G E K Z I ck sk L (pc + 3) (.int (I 0 16) :: st)) : G E K Z I ck sk L pc (.ref (Z.1 0) :: st) := g_get C 0 16 hT.s0 rfl in_X8 (by decide) q1284 rfl d kk
theorem gmp_ofRound {x : Int32} (C : gC E K cc RX8 nL rm) (hT : tZ Z) (d : decode cc pc = .ok (.putfield 197, 3)) (kk : G E K Z (up2 I 0 16 x) ck sk L (pc + 3) st) : G E K Z I ck sk L pc (.int x :: .ref (Z.1 0) :: st) := g_put C 0 16 hT.s0 rfl in_X8 nmX8 tyX8_ok (by decide) q1284 rfl (x := x) (fun _ => rfl) rfl rfl d kk
theorem gm_ofStake (C : gC E K cc RX8 nL rm) (hT : tZ Z) (d : decode cc pc = .ok (.getfield 200, 3)) (kk : G E K Z I ck sk L (pc + 3) (.int (I 0 17) :: st)) : G E K Z I ck sk L pc (.ref (Z.1 0) :: st) := g_get C 0 17 hT.s0 rfl in_X8 (by decide) q1285 rfl d kk
theorem gmp_ofStake {x : Int32} (C : gC E K cc RX8 nL rm) (hT : tZ Z) (d : decode cc pc = .ok (.putfield 200, 3)) (kk : G E K Z (up2 I 0 17 x) ck sk L (pc + 3) st) : G E K Z I ck sk L pc (.int x :: .ref (Z.1 0) :: st) := g_put C 0 17 hT.s0 rfl in_X8 nmX8 tyX8_ok (by decide) q1285 rfl (x := x) (fun _ => rfl) rfl rfl d kk
theorem gm_from (C : gC E K cc RX8 nL rm) (hT : tZ Z) (d : decode cc pc = .ok (.getfield 133, 3)) (kk : G E K Z I ck sk L (pc + 3) (.int (I 0 18) :: st)) : G E K Z I ck sk L pc (.ref (Z.1 0) :: st) := g_get C 0 18 hT.s0 rfl in_X8 (by decide) q1286 rfl d kk
theorem gmp_from {x : Int32} (C : gC E K cc RX8 nL rm) (hT : tZ Z) (d : decode cc pc = .ok (.putfield 133, 3)) (kk : G E K Z (up2 I 0 18 x) ck sk L (pc + 3) st) : G E K Z I ck sk L pc (.int x :: .ref (Z.1 0) :: st) := g_put C 0 18 hT.s0 rfl in_X8 nmX8 tyX8_ok (by decide) q1286 rfl (x := x) (fun _ => rfl) rfl rfl d kk
theorem gm_size (C : gC E K cc RX8 nL rm) (hT : tZ Z) (d : decode cc pc = .ok (.getfield 130, 3)) (kk : G E K Z I ck sk L (pc + 3) (.int (I 0 19) :: st)) : G E K Z I ck sk L pc (.ref (Z.1 0) :: st) := g_get C 0 19 hT.s0 rfl in_X8 (by decide) q1287 rfl d kk
theorem gmp_size {x : Int32} (C : gC E K cc RX8 nL rm) (hT : tZ Z) (d : decode cc pc = .ok (.putfield 130, 3)) (kk : G E K Z (up2 I 0 19 x) ck sk L (pc + 3) st) : G E K Z I ck sk L pc (.int x :: .ref (Z.1 0) :: st) := g_put C 0 19 hT.s0 rfl in_X8 nmX8 tyX8_ok (by decide) q1287 rfl (x := x) (fun _ => rfl) rfl rfl d kk
theorem gm_here (C : gC E K cc RX8 nL rm) (hT : tZ Z) (d : decode cc pc = .ok (.getfield 136, 3)) (kk : G E K Z I ck sk L (pc + 3) (.int (I 0 20) :: st)) : G E K Z I ck sk L pc (.ref (Z.1 0) :: st) := g_get C 0 20 hT.s0 rfl in_X8 (by decide) q1288 rfl d kk
theorem gmp_here {x : Int32} (C : gC E K cc RX8 nL rm) (hT : tZ Z) (d : decode cc pc = .ok (.putfield 136, 3)) (kk : G E K Z (up2 I 0 20 x) ck sk L (pc + 3) st) : G E K Z I ck sk L pc (.int x :: .ref (Z.1 0) :: st) := g_put C 0 20 hT.s0 rfl in_X8 nmX8 tyX8_ok (by decide) q1288 rfl (x := x) (fun _ => rfl) rfl rfl d kk
theorem gm_token (C : gC E K cc RX8 nL rm) (hT : tZ Z) (d : decode cc pc = .ok (.getfield 145, 3)) (kk : G E K Z I ck sk L (pc + 3) (.int (I 0 21) :: st)) : G E K Z I ck sk L pc (.ref (Z.1 0) :: st) := g_get C 0 21 hT.s0 rfl in_X8 (by decide) q1289 rfl d kk
theorem gmp_token {x : Int32} (C : gC E K cc RX8 nL rm) (hT : tZ Z) (d : decode cc pc = .ok (.putfield 145, 3)) (kk : G E K Z (up2 I 0 21 x) ck sk L (pc + 3) st) : G E K Z I ck sk L pc (.int x :: .ref (Z.1 0) :: st) := g_put C 0 21 hT.s0 rfl in_X8 nmX8 tyX8_ok (by decide) q1289 rfl (x := x) (fun _ => rfl) rfl rfl d kk
theorem gm_tokenAt (C : gC E K cc RX8 nL rm) (hT : tZ Z) (d : decode cc pc = .ok (.getfield 142, 3)) (kk : G E K Z I ck sk L (pc + 3) (.int (I 0 22) :: st)) : G E K Z I ck sk L pc (.ref (Z.1 0) :: st) := g_get C 0 22 hT.s0 rfl in_X8 (by decide) q1290 rfl d kk
theorem gmp_tokenAt {x : Int32} (C : gC E K cc RX8 nL rm) (hT : tZ Z) (d : decode cc pc = .ok (.putfield 142, 3)) (kk : G E K Z (up2 I 0 22 x) ck sk L (pc + 3) st) : G E K Z I ck sk L pc (.int x :: .ref (Z.1 0) :: st) := g_put C 0 22 hT.s0 rfl in_X8 nmX8 tyX8_ok (by decide) q1290 rfl (x := x) (fun _ => rfl) rfl rfl d kk
theorem gm_tokenWorth (C : gC E K cc RX8 nL rm) (hT : tZ Z) (d : decode cc pc = .ok (.getfield 156, 3)) (kk : G E K Z I ck sk L (pc + 3) (.long (I 0 23).toInt64 :: st)) : G E K Z I ck sk L pc (.ref (Z.1 0) :: st) := g_get C 0 23 hT.s0 rfl in_X8 (by decide) q1291 rfl d kk
theorem gmp_tokenWorth {x : Int32} (C : gC E K cc RX8 nL rm) (hT : tZ Z) (d : decode cc pc = .ok (.putfield 156, 3)) (kk : G E K Z (up2 I 0 23 x) ck sk L (pc + 3) st) : G E K Z I ck sk L pc (.long x.toInt64 :: .ref (Z.1 0) :: st) := g_put C 0 23 hT.s0 rfl in_X8 nmX8 tyX8_ok (by decide) q1291 rfl (x := x) (fun _ => rfl) rfl rfl d kk
theorem gm_open (C : gC E K cc RX8 nL rm) (hT : tZ Z) (d : decode cc pc = .ok (.getfield 172, 3)) (kk : G E K Z I ck sk L (pc + 3) (.int (I 0 24) :: st)) : G E K Z I ck sk L pc (.ref (Z.1 0) :: st) := g_get C 0 24 hT.s0 rfl in_X8 (by decide) q1292 rfl d kk
theorem gmp_open {x : Int32} (C : gC E K cc RX8 nL rm) (hT : tZ Z) (d : decode cc pc = .ok (.putfield 172, 3)) (kk : G E K Z (up2 I 0 24 x) ck sk L (pc + 3) st) : G E K Z I ck sk L pc (.int x :: .ref (Z.1 0) :: st) := g_put C 0 24 hT.s0 rfl in_X8 nmX8 tyX8_ok (by decide) q1292 rfl (x := x) (fun _ => rfl) rfl rfl d kk
theorem gm_bad (C : gC E K cc RX8 nL rm) (hT : tZ Z) (d : decode cc pc = .ok (.getfield 162, 3)) (kk : G E K Z I ck sk L (pc + 3) (.int (I 0 25) :: st)) : G E K Z I ck sk L pc (.ref (Z.1 0) :: st) := g_get C 0 25 hT.s0 rfl in_X8 (by decide) q1293 rfl d kk
theorem gmp_bad {x : Int32} (C : gC E K cc RX8 nL rm) (hT : tZ Z) (hx : x = 0 ∨ x = 1) (d : decode cc pc = .ok (.putfield 162, 3)) (kk : G E K Z (up2 I 0 25 x) ck sk L (pc + 3) st) : G E K Z I ck sk L pc (.int x :: .ref (Z.1 0) :: st) := g_put C 0 25 hT.s0 rfl in_X8 nmX8 tyX8_ok (by decide) q1293 rfl (x := x) (fun _ => rfl) (g_n01 hx) (by rcases hx with rfl | rfl <;> rfl) d kk
theorem gm_fault (C : gC E K cc RX8 nL rm) (hT : tZ Z) (d : decode cc pc = .ok (.getfield 166, 3)) (kk : G E K Z I ck sk L (pc + 3) (.int (I 0 26) :: st)) : G E K Z I ck sk L pc (.ref (Z.1 0) :: st) := g_get C 0 26 hT.s0 rfl in_X8 (by decide) q1294 rfl d kk
theorem gmp_fault {x : Int32} (C : gC E K cc RX8 nL rm) (hT : tZ Z) (d : decode cc pc = .ok (.putfield 166, 3)) (kk : G E K Z (up2 I 0 26 x) ck sk L (pc + 3) st) : G E K Z I ck sk L pc (.int x :: .ref (Z.1 0) :: st) := g_put C 0 26 hT.s0 rfl in_X8 nmX8 tyX8_ok (by decide) q1294 rfl (x := x) (fun _ => rfl) rfl rfl d kk
theorem gm_aside (C : gC E K cc RX8 nL rm) (hT : tZ Z) (d : decode cc pc = .ok (.getfield 32, 3)) (kk : G E K Z I ck sk L (pc + 3) (.ref (Z.1 6) :: st)) : G E K Z I ck sk L pc (.ref (Z.1 0) :: st) := g_get C 0 27 hT.s0 rfl in_X8 (by decide) q1295 (congrArg va_rf hT.r6) d kk
theorem gm_asideMany (C : gC E K cc RX8 nL rm) (hT : tZ Z) (d : decode cc pc = .ok (.getfield 266, 3)) (kk : G E K Z I ck sk L (pc + 3) (.int (I 0 28) :: st)) : G E K Z I ck sk L pc (.ref (Z.1 0) :: st) := g_get C 0 28 hT.s0 rfl in_X8 (by decide) q1296 rfl d kk
theorem gmp_asideMany {x : Int32} (C : gC E K cc RX8 nL rm) (hT : tZ Z) (d : decode cc pc = .ok (.putfield 266, 3)) (kk : G E K Z (up2 I 0 28 x) ck sk L (pc + 3) st) : G E K Z I ck sk L pc (.int x :: .ref (Z.1 0) :: st) := g_put C 0 28 hT.s0 rfl in_X8 nmX8 tyX8_ok (by decide) q1296 rfl (x := x) (fun _ => rfl) rfl rfl d kk
theorem gm_bestDigits (C : gC E K cc RX8 nL rm) (hT : tZ Z) (d : decode cc pc = .ok (.getfield 313, 3)) (kk : G E K Z I ck sk L (pc + 3) (.int (I 0 29) :: st)) : G E K Z I ck sk L pc (.ref (Z.1 0) :: st) := g_get C 0 29 hT.s0 rfl in_X8 (by decide) q1297 rfl d kk
theorem gmp_bestDigits {x : Int32} (C : gC E K cc RX8 nL rm) (hT : tZ Z) (d : decode cc pc = .ok (.putfield 313, 3)) (kk : G E K Z (up2 I 0 29 x) ck sk L (pc + 3) st) : G E K Z I ck sk L pc (.int x :: .ref (Z.1 0) :: st) := g_put C 0 29 hT.s0 rfl in_X8 nmX8 tyX8_ok (by decide) q1297 rfl (x := x) (fun _ => rfl) rfl rfl d kk
theorem gm_bestMany (C : gC E K cc RX8 nL rm) (hT : tZ Z) (d : decode cc pc = .ok (.getfield 316, 3)) (kk : G E K Z I ck sk L (pc + 3) (.int (I 0 30) :: st)) : G E K Z I ck sk L pc (.ref (Z.1 0) :: st) := g_get C 0 30 hT.s0 rfl in_X8 (by decide) q1298 rfl d kk
theorem gmp_bestMany {x : Int32} (C : gC E K cc RX8 nL rm) (hT : tZ Z) (d : decode cc pc = .ok (.putfield 316, 3)) (kk : G E K Z (up2 I 0 30 x) ck sk L (pc + 3) st) : G E K Z I ck sk L pc (.int x :: .ref (Z.1 0) :: st) := g_put C 0 30 hT.s0 rfl in_X8 nmX8 tyX8_ok (by decide) q1298 rfl (x := x) (fun _ => rfl) rfl rfl d kk
theorem gm_allSet (C : gC E K cc RX8 nL rm) (hT : tZ Z) (d : decode cc pc = .ok (.getfield 322, 3)) (kk : G E K Z I ck sk L (pc + 3) (.int (I 0 31) :: st)) : G E K Z I ck sk L pc (.ref (Z.1 0) :: st) := g_get C 0 31 hT.s0 rfl in_X8 (by decide) q1299 rfl d kk
theorem gmp_allSet {x : Int32} (C : gC E K cc RX8 nL rm) (hT : tZ Z) (d : decode cc pc = .ok (.putfield 322, 3)) (kk : G E K Z (up2 I 0 31 x) ck sk L (pc + 3) st) : G E K Z I ck sk L pc (.int x :: .ref (Z.1 0) :: st) := g_put C 0 31 hT.s0 rfl in_X8 nmX8 tyX8_ok (by decide) q1299 rfl (x := x) (fun _ => rfl) rfl rfl d kk
theorem gm_rowsKept (C : gC E K cc RX8 nL rm) (hT : tZ Z) (d : decode cc pc = .ok (.getfield 35, 3)) (kk : G E K Z I ck sk L (pc + 3) (.ref (Z.1 7) :: st)) : G E K Z I ck sk L pc (.ref (Z.1 0) :: st) := g_get C 0 32 hT.s0 rfl in_X8 (by decide) q1300 (congrArg va_rf hT.r7) d kk
theorem gm_hallKept (C : gC E K cc RX8 nL rm) (hT : tZ Z) (d : decode cc pc = .ok (.getfield 345, 3)) (kk : G E K Z I ck sk L (pc + 3) (.int (I 0 33) :: st)) : G E K Z I ck sk L pc (.ref (Z.1 0) :: st) := g_get C 0 33 hT.s0 rfl in_X8 (by decide) q1301 rfl d kk
theorem gmp_hallKept {x : Int32} (C : gC E K cc RX8 nL rm) (hT : tZ Z) (d : decode cc pc = .ok (.putfield 345, 3)) (kk : G E K Z (up2 I 0 33 x) ck sk L (pc + 3) st) : G E K Z I ck sk L pc (.int x :: .ref (Z.1 0) :: st) := g_put C 0 33 hT.s0 rfl in_X8 nmX8 tyX8_ok (by decide) q1301 rfl (x := x) (fun _ => rfl) rfl rfl d kk
theorem gm_manyKept (C : gC E K cc RX8 nL rm) (hT : tZ Z) (d : decode cc pc = .ok (.getfield 38, 3)) (kk : G E K Z I ck sk L (pc + 3) (.int (I 0 34) :: st)) : G E K Z I ck sk L pc (.ref (Z.1 0) :: st) := g_get C 0 34 hT.s0 rfl in_X8 (by decide) q1302 rfl d kk
theorem gmp_manyKept {x : Int32} (C : gC E K cc RX8 nL rm) (hT : tZ Z) (d : decode cc pc = .ok (.putfield 38, 3)) (kk : G E K Z (up2 I 0 34 x) ck sk L (pc + 3) st) : G E K Z I ck sk L pc (.int x :: .ref (Z.1 0) :: st) := g_put C 0 34 hT.s0 rfl in_X8 nmX8 tyX8_ok (by decide) q1302 rfl (x := x) (fun _ => rfl) rfl rfl d kk
theorem gm_roundKept (C : gC E K cc RX8 nL rm) (hT : tZ Z) (d : decode cc pc = .ok (.getfield 348, 3)) (kk : G E K Z I ck sk L (pc + 3) (.int (I 0 35) :: st)) : G E K Z I ck sk L pc (.ref (Z.1 0) :: st) := g_get C 0 35 hT.s0 rfl in_X8 (by decide) q1303 rfl d kk
theorem gmp_roundKept {x : Int32} (C : gC E K cc RX8 nL rm) (hT : tZ Z) (d : decode cc pc = .ok (.putfield 348, 3)) (kk : G E K Z (up2 I 0 35 x) ck sk L (pc + 3) st) : G E K Z I ck sk L pc (.int x :: .ref (Z.1 0) :: st) := g_put C 0 35 hT.s0 rfl in_X8 nmX8 tyX8_ok (by decide) q1303 rfl (x := x) (fun _ => rfl) rfl rfl d kk
theorem gm_ruleKept (C : gC E K cc RX8 nL rm) (hT : tZ Z) (d : decode cc pc = .ok (.getfield 351, 3)) (kk : G E K Z I ck sk L (pc + 3) (.int (I 0 36) :: st)) : G E K Z I ck sk L pc (.ref (Z.1 0) :: st) := g_get C 0 36 hT.s0 rfl in_X8 (by decide) q1304 rfl d kk
theorem gmp_ruleKept {x : Int32} (C : gC E K cc RX8 nL rm) (hT : tZ Z) (d : decode cc pc = .ok (.putfield 351, 3)) (kk : G E K Z (up2 I 0 36 x) ck sk L (pc + 3) st) : G E K Z I ck sk L pc (.int x :: .ref (Z.1 0) :: st) := g_put C 0 36 hT.s0 rfl in_X8 nmX8 tyX8_ok (by decide) q1304 rfl (x := x) (fun _ => rfl) rfl rfl d kk
theorem gm_isThere (C : gC E K cc RX8 nL rm) (hT : tZ Z) (d : decode cc pc = .ok (.getfield 41, 3)) (kk : G E K Z I ck sk L (pc + 3) (.ref (Z.1 8) :: st)) : G E K Z I ck sk L pc (.ref (Z.1 0) :: st) := g_get C 0 37 hT.s0 rfl in_X8 (by decide) q1305 (congrArg va_rf hT.r8) d kk
theorem gm_sorts (C : gC E K cc RX8 nL rm) (hT : tZ Z) (d : decode cc pc = .ok (.getfield 45, 3)) (kk : G E K Z I ck sk L (pc + 3) (.ref (Z.1 9) :: st)) : G E K Z I ck sk L pc (.ref (Z.1 0) :: st) := g_get C 0 38 hT.s0 rfl in_X8 (by decide) q1306 (congrArg va_rf hT.r9) d kk
theorem gm_sheetSize (C : gC E K cc RX8 nL rm) (hT : tZ Z) (d : decode cc pc = .ok (.getfield 48, 3)) (kk : G E K Z I ck sk L (pc + 3) (.ref (Z.1 10) :: st)) : G E K Z I ck sk L pc (.ref (Z.1 0) :: st) := g_get C 0 39 hT.s0 rfl in_X8 (by decide) q1307 (congrArg va_rf hT.r10) d kk
theorem gm_items (C : gC E K cc RX8 nL rm) (hT : tZ Z) (d : decode cc pc = .ok (.getfield 51, 3)) (kk : G E K Z I ck sk L (pc + 3) (.ref (Z.1 11) :: st)) : G E K Z I ck sk L pc (.ref (Z.1 0) :: st) := g_get C 0 40 hT.s0 rfl in_X8 (by decide) q1308 (congrArg va_rf hT.r11) d kk
end TW1
abbrev rmX8_in : Room := { frames := 1, cells := 0, slots := 0, locals := 12 }
set_option maxHeartbeats 4000000 in
theorem mX8_in {E : gE} {Z : gS} {I : gI} (v lo hi : Int64) : gMet E yX8_in (ws_ yX8_in cX8_in 6 (some .boolean)) rmX8_in Z I [.long v, .long lo, .long hi] (cQi E Z (fun r J => J = I ∧ r = bI (decide (lo ≤ v ∧ v ≤ hi)))) 0 0 := by
  refine g_of (own := RX8) (cc := cX8_in) (nL := 6) (L0 := [(0, .long v), (2, .long lo), (4, .long hi)]) (by decide) rfl rfl rfl (Nat.le_of_ble_eq_true rfl) rfl ?_
  intro K C hR _
  refine g_lload_n (pc := 0) C dX8_in_0 rfl 0 rfl ?_
  refine g_lload_n (pc := 1) C dX8_in_1 rfl 1 rfl ?_
  refine g_lcmp (pc := 2) C dX8_in_2 (v := lg_cmp v lo) rfl ?_
  refine g_if_lt (pc := 3) C dX8_in_3 (tgt := 17) (by decide) (fun c1 => ?_) (fun c1 => ?_)
  · refine g_iconst (pc := 17) C dX8_in_17 (v := (nI 0)) (by decide) ?_
    exact g_zret (pc := 18) C hR dX8_in_18 (Or.inl rfl) ⟨rfl, by first | exact in_lt (by assumption) | exact in_gt (by assumption) | exact in_ok (by assumption) (by assumption)⟩
  · refine g_lload_n (pc := 6) C dX8_in_6 rfl 0 rfl ?_
    refine g_lload (pc := 7) C dX8_in_7 2 rfl ?_
    refine g_lcmp (pc := 9) C dX8_in_9 (v := lg_cmp v hi) rfl ?_
    refine g_if_gt (pc := 10) C dX8_in_10 (tgt := 17) (by decide) (fun c2 => ?_) (fun c2 => ?_)
    · refine g_iconst (pc := 17) C dX8_in_17 (v := (nI 0)) (by decide) ?_
      exact g_zret (pc := 18) C hR dX8_in_18 (Or.inl rfl) ⟨rfl, by first | exact in_lt (by assumption) | exact in_gt (by assumption) | exact in_ok (by assumption) (by assumption)⟩
    · refine g_iconst (pc := 13) C dX8_in_13 (v := (nI 1)) (by decide) ?_
      refine g_goto (pc := 14) C dX8_in_14 (tgt := 18) (by decide) ?_
      exact g_zret (pc := 18) C hR dX8_in_18 (Or.inr rfl) ⟨rfl, by first | exact in_lt (by assumption) | exact in_gt (by assumption) | exact in_ok (by assumption) (by assumption)⟩
abbrev rmX8_within : Room := { frames := 1, cells := 0, slots := 0, locals := 12 }
set_option maxHeartbeats 4000000 in
theorem mX8_within {E : gE} {Z : gS} {I : gI} (v lo hi : Int32) : gMet E yX8_within (ws_ yX8_within cX8_within 3 (some .int)) rmX8_within Z I [.int v, .int lo, .int hi] (cQi E Z (fun r J => J = I ∧ r = wi v lo hi)) 0 0 := by
  refine g_of (own := RX8) (cc := cX8_within) (nL := 3) (L0 := [(0, .int v), (1, .int lo), (2, .int hi)]) (by decide) rfl rfl rfl (Nat.le_of_ble_eq_true rfl) rfl ?_
  intro K C hR _
  refine g_iload_n (pc := 0) C dX8_within_0 rfl 0 rfl ?_
  refine g_iload_n (pc := 1) C dX8_within_1 rfl 1 rfl ?_
  refine g_icmp_ge (pc := 2) C dX8_within_2 (tgt := 9) (by decide) (fun c1 => ?_) (fun c1 => ?_)
  · refine g_iload_n (pc := 9) C dX8_within_9 rfl 0 rfl ?_
    refine g_iload_n (pc := 10) C dX8_within_10 rfl 2 rfl ?_
    refine g_icmp_le (pc := 11) C dX8_within_11 (tgt := 18) (by decide) (fun c2 => ?_) (fun c2 => ?_)
    · refine g_iload_n (pc := 18) C dX8_within_18 rfl 0 rfl ?_
      exact g_iret (pc := 19) C hR dX8_within_19 ⟨rfl, by first | exact wi_1 (by assumption) | exact wi_2 (by assumption) (by assumption) | exact wi_3 (by assumption) (by assumption)⟩
    · refine g_iload_n (pc := 14) C dX8_within_14 rfl 2 rfl ?_
      refine g_goto (pc := 15) C dX8_within_15 (tgt := 19) (by decide) ?_
      exact g_iret (pc := 19) C hR dX8_within_19 ⟨rfl, by first | exact wi_1 (by assumption) | exact wi_2 (by assumption) (by assumption) | exact wi_3 (by assumption) (by assumption)⟩
  · refine g_iload_n (pc := 5) C dX8_within_5 rfl 1 rfl ?_
    refine g_goto (pc := 6) C dX8_within_6 (tgt := 19) (by decide) ?_
    exact g_iret (pc := 19) C hR dX8_within_19 ⟨rfl, by first | exact wi_1 (by assumption) | exact wi_2 (by assumption) (by assumption) | exact wi_3 (by assumption) (by assumption)⟩
theorem hdX8_in : yX8_in.cls ≠ "java/lang/invoke/MethodHandle" ∧ yX8_in.cls ≠ "java/lang/invoke/VarHandle" ∧ (parseMethodDescriptor yX8_in.desc).map (fun d => d.parameters.length) = some 3 := by decide +kernel
theorem gvX8_in_X8_64 : GoodIn lw_all (va_wsS RX8 64 yX8_in (ws_ yX8_in cX8_in 6 (some .boolean))) := lw_S q1398 q1399 q122 q1400
abbrev rmX8_isOne : Room := { frames := 2, cells := 0, slots := 0, locals := 37 }
set_option maxHeartbeats 4000000 in
theorem mX8_isOne {E : gE} {Z : gS} {I : gI} {mn : Nat} (hT : tZ Z) (hm : I 0 11 = nI mn) (hmn : mn ≤ 6) (a : Int32) : gMet E yX8_isOne (ws_ yX8_isOne cX8_isOne 2 (some .boolean)) rmX8_isOne Z I [.ref (Z.1 0), .int a] (cQi E Z (fun r J => J = I ∧ r = bI (isP mn a))) 0 0 := by
  refine g_of (own := RX8) (cc := cX8_isOne) (nL := 2) (L0 := [(0, .ref (Z.1 0)), (1, .int a)]) (by decide) rfl rfl rfl (Nat.le_of_ble_eq_true rfl) rfl ?_
  intro K C hR _
  refine g_iload_n (pc := 0) C dX8_isOne_0 rfl 1 rfl ?_
  refine g_i2l (pc := 1) C dX8_isOne_1 (v := a.toInt64) rfl ?_
  refine g_lconst (pc := 2) C dX8_isOne_2 (v := 0) (by decide) ?_
  refine g_aload_n (pc := 3) C dX8_isOne_3 rfl 0 rfl ?_
  refine gm_many (pc := 4) C hT dX8_isOne_4 ?_
  refine g_eqv (y := (nI mn)) hm ?_
  refine g_iconst (pc := 7) C dX8_isOne_7 (v := (nI 1)) (by decide) ?_
  refine g_isub (pc := 8) C dX8_isOne_8 (v := ((nI mn) - (nI 1))) rfl ?_
  refine g_i2l (pc := 9) C dX8_isOne_9 (v := ((nI mn) - (nI 1)).toInt64) rfl ?_
  refine g_goi (pc := 10) C (g_runS C (As := [.long a.toInt64, .long (0 : Int64), .long (((nI mn) - (nI 1)).toInt64)]) (rest := []) (mX8_in a.toInt64 (0 : Int64) (((nI mn) - (nI 1)).toInt64)) gvX8_in_X8_64 rfl rfl rfl hdX8_in ⟨Nat.le_of_ble_eq_true rfl, Nat.le_of_ble_eq_true rfl⟩ rfl rfl (Nat.le_of_ble_eq_true rfl) dX8_isOne_10 ⟨Nat.le_of_ble_eq_true rfl, Nat.le_of_ble_eq_true rfl⟩) (fun r1 J1 h1 => ?_)
  obtain ⟨eah1, ebh1⟩ := h1
  subst r1
  subst J1
  exact g_zret (pc := 13) C hR dX8_isOne_13 (bI_01 _) ⟨rfl, congrArg bI (isP_in hmn)⟩
theorem hdX8_isOne : yX8_isOne.cls = RX8 ∧ yX8_isOne.cls ≠ "java/lang/invoke/MethodHandle" ∧ yX8_isOne.cls ≠ "java/lang/invoke/VarHandle" ∧ (parseMethodDescriptor yX8_isOne.desc).map (fun d => d.parameters.length) = some 1 := by decide +kernel
theorem gvX8_isOne_X8_68 : GoodIn lw_all (wsV RX8 68 RX8 yX8_isOne (ws_ yX8_isOne cX8_isOne 2 (some .boolean))) := lw_V q1409 q1411 qs58 q122 q1412
abbrev rmX8_areTwo : Room := { frames := 3, cells := 0, slots := 0, locals := 58 }
set_option maxHeartbeats 4000000 in
theorem mX8_areTwo {E : gE} {Z : gS} {I : gI} {mn : Nat} (hT : tZ Z) (hm : I 0 11 = nI mn) (hmn : mn ≤ 6) (a b : Int32) : gMet E yX8_areTwo (ws_ yX8_areTwo cX8_areTwo 3 (some .boolean)) rmX8_areTwo Z I [.ref (Z.1 0), .int a, .int b] (cQi E Z (fun r J => J = I ∧ r = bI (ar2 mn a b))) 0 0 := by
  refine g_of (own := RX8) (cc := cX8_areTwo) (nL := 3) (L0 := [(0, .ref (Z.1 0)), (1, .int a), (2, .int b)]) (by decide) rfl rfl rfl (Nat.le_of_ble_eq_true rfl) rfl ?_
  intro K C hR _
  refine g_aload_n (pc := 0) C dX8_areTwo_0 rfl 0 rfl ?_
  refine g_iload_n (pc := 1) C dX8_areTwo_1 rfl 1 rfl ?_
  refine g_goi (pc := 2) C (g_runV C 0 (As := [.int a]) (rest := []) (mX8_isOne hT hm hmn a) gvX8_isOne_X8_68 rfl rfl rfl hdX8_isOne ⟨Nat.le_of_ble_eq_true rfl, Nat.le_of_ble_eq_true rfl⟩ hT.s0 rfl rfl rfl (Nat.le_of_ble_eq_true rfl) dX8_areTwo_2 ⟨Nat.le_of_ble_eq_true rfl, Nat.le_of_ble_eq_true rfl⟩) (fun r1 J1 h1 => ?_)
  obtain ⟨eah1, ebh1⟩ := h1
  subst r1
  subst J1
  refine g_ifB_eq (pc := 5) C dX8_areTwo_5 (tgt := 25) (by decide) (fun c2 => ?_) (fun c2 => ?_)
  · refine g_iconst (pc := 25) C dX8_areTwo_25 (v := (nI 0)) (by decide) ?_
    exact g_zret (pc := 26) C hR dX8_areTwo_26 (Or.inl rfl) ⟨rfl, by simp_all [ar2, bI, nI_lit0, nI_one]⟩
  · refine g_aload_n (pc := 8) C dX8_areTwo_8 rfl 0 rfl ?_
    refine g_iload_n (pc := 9) C dX8_areTwo_9 rfl 2 rfl ?_
    refine g_goi (pc := 10) C (g_runV C 0 (As := [.int b]) (rest := []) (mX8_isOne hT hm hmn b) gvX8_isOne_X8_68 rfl rfl rfl hdX8_isOne ⟨Nat.le_of_ble_eq_true rfl, Nat.le_of_ble_eq_true rfl⟩ hT.s0 rfl rfl rfl (Nat.le_of_ble_eq_true rfl) dX8_areTwo_10 ⟨Nat.le_of_ble_eq_true rfl, Nat.le_of_ble_eq_true rfl⟩) (fun r3 J3 h3 => ?_)
    obtain ⟨eah3, ebh3⟩ := h3
    subst r3
    subst J3
    refine g_ifB_eq (pc := 13) C dX8_areTwo_13 (tgt := 25) (by decide) (fun c4 => ?_) (fun c4 => ?_)
    · refine g_iconst (pc := 25) C dX8_areTwo_25 (v := (nI 0)) (by decide) ?_
      exact g_zret (pc := 26) C hR dX8_areTwo_26 (Or.inl rfl) ⟨rfl, by simp_all [ar2, bI, nI_lit0, nI_one]⟩
    · refine g_iload_n (pc := 16) C dX8_areTwo_16 rfl 1 rfl ?_
      refine g_iload_n (pc := 17) C dX8_areTwo_17 rfl 2 rfl ?_
      refine g_icmp_eq (pc := 18) C dX8_areTwo_18 (tgt := 25) (by decide) (fun c5 => ?_) (fun c5 => ?_)
      · refine g_iconst (pc := 25) C dX8_areTwo_25 (v := (nI 0)) (by decide) ?_
        exact g_zret (pc := 26) C hR dX8_areTwo_26 (Or.inl rfl) ⟨rfl, by simp_all [ar2, bI, nI_lit0, nI_one]⟩
      · refine g_iconst (pc := 21) C dX8_areTwo_21 (v := (nI 1)) (by decide) ?_
        refine g_goto (pc := 22) C dX8_areTwo_22 (tgt := 26) (by decide) ?_
        exact g_zret (pc := 26) C hR dX8_areTwo_26 (Or.inr rfl) ⟨rfl, by simp_all [ar2, bI, nI_lit0, nI_one]⟩
abbrev rmX8_isThing : Room := { frames := 2, cells := 0, slots := 0, locals := 37 }
set_option maxHeartbeats 4000000 in
theorem mX8_isThing {E : gE} {Z : gS} {I : gI} (a : Int32) : gMet E yX8_isThing (ws_ yX8_isThing cX8_isThing 1 (some .boolean)) rmX8_isThing Z I [.int a] (cQi E Z (fun r J => J = I ∧ r = bI (isP 8 a))) 0 0 := by
  refine g_of (own := RX8) (cc := cX8_isThing) (nL := 1) (L0 := [(0, .int a)]) (by decide) rfl rfl rfl (Nat.le_of_ble_eq_true rfl) rfl ?_
  intro K C hR _
  refine g_iload_n (pc := 0) C dX8_isThing_0 rfl 0 rfl ?_
  refine g_i2l (pc := 1) C dX8_isThing_1 (v := a.toInt64) rfl ?_
  refine g_lconst (pc := 2) C dX8_isThing_2 (v := 0) (by decide) ?_
  refine g_ldc2 (pc := 3) C dX8_isThing_3 q1408 ?_
  refine g_goi (pc := 6) C (g_runS C (As := [.long a.toInt64, .long (0 : Int64), .long (7 : Int64)]) (rest := []) (mX8_in a.toInt64 (0 : Int64) (7 : Int64)) gvX8_in_X8_64 rfl rfl rfl hdX8_in ⟨Nat.le_of_ble_eq_true rfl, Nat.le_of_ble_eq_true rfl⟩ rfl rfl (Nat.le_of_ble_eq_true rfl) dX8_isThing_6 ⟨Nat.le_of_ble_eq_true rfl, Nat.le_of_ble_eq_true rfl⟩) (fun r1 J1 h1 => ?_)
  obtain ⟨eah1, ebh1⟩ := h1
  subst r1
  subst J1
  exact g_zret (pc := 9) C hR dX8_isThing_9 (bI_01 _) ⟨rfl, congrArg bI isP_in8⟩
abbrev rmX8_has : Room := { frames := 1, cells := 0, slots := 0, locals := 12 }
set_option maxHeartbeats 4000000 in
theorem mX8_has {E : gE} {Z : gS} {I : gI} (hT : tZ Z) (p : Nat) (hp : p < 6) : gMet E yX8_has (ws_ yX8_has cX8_has 2 (some .int)) rmX8_has Z I [.ref (Z.1 0), .int (nI p)] (cQi E Z (fun r J => J = I ∧ r = I 5 (4 * p + 3))) 0 0 := by
  refine g_of (own := RX8) (cc := cX8_has) (nL := 2) (L0 := [(0, .ref (Z.1 0)), (1, .int (nI p))]) (by decide) rfl rfl rfl (Nat.le_of_ble_eq_true rfl) rfl ?_
  intro K C hR _
  refine g_aload_n (pc := 0) C dX8_has_0 rfl 0 rfl ?_
  refine gm_rows (pc := 1) C hT dX8_has_1 ?_
  refine g_iconst (pc := 4) C dX8_has_4 (v := (nI 4)) (by decide) ?_
  refine g_iload_n (pc := 5) C dX8_has_5 rfl 1 rfl ?_
  refine g_imul (pc := 6) C dX8_has_6 (v := (nI (4 * p))) (pk_mul _ _) ?_
  refine g_iconst (pc := 7) C dX8_has_7 (v := (nI 3)) (by decide) ?_
  refine g_iadd (pc := 8) C dX8_has_8 (v := (nI ((4 * p) + 3))) (nI_add _ _) ?_
  refine g_iald (pc := 9) C 5 ((4 * p) + 3) hT.s5 (by omega) (by decide) dX8_has_9 ?_
  exact g_iret (pc := 10) C hR dX8_has_10 ⟨rfl, rfl⟩
abbrev rmX8_bitsOf : Room := { frames := 1, cells := 0, slots := 0, locals := 12 }
set_option maxHeartbeats 4000000 in
theorem mX8_bitsOf {E : gE} {Z : gS} {I : gI} (n : Nat) (hn : n < 256) : gMet E yX8_bitsOf (ws_ yX8_bitsOf cX8_bitsOf 3 (some .int)) rmX8_bitsOf Z I [.int (nI n)] (cQi E Z (fun r J => J = I ∧ r = bc (nI n))) 0 0 := by
  refine g_of (own := RX8) (cc := cX8_bitsOf) (nL := 3) (L0 := [(0, .int (nI n))]) (by decide) rfl rfl rfl (Nat.le_of_ble_eq_true rfl) rfl ?_
  intro K C hR _
  refine g_iconst (pc := 0) C dX8_bitsOf_0 (v := (nI 0)) (by decide) ?_
  refine g_istore_n (pc := 1) C dX8_bitsOf_1 (L' := [(1, .int (nI 0)), (0, .int (nI n))]) rfl (by decide) rfl ?_
  refine g_iload_n (pc := 2) C dX8_bitsOf_2 rfl 1 rfl ?_
  refine g_istore_n (pc := 3) C dX8_bitsOf_3 (L' := [(2, .int (nI n)), (1, .int (nI 0)), (0, .int (nI n))]) rfl (by decide) rfl ?_
  have lp4 : ∀ (n4 : Nat) (x : Nat) (m : Nat) (h1 : m < 256) (h2 : x + bcN m = bcN n), m = n4 → G E K Z I 0 0 [(2, .int (nI m)), (1, .int (nI x)), (0, .int (nI n))] 4 [] := by
    intro n4
    induction n4 using Nat.strongRecOn with
    | _ n4 ih4 =>
      intro x m h1 h2 hm4
      refine g_iload_n (pc := 4) C dX8_bitsOf_4 rfl 0 rfl ?_
      refine g_ifN_eq (pc := 5) C dX8_bitsOf_5 (tgt := 20) (by decide) (by omega) (fun c1 => ?_) (fun c1 => ?_)
      · refine g_iload_n (pc := 20) C dX8_bitsOf_20 rfl 1 rfl ?_
        exact g_iret (pc := 21) C hR dX8_bitsOf_21 ⟨rfl, bc_end h2 (by omega)⟩
      · refine g_iinc (pc := 8) C dX8_bitsOf_8 (v := (nI (x + 1))) (L' := [(1, .int (nI (x + 1))), (2, .int (nI m)), (0, .int (nI n))]) 1 rfl (nI_add _ _) (by decide) rfl ?_
        refine g_iload_n (pc := 11) C dX8_bitsOf_11 rfl 1 rfl ?_
        refine g_iload_n (pc := 12) C dX8_bitsOf_12 rfl 1 rfl ?_
        refine g_iconst (pc := 13) C dX8_bitsOf_13 (v := (nI 1)) (by decide) ?_
        refine g_isub (pc := 14) C dX8_bitsOf_14 (v := ((nI m) - (nI 1))) rfl ?_
        refine g_iand (pc := 15) C dX8_bitsOf_15 (v := ((nI m) &&& ((nI m) - (nI 1)))) rfl ?_
        refine g_eqv (y := nI (m &&& (m - 1))) (bc_and (by omega) (by omega)) ?_
        refine g_istore_n (pc := 16) C dX8_bitsOf_16 (L' := [(2, .int (nI (m &&& (m - 1)))), (1, .int (nI (x + 1))), (0, .int (nI n))]) rfl (by decide) rfl ?_
        refine g_goto (pc := 17) C dX8_bitsOf_17 (tgt := 4) (by decide) ?_
        exact ih4 (m &&& (m - 1)) (by have := bc_dn (m := m) (by omega); omega) (x + 1) (m &&& (m - 1)) (bc_lt h1) (by have := bc_st h1 (by omega); omega) rfl
  exact lp4 _ 0 n hn (by omega) rfl
theorem hdX8_has : yX8_has.cls = RX8 ∧ yX8_has.cls ≠ "java/lang/invoke/MethodHandle" ∧ yX8_has.cls ≠ "java/lang/invoke/VarHandle" ∧ (parseMethodDescriptor yX8_has.desc).map (fun d => d.parameters.length) = some 1 := by decide +kernel
theorem gvX8_has_X8_112 : GoodIn lw_all (wsV RX8 112 RX8 yX8_has (ws_ yX8_has cX8_has 2 (some .int))) := lw_V q1428 q1430 qs61 q122 q1431
theorem hdX8_bitsOf : yX8_bitsOf.cls ≠ "java/lang/invoke/MethodHandle" ∧ yX8_bitsOf.cls ≠ "java/lang/invoke/VarHandle" ∧ (parseMethodDescriptor yX8_bitsOf.desc).map (fun d => d.parameters.length) = some 1 := by decide +kernel
theorem gvX8_bitsOf_X8_116 : GoodIn lw_all (va_wsS RX8 116 yX8_bitsOf (ws_ yX8_bitsOf cX8_bitsOf 3 (some .int))) := lw_S q1436 q1437 q122 q1438
abbrev rmX8_hasMany : Room := { frames := 2, cells := 0, slots := 0, locals := 34 }
set_option maxHeartbeats 4000000 in
theorem mX8_hasMany {E : gE} {Z : gS} {I : gI} (hT : tZ Z) (p : Nat) (hp : p < 6) (hb : ∃ n, n < 256 ∧ I 5 (4 * p + 3) = nI n) : gMet E yX8_hasMany (ws_ yX8_hasMany cX8_hasMany 2 (some .int)) rmX8_hasMany Z I [.ref (Z.1 0), .int (nI p)] (cQi E Z (fun r J => J = I ∧ r = bc (I 5 (4 * p + 3)))) 0 0 := by
  refine g_of (own := RX8) (cc := cX8_hasMany) (nL := 2) (L0 := [(0, .ref (Z.1 0)), (1, .int (nI p))]) (by decide) rfl rfl rfl (Nat.le_of_ble_eq_true rfl) rfl ?_
  intro K C hR _
  refine g_aload_n (pc := 0) C dX8_hasMany_0 rfl 0 rfl ?_
  refine g_iload_n (pc := 1) C dX8_hasMany_1 rfl 1 rfl ?_
  refine g_goi (pc := 2) C (g_runV C 0 (As := [.int (nI p)]) (rest := []) (mX8_has hT p (by omega)) gvX8_has_X8_112 rfl rfl rfl hdX8_has ⟨Nat.le_of_ble_eq_true rfl, Nat.le_of_ble_eq_true rfl⟩ hT.s0 rfl rfl rfl (Nat.le_of_ble_eq_true rfl) dX8_hasMany_2 ⟨Nat.le_of_ble_eq_true rfl, Nat.le_of_ble_eq_true rfl⟩) (fun r1 J1 h1 => ?_)
  obtain ⟨eah1, ebh1⟩ := h1
  subst r1
  subst J1
  obtain ⟨n, hn, en⟩ := hb
  refine g_eqv (y := nI n) en ?_
  refine g_goi (pc := 5) C (g_runS C (As := [.int (nI n)]) (rest := []) (mX8_bitsOf n hn) gvX8_bitsOf_X8_116 rfl rfl rfl hdX8_bitsOf ⟨Nat.le_of_ble_eq_true rfl, Nat.le_of_ble_eq_true rfl⟩ rfl rfl (Nat.le_of_ble_eq_true rfl) dX8_hasMany_5 ⟨Nat.le_of_ble_eq_true rfl, Nat.le_of_ble_eq_true rfl⟩) (fun r2 J2 h2 => ?_)
  obtain ⟨eah2, ebh2⟩ := h2
  subst r2
  subst J2
  exact g_iret (pc := 8) C hR dX8_hasMany_8 ⟨rfl, by rw [en]⟩