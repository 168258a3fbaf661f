abbrev rmX8_read : Room := { frames := 120, cells := 0, slots := 0, locals := 12000 }
theorem mX8_read {E : gE} {Z : gS} {I : gI} (hT : tZ Z) (t which : Nat) (ht : t < 6) (hw : which < 3) {s : gSm} (hx : tT I t s) : gMet E yX8_read (ws_ yX8_read cX8_read 6 (some .int)) rmX8_read Z I [.ref (Z.1 0), .int (nI t), .int (nI which)] (cQi E Z (fun r J => agr SR I J ∧ r = s which (ofE I))) 0 0 := sorry
theorem hdX8_hasMany : yX8_hasMany.cls = RX8 ∧ yX8_hasMany.cls ≠ "java/lang/invoke/MethodHandle" ∧ yX8_hasMany.cls ≠ "java/lang/invoke/VarHandle" ∧ (parseMethodDescriptor yX8_hasMany.desc).map (fun d => d.parameters.length) = some 1 := by decide +kernel
theorem gvX8_hasMany_X8_122 : GoodIn lw_all (wsV RX8 122 RX8 yX8_hasMany (ws_ yX8_hasMany cX8_hasMany 2 (some .int))) := lw_V q1432 q1434 qs62 q122 q1435
theorem hdX8_read : yX8_read.cls = RX8 ∧ yX8_read.cls ≠ "java/lang/invoke/MethodHandle" ∧ yX8_read.cls ≠ "java/lang/invoke/VarHandle" ∧ (parseMethodDescriptor yX8_read.desc).map (fun d => d.parameters.length) = some 2 := by decide +kernel
theorem gvX8_read_X8_240 : GoodIn lw_all (wsV RX8 240 RX8 yX8_read (ws_ yX8_read cX8_read 6 (some .int))) := lw_V q1462 q1464 qs65 q122 q1465
theorem hdX8_within : yX8_within.cls ≠ "java/lang/invoke/MethodHandle" ∧ yX8_within.cls ≠ "java/lang/invoke/VarHandle" ∧ (parseMethodDescriptor yX8_within.desc).map (fun d => d.parameters.length) = some 3 := by decide +kernel
theorem gvX8_within_X8_243 : GoodIn lw_all (va_wsS RX8 243 yX8_within (ws_ yX8_within cX8_within 3 (some .int))) := lw_S q1557 q1558 q122 q1559
abbrev rmX8_says : Room := { frames := 121, cells := 0, slots := 0, locals := 12025 }
set_option maxHeartbeats 4000000 in
theorem mX8_says {E : gE} {Z : gS} {I : gI} {I0 : gI} {mn rl tn am : Nat} {kd : Nat → Nat} {sm : Nat → gSm} {fr : Nat → gG} {g : gG} (hT : tZ Z) (hV : tP I0 mn kd rl tn sm am fr g I) (which p q : Nat) (hw : which < 3) (hp : p < mn) (hq : q < mn) : gMet E yX8_says (ws_ yX8_says cX8_says 5 (some .int)) rmX8_says Z I [.ref (Z.1 0), .int (nI which), .int (nI p), .int (nI q)] (cQi E Z (fun r J => tP I0 mn kd rl tn sm am fr g J ∧ r = sy (sm rl) which (en g p q))) 0 0 := by
  refine g_of (own := RX8) (cc := cX8_says) (nL := 5) (L0 := [(0, .ref (Z.1 0)), (1, .int (nI which)), (2, .int (nI p)), (3, .int (nI q))]) (by decide) rfl rfl rfl (Nat.le_of_ble_eq_true rfl) rfl ?_
  intro K C hR _
  have hmn := hV.mn6
  refine g_aload_n (pc := 0) C dX8_says_0 rfl 0 rfl ?_
  refine g_aload_n (pc := 1) C dX8_says_1 rfl 0 rfl ?_
  refine gm_rows (pc := 2) C hT dX8_says_2 ?_
  refine g_iconst (pc := 5) C dX8_says_5 (v := (nI 4)) (by decide) ?_
  refine g_iload_n (pc := 6) C dX8_says_6 rfl 2 rfl ?_
  refine g_imul (pc := 7) C dX8_says_7 (v := (nI (4 * p))) (pk_mul _ _) ?_
  refine g_iconst (pc := 8) C dX8_says_8 (v := (nI 1)) (by decide) ?_
  refine g_iadd (pc := 9) C dX8_says_9 (v := (nI ((4 * p) + 1))) (nI_add _ _) ?_
  refine g_iald (pc := 10) C 5 ((4 * p) + 1) hT.s5 (by omega) (by decide) dX8_says_10 ?_
  refine g_eqv (y := g ((4 * p) + 1)) (hV.row (by omega)) ?_
  refine gmp_ofStrong (pc := 11) C hT dX8_says_11 ?_
  refine g_aload_n (pc := 14) C dX8_says_14 rfl 0 rfl ?_
  refine g_aload_n (pc := 15) C dX8_says_15 rfl 0 rfl ?_
  refine g_iload_n (pc := 16) C dX8_says_16 rfl 2 rfl ?_
  refine g_goi (pc := 17) C (g_runV C 0 (As := [.int (nI p)]) (rest := [.ref (Z.1 0)]) (mX8_hasMany hT p (by omega) (by obtain ⟨z, hz, ez⟩ := hV.has (p := p) (by omega); exact ⟨z, hz, (((up2_n _ _ (by omega)).trans (hV.row (by omega)))).trans ez⟩)) gvX8_hasMany_X8_122 rfl rfl rfl hdX8_hasMany ⟨Nat.le_of_ble_eq_true rfl, Nat.le_of_ble_eq_true rfl⟩ hT.s0 rfl rfl rfl (Nat.le_of_ble_eq_true rfl) dX8_says_17 ⟨Nat.le_of_ble_eq_true rfl, Nat.le_of_ble_eq_true rfl⟩) (fun r1 J1 h1 => ?_)
  obtain ⟨eah1, ebh1⟩ := h1
  subst r1
  subst J1
  refine g_eqv (y := bc (g ((4 * p) + 3))) (congrArg bc ((up2_n _ _ (by omega)).trans (hV.row (by omega)))) ?_
  refine gmp_ofHas (pc := 20) C hT dX8_says_20 ?_
  refine g_aload_n (pc := 23) C dX8_says_23 rfl 0 rfl ?_
  refine g_aload_n (pc := 24) C dX8_says_24 rfl 0 rfl ?_
  refine gm_rows (pc := 25) C hT dX8_says_25 ?_
  refine g_iconst (pc := 28) C dX8_says_28 (v := (nI 4)) (by decide) ?_
  refine g_iload_n (pc := 29) C dX8_says_29 rfl 2 rfl ?_
  refine g_imul (pc := 30) C dX8_says_30 (v := (nI (4 * p))) (pk_mul _ _) ?_
  refine g_iald (pc := 31) C 5 (4 * p) hT.s5 (by omega) (by decide) dX8_says_31 ?_
  refine g_eqv (y := g (4 * p)) ((up2_n _ _ (by omega)).trans ((up2_n _ _ (by omega)).trans (hV.row (by omega)))) ?_
  refine gmp_ofNumber (pc := 32) C hT dX8_says_32 ?_
  refine g_aload_n (pc := 35) C dX8_says_35 rfl 0 rfl ?_
  refine g_aload_n (pc := 36) C dX8_says_36 rfl 0 rfl ?_
  refine gm_rows (pc := 37) C hT dX8_says_37 ?_
  refine g_iconst (pc := 40) C dX8_says_40 (v := (nI 4)) (by decide) ?_
  refine g_iload_n (pc := 41) C dX8_says_41 rfl 3 rfl ?_
  refine g_imul (pc := 42) C dX8_says_42 (v := (nI (4 * q))) (pk_mul _ _) ?_
  refine g_iconst (pc := 43) C dX8_says_43 (v := (nI 1)) (by decide) ?_
  refine g_iadd (pc := 44) C dX8_says_44 (v := (nI ((4 * q) + 1))) (nI_add _ _) ?_
  refine g_iald (pc := 45) C 5 ((4 * q) + 1) hT.s5 (by omega) (by decide) dX8_says_45 ?_
  refine g_eqv (y := g ((4 * q) + 1)) ((up2_n _ _ (by omega)).trans ((up2_n _ _ (by omega)).trans ((up2_n _ _ (by omega)).trans (hV.row (by omega))))) ?_
  refine gmp_ofTheirs (pc := 46) C hT dX8_says_46 ?_
  refine g_aload_n (pc := 49) C dX8_says_49 rfl 0 rfl ?_
  refine g_aload_n (pc := 50) C dX8_says_50 rfl 0 rfl ?_
  refine gm_roundNow (pc := 51) C hT dX8_says_51 ?_
  refine g_eqv (y := (g 25)) ((up2_n _ _ (by omega)).trans ((up2_n _ _ (by omega)).trans ((up2_n _ _ (by omega)).trans ((up2_n _ _ (by omega)).trans (hV.round))))) ?_
  refine gmp_ofRound (pc := 54) C hT dX8_says_54 ?_
  refine g_aload_n (pc := 57) C dX8_says_57 rfl 0 rfl ?_
  refine g_aload_n (pc := 58) C dX8_says_58 rfl 0 rfl ?_
  refine gm_hall (pc := 59) C hT dX8_says_59 ?_
  refine g_eqv (y := (g 24)) ((up2_n _ _ (by omega)).trans ((up2_n _ _ (by omega)).trans ((up2_n _ _ (by omega)).trans ((up2_n _ _ (by omega)).trans ((up2_n _ _ (by omega)).trans (hV.hall)))))) ?_
  obtain ⟨zh62, hzh62, ezh62⟩ := hV.hallB
  refine g_eqv (y := nI zh62) ezh62 ?_
  refine g_goi (pc := 62) C (g_runS C (As := [.int (nI zh62)]) (rest := [.ref (Z.1 0)]) (mX8_bitsOf zh62 hzh62) gvX8_bitsOf_X8_116 rfl rfl rfl hdX8_bitsOf ⟨Nat.le_of_ble_eq_true rfl, Nat.le_of_ble_eq_true rfl⟩ rfl rfl (Nat.le_of_ble_eq_true rfl) dX8_says_62 ⟨Nat.le_of_ble_eq_true rfl, Nat.le_of_ble_eq_true rfl⟩) (fun r2 J2 h2 => ?_)
  obtain ⟨eah2, ebh2⟩ := h2
  subst r2
  subst J2
  refine g_eqv (y := bc (g 24)) (by rw [ezh62]) ?_
  refine g_aload_n (pc := 65) C dX8_says_65 rfl 0 rfl ?_
  refine g_iload_n (pc := 66) C dX8_says_66 rfl 3 rfl ?_
  refine g_goi (pc := 67) C (g_runV C 0 (As := [.int (nI q)]) (rest := [.int (bc (g 24)), .ref (Z.1 0)]) (mX8_hasMany hT q (by omega) (by obtain ⟨z, hz, ez⟩ := hV.has (p := q) (by omega); exact ⟨z, hz, (((up2_n _ _ (by omega)).trans ((up2_n _ _ (by omega)).trans ((up2_n _ _ (by omega)).trans ((up2_n _ _ (by omega)).trans ((up2_n _ _ (by omega)).trans (hV.row (by omega)))))))).trans ez⟩)) gvX8_hasMany_X8_122 rfl rfl rfl hdX8_hasMany ⟨Nat.le_of_ble_eq_true rfl, Nat.le_of_ble_eq_true rfl⟩ hT.s0 rfl rfl rfl (Nat.le_of_ble_eq_true rfl) dX8_says_67 ⟨Nat.le_of_ble_eq_true rfl, Nat.le_of_ble_eq_true rfl⟩) (fun r3 J3 h3 => ?_)
  obtain ⟨eah3, ebh3⟩ := h3
  subst r3
  subst J3
  refine g_eqv (y := bc (g ((4 * q) + 3))) (congrArg bc ((up2_n _ _ (by omega)).trans ((up2_n _ _ (by omega)).trans ((up2_n _ _ (by omega)).trans ((up2_n _ _ (by omega)).trans ((up2_n _ _ (by omega)).trans (hV.row (by omega)))))))) ?_
  refine g_iadd (pc := 70) C dX8_says_70 (v := ((bc (g 24)) + (bc (g ((4 * q) + 3))))) rfl ?_
  refine gmp_ofStake (pc := 71) C hT dX8_says_71 ?_
  refine g_aload_n (pc := 74) C dX8_says_74 rfl 0 rfl ?_
  refine g_aload_n (pc := 75) C dX8_says_75 rfl 0 rfl ?_
  refine gm_rule (pc := 76) C hT dX8_says_76 ?_
  refine g_eqv (y := (nI rl)) ((up2_n _ _ (by omega)).trans ((up2_n _ _ (by omega)).trans ((up2_n _ _ (by omega)).trans ((up2_n _ _ (by omega)).trans ((up2_n _ _ (by omega)).trans ((up2_n _ _ (by omega)).trans (hV.rule))))))) ?_
  refine g_iload_n (pc := 79) C dX8_says_79 rfl 1 rfl ?_
  refine g_goi (pc := 80) C (g_runV C 0 (As := [.int (nI rl), .int (nI which)]) (rest := []) (mX8_read hT rl which hV.rl6 hw (hV.text.agr (fun k j z => (up2_n _ _ (by omega)).trans ((up2_n _ _ (by omega)).trans ((up2_n _ _ (by omega)).trans ((up2_n _ _ (by omega)).trans ((up2_n _ _ (by omega)).trans ((up2_n _ _ (by omega)).trans (rfl))))))))) gvX8_read_X8_240 rfl rfl rfl hdX8_read ⟨Nat.le_of_ble_eq_true rfl, Nat.le_of_ble_eq_true rfl⟩ hT.s0 rfl rfl rfl (Nat.le_of_ble_eq_true rfl) dX8_says_80 ⟨Nat.le_of_ble_eq_true rfl, Nat.le_of_ble_eq_true rfl⟩) (fun r4 J4 h4 => ?_)
  obtain ⟨ar, erh4⟩ := h4
  subst r4
  refine g_eqv (y := sm rl which (en g p q)) (congrArg (sm rl which) (funext fun k => ?_)) ?_
  · match k with
      | 0 => exact ((up2_n _ _ (by omega)).trans ((up2_n _ _ (by omega)).trans ((up2_n _ _ (by omega)).trans ((up2_n _ _ (by omega)).trans ((up2_n _ _ (by omega)).trans (up2_s _ _ _ _))))))
      | 1 => exact ((up2_n _ _ (by omega)).trans ((up2_n _ _ (by omega)).trans ((up2_n _ _ (by omega)).trans ((up2_n _ _ (by omega)).trans (up2_s _ _ _ _)))))
      | 2 => exact ((up2_n _ _ (by omega)).trans ((up2_n _ _ (by omega)).trans ((up2_n _ _ (by omega)).trans (up2_s _ _ _ _))))
      | 3 => exact ((up2_n _ _ (by omega)).trans ((up2_n _ _ (by omega)).trans (up2_s _ _ _ _)))
      | 4 => exact ((up2_n _ _ (by omega)).trans (up2_s _ _ _ _))
      | _ + 5 => exact (up2_s _ _ _ _)
  have hV2 : tP I0 mn kd rl tn sm am fr g J4 := hV.mono (agr.tr (S := SY) (agr.up (S := SY) (agr.up (S := SY) (agr.up (S := SY) (agr.up (S := SY) (agr.up (S := SY) (agr.up (S := SY) (agr.rf (S := SY)) (fun _ _ q => q) (by unfold SY; omega)) (fun _ _ q => q) (by unfold SY; omega)) (fun _ _ q => q) (by unfold SY; omega)) (fun _ _ q => q) (by unfold SY; omega)) (fun _ _ q => q) (by unfold SY; omega)) (fun _ _ q => q) (by unfold SY; omega)) ar (fun _ _ q => q) (fun k j q => by unfold SR at q; unfold SY; omega))
  refine g_istore (pc := 83) C dX8_says_83 (L' := [(4, .int (sm rl which (en g p q))), (0, .ref (Z.1 0)), (1, .int (nI which)), (2, .int (nI p)), (3, .int (nI q))]) (by decide) rfl ?_
  refine g_iload_n (pc := 85) C dX8_says_85 rfl 2 rfl ?_
  refine g_ifN_ne (pc := 86) C dX8_says_86 (tgt := 100) (by decide) (by omega) (fun c5 => ?_) (fun c5 => ?_)
  · refine g_iload_n (pc := 100) C dX8_says_100 rfl 2 rfl ?_
    refine g_iconst (pc := 101) C dX8_says_101 (v := (nI 2)) (by decide) ?_
    refine g_icmpN_ne (pc := 102) C dX8_says_102 (tgt := 117) (by decide) (by omega) (by omega) (fun c6 => ?_) (fun c6 => ?_)
    · refine g_iload (pc := 117) C dX8_says_117 0 rfl ?_
      exact g_iret (pc := 119) C hR dX8_says_119 ⟨hV2, by (try simp only [nI_lit0, nI_one, nI_2, nI_3, nI_4, nI_9, nI_10, nI_50, nI_99, nI_999] at c5 c6); simp [sy, nI_lit0, nI_one, nI_2, nI_3, nI_4, nI_9, nI_10, nI_50, nI_99, nI_999, c5, c6]⟩
    · refine g_iload (pc := 105) C dX8_says_105 0 rfl ?_
      refine g_bipush (pc := 107) C dX8_says_107 (v := (-9)) (by decide) ?_
      refine g_bipush (pc := 109) C dX8_says_109 (v := (nI 9)) (by decide) ?_
      refine g_goi (pc := 111) C (g_runS C (As := [.int (sm rl which (en g p q)), .int (-9), .int (nI 9)]) (rest := []) (mX8_within (sm rl which (en g p q)) (-9) (nI 9)) gvX8_within_X8_243 rfl rfl rfl hdX8_within ⟨Nat.le_of_ble_eq_true rfl, Nat.le_of_ble_eq_true rfl⟩ rfl rfl (Nat.le_of_ble_eq_true rfl) dX8_says_111 ⟨Nat.le_of_ble_eq_true rfl, Nat.le_of_ble_eq_true rfl⟩) (fun r7 J7 h7 => ?_)
      obtain ⟨eah7, ebh7⟩ := h7
      subst r7
      subst J7
      refine g_goto (pc := 114) C dX8_says_114 (tgt := 119) (by decide) ?_
      exact g_iret (pc := 119) C hR dX8_says_119 ⟨hV2, by (try simp only [nI_lit0, nI_one, nI_2, nI_3, nI_4, nI_9, nI_10, nI_50, nI_99, nI_999] at c5 c6); simp [sy, nI_lit0, nI_one, nI_2, nI_3, nI_4, nI_9, nI_10, nI_50, nI_99, nI_999, c5, c6]⟩
  · refine g_iload (pc := 89) C dX8_says_89 0 rfl ?_
    refine g_iconst (pc := 91) C dX8_says_91 (v := (nI 0)) (by decide) ?_
    refine g_bipush (pc := 92) C dX8_says_92 (v := (nI 99)) (by decide) ?_
    refine g_goi (pc := 94) C (g_runS C (As := [.int (sm rl which (en g p q)), .int (nI 0), .int (nI 99)]) (rest := []) (mX8_within (sm rl which (en g p q)) (nI 0) (nI 99)) gvX8_within_X8_243 rfl rfl rfl hdX8_within ⟨Nat.le_of_ble_eq_true rfl, Nat.le_of_ble_eq_true rfl⟩ rfl rfl (Nat.le_of_ble_eq_true rfl) dX8_says_94 ⟨Nat.le_of_ble_eq_true rfl, Nat.le_of_ble_eq_true rfl⟩) (fun r8 J8 h8 => ?_)
    obtain ⟨eah8, ebh8⟩ := h8
    subst r8
    subst J8
    refine g_goto (pc := 97) C dX8_says_97 (tgt := 119) (by decide) ?_
    exact g_iret (pc := 119) C hR dX8_says_119 ⟨hV2, by (try simp only [nI_lit0, nI_one, nI_2, nI_3, nI_4, nI_9, nI_10, nI_50, nI_99, nI_999] at c5); simp [sy, nI_lit0, nI_one, nI_2, nI_3, nI_4, nI_9, nI_10, nI_50, nI_99, nI_999, c5]⟩
theorem hdX8_says : yX8_says.cls = RX8 ∧ yX8_says.cls ≠ "java/lang/invoke/MethodHandle" ∧ yX8_says.cls ≠ "java/lang/invoke/VarHandle" ∧ (parseMethodDescriptor yX8_says.desc).map (fun d => d.parameters.length) = some 3 := by decide +kernel
theorem gvX8_says_X8_247 : GoodIn lw_all (wsV RX8 247 RX8 yX8_says (ws_ yX8_says cX8_says 5 (some .int))) := lw_V q1553 q1555 qs84 q122 q1556
abbrev rmX8_throwsIt : Room := { frames := 122, cells := 0, slots := 0, locals := 12049 }
set_option maxHeartbeats 4000000 in
theorem mX8_throwsIt {E : gE} {Z : gS} {I : gI} {I0 : gI} {mn rl tn am : Nat} {kd : Nat → Nat} {sm : Nat → gSm} {fr : Nat → gG} {g : gG} (hT : tZ Z) (hV : tP I0 mn kd rl tn sm am fr g I) (p q : Nat) (hp : p < mn) (hq : q < mn) : gMet E yX8_throwsIt (ws_ yX8_throwsIt cX8_throwsIt 6 (some .boolean)) rmX8_throwsIt Z I [.ref (Z.1 0), .int (nI p), .int (nI q)] (cQi E Z (fun r J => tP I0 mn kd rl tn sm am fr g J ∧ r = bI (tw kd (sm rl) g p q))) 0 0 := by
  refine g_of (own := RX8) (cc := cX8_throwsIt) (nL := 6) (L0 := [(0, .ref (Z.1 0)), (1, .int (nI p)), (2, .int (nI q))]) (by decide) rfl rfl rfl (Nat.le_of_ble_eq_true rfl) rfl ?_
  intro K C hR _
  have hmn := hV.mn6
  refine g_aload_n (pc := 0) C dX8_throwsIt_0 rfl 0 rfl ?_
  refine gm_kinds (pc := 1) C hT dX8_throwsIt_1 ?_
  refine g_iload_n (pc := 4) C dX8_throwsIt_4 rfl 1 rfl ?_
  refine g_iald (pc := 5) C 4 p hT.s4 (by omega) (by decide) dX8_throwsIt_5 ?_
  refine g_eqv (y := nI (kd p)) (hV.kind (by omega)) ?_
  have hk5 := hV.kd5 hp
  obtain hk | hk | hk | hk | hk | hk : kd p = 0 ∨ kd p = 1 ∨ kd p = 2 ∨ kd p = 3 ∨ kd p = 4 ∨ kd p = 5 := by omega
  · refine g_eqv (y := nI 0) (congrArg nI hk) ?_
    refine g_istore_n (pc := 6) C dX8_throwsIt_6 (L' := [(3, .int (nI 0)), (0, .ref (Z.1 0)), (1, .int (nI p)), (2, .int (nI q))]) rfl (by decide) rfl ?_
    refine g_iload_n (pc := 7) C dX8_throwsIt_7 rfl 0 rfl ?_
    refine g_iconst (pc := 8) C dX8_throwsIt_8 (v := (nI 2)) (by decide) ?_
    refine g_icmp_eq (pc := 9) C dX8_throwsIt_9 (tgt := 17) (by decide) (fun c1 => absurd c1 (by decide)) (fun c1 => ?_)
    refine g_iload_n (pc := 12) C dX8_throwsIt_12 rfl 0 rfl ?_
    refine g_iconst (pc := 13) C dX8_throwsIt_13 (v := (nI 4)) (by decide) ?_
    refine g_icmp_ne (pc := 14) C dX8_throwsIt_14 (tgt := 19) (by decide) (fun c2 => ?_) (fun c2 => absurd c2 (by decide))
    refine g_aload_n (pc := 19) C dX8_throwsIt_19 rfl 1 rfl ?_
    refine g_iconst (pc := 20) C dX8_throwsIt_20 (v := (nI 1)) (by decide) ?_
    refine g_iload_n (pc := 21) C dX8_throwsIt_21 rfl 2 rfl ?_
    refine g_iload_n (pc := 22) C dX8_throwsIt_22 rfl 3 rfl ?_
    refine g_goi (pc := 23) C (g_runV C 0 (As := [.int (nI 1), .int (nI p), .int (nI q)]) (rest := []) (mX8_says hT hV 1 p q (by decide) (by omega) (by omega)) gvX8_says_X8_247 rfl rfl rfl hdX8_says ⟨Nat.le_of_ble_eq_true rfl, Nat.le_of_ble_eq_true rfl⟩ hT.s0 rfl rfl rfl (Nat.le_of_ble_eq_true rfl) dX8_throwsIt_23 ⟨Nat.le_of_ble_eq_true rfl, Nat.le_of_ble_eq_true rfl⟩) (fun r3 J3 h3 => ?_)
    obtain ⟨vh3, eh3⟩ := h3
    subst r3
    refine g_eqv (y := sm rl 1 (en g p q)) rfl ?_
    refine g_if_eq (pc := 26) C dX8_throwsIt_26 (tgt := 33) (by decide) (fun c4 => ?_) (fun c4 => ?_)
    · refine g_iconst (pc := 33) C dX8_throwsIt_33 (v := (nI 0)) (by decide) ?_
      refine g_istore (pc := 34) C dX8_throwsIt_34 (L' := [(4, .int (nI 0)), (3, .int (nI 0)), (0, .ref (Z.1 0)), (1, .int (nI p)), (2, .int (nI q))]) (by decide) rfl ?_
      refine g_iload (pc := 36) C dX8_throwsIt_36 0 rfl ?_
      refine g_if_eq (pc := 38) C dX8_throwsIt_38 (tgt := 54) (by decide) (fun c5 => ?_) (fun c5 => absurd c5 (by decide))
      refine g_iconst (pc := 54) C dX8_throwsIt_54 (v := (nI 0)) (by decide) ?_
      refine g_istore (pc := 55) C dX8_throwsIt_55 (L' := [(5, .int (nI 0)), (4, .int (nI 0)), (3, .int (nI 0)), (0, .ref (Z.1 0)), (1, .int (nI p)), (2, .int (nI q))]) (by decide) rfl ?_
      refine g_iload_n (pc := 57) C dX8_throwsIt_57 rfl 2 rfl ?_
      refine g_iconst (pc := 58) C dX8_throwsIt_58 (v := (nI 1)) (by decide) ?_
      refine g_icmp_ne (pc := 59) C dX8_throwsIt_59 (tgt := 67) (by decide) (fun c6 => ?_) (fun c6 => absurd c6 (by decide))
      refine g_iload_n (pc := 67) C dX8_throwsIt_67 rfl 2 rfl ?_
      refine g_iconst (pc := 68) C dX8_throwsIt_68 (v := (nI 3)) (by decide) ?_
      refine g_icmp_ne (pc := 69) C dX8_throwsIt_69 (tgt := 93) (by decide) (fun c7 => ?_) (fun c7 => absurd c7 (by decide))
      refine g_iload (pc := 93) C dX8_throwsIt_93 1 rfl ?_
      exact g_zret (pc := 95) C hR dX8_throwsIt_95 (Or.inl rfl) ⟨vh3, by (try simp only [nI_lit0, nI_one, nI_2, nI_3, nI_4, nI_9, nI_10, nI_50, nI_99, nI_999] at hk c4); simp [tw, bI, nI_lit0, nI_one, nI_2, nI_3, nI_4, nI_9, nI_10, nI_50, nI_99, nI_999, hk, c4]⟩
    · refine g_iconst (pc := 29) C dX8_throwsIt_29 (v := (nI 1)) (by decide) ?_
      refine g_goto (pc := 30) C dX8_throwsIt_30 (tgt := 34) (by decide) ?_
      refine g_istore (pc := 34) C dX8_throwsIt_34 (L' := [(4, .int (nI 1)), (3, .int (nI 0)), (0, .ref (Z.1 0)), (1, .int (nI p)), (2, .int (nI q))]) (by decide) rfl ?_
      refine g_iload (pc := 36) C dX8_throwsIt_36 0 rfl ?_
      refine g_if_eq (pc := 38) C dX8_throwsIt_38 (tgt := 54) (by decide) (fun c8 => absurd c8 (by decide)) (fun c8 => ?_)
      refine g_aload_n (pc := 41) C dX8_throwsIt_41 rfl 2 rfl ?_
      refine g_iload_n (pc := 42) C dX8_throwsIt_42 rfl 3 rfl ?_
      refine g_goi (pc := 43) C (g_runV C 0 (As := [.int (nI p)]) (rest := []) (mX8_hasMany hT p (by omega) (by obtain ⟨z, hz, ez⟩ := vh3.has (p := p) (by omega); exact ⟨z, hz, (vh3.row (by omega)).trans ez⟩)) gvX8_hasMany_X8_122 rfl rfl rfl hdX8_hasMany ⟨Nat.le_of_ble_eq_true rfl, Nat.le_of_ble_eq_true rfl⟩ hT.s0 rfl rfl rfl (Nat.le_of_ble_eq_true rfl) dX8_throwsIt_43 ⟨Nat.le_of_ble_eq_true rfl, Nat.le_of_ble_eq_true rfl⟩) (fun r9 J9 h9 => ?_)
      obtain ⟨eah9, ebh9⟩ := h9
      subst r9
      subst J9
      refine g_eqv (y := bc (g ((4 * p) + 3))) (congrArg bc (vh3.row (by omega))) ?_
      refine g_iconst (pc := 46) C dX8_throwsIt_46 (v := (nI 4)) (by decide) ?_
      refine g_icmp_ge (pc := 47) C dX8_throwsIt_47 (tgt := 54) (by decide) (fun c10 => ?_) (fun c10 => ?_)
      · refine g_iconst (pc := 54) C dX8_throwsIt_54 (v := (nI 0)) (by decide) ?_
        refine g_istore (pc := 55) C dX8_throwsIt_55 (L' := [(5, .int (nI 0)), (4, .int (nI 1)), (3, .int (nI 0)), (0, .ref (Z.1 0)), (1, .int (nI p)), (2, .int (nI q))]) (by decide) rfl ?_
        refine g_iload_n (pc := 57) C dX8_throwsIt_57 rfl 2 rfl ?_
        refine g_iconst (pc := 58) C dX8_throwsIt_58 (v := (nI 1)) (by decide) ?_
        refine g_icmp_ne (pc := 59) C dX8_throwsIt_59 (tgt := 67) (by decide) (fun c11 => ?_) (fun c11 => absurd c11 (by decide))
        refine g_iload_n (pc := 67) C dX8_throwsIt_67 rfl 2 rfl ?_
        refine g_iconst (pc := 68) C dX8_throwsIt_68 (v := (nI 3)) (by decide) ?_
        refine g_icmp_ne (pc := 69) C dX8_throwsIt_69 (tgt := 93) (by decide) (fun c12 => ?_) (fun c12 => absurd c12 (by decide))
        refine g_iload (pc := 93) C dX8_throwsIt_93 1 rfl ?_
        exact g_zret (pc := 95) C hR dX8_throwsIt_95 (Or.inr rfl) ⟨vh3, by (try simp only [nI_lit0, nI_one, nI_2, nI_3, nI_4, nI_9, nI_10, nI_50, nI_99, nI_999] at hk c4 c10); simp [tw, bI, nI_lit0, nI_one, nI_2, nI_3, nI_4, nI_9, nI_10, nI_50, nI_99, nI_999, hk, c4, c10]⟩
      · refine g_iconst (pc := 50) C dX8_throwsIt_50 (v := (nI 1)) (by decide) ?_
        refine g_goto (pc := 51) C dX8_throwsIt_51 (tgt := 55) (by decide) ?_
        refine g_istore (pc := 55) C dX8_throwsIt_55 (L' := [(5, .int (nI 1)), (4, .int (nI 1)), (3, .int (nI 0)), (0, .ref (Z.1 0)), (1, .int (nI p)), (2, .int (nI q))]) (by decide) rfl ?_
        refine g_iload_n (pc := 57) C dX8_throwsIt_57 rfl 2 rfl ?_
        refine g_iconst (pc := 58) C dX8_throwsIt_58 (v := (nI 1)) (by decide) ?_
        refine g_icmp_ne (pc := 59) C dX8_throwsIt_59 (tgt := 67) (by decide) (fun c13 => ?_) (fun c13 => absurd c13 (by decide))
        refine g_iload_n (pc := 67) C dX8_throwsIt_67 rfl 2 rfl ?_
        refine g_iconst (pc := 68) C dX8_throwsIt_68 (v := (nI 3)) (by decide) ?_
        refine g_icmp_ne (pc := 69) C dX8_throwsIt_69 (tgt := 93) (by decide) (fun c14 => ?_) (fun c14 => absurd c14 (by decide))
        refine g_iload (pc := 93) C dX8_throwsIt_93 1 rfl ?_
        exact g_zret (pc := 95) C hR dX8_throwsIt_95 (Or.inr rfl) ⟨vh3, by (try simp only [nI_lit0, nI_one, nI_2, nI_3, nI_4, nI_9, nI_10, nI_50, nI_99, nI_999] at hk c4 c10); simp [tw, bI, nI_lit0, nI_one, nI_2, nI_3, nI_4, nI_9, nI_10, nI_50, nI_99, nI_999, hk, c4, c10]⟩
  · refine g_eqv (y := nI 1) (congrArg nI hk) ?_
    refine g_istore_n (pc := 6) C dX8_throwsIt_6 (L' := [(3, .int (nI 1)), (0, .ref (Z.1 0)), (1, .int (nI p)), (2, .int (nI q))]) rfl (by decide) rfl ?_
    refine g_iload_n (pc := 7) C dX8_throwsIt_7 rfl 0 rfl ?_
    refine g_iconst (pc := 8) C dX8_throwsIt_8 (v := (nI 2)) (by decide) ?_
    refine g_icmp_eq (pc := 9) C dX8_throwsIt_9 (tgt := 17) (by decide) (fun c15 => absurd c15 (by decide)) (fun c15 => ?_)
    refine g_iload_n (pc := 12) C dX8_throwsIt_12 rfl 0 rfl ?_
    refine g_iconst (pc := 13) C dX8_throwsIt_13 (v := (nI 4)) (by decide) ?_
    refine g_icmp_ne (pc := 14) C dX8_throwsIt_14 (tgt := 19) (by decide) (fun c16 => ?_) (fun c16 => absurd c16 (by decide))
    refine g_aload_n (pc := 19) C dX8_throwsIt_19 rfl 1 rfl ?_
    refine g_iconst (pc := 20) C dX8_throwsIt_20 (v := (nI 1)) (by decide) ?_
    refine g_iload_n (pc := 21) C dX8_throwsIt_21 rfl 2 rfl ?_
    refine g_iload_n (pc := 22) C dX8_throwsIt_22 rfl 3 rfl ?_
    refine g_goi (pc := 23) C (g_runV C 0 (As := [.int (nI 1), .int (nI p), .int (nI q)]) (rest := []) (mX8_says hT hV 1 p q (by decide) (by omega) (by omega)) gvX8_says_X8_247 rfl rfl rfl hdX8_says ⟨Nat.le_of_ble_eq_true rfl, Nat.le_of_ble_eq_true rfl⟩ hT.s0 rfl rfl rfl (Nat.le_of_ble_eq_true rfl) dX8_throwsIt_23 ⟨Nat.le_of_ble_eq_true rfl, Nat.le_of_ble_eq_true rfl⟩) (fun r17 J17 h17 => ?_)
    obtain ⟨vh17, eh17⟩ := h17
    subst r17
    refine g_eqv (y := sm rl 1 (en g p q)) rfl ?_
    refine g_if_eq (pc := 26) C dX8_throwsIt_26 (tgt := 33) (by decide) (fun c18 => ?_) (fun c18 => ?_)
    · refine g_iconst (pc := 33) C dX8_throwsIt_33 (v := (nI 0)) (by decide) ?_
      refine g_istore (pc := 34) C dX8_throwsIt_34 (L' := [(4, .int (nI 0)), (3, .int (nI 1)), (0, .ref (Z.1 0)), (1, .int (nI p)), (2, .int (nI q))]) (by decide) rfl ?_
      refine g_iload (pc := 36) C dX8_throwsIt_36 0 rfl ?_
      refine g_if_eq (pc := 38) C dX8_throwsIt_38 (tgt := 54) (by decide) (fun c19 => ?_) (fun c19 => absurd c19 (by decide))
      refine g_iconst (pc := 54) C dX8_throwsIt_54 (v := (nI 0)) (by decide) ?_
      refine g_istore (pc := 55) C dX8_throwsIt_55 (L' := [(5, .int (nI 0)), (4, .int (nI 0)), (3, .int (nI 1)), (0, .ref (Z.1 0)), (1, .int (nI p)), (2, .int (nI q))]) (by decide) rfl ?_
      refine g_iload_n (pc := 57) C dX8_throwsIt_57 rfl 2 rfl ?_
      refine g_iconst (pc := 58) C dX8_throwsIt_58 (v := (nI 1)) (by decide) ?_
      refine g_icmp_ne (pc := 59) C dX8_throwsIt_59 (tgt := 67) (by decide) (fun c20 => absurd c20 (by decide)) (fun c20 => ?_)
      refine g_iload (pc := 62) C dX8_throwsIt_62 0 rfl ?_
      refine g_goto (pc := 64) C dX8_throwsIt_64 (tgt := 95) (by decide) ?_
      exact g_zret (pc := 95) C hR dX8_throwsIt_95 (Or.inl rfl) ⟨vh17, by (try simp only [nI_lit0, nI_one, nI_2, nI_3, nI_4, nI_9, nI_10, nI_50, nI_99, nI_999] at hk c18); simp [tw, bI, nI_lit0, nI_one, nI_2, nI_3, nI_4, nI_9, nI_10, nI_50, nI_99, nI_999, hk, c18]⟩
    · refine g_iconst (pc := 29) C dX8_throwsIt_29 (v := (nI 1)) (by decide) ?_
      refine g_goto (pc := 30) C dX8_throwsIt_30 (tgt := 34) (by decide) ?_
      refine g_istore (pc := 34) C dX8_throwsIt_34 (L' := [(4, .int (nI 1)), (3, .int (nI 1)), (0, .ref (Z.1 0)), (1, .int (nI p)), (2, .int (nI q))]) (by decide) rfl ?_
      refine g_iload (pc := 36) C dX8_throwsIt_36 0 rfl ?_
      refine g_if_eq (pc := 38) C dX8_throwsIt_38 (tgt := 54) (by decide) (fun c21 => absurd c21 (by decide)) (fun c21 => ?_)
      refine g_aload_n (pc := 41) C dX8_throwsIt_41 rfl 2 rfl ?_
      refine g_iload_n (pc := 42) C dX8_throwsIt_42 rfl 3 rfl ?_
      refine g_goi (pc := 43) C (g_runV C 0 (As := [.int (nI p)]) (rest := []) (mX8_hasMany hT p (by omega) (by obtain ⟨z, hz, ez⟩ := vh17.has (p := p) (by omega); exact ⟨z, hz, (vh17.row (by omega)).trans ez⟩)) gvX8_hasMany_X8_122 rfl rfl rfl hdX8_hasMany ⟨Nat.le_of_ble_eq_true rfl, Nat.le_of_ble_eq_true rfl⟩ hT.s0 rfl rfl rfl (Nat.le_of_ble_eq_true rfl) dX8_throwsIt_43 ⟨Nat.le_of_ble_eq_true rfl, Nat.le_of_ble_eq_true rfl⟩) (fun r22 J22 h22 => ?_)
      obtain ⟨eah22, ebh22⟩ := h22
      subst r22
      subst J22
      refine g_eqv (y := bc (g ((4 * p) + 3))) (congrArg bc (vh17.row (by omega))) ?_
      refine g_iconst (pc := 46) C dX8_throwsIt_46 (v := (nI 4)) (by decide) ?_
      refine g_icmp_ge (pc := 47) C dX8_throwsIt_47 (tgt := 54) (by decide) (fun c23 => ?_) (fun c23 => ?_)
      · refine g_iconst (pc := 54) C dX8_throwsIt_54 (v := (nI 0)) (by decide) ?_
        refine g_istore (pc := 55) C dX8_throwsIt_55 (L' := [(5, .int (nI 0)), (4, .int (nI 1)), (3, .int (nI 1)), (0, .ref (Z.1 0)), (1, .int (nI p)), (2, .int (nI q))]) (by decide) rfl ?_
        refine g_iload_n (pc := 57) C dX8_throwsIt_57 rfl 2 rfl ?_
        refine g_iconst (pc := 58) C dX8_throwsIt_58 (v := (nI 1)) (by decide) ?_
        refine g_icmp_ne (pc := 59) C dX8_throwsIt_59 (tgt := 67) (by decide) (fun c24 => absurd c24 (by decide)) (fun c24 => ?_)
        refine g_iload (pc := 62) C dX8_throwsIt_62 0 rfl ?_
        refine g_goto (pc := 64) C dX8_throwsIt_64 (tgt := 95) (by decide) ?_
        exact g_zret (pc := 95) C hR dX8_throwsIt_95 (Or.inl rfl) ⟨vh17, by (try simp only [nI_lit0, nI_one, nI_2, nI_3, nI_4, nI_9, nI_10, nI_50, nI_99, nI_999] at hk c18 c23); simp [tw, bI, nI_lit0, nI_one, nI_2, nI_3, nI_4, nI_9, nI_10, nI_50, nI_99, nI_999, hk, c18, c23]⟩
      · refine g_iconst (pc := 50) C dX8_throwsIt_50 (v := (nI 1)) (by decide) ?_
        refine g_goto (pc := 51) C dX8_throwsIt_51 (tgt := 55) (by decide) ?_
        refine g_istore (pc := 55) C dX8_throwsIt_55 (L' := [(5, .int (nI 1)), (4, .int (nI 1)), (3, .int (nI 1)), (0, .ref (Z.1 0)), (1, .int (nI p)), (2, .int (nI q))]) (by decide) rfl ?_
        refine g_iload_n (pc := 57) C dX8_throwsIt_57 rfl 2 rfl ?_
        refine g_iconst (pc := 58) C dX8_throwsIt_58 (v := (nI 1)) (by decide) ?_
        refine g_icmp_ne (pc := 59) C dX8_throwsIt_59 (tgt := 67) (by decide) (fun c25 => absurd c25 (by decide)) (fun c25 => ?_)
        refine g_iload (pc := 62) C dX8_throwsIt_62 0 rfl ?_
        refine g_goto (pc := 64) C dX8_throwsIt_64 (tgt := 95) (by decide) ?_
        exact g_zret (pc := 95) C hR dX8_throwsIt_95 (Or.inr rfl) ⟨vh17, by (try simp only [nI_lit0, nI_one, nI_2, nI_3, nI_4, nI_9, nI_10, nI_50, nI_99, nI_999] at hk c18 c23); simp [tw, bI, nI_lit0, nI_one, nI_2, nI_3, nI_4, nI_9, nI_10, nI_50, nI_99, nI_999, hk, c18, c23]⟩
  · refine g_eqv (y := nI 2) (congrArg nI hk) ?_
    refine g_istore_n (pc := 6) C dX8_throwsIt_6 (L' := [(3, .int (nI 2)), (0, .ref (Z.1 0)), (1, .int (nI p)), (2, .int (nI q))]) rfl (by decide) rfl ?_
    refine g_iload_n (pc := 7) C dX8_throwsIt_7 rfl 0 rfl ?_
    refine g_iconst (pc := 8) C dX8_throwsIt_8 (v := (nI 2)) (by decide) ?_
    refine g_icmp_eq (pc := 9) C dX8_throwsIt_9 (tgt := 17) (by decide) (fun c26 => ?_) (fun c26 => absurd c26 (by decide))
    refine g_iconst (pc := 17) C dX8_throwsIt_17 (v := (nI 0)) (by decide) ?_
    exact g_zret (pc := 18) C hR dX8_throwsIt_18 (Or.inl rfl) ⟨hV, by (try simp only [nI_lit0, nI_one, nI_2, nI_3, nI_4, nI_9, nI_10, nI_50, nI_99, nI_999] at hk); simp [tw, bI, nI_lit0, nI_one, nI_2, nI_3, nI_4, nI_9, nI_10, nI_50, nI_99, nI_999, hk]⟩
  · refine g_eqv (y := nI 3) (congrArg nI hk) ?_
    refine g_istore_n (pc := 6) C dX8_throwsIt_6 (L' := [(3, .int (nI 3)), (0, .ref (Z.1 0)), (1, .int (nI p)), (2, .int (nI q))]) rfl (by decide) rfl ?_
    refine g_iload_n (pc := 7) C dX8_throwsIt_7 rfl 0 rfl ?_
    refine g_iconst (pc := 8) C dX8_throwsIt_8 (v := (nI 2)) (by decide) ?_
    refine g_icmp_eq (pc := 9) C dX8_throwsIt_9 (tgt := 17) (by decide) (fun c27 => absurd c27 (by decide)) (fun c27 => ?_)
    refine g_iload_n (pc := 12) C dX8_throwsIt_12 rfl 0 rfl ?_
    refine g_iconst (pc := 13) C dX8_throwsIt_13 (v := (nI 4)) (by decide) ?_
    refine g_icmp_ne (pc := 14) C dX8_throwsIt_14 (tgt := 19) (by decide) (fun c28 => ?_) (fun c28 => absurd c28 (by decide))
    refine g_aload_n (pc := 19) C dX8_throwsIt_19 rfl 1 rfl ?_
    refine g_iconst (pc := 20) C dX8_throwsIt_20 (v := (nI 1)) (by decide) ?_
    refine g_iload_n (pc := 21) C dX8_throwsIt_21 rfl 2 rfl ?_
    refine g_iload_n (pc := 22) C dX8_throwsIt_22 rfl 3 rfl ?_
    refine g_goi (pc := 23) C (g_runV C 0 (As := [.int (nI 1), .int (nI p), .int (nI q)]) (rest := []) (mX8_says hT hV 1 p q (by decide) (by omega) (by omega)) gvX8_says_X8_247 rfl rfl rfl hdX8_says ⟨Nat.le_of_ble_eq_true rfl, Nat.le_of_ble_eq_true rfl⟩ hT.s0 rfl rfl rfl (Nat.le_of_ble_eq_true rfl) dX8_throwsIt_23 ⟨Nat.le_of_ble_eq_true rfl, Nat.le_of_ble_eq_true rfl⟩) (fun r29 J29 h29 => ?_)
    obtain ⟨vh29, eh29⟩ := h29
    subst r29
    refine g_eqv (y := sm rl 1 (en g p q)) rfl ?_
    refine g_if_eq (pc := 26) C dX8_throwsIt_26 (tgt := 33) (by decide) (fun c30 => ?_) (fun c30 => ?_)
    · refine g_iconst (pc := 33) C dX8_throwsIt_33 (v := (nI 0)) (by decide) ?_
      refine g_istore (pc := 34) C dX8_throwsIt_34 (L' := [(4, .int (nI 0)), (3, .int (nI 3)), (0, .ref (Z.1 0)), (1, .int (nI p)), (2, .int (nI q))]) (by decide) rfl ?_
      refine g_iload (pc := 36) C dX8_throwsIt_36 0 rfl ?_
      refine g_if_eq (pc := 38) C dX8_throwsIt_38 (tgt := 54) (by decide) (fun c31 => ?_) (fun c31 => absurd c31 (by decide))
      refine g_iconst (pc := 54) C dX8_throwsIt_54 (v := (nI 0)) (by decide) ?_
      refine g_istore (pc := 55) C dX8_throwsIt_55 (L' := [(5, .int (nI 0)), (4, .int (nI 0)), (3, .int (nI 3)), (0, .ref (Z.1 0)), (1, .int (nI p)), (2, .int (nI q))]) (by decide) rfl ?_
      refine g_iload_n (pc := 57) C dX8_throwsIt_57 rfl 2 rfl ?_
      refine g_iconst (pc := 58) C dX8_throwsIt_58 (v := (nI 1)) (by decide) ?_
      refine g_icmp_ne (pc := 59) C dX8_throwsIt_59 (tgt := 67) (by decide) (fun c32 => ?_) (fun c32 => absurd c32 (by decide))
      refine g_iload_n (pc := 67) C dX8_throwsIt_67 rfl 2 rfl ?_
      refine g_iconst (pc := 68) C dX8_throwsIt_68 (v := (nI 3)) (by decide) ?_
      refine g_icmp_ne (pc := 69) C dX8_throwsIt_69 (tgt := 93) (by decide) (fun c33 => absurd c33 (by decide)) (fun c33 => ?_)
      refine g_iload (pc := 72) C dX8_throwsIt_72 0 rfl ?_
      refine g_if_ne (pc := 74) C dX8_throwsIt_74 (tgt := 85) (by decide) (fun c34 => absurd c34 (by decide)) (fun c34 => ?_)
      refine g_aload_n (pc := 77) C dX8_throwsIt_77 rfl 3 rfl ?_
      refine g_iload_n (pc := 78) C dX8_throwsIt_78 rfl 5 rfl ?_
      refine g_goi (pc := 79) C (g_runV C 0 (As := [.int (nI q)]) (rest := []) (mX8_has hT q (by omega)) gvX8_has_X8_112 rfl rfl rfl hdX8_has ⟨Nat.le_of_ble_eq_true rfl, Nat.le_of_ble_eq_true rfl⟩ hT.s0 rfl rfl rfl (Nat.le_of_ble_eq_true rfl) dX8_throwsIt_79 ⟨Nat.le_of_ble_eq_true rfl, Nat.le_of_ble_eq_true rfl⟩) (fun r35 J35 h35 => ?_)
      obtain ⟨eah35, ebh35⟩ := h35
      subst r35
      subst J35
      refine g_eqv (y := g ((4 * q) + 3)) (vh29.row (by omega)) ?_
      refine g_if_eq (pc := 82) C dX8_throwsIt_82 (tgt := 89) (by decide) (fun c36 => ?_) (fun c36 => ?_)
      · refine g_iconst (pc := 89) C dX8_throwsIt_89 (v := (nI 0)) (by decide) ?_
        refine g_goto (pc := 90) C dX8_throwsIt_90 (tgt := 95) (by decide) ?_
        exact g_zret (pc := 95) C hR dX8_throwsIt_95 (Or.inl rfl) ⟨vh29, by (try simp only [nI_lit0, nI_one, nI_2, nI_3, nI_4, nI_9, nI_10, nI_50, nI_99, nI_999] at hk c30 c36); simp [tw, bI, nI_lit0, nI_one, nI_2, nI_3, nI_4, nI_9, nI_10, nI_50, nI_99, nI_999, hk, c30, c36]⟩
      · refine g_iconst (pc := 85) C dX8_throwsIt_85 (v := (nI 1)) (by decide) ?_
        refine g_goto (pc := 86) C dX8_throwsIt_86 (tgt := 95) (by decide) ?_
        exact g_zret (pc := 95) C hR dX8_throwsIt_95 (Or.inr rfl) ⟨vh29, by (try simp only [nI_lit0, nI_one, nI_2, nI_3, nI_4, nI_9, nI_10, nI_50, nI_99, nI_999] at hk c30 c36); simp [tw, bI, nI_lit0, nI_one, nI_2, nI_3, nI_4, nI_9, nI_10, nI_50, nI_99, nI_999, hk, c30, c36]⟩
    · refine g_iconst (pc := 29) C dX8_throwsIt_29 (v := (nI 1)) (by decide) ?_
      refine g_goto (pc := 30) C dX8_throwsIt_30 (tgt := 34) (by decide) ?_
      refine g_istore (pc := 34) C dX8_throwsIt_34 (L' := [(4, .int (nI 1)), (3, .int (nI 3)), (0, .ref (Z.1 0)), (1, .int (nI p)), (2, .int (nI q))]) (by decide) rfl ?_
      refine g_iload (pc := 36) C dX8_throwsIt_36 0 rfl ?_
      refine g_if_eq (pc := 38) C dX8_throwsIt_38 (tgt := 54) (by decide) (fun c37 => absurd c37 (by decide)) (fun c37 => ?_)
      refine g_aload_n (pc := 41) C dX8_throwsIt_41 rfl 2 rfl ?_
      refine g_iload_n (pc := 42) C dX8_throwsIt_42 rfl 3 rfl ?_
      refine g_goi (pc := 43) C (g_runV C 0 (As := [.int (nI p)]) (rest := []) (mX8_hasMany hT p (by omega) (by obtain ⟨z, hz, ez⟩ := vh29.has (p := p) (by omega); exact ⟨z, hz, (vh29.row (by omega)).trans ez⟩)) gvX8_hasMany_X8_122 rfl rfl rfl hdX8_hasMany ⟨Nat.le_of_ble_eq_true rfl, Nat.le_of_ble_eq_true rfl⟩ hT.s0 rfl rfl rfl (Nat.le_of_ble_eq_true rfl) dX8_throwsIt_43 ⟨Nat.le_of_ble_eq_true rfl, Nat.le_of_ble_eq_true rfl⟩) (fun r38 J38 h38 => ?_)
      obtain ⟨eah38, ebh38⟩ := h38
      subst r38
      subst J38
      refine g_eqv (y := bc (g ((4 * p) + 3))) (congrArg bc (vh29.row (by omega))) ?_
      refine g_iconst (pc := 46) C dX8_throwsIt_46 (v := (nI 4)) (by decide) ?_
      refine g_icmp_ge (pc := 47) C dX8_throwsIt_47 (tgt := 54) (by decide) (fun c39 => ?_) (fun c39 => ?_)
      · refine g_iconst (pc := 54) C dX8_throwsIt_54 (v := (nI 0)) (by decide) ?_
        refine g_istore (pc := 55) C dX8_throwsIt_55 (L' := [(5, .int (nI 0)), (4, .int (nI 1)), (3, .int (nI 3)), (0, .ref (Z.1 0)), (1, .int (nI p)), (2, .int (nI q))]) (by decide) rfl ?_
        refine g_iload_n (pc := 57) C dX8_throwsIt_57 rfl 2 rfl ?_
        refine g_iconst (pc := 58) C dX8_throwsIt_58 (v := (nI 1)) (by decide) ?_
        refine g_icmp_ne (pc := 59) C dX8_throwsIt_59 (tgt := 67) (by decide) (fun c40 => ?_) (fun c40 => absurd c40 (by decide))
        refine g_iload_n (pc := 67) C dX8_throwsIt_67 rfl 2 rfl ?_
        refine g_iconst (pc := 68) C dX8_throwsIt_68 (v := (nI 3)) (by decide) ?_
        refine g_icmp_ne (pc := 69) C dX8_throwsIt_69 (tgt := 93) (by decide) (fun c41 => absurd c41 (by decide)) (fun c41 => ?_)
        refine g_iload (pc := 72) C dX8_throwsIt_72 0 rfl ?_
        refine g_if_ne (pc := 74) C dX8_throwsIt_74 (tgt := 85) (by decide) (fun c42 => absurd c42 (by decide)) (fun c42 => ?_)
        refine g_aload_n (pc := 77) C dX8_throwsIt_77 rfl 3 rfl ?_
        refine g_iload_n (pc := 78) C dX8_throwsIt_78 rfl 5 rfl ?_
        refine g_goi (pc := 79) C (g_runV C 0 (As := [.int (nI q)]) (rest := []) (mX8_has hT q (by omega)) gvX8_has_X8_112 rfl rfl rfl hdX8_has ⟨Nat.le_of_ble_eq_true rfl, Nat.le_of_ble_eq_true rfl⟩ hT.s0 rfl rfl rfl (Nat.le_of_ble_eq_true rfl) dX8_throwsIt_79 ⟨Nat.le_of_ble_eq_true rfl, Nat.le_of_ble_eq_true rfl⟩) (fun r43 J43 h43 => ?_)
        obtain ⟨eah43, ebh43⟩ := h43
        subst r43
        subst J43
        refine g_eqv (y := g ((4 * q) + 3)) (vh29.row (by omega)) ?_
        refine g_if_eq (pc := 82) C dX8_throwsIt_82 (tgt := 89) (by decide) (fun c44 => ?_) (fun c44 => ?_)
        · refine g_iconst (pc := 89) C dX8_throwsIt_89 (v := (nI 0)) (by decide) ?_
          refine g_goto (pc := 90) C dX8_throwsIt_90 (tgt := 95) (by decide) ?_
          exact g_zret (pc := 95) C hR dX8_throwsIt_95 (Or.inl rfl) ⟨vh29, by (try simp only [nI_lit0, nI_one, nI_2, nI_3, nI_4, nI_9, nI_10, nI_50, nI_99, nI_999] at hk c30 c39 c44); simp [tw, bI, nI_lit0, nI_one, nI_2, nI_3, nI_4, nI_9, nI_10, nI_50, nI_99, nI_999, hk, c30, c39, c44]⟩
        · refine g_iconst (pc := 85) C dX8_throwsIt_85 (v := (nI 1)) (by decide) ?_
          refine g_goto (pc := 86) C dX8_throwsIt_86 (tgt := 95) (by decide) ?_
          exact g_zret (pc := 95) C hR dX8_throwsIt_95 (Or.inr rfl) ⟨vh29, by (try simp only [nI_lit0, nI_one, nI_2, nI_3, nI_4, nI_9, nI_10, nI_50, nI_99, nI_999] at hk c30 c39 c44); simp [tw, bI, nI_lit0, nI_one, nI_2, nI_3, nI_4, nI_9, nI_10, nI_50, nI_99, nI_999, hk, c30, c39, c44]⟩
      · refine g_iconst (pc := 50) C dX8_throwsIt_50 (v := (nI 1)) (by decide) ?_
        refine g_goto (pc := 51) C dX8_throwsIt_51 (tgt := 55) (by decide) ?_
        refine g_istore (pc := 55) C dX8_throwsIt_55 (L' := [(5, .int (nI 1)), (4, .int (nI 1)), (3, .int (nI 3)), (0, .ref (Z.1 0)), (1, .int (nI p)), (2, .int (nI q))]) (by decide) rfl ?_
        refine g_iload_n (pc := 57) C dX8_throwsIt_57 rfl 2 rfl ?_
        refine g_iconst (pc := 58) C dX8_throwsIt_58 (v := (nI 1)) (by decide) ?_
        refine g_icmp_ne (pc := 59) C dX8_throwsIt_59 (tgt := 67) (by decide) (fun c45 => ?_) (fun c45 => absurd c45 (by decide))
        refine g_iload_n (pc := 67) C dX8_throwsIt_67 rfl 2 rfl ?_
        refine g_iconst (pc := 68) C dX8_throwsIt_68 (v := (nI 3)) (by decide) ?_
        refine g_icmp_ne (pc := 69) C dX8_throwsIt_69 (tgt := 93) (by decide) (fun c46 => absurd c46 (by decide)) (fun c46 => ?_)
        refine g_iload (pc := 72) C dX8_throwsIt_72 0 rfl ?_
        refine g_if_ne (pc := 74) C dX8_throwsIt_74 (tgt := 85) (by decide) (fun c47 => ?_) (fun c47 => absurd c47 (by decide))
        refine g_iconst (pc := 85) C dX8_throwsIt_85 (v := (nI 1)) (by decide) ?_
        refine g_goto (pc := 86) C dX8_throwsIt_86 (tgt := 95) (by decide) ?_
        exact g_zret (pc := 95) C hR dX8_throwsIt_95 (Or.inr rfl) ⟨vh29, by (try simp only [nI_lit0, nI_one, nI_2, nI_3, nI_4, nI_9, nI_10, nI_50, nI_99, nI_999] at hk c30 c39); simp [tw, bI, nI_lit0, nI_one, nI_2, nI_3, nI_4, nI_9, nI_10, nI_50, nI_99, nI_999, hk, c30, c39]⟩
  · refine g_eqv (y := nI 4) (congrArg nI hk) ?_
    refine g_istore_n (pc := 6) C dX8_throwsIt_6 (L' := [(3, .int (nI 4)), (0, .ref (Z.1 0)), (1, .int (nI p)), (2, .int (nI q))]) rfl (by decide) rfl ?_
    refine g_iload_n (pc := 7) C dX8_throwsIt_7 rfl 0 rfl ?_
    refine g_iconst (pc := 8) C dX8_throwsIt_8 (v := (nI 2)) (by decide) ?_
    refine g_icmp_eq (pc := 9) C dX8_throwsIt_9 (tgt := 17) (by decide) (fun c48 => absurd c48 (by decide)) (fun c48 => ?_)
    refine g_iload_n (pc := 12) C dX8_throwsIt_12 rfl 0 rfl ?_
    refine g_iconst (pc := 13) C dX8_throwsIt_13 (v := (nI 4)) (by decide) ?_
    refine g_icmp_ne (pc := 14) C dX8_throwsIt_14 (tgt := 19) (by decide) (fun c49 => absurd c49 (by decide)) (fun c49 => ?_)
    refine g_iconst (pc := 17) C dX8_throwsIt_17 (v := (nI 0)) (by decide) ?_
    exact g_zret (pc := 18) C hR dX8_throwsIt_18 (Or.inl rfl) ⟨hV, by (try simp only [nI_lit0, nI_one, nI_2, nI_3, nI_4, nI_9, nI_10, nI_50, nI_99, nI_999] at hk); simp [tw, bI, nI_lit0, nI_one, nI_2, nI_3, nI_4, nI_9, nI_10, nI_50, nI_99, nI_999, hk]⟩
  · refine g_eqv (y := nI 5) (congrArg nI hk) ?_
    refine g_istore_n (pc := 6) C dX8_throwsIt_6 (L' := [(3, .int (nI 5)), (0, .ref (Z.1 0)), (1, .int (nI p)), (2, .int (nI q))]) rfl (by decide) rfl ?_
    refine g_iload_n (pc := 7) C dX8_throwsIt_7 rfl 0 rfl ?_
    refine g_iconst (pc := 8) C dX8_throwsIt_8 (v := (nI 2)) (by decide) ?_
    refine g_icmp_eq (pc := 9) C dX8_throwsIt_9 (tgt := 17) (by decide) (fun c50 => absurd c50 (by decide)) (fun c50 => ?_)
    refine g_iload_n (pc := 12) C dX8_throwsIt_12 rfl 0 rfl ?_
    refine g_iconst (pc := 13) C dX8_throwsIt_13 (v := (nI 4)) (by decide) ?_
    refine g_icmp_ne (pc := 14) C dX8_throwsIt_14 (tgt := 19) (by decide) (fun c51 => ?_) (fun c51 => absurd c51 (by decide))
    refine g_aload_n (pc := 19) C dX8_throwsIt_19 rfl 1 rfl ?_
    refine g_iconst (pc := 20) C dX8_throwsIt_20 (v := (nI 1)) (by decide) ?_
    refine g_iload_n (pc := 21) C dX8_throwsIt_21 rfl 2 rfl ?_
    refine g_iload_n (pc := 22) C dX8_throwsIt_22 rfl 3 rfl ?_
    refine g_goi (pc := 23) C (g_runV C 0 (As := [.int (nI 1), .int (nI p), .int (nI q)]) (rest := []) (mX8_says hT hV 1 p q (by decide) (by omega) (by omega)) gvX8_says_X8_247 rfl rfl rfl hdX8_says ⟨Nat.le_of_ble_eq_true rfl, Nat.le_of_ble_eq_true rfl⟩ hT.s0 rfl rfl rfl (Nat.le_of_ble_eq_true rfl) dX8_throwsIt_23 ⟨Nat.le_of_ble_eq_true rfl, Nat.le_of_ble_eq_true rfl⟩) (fun r52 J52 h52 => ?_)
    obtain ⟨vh52, eh52⟩ := h52
    subst r52
    refine g_eqv (y := sm rl 1 (en g p q)) rfl ?_
    refine g_if_eq (pc := 26) C dX8_throwsIt_26 (tgt := 33) (by decide) (fun c53 => ?_) (fun c53 => ?_)
    · refine g_iconst (pc := 33) C dX8_throwsIt_33 (v := (nI 0)) (by decide) ?_
      refine g_istore (pc := 34) C dX8_throwsIt_34 (L' := [(4, .int (nI 0)), (3, .int (nI 5)), (0, .ref (Z.1 0)), (1, .int (nI p)), (2, .int (nI q))]) (by decide) rfl ?_
      refine g_iload (pc := 36) C dX8_throwsIt_36 0 rfl ?_
      refine g_if_eq (pc := 38) C dX8_throwsIt_38 (tgt := 54) (by decide) (fun c54 => ?_) (fun c54 => absurd c54 (by decide))
      refine g_iconst (pc := 54) C dX8_throwsIt_54 (v := (nI 0)) (by decide) ?_
      refine g_istore (pc := 55) C dX8_throwsIt_55 (L' := [(5, .int (nI 0)), (4, .int (nI 0)), (3, .int (nI 5)), (0, .ref (Z.1 0)), (1, .int (nI p)), (2, .int (nI q))]) (by decide) rfl ?_
      refine g_iload_n (pc := 57) C dX8_throwsIt_57 rfl 2 rfl ?_
      refine g_iconst (pc := 58) C dX8_throwsIt_58 (v := (nI 1)) (by decide) ?_
      refine g_icmp_ne (pc := 59) C dX8_throwsIt_59 (tgt := 67) (by decide) (fun c55 => ?_) (fun c55 => absurd c55 (by decide))
      refine g_iload_n (pc := 67) C dX8_throwsIt_67 rfl 2 rfl ?_
      refine g_iconst (pc := 68) C dX8_throwsIt_68 (v := (nI 3)) (by decide) ?_
      refine g_icmp_ne (pc := 69) C dX8_throwsIt_69 (tgt := 93) (by decide) (fun c56 => ?_) (fun c56 => absurd c56 (by decide))
      refine g_iload (pc := 93) C dX8_throwsIt_93 1 rfl ?_
      exact g_zret (pc := 95) C hR dX8_throwsIt_95 (Or.inl rfl) ⟨vh52, by (try simp only [nI_lit0, nI_one, nI_2, nI_3, nI_4, nI_9, nI_10, nI_50, nI_99, nI_999] at hk c53); simp [tw, bI, nI_lit0, nI_one, nI_2, nI_3, nI_4, nI_9, nI_10, nI_50, nI_99, nI_999, hk, c53]⟩
    · refine g_iconst (pc := 29) C dX8_throwsIt_29 (v := (nI 1)) (by decide) ?_
      refine g_goto (pc := 30) C dX8_throwsIt_30 (tgt := 34) (by decide) ?_
      refine g_istore (pc := 34) C dX8_throwsIt_34 (L' := [(4, .int (nI 1)), (3, .int (nI 5)), (0, .ref (Z.1 0)), (1, .int (nI p)), (2, .int (nI q))]) (by decide) rfl ?_
      refine g_iload (pc := 36) C dX8_throwsIt_36 0 rfl ?_
      refine g_if_eq (pc := 38) C dX8_throwsIt_38 (tgt := 54) (by decide) (fun c57 => absurd c57 (by decide)) (fun c57 => ?_)
      refine g_aload_n (pc := 41) C dX8_throwsIt_41 rfl 2 rfl ?_
      refine g_iload_n (pc := 42) C dX8_throwsIt_42 rfl 3 rfl ?_
      refine g_goi (pc := 43) C (g_runV C 0 (As := [.int (nI p)]) (rest := []) (mX8_hasMany hT p (by omega) (by obtain ⟨z, hz, ez⟩ := vh52.has (p := p) (by omega); exact ⟨z, hz, (vh52.row (by omega)).trans ez⟩)) gvX8_hasMany_X8_122 rfl rfl rfl hdX8_hasMany ⟨Nat.le_of_ble_eq_true rfl, Nat.le_of_ble_eq_true rfl⟩ hT.s0 rfl rfl rfl (Nat.le_of_ble_eq_true rfl) dX8_throwsIt_43 ⟨Nat.le_of_ble_eq_true rfl, Nat.le_of_ble_eq_true rfl⟩) (fun r58 J58 h58 => ?_)
      obtain ⟨eah58, ebh58⟩ := h58
      subst r58
      subst J58
      refine g_eqv (y := bc (g ((4 * p) + 3))) (congrArg bc (vh52.row (by omega))) ?_
      refine g_iconst (pc := 46) C dX8_throwsIt_46 (v := (nI 4)) (by decide) ?_
      refine g_icmp_ge (pc := 47) C dX8_throwsIt_47 (tgt := 54) (by decide) (fun c59 => ?_) (fun c59 => ?_)
      · refine g_iconst (pc := 54) C dX8_throwsIt_54 (v := (nI 0)) (by decide) ?_
        refine g_istore (pc := 55) C dX8_throwsIt_55 (L' := [(5, .int (nI 0)), (4, .int (nI 1)), (3, .int (nI 5)), (0, .ref (Z.1 0)), (1, .int (nI p)), (2, .int (nI q))]) (by decide) rfl ?_
        refine g_iload_n (pc := 57) C dX8_throwsIt_57 rfl 2 rfl ?_
        refine g_iconst (pc := 58) C dX8_throwsIt_58 (v := (nI 1)) (by decide) ?_
        refine g_icmp_ne (pc := 59) C dX8_throwsIt_59 (tgt := 67) (by decide) (fun c60 => ?_) (fun c60 => absurd c60 (by decide))
        refine g_iload_n (pc := 67) C dX8_throwsIt_67 rfl 2 rfl ?_
        refine g_iconst (pc := 68) C dX8_throwsIt_68 (v := (nI 3)) (by decide) ?_
        refine g_icmp_ne (pc := 69) C dX8_throwsIt_69 (tgt := 93) (by decide) (fun c61 => ?_) (fun c61 => absurd c61 (by decide))
        refine g_iload (pc := 93) C dX8_throwsIt_93 1 rfl ?_
        exact g_zret (pc := 95) C hR dX8_throwsIt_95 (Or.inr rfl) ⟨vh52, by (try simp only [nI_lit0, nI_one, nI_2, nI_3, nI_4, nI_9, nI_10, nI_50, nI_99, nI_999] at hk c53 c59); simp [tw, bI, nI_lit0, nI_one, nI_2, nI_3, nI_4, nI_9, nI_10, nI_50, nI_99, nI_999, hk, c53, c59]⟩
      · refine g_iconst (pc := 50) C dX8_throwsIt_50 (v := (nI 1)) (by decide) ?_
        refine g_goto (pc := 51) C dX8_throwsIt_51 (tgt := 55) (by decide) ?_
        refine g_istore (pc := 55) C dX8_throwsIt_55 (L' := [(5, .int (nI 1)), (4, .int (nI 1)), (3, .int (nI 5)), (0, .ref (Z.1 0)), (1, .int (nI p)), (2, .int (nI q))]) (by decide) rfl ?_
        refine g_iload_n (pc := 57) C dX8_throwsIt_57 rfl 2 rfl ?_
        refine g_iconst (pc := 58) C dX8_throwsIt_58 (v := (nI 1)) (by decide) ?_
        refine g_icmp_ne (pc := 59) C dX8_throwsIt_59 (tgt := 67) (by decide) (fun c62 => ?_) (fun c62 => absurd c62 (by decide))
        refine g_iload_n (pc := 67) C dX8_throwsIt_67 rfl 2 rfl ?_
        refine g_iconst (pc := 68) C dX8_throwsIt_68 (v := (nI 3)) (by decide) ?_
        refine g_icmp_ne (pc := 69) C dX8_throwsIt_69 (tgt := 93) (by decide) (fun c63 => ?_) (fun c63 => absurd c63 (by decide))
        refine g_iload (pc := 93) C dX8_throwsIt_93 1 rfl ?_
        exact g_zret (pc := 95) C hR dX8_throwsIt_95 (Or.inr rfl) ⟨vh52, by (try simp only [nI_lit0, nI_one, nI_2, nI_3, nI_4, nI_9, nI_10, nI_50, nI_99, nI_999] at hk c53 c59); simp [tw, bI, nI_lit0, nI_one, nI_2, nI_3, nI_4, nI_9, nI_10, nI_50, nI_99, nI_999, hk, c53, c59]⟩
abbrev rmX8_playsOf : Room := { frames := 122, cells := 0, slots := 0, locals := 12049 }
set_option maxHeartbeats 4000000 in
theorem mX8_playsOf {E : gE} {Z : gS} {I : gI} {I0 : gI} {mn rl tn am : Nat} {kd : Nat → Nat} {sm : Nat → gSm} {fr : Nat → gG} {g : gG} (hT : tZ Z) (hV : tP I0 mn kd rl tn sm am fr g I) (p q : Nat) (hp : p < mn) (hq : q < mn) : gMet E yX8_playsOf (ws_ yX8_playsOf cX8_playsOf 7 (some .int)) rmX8_playsOf Z I [.ref (Z.1 0), .int (nI p), .int (nI q)] (cQi E Z (fun r J => tP I0 mn kd rl tn sm am fr g J ∧ r = pl kd (sm rl) g p q)) 0 0 := by
  refine g_of (own := RX8) (cc := cX8_playsOf) (nL := 7) (L0 := [(0, .ref (Z.1 0)), (1, .int (nI p)), (2, .int (nI q))]) (by decide) rfl rfl rfl (Nat.le_of_ble_eq_true rfl) rfl ?_
  intro K C hR _
  have hmn := hV.mn6
  refine g_aload_n (pc := 0) C dX8_playsOf_0 rfl 0 rfl ?_
  refine gm_kinds (pc := 1) C hT dX8_playsOf_1 ?_
  refine g_iload_n (pc := 4) C dX8_playsOf_4 rfl 1 rfl ?_
  refine g_iald (pc := 5) C 4 p hT.s4 (by omega) (by decide) dX8_playsOf_5 ?_
  refine g_eqv (y := nI (kd p)) (hV.kind (by omega)) ?_
  have hk5 := hV.kd5 hp
  obtain hk | hk | hk | hk | hk | hk : kd p = 0 ∨ kd p = 1 ∨ kd p = 2 ∨ kd p = 3 ∨ kd p = 4 ∨ kd p = 5 := by omega
  · refine g_eqv (y := nI 0) (congrArg nI hk) ?_
    refine g_istore_n (pc := 6) C dX8_playsOf_6 (L' := [(3, .int (nI 0)), (0, .ref (Z.1 0)), (1, .int (nI p)), (2, .int (nI q))]) rfl (by decide) rfl ?_
    refine g_iload_n (pc := 7) C dX8_playsOf_7 rfl 0 rfl ?_
    refine g_iconst (pc := 8) C dX8_playsOf_8 (v := (nI 5)) (by decide) ?_
    refine g_icmp_ne (pc := 9) C dX8_playsOf_9 (tgt := 14) (by decide) (fun c1 => ?_) (fun c1 => absurd c1 (by decide))
    refine g_aload_n (pc := 14) C dX8_playsOf_14 rfl 1 rfl ?_
    refine g_iconst (pc := 15) C dX8_playsOf_15 (v := (nI 0)) (by decide) ?_
    refine g_iload_n (pc := 16) C dX8_playsOf_16 rfl 2 rfl ?_
    refine g_iload_n (pc := 17) C dX8_playsOf_17 rfl 3 rfl ?_
    refine g_goi (pc := 18) C (g_runV C 0 (As := [.int (nI 0), .int (nI p), .int (nI q)]) (rest := []) (mX8_says hT hV 0 p q (by decide) (by omega) (by omega)) gvX8_says_X8_247 rfl rfl rfl hdX8_says ⟨Nat.le_of_ble_eq_true rfl, Nat.le_of_ble_eq_true rfl⟩ hT.s0 rfl rfl rfl (Nat.le_of_ble_eq_true rfl) dX8_playsOf_18 ⟨Nat.le_of_ble_eq_true rfl, Nat.le_of_ble_eq_true rfl⟩) (fun r2 J2 h2 => ?_)
    obtain ⟨vh2, eh2⟩ := h2
    subst r2
    refine g_eqv (y := wi (sm rl 0 (en g p q)) 0 99) rfl ?_
    refine g_istore (pc := 21) C dX8_playsOf_21 (L' := [(4, .int (wi (sm rl 0 (en g p q)) 0 99)), (3, .int (nI 0)), (0, .ref (Z.1 0)), (1, .int (nI p)), (2, .int (nI q))]) (by decide) rfl ?_
    refine g_aload_n (pc := 23) C dX8_playsOf_23 rfl 2 rfl ?_
    refine gm_rows (pc := 24) C hT dX8_playsOf_24 ?_
    refine g_iconst (pc := 27) C dX8_playsOf_27 (v := (nI 4)) (by decide) ?_
    refine g_iload_n (pc := 28) C dX8_playsOf_28 rfl 3 rfl ?_
    refine g_imul (pc := 29) C dX8_playsOf_29 (v := (nI (4 * p))) (pk_mul _ _) ?_
    refine g_iald (pc := 30) C 5 (4 * p) hT.s5 (by omega) (by decide) dX8_playsOf_30 ?_
    refine g_eqv (y := g (4 * p)) (vh2.row (by omega)) ?_
    refine g_istore (pc := 31) C dX8_playsOf_31 (L' := [(5, .int (g (4 * p))), (4, .int (wi (sm rl 0 (en g p q)) 0 99)), (3, .int (nI 0)), (0, .ref (Z.1 0)), (1, .int (nI p)), (2, .int (nI q))]) (by decide) rfl ?_
    refine g_iload_n (pc := 33) C dX8_playsOf_33 rfl 2 rfl ?_
    refine g_iconst (pc := 34) C dX8_playsOf_34 (v := (nI 1)) (by decide) ?_
    refine g_icmp_ne (pc := 35) C dX8_playsOf_35 (tgt := 45) (by decide) (fun c3 => ?_) (fun c3 => absurd c3 (by decide))
    refine g_iload_n (pc := 45) C dX8_playsOf_45 rfl 2 rfl ?_
    refine g_iconst (pc := 46) C dX8_playsOf_46 (v := (nI 3)) (by decide) ?_
    refine g_icmp_ne (pc := 47) C dX8_playsOf_47 (tgt := 72) (by decide) (fun c4 => ?_) (fun c4 => absurd c4 (by decide))
    refine g_iload_n (pc := 72) C dX8_playsOf_72 rfl 2 rfl ?_
    refine g_iconst (pc := 73) C dX8_playsOf_73 (v := (nI 2)) (by decide) ?_
    refine g_icmp_ne (pc := 74) C dX8_playsOf_74 (tgt := 84) (by decide) (fun c5 => ?_) (fun c5 => absurd c5 (by decide))
    refine g_iload_n (pc := 84) C dX8_playsOf_84 rfl 2 rfl ?_
    refine g_iconst (pc := 85) C dX8_playsOf_85 (v := (nI 4)) (by decide) ?_
    refine g_icmp_ne (pc := 86) C dX8_playsOf_86 (tgt := 115) (by decide) (fun c6 => ?_) (fun c6 => absurd c6 (by decide))
    refine g_iload (pc := 115) C dX8_playsOf_115 1 rfl ?_
    refine g_istore (pc := 117) C dX8_playsOf_117 (L' := [(6, .int (wi (sm rl 0 (en g p q)) 0 99)), (5, .int (g (4 * p))), (4, .int (wi (sm rl 0 (en g p q)) 0 99)), (3, .int (nI 0)), (0, .ref (Z.1 0)), (1, .int (nI p)), (2, .int (nI q))]) (by decide) rfl ?_
    refine g_iload (pc := 119) C dX8_playsOf_119 0 rfl ?_
    refine g_iconst (pc := 121) C dX8_playsOf_121 (v := (nI 0)) (by decide) ?_
    refine g_sipush (pc := 122) C dX8_playsOf_122 (v := (nI 999)) (by decide) ?_
    refine g_goi (pc := 125) C (g_runS C (As := [.int (wi (sm rl 0 (en g p q)) 0 99), .int (nI 0), .int (nI 999)]) (rest := []) (mX8_within (wi (sm rl 0 (en g p q)) 0 99) (nI 0) (nI 999)) gvX8_within_X8_243 rfl rfl rfl hdX8_within ⟨Nat.le_of_ble_eq_true rfl, Nat.le_of_ble_eq_true rfl⟩ rfl rfl (Nat.le_of_ble_eq_true rfl) dX8_playsOf_125 ⟨Nat.le_of_ble_eq_true rfl, Nat.le_of_ble_eq_true rfl⟩) (fun r7 J7 h7 => ?_)
    obtain ⟨eah7, ebh7⟩ := h7
    subst r7
    subst J7
    exact g_iret (pc := 128) C hR dX8_playsOf_128 ⟨vh2, by (try simp only [nI_lit0, nI_one, nI_2, nI_3, nI_4, nI_9, nI_10, nI_50, nI_99, nI_999] at hk); simp [pl, pl0, wi_0, nI_lit0, nI_one, nI_2, nI_3, nI_4, nI_9, nI_10, nI_50, nI_99, nI_999, hk]⟩
  · refine g_eqv (y := nI 1) (congrArg nI hk) ?_
    refine g_istore_n (pc := 6) C dX8_playsOf_6 (L' := [(3, .int (nI 1)), (0, .ref (Z.1 0)), (1, .int (nI p)), (2, .int (nI q))]) rfl (by decide) rfl ?_
    refine g_iload_n (pc := 7) C dX8_playsOf_7 rfl 0 rfl ?_
    refine g_iconst (pc := 8) C dX8_playsOf_8 (v := (nI 5)) (by decide) ?_
    refine g_icmp_ne (pc := 9) C dX8_playsOf_9 (tgt := 14) (by decide) (fun c8 => ?_) (fun c8 => absurd c8 (by decide))
    refine g_aload_n (pc := 14) C dX8_playsOf_14 rfl 1 rfl ?_
    refine g_iconst (pc := 15) C dX8_playsOf_15 (v := (nI 0)) (by decide) ?_
    refine g_iload_n (pc := 16) C dX8_playsOf_16 rfl 2 rfl ?_
    refine g_iload_n (pc := 17) C dX8_playsOf_17 rfl 3 rfl ?_
    refine g_goi (pc := 18) C (g_runV C 0 (As := [.int (nI 0), .int (nI p), .int (nI q)]) (rest := []) (mX8_says hT hV 0 p q (by decide) (by omega) (by omega)) gvX8_says_X8_247 rfl rfl rfl hdX8_says ⟨Nat.le_of_ble_eq_true rfl, Nat.le_of_ble_eq_true rfl⟩ hT.s0 rfl rfl rfl (Nat.le_of_ble_eq_true rfl) dX8_playsOf_18 ⟨Nat.le_of_ble_eq_true rfl, Nat.le_of_ble_eq_true rfl⟩) (fun r9 J9 h9 => ?_)
    obtain ⟨vh9, eh9⟩ := h9
    subst r9
    refine g_eqv (y := wi (sm rl 0 (en g p q)) 0 99) rfl ?_
    refine g_istore (pc := 21) C dX8_playsOf_21 (L' := [(4, .int (wi (sm rl 0 (en g p q)) 0 99)), (3, .int (nI 1)), (0, .ref (Z.1 0)), (1, .int (nI p)), (2, .int (nI q))]) (by decide) rfl ?_
    refine g_aload_n (pc := 23) C dX8_playsOf_23 rfl 2 rfl ?_
    refine gm_rows (pc := 24) C hT dX8_playsOf_24 ?_
    refine g_iconst (pc := 27) C dX8_playsOf_27 (v := (nI 4)) (by decide) ?_
    refine g_iload_n (pc := 28) C dX8_playsOf_28 rfl 3 rfl ?_
    refine g_imul (pc := 29) C dX8_playsOf_29 (v := (nI (4 * p))) (pk_mul _ _) ?_
    refine g_iald (pc := 30) C 5 (4 * p) hT.s5 (by omega) (by decide) dX8_playsOf_30 ?_
    refine g_eqv (y := g (4 * p)) (vh9.row (by omega)) ?_
    refine g_istore (pc := 31) C dX8_playsOf_31 (L' := [(5, .int (g (4 * p))), (4, .int (wi (sm rl 0 (en g p q)) 0 99)), (3, .int (nI 1)), (0, .ref (Z.1 0)), (1, .int (nI p)), (2, .int (nI q))]) (by decide) rfl ?_
    refine g_iload_n (pc := 33) C dX8_playsOf_33 rfl 2 rfl ?_
    refine g_iconst (pc := 34) C dX8_playsOf_34 (v := (nI 1)) (by decide) ?_
    refine g_icmp_ne (pc := 35) C dX8_playsOf_35 (tgt := 45) (by decide) (fun c10 => absurd c10 (by decide)) (fun c10 => ?_)
    refine g_iconst (pc := 38) C dX8_playsOf_38 (v := (nI 2)) (by decide) ?_
    refine g_iload (pc := 39) C dX8_playsOf_39 1 rfl ?_
    refine g_imul (pc := 41) C dX8_playsOf_41 (v := ((nI 2) * (wi (sm rl 0 (en g p q)) 0 99))) rfl ?_
    refine g_goto (pc := 42) C dX8_playsOf_42 (tgt := 117) (by decide) ?_
    refine g_istore (pc := 117) C dX8_playsOf_117 (L' := [(6, .int ((nI 2) * (wi (sm rl 0 (en g p q)) 0 99))), (5, .int (g (4 * p))), (4, .int (wi (sm rl 0 (en g p q)) 0 99)), (3, .int (nI 1)), (0, .ref (Z.1 0)), (1, .int (nI p)), (2, .int (nI q))]) (by decide) rfl ?_
    refine g_iload (pc := 119) C dX8_playsOf_119 0 rfl ?_
    refine g_iconst (pc := 121) C dX8_playsOf_121 (v := (nI 0)) (by decide) ?_
    refine g_sipush (pc := 122) C dX8_playsOf_122 (v := (nI 999)) (by decide) ?_
    refine g_goi (pc := 125) C (g_runS C (As := [.int ((nI 2) * (wi (sm rl 0 (en g p q)) 0 99)), .int (nI 0), .int (nI 999)]) (rest := []) (mX8_within ((nI 2) * (wi (sm rl 0 (en g p q)) 0 99)) (nI 0) (nI 999)) gvX8_within_X8_243 rfl rfl rfl hdX8_within ⟨Nat.le_of_ble_eq_true rfl, Nat.le_of_ble_eq_true rfl⟩ rfl rfl (Nat.le_of_ble_eq_true rfl) dX8_playsOf_125 ⟨Nat.le_of_ble_eq_true rfl, Nat.le_of_ble_eq_true rfl⟩) (fun r11 J11 h11 => ?_)
    obtain ⟨eah11, ebh11⟩ := h11
    subst r11
    subst J11
    exact g_iret (pc := 128) C hR dX8_playsOf_128 ⟨vh9, by (try simp only [nI_lit0, nI_one, nI_2, nI_3, nI_4, nI_9, nI_10, nI_50, nI_99, nI_999] at hk); simp [pl, pl0, wi_0, nI_lit0, nI_one, nI_2, nI_3, nI_4, nI_9, nI_10, nI_50, nI_99, nI_999, hk]⟩
  · refine g_eqv (y := nI 2) (congrArg nI hk) ?_
    refine g_istore_n (pc := 6) C dX8_playsOf_6 (L' := [(3, .int (nI 2)), (0, .ref (Z.1 0)), (1, .int (nI p)), (2, .int (nI q))]) rfl (by decide) rfl ?_
    refine g_iload_n (pc := 7) C dX8_playsOf_7 rfl 0 rfl ?_
    refine g_iconst (pc := 8) C dX8_playsOf_8 (v := (nI 5)) (by decide) ?_
    refine g_icmp_ne (pc := 9) C dX8_playsOf_9 (tgt := 14) (by decide) (fun c12 => ?_) (fun c12 => absurd c12 (by decide))
    refine g_aload_n (pc := 14) C dX8_playsOf_14 rfl 1 rfl ?_
    refine g_iconst (pc := 15) C dX8_playsOf_15 (v := (nI 0)) (by decide) ?_
    refine g_iload_n (pc := 16) C dX8_playsOf_16 rfl 2 rfl ?_
    refine g_iload_n (pc := 17) C dX8_playsOf_17 rfl 3 rfl ?_
    refine g_goi (pc := 18) C (g_runV C 0 (As := [.int (nI 0), .int (nI p), .int (nI q)]) (rest := []) (mX8_says hT hV 0 p q (by decide) (by omega) (by omega)) gvX8_says_X8_247 rfl rfl rfl hdX8_says ⟨Nat.le_of_ble_eq_true rfl, Nat.le_of_ble_eq_true rfl⟩ hT.s0 rfl rfl rfl (Nat.le_of_ble_eq_true rfl) dX8_playsOf_18 ⟨Nat.le_of_ble_eq_true rfl, Nat.le_of_ble_eq_true rfl⟩) (fun r13 J13 h13 => ?_)
    obtain ⟨vh13, eh13⟩ := h13
    subst r13
    refine g_eqv (y := wi (sm rl 0 (en g p q)) 0 99) rfl ?_
    refine g_istore (pc := 21) C dX8_playsOf_21 (L' := [(4, .int (wi (sm rl 0 (en g p q)) 0 99)), (3, .int (nI 2)), (0, .ref (Z.1 0)), (1, .int (nI p)), (2, .int (nI q))]) (by decide) rfl ?_
    refine g_aload_n (pc := 23) C dX8_playsOf_23 rfl 2 rfl ?_
    refine gm_rows (pc := 24) C hT dX8_playsOf_24 ?_
    refine g_iconst (pc := 27) C dX8_playsOf_27 (v := (nI 4)) (by decide) ?_
    refine g_iload_n (pc := 28) C dX8_playsOf_28 rfl 3 rfl ?_
    refine g_imul (pc := 29) C dX8_playsOf_29 (v := (nI (4 * p))) (pk_mul _ _) ?_
    refine g_iald (pc := 30) C 5 (4 * p) hT.s5 (by omega) (by decide) dX8_playsOf_30 ?_
    refine g_eqv (y := g (4 * p)) (vh13.row (by omega)) ?_
    refine g_istore (pc := 31) C dX8_playsOf_31 (L' := [(5, .int (g (4 * p))), (4, .int (wi (sm rl 0 (en g p q)) 0 99)), (3, .int (nI 2)), (0, .ref (Z.1 0)), (1, .int (nI p)), (2, .int (nI q))]) (by decide) rfl ?_
    refine g_iload_n (pc := 33) C dX8_playsOf_33 rfl 2 rfl ?_
    refine g_iconst (pc := 34) C dX8_playsOf_34 (v := (nI 1)) (by decide) ?_
    refine g_icmp_ne (pc := 35) C dX8_playsOf_35 (tgt := 45) (by decide) (fun c14 => ?_) (fun c14 => absurd c14 (by decide))
    refine g_iload_n (pc := 45) C dX8_playsOf_45 rfl 2 rfl ?_
    refine g_iconst (pc := 46) C dX8_playsOf_46 (v := (nI 3)) (by decide) ?_
    refine g_icmp_ne (pc := 47) C dX8_playsOf_47 (tgt := 72) (by decide) (fun c15 => ?_) (fun c15 => absurd c15 (by decide))
    refine g_iload_n (pc := 72) C dX8_playsOf_72 rfl 2 rfl ?_
    refine g_iconst (pc := 73) C dX8_playsOf_73 (v := (nI 2)) (by decide) ?_
    refine g_icmp_ne (pc := 74) C dX8_playsOf_74 (tgt := 84) (by decide) (fun c16 => absurd c16 (by decide)) (fun c16 => ?_)
    refine g_iload (pc := 77) C dX8_playsOf_77 1 rfl ?_
    refine g_iconst (pc := 79) C dX8_playsOf_79 (v := (nI 2)) (by decide) ?_
    refine g_idiv (pc := 80) C dX8_playsOf_80 (nI_ne0 (by omega) (by omega)) (v := ((wi (sm rl 0 (en g p q)) 0 99) / (nI 2))) rfl ?_
    refine g_goto (pc := 81) C dX8_playsOf_81 (tgt := 117) (by decide) ?_
    refine g_istore (pc := 117) C dX8_playsOf_117 (L' := [(6, .int ((wi (sm rl 0 (en g p q)) 0 99) / (nI 2))), (5, .int (g (4 * p))), (4, .int (wi (sm rl 0 (en g p q)) 0 99)), (3, .int (nI 2)), (0, .ref (Z.1 0)), (1, .int (nI p)), (2, .int (nI q))]) (by decide) rfl ?_
    refine g_iload (pc := 119) C dX8_playsOf_119 0 rfl ?_
    refine g_iconst (pc := 121) C dX8_playsOf_121 (v := (nI 0)) (by decide) ?_
    refine g_sipush (pc := 122) C dX8_playsOf_122 (v := (nI 999)) (by decide) ?_
    refine g_goi (pc := 125) C (g_runS C (As := [.int ((wi (sm rl 0 (en g p q)) 0 99) / (nI 2)), .int (nI 0), .int (nI 999)]) (rest := []) (mX8_within ((wi (sm rl 0 (en g p q)) 0 99) / (nI 2)) (nI 0) (nI 999)) gvX8_within_X8_243 rfl rfl rfl hdX8_within ⟨Nat.le_of_ble_eq_true rfl, Nat.le_of_ble_eq_true rfl⟩ rfl rfl (Nat.le_of_ble_eq_true rfl) dX8_playsOf_125 ⟨Nat.le_of_ble_eq_true rfl, Nat.le_of_ble_eq_true rfl⟩) (fun r17 J17 h17 => ?_)
    obtain ⟨eah17, ebh17⟩ := h17
    subst r17
    subst J17
    exact g_iret (pc := 128) C hR dX8_playsOf_128 ⟨vh13, by (try simp only [nI_lit0, nI_one, nI_2, nI_3, nI_4, nI_9, nI_10, nI_50, nI_99, nI_999] at hk); simp [pl, pl0, wi_0, nI_lit0, nI_one, nI_2, nI_3, nI_4, nI_9, nI_10, nI_50, nI_99, nI_999, hk]⟩
  · refine g_eqv (y := nI 3) (congrArg nI hk) ?_
    refine g_istore_n (pc := 6) C dX8_playsOf_6 (L' := [(3, .int (nI 3)), (0, .ref (Z.1 0)), (1, .int (nI p)), (2, .int (nI q))]) rfl (by decide) rfl ?_
    refine g_iload_n (pc := 7) C dX8_playsOf_7 rfl 0 rfl ?_
    refine g_iconst (pc := 8) C dX8_playsOf_8 (v := (nI 5)) (by decide) ?_
    refine g_icmp_ne (pc := 9) C dX8_playsOf_9 (tgt := 14) (by decide) (fun c18 => ?_) (fun c18 => absurd c18 (by decide))
    refine g_aload_n (pc := 14) C dX8_playsOf_14 rfl 1 rfl ?_
    refine g_iconst (pc := 15) C dX8_playsOf_15 (v := (nI 0)) (by decide) ?_
    refine g_iload_n (pc := 16) C dX8_playsOf_16 rfl 2 rfl ?_
    refine g_iload_n (pc := 17) C dX8_playsOf_17 rfl 3 rfl ?_
    refine g_goi (pc := 18) C (g_runV C 0 (As := [.int (nI 0), .int (nI p), .int (nI q)]) (rest := []) (mX8_says hT hV 0 p q (by decide) (by omega) (by omega)) gvX8_says_X8_247 rfl rfl rfl hdX8_says ⟨Nat.le_of_ble_eq_true rfl, Nat.le_of_ble_eq_true rfl⟩ hT.s0 rfl rfl rfl (Nat.le_of_ble_eq_true rfl) dX8_playsOf_18 ⟨Nat.le_of_ble_eq_true rfl, Nat.le_of_ble_eq_true rfl⟩) (fun r19 J19 h19 => ?_)
    obtain ⟨vh19, eh19⟩ := h19
    subst r19
    refine g_eqv (y := wi (sm rl 0 (en g p q)) 0 99) rfl ?_
    refine g_istore (pc := 21) C dX8_playsOf_21 (L' := [(4, .int (wi (sm rl 0 (en g p q)) 0 99)), (3, .int (nI 3)), (0, .ref (Z.1 0)), (1, .int (nI p)), (2, .int (nI q))]) (by decide) rfl ?_
    refine g_aload_n (pc := 23) C dX8_playsOf_23 rfl 2 rfl ?_
    refine gm_rows (pc := 24) C hT dX8_playsOf_24 ?_
    refine g_iconst (pc := 27) C dX8_playsOf_27 (v := (nI 4)) (by decide) ?_
    refine g_iload_n (pc := 28) C dX8_playsOf_28 rfl 3 rfl ?_
    refine g_imul (pc := 29) C dX8_playsOf_29 (v := (nI (4 * p))) (pk_mul _ _) ?_
    refine g_iald (pc := 30) C 5 (4 * p) hT.s5 (by omega) (by decide) dX8_playsOf_30 ?_
    refine g_eqv (y := g (4 * p)) (vh19.row (by omega)) ?_
    refine g_istore (pc := 31) C dX8_playsOf_31 (L' := [(5, .int (g (4 * p))), (4, .int (wi (sm rl 0 (en g p q)) 0 99)), (3, .int (nI 3)), (0, .ref (Z.1 0)), (1, .int (nI p)), (2, .int (nI q))]) (by decide) rfl ?_
    refine g_iload_n (pc := 33) C dX8_playsOf_33 rfl 2 rfl ?_
    refine g_iconst (pc := 34) C dX8_playsOf_34 (v := (nI 1)) (by decide) ?_
    refine g_icmp_ne (pc := 35) C dX8_playsOf_35 (tgt := 45) (by decide) (fun c20 => ?_) (fun c20 => absurd c20 (by decide))
    refine g_iload_n (pc := 45) C dX8_playsOf_45 rfl 2 rfl ?_
    refine g_iconst (pc := 46) C dX8_playsOf_46 (v := (nI 3)) (by decide) ?_
    refine g_icmp_ne (pc := 47) C dX8_playsOf_47 (tgt := 72) (by decide) (fun c21 => absurd c21 (by decide)) (fun c21 => ?_)
    refine g_iconst (pc := 50) C dX8_playsOf_50 (v := (nI 2)) (by decide) ?_
    refine g_iload (pc := 51) C dX8_playsOf_51 1 rfl ?_
    refine g_imul (pc := 53) C dX8_playsOf_53 (v := ((nI 2) * (wi (sm rl 0 (en g p q)) 0 99))) rfl ?_
    refine g_aload_n (pc := 54) C dX8_playsOf_54 rfl 3 rfl ?_
    refine g_iload_n (pc := 55) C dX8_playsOf_55 rfl 4 rfl ?_
    refine g_goi (pc := 56) C (g_runV C 0 (As := [.int (nI p)]) (rest := [.int ((nI 2) * (wi (sm rl 0 (en g p q)) 0 99))]) (mX8_has hT p (by omega)) gvX8_has_X8_112 rfl rfl rfl hdX8_has ⟨Nat.le_of_ble_eq_true rfl, Nat.le_of_ble_eq_true rfl⟩ hT.s0 rfl rfl rfl (Nat.le_of_ble_eq_true rfl) dX8_playsOf_56 ⟨Nat.le_of_ble_eq_true rfl, Nat.le_of_ble_eq_true rfl⟩) (fun r22 J22 h22 => ?_)
    obtain ⟨eah22, ebh22⟩ := h22
    subst r22
    subst J22
    refine g_eqv (y := g ((4 * p) + 3)) (vh19.row (by omega)) ?_
    refine g_if_ne (pc := 59) C dX8_playsOf_59 (tgt := 67) (by decide) (fun c23 => ?_) (fun c23 => ?_)
    · refine g_iconst (pc := 67) C dX8_playsOf_67 (v := (nI 0)) (by decide) ?_
      refine g_iadd (pc := 68) C dX8_playsOf_68 (v := (((nI 2) * (wi (sm rl 0 (en g p q)) 0 99)) + (nI 0))) rfl ?_
      refine g_goto (pc := 69) C dX8_playsOf_69 (tgt := 117) (by decide) ?_
      refine g_istore (pc := 117) C dX8_playsOf_117 (L' := [(6, .int (((nI 2) * (wi (sm rl 0 (en g p q)) 0 99)) + (nI 0))), (5, .int (g (4 * p))), (4, .int (wi (sm rl 0 (en g p q)) 0 99)), (3, .int (nI 3)), (0, .ref (Z.1 0)), (1, .int (nI p)), (2, .int (nI q))]) (by decide) rfl ?_
      refine g_iload (pc := 119) C dX8_playsOf_119 0 rfl ?_
      refine g_iconst (pc := 121) C dX8_playsOf_121 (v := (nI 0)) (by decide) ?_
      refine g_sipush (pc := 122) C dX8_playsOf_122 (v := (nI 999)) (by decide) ?_
      refine g_goi (pc := 125) C (g_runS C (As := [.int (((nI 2) * (wi (sm rl 0 (en g p q)) 0 99)) + (nI 0)), .int (nI 0), .int (nI 999)]) (rest := []) (mX8_within (((nI 2) * (wi (sm rl 0 (en g p q)) 0 99)) + (nI 0)) (nI 0) (nI 999)) gvX8_within_X8_243 rfl rfl rfl hdX8_within ⟨Nat.le_of_ble_eq_true rfl, Nat.le_of_ble_eq_true rfl⟩ rfl rfl (Nat.le_of_ble_eq_true rfl) dX8_playsOf_125 ⟨Nat.le_of_ble_eq_true rfl, Nat.le_of_ble_eq_true rfl⟩) (fun r24 J24 h24 => ?_)
      obtain ⟨eah24, ebh24⟩ := h24
      subst r24
      subst J24
      exact g_iret (pc := 128) C hR dX8_playsOf_128 ⟨vh19, by (try simp only [nI_lit0, nI_one, nI_2, nI_3, nI_4, nI_9, nI_10, nI_50, nI_99, nI_999] at hk c23); simp [pl, pl0, wi_0, nI_lit0, nI_one, nI_2, nI_3, nI_4, nI_9, nI_10, nI_50, nI_99, nI_999, hk, c23]⟩
    · refine g_iload (pc := 62) C dX8_playsOf_62 0 rfl ?_
      refine g_goto (pc := 64) C dX8_playsOf_64 (tgt := 68) (by decide) ?_
      refine g_iadd (pc := 68) C dX8_playsOf_68 (v := (((nI 2) * (wi (sm rl 0 (en g p q)) 0 99)) + (g (4 * p)))) rfl ?_
      refine g_goto (pc := 69) C dX8_playsOf_69 (tgt := 117) (by decide) ?_
      refine g_istore (pc := 117) C dX8_playsOf_117 (L' := [(6, .int (((nI 2) * (wi (sm rl 0 (en g p q)) 0 99)) + (g (4 * p)))), (5, .int (g (4 * p))), (4, .int (wi (sm rl 0 (en g p q)) 0 99)), (3, .int (nI 3)), (0, .ref (Z.1 0)), (1, .int (nI p)), (2, .int (nI q))]) (by decide) rfl ?_
      refine g_iload (pc := 119) C dX8_playsOf_119 0 rfl ?_
      refine g_iconst (pc := 121) C dX8_playsOf_121 (v := (nI 0)) (by decide) ?_
      refine g_sipush (pc := 122) C dX8_playsOf_122 (v := (nI 999)) (by decide) ?_
      refine g_goi (pc := 125) C (g_runS C (As := [.int (((nI 2) * (wi (sm rl 0 (en g p q)) 0 99)) + (g (4 * p))), .int (nI 0), .int (nI 999)]) (rest := []) (mX8_within (((nI 2) * (wi (sm rl 0 (en g p q)) 0 99)) + (g (4 * p))) (nI 0) (nI 999)) gvX8_within_X8_243 rfl rfl rfl hdX8_within ⟨Nat.le_of_ble_eq_true rfl, Nat.le_of_ble_eq_true rfl⟩ rfl rfl (Nat.le_of_ble_eq_true rfl) dX8_playsOf_125 ⟨Nat.le_of_ble_eq_true rfl, Nat.le_of_ble_eq_true rfl⟩) (fun r25 J25 h25 => ?_)
      obtain ⟨eah25, ebh25⟩ := h25
      subst r25
      subst J25
      exact g_iret (pc := 128) C hR dX8_playsOf_128 ⟨vh19, by (try simp only [nI_lit0, nI_one, nI_2, nI_3, nI_4, nI_9, nI_10, nI_50, nI_99, nI_999] at hk c23); simp [pl, pl0, wi_0, nI_lit0, nI_one, nI_2, nI_3, nI_4, nI_9, nI_10, nI_50, nI_99, nI_999, hk, c23]⟩
  · refine g_eqv (y := nI 4) (congrArg nI hk) ?_
    refine g_istore_n (pc := 6) C dX8_playsOf_6 (L' := [(3, .int (nI 4)), (0, .ref (Z.1 0)), (1, .int (nI p)), (2, .int (nI q))]) rfl (by decide) rfl ?_
    refine g_iload_n (pc := 7) C dX8_playsOf_7 rfl 0 rfl ?_
    refine g_iconst (pc := 8) C dX8_playsOf_8 (v := (nI 5)) (by decide) ?_
    refine g_icmp_ne (pc := 9) C dX8_playsOf_9 (tgt := 14) (by decide) (fun c26 => ?_) (fun c26 => absurd c26 (by decide))
    refine g_aload_n (pc := 14) C dX8_playsOf_14 rfl 1 rfl ?_
    refine g_iconst (pc := 15) C dX8_playsOf_15 (v := (nI 0)) (by decide) ?_
    refine g_iload_n (pc := 16) C dX8_playsOf_16 rfl 2 rfl ?_
    refine g_iload_n (pc := 17) C dX8_playsOf_17 rfl 3 rfl ?_
    refine g_goi (pc := 18) C (g_runV C 0 (As := [.int (nI 0), .int (nI p), .int (nI q)]) (rest := []) (mX8_says hT hV 0 p q (by decide) (by omega) (by omega)) gvX8_says_X8_247 rfl rfl rfl hdX8_says ⟨Nat.le_of_ble_eq_true rfl, Nat.le_of_ble_eq_true rfl⟩ hT.s0 rfl rfl rfl (Nat.le_of_ble_eq_true rfl) dX8_playsOf_18 ⟨Nat.le_of_ble_eq_true rfl, Nat.le_of_ble_eq_true rfl⟩) (fun r27 J27 h27 => ?_)
    obtain ⟨vh27, eh27⟩ := h27
    subst r27
    refine g_eqv (y := wi (sm rl 0 (en g p q)) 0 99) rfl ?_
    refine g_istore (pc := 21) C dX8_playsOf_21 (L' := [(4, .int (wi (sm rl 0 (en g p q)) 0 99)), (3, .int (nI 4)), (0, .ref (Z.1 0)), (1, .int (nI p)), (2, .int (nI q))]) (by decide) rfl ?_
    refine g_aload_n (pc := 23) C dX8_playsOf_23 rfl 2 rfl ?_
    refine gm_rows (pc := 24) C hT dX8_playsOf_24 ?_
    refine g_iconst (pc := 27) C dX8_playsOf_27 (v := (nI 4)) (by decide) ?_
    refine g_iload_n (pc := 28) C dX8_playsOf_28 rfl 3 rfl ?_
    refine g_imul (pc := 29) C dX8_playsOf_29 (v := (nI (4 * p))) (pk_mul _ _) ?_
    refine g_iald (pc := 30) C 5 (4 * p) hT.s5 (by omega) (by decide) dX8_playsOf_30 ?_
    refine g_eqv (y := g (4 * p)) (vh27.row (by omega)) ?_
    refine g_istore (pc := 31) C dX8_playsOf_31 (L' := [(5, .int (g (4 * p))), (4, .int (wi (sm rl 0 (en g p q)) 0 99)), (3, .int (nI 4)), (0, .ref (Z.1 0)), (1, .int (nI p)), (2, .int (nI q))]) (by decide) rfl ?_
    refine g_iload_n (pc := 33) C dX8_playsOf_33 rfl 2 rfl ?_
    refine g_iconst (pc := 34) C dX8_playsOf_34 (v := (nI 1)) (by decide) ?_
    refine g_icmp_ne (pc := 35) C dX8_playsOf_35 (tgt := 45) (by decide) (fun c28 => ?_) (fun c28 => absurd c28 (by decide))
    refine g_iload_n (pc := 45) C dX8_playsOf_45 rfl 2 rfl ?_
    refine g_iconst (pc := 46) C dX8_playsOf_46 (v := (nI 3)) (by decide) ?_
    refine g_icmp_ne (pc := 47) C dX8_playsOf_47 (tgt := 72) (by decide) (fun c29 => ?_) (fun c29 => absurd c29 (by decide))
    refine g_iload_n (pc := 72) C dX8_playsOf_72 rfl 2 rfl ?_
    refine g_iconst (pc := 73) C dX8_playsOf_73 (v := (nI 2)) (by decide) ?_
    refine g_icmp_ne (pc := 74) C dX8_playsOf_74 (tgt := 84) (by decide) (fun c30 => ?_) (fun c30 => absurd c30 (by decide))
    refine g_iload_n (pc := 84) C dX8_playsOf_84 rfl 2 rfl ?_
    refine g_iconst (pc := 85) C dX8_playsOf_85 (v := (nI 4)) (by decide) ?_
    refine g_icmp_ne (pc := 86) C dX8_playsOf_86 (tgt := 115) (by decide) (fun c31 => absurd c31 (by decide)) (fun c31 => ?_)
    refine g_iload (pc := 89) C dX8_playsOf_89 1 rfl ?_
    refine g_iconst (pc := 91) C dX8_playsOf_91 (v := (nI 2)) (by decide) ?_
    refine g_idiv (pc := 92) C dX8_playsOf_92 (nI_ne0 (by omega) (by omega)) (v := ((wi (sm rl 0 (en g p q)) 0 99) / (nI 2))) rfl ?_
    refine g_aload_n (pc := 93) C dX8_playsOf_93 rfl 3 rfl ?_
    refine gm_roundNow (pc := 94) C hT dX8_playsOf_94 ?_
    refine g_eqv (y := (g 25)) vh27.round ?_
    refine g_bipush (pc := 97) C dX8_playsOf_97 (v := (nI 10)) (by decide) ?_
    refine g_irem (pc := 99) C dX8_playsOf_99 (nI_ne0 (by omega) (by omega)) (v := ((g 25) - (g 25) / (nI 10) * (nI 10))) rfl ?_
    refine g_iload (pc := 100) C dX8_playsOf_100 0 rfl ?_
    refine g_icmp_ne (pc := 102) C dX8_playsOf_102 (tgt := 110) (by decide) (fun c32 => ?_) (fun c32 => ?_)
    · refine g_iconst (pc := 110) C dX8_playsOf_110 (v := (nI 0)) (by decide) ?_
      refine g_iadd (pc := 111) C dX8_playsOf_111 (v := (((wi (sm rl 0 (en g p q)) 0 99) / (nI 2)) + (nI 0))) rfl ?_
      refine g_goto (pc := 112) C dX8_playsOf_112 (tgt := 117) (by decide) ?_
      refine g_istore (pc := 117) C dX8_playsOf_117 (L' := [(6, .int (((wi (sm rl 0 (en g p q)) 0 99) / (nI 2)) + (nI 0))), (5, .int (g (4 * p))), (4, .int (wi (sm rl 0 (en g p q)) 0 99)), (3, .int (nI 4)), (0, .ref (Z.1 0)), (1, .int (nI p)), (2, .int (nI q))]) (by decide) rfl ?_
      refine g_iload (pc := 119) C dX8_playsOf_119 0 rfl ?_
      refine g_iconst (pc := 121) C dX8_playsOf_121 (v := (nI 0)) (by decide) ?_
      refine g_sipush (pc := 122) C dX8_playsOf_122 (v := (nI 999)) (by decide) ?_
      refine g_goi (pc := 125) C (g_runS C (As := [.int (((wi (sm rl 0 (en g p q)) 0 99) / (nI 2)) + (nI 0)), .int (nI 0), .int (nI 999)]) (rest := []) (mX8_within (((wi (sm rl 0 (en g p q)) 0 99) / (nI 2)) + (nI 0)) (nI 0) (nI 999)) gvX8_within_X8_243 rfl rfl rfl hdX8_within ⟨Nat.le_of_ble_eq_true rfl, Nat.le_of_ble_eq_true rfl⟩ rfl rfl (Nat.le_of_ble_eq_true rfl) dX8_playsOf_125 ⟨Nat.le_of_ble_eq_true rfl, Nat.le_of_ble_eq_true rfl⟩) (fun r33 J33 h33 => ?_)
      obtain ⟨eah33, ebh33⟩ := h33
      subst r33
      subst J33
      exact g_iret (pc := 128) C hR dX8_playsOf_128 ⟨vh27, by (try simp only [nI_lit0, nI_one, nI_2, nI_3, nI_4, nI_9, nI_10, nI_50, nI_99, nI_999] at hk c32); simp [pl, pl0, wi_0, nI_lit0, nI_one, nI_2, nI_3, nI_4, nI_9, nI_10, nI_50, nI_99, nI_999, hk, c32]⟩
    · refine g_bipush (pc := 105) C dX8_playsOf_105 (v := (nI 50)) (by decide) ?_
      refine g_goto (pc := 107) C dX8_playsOf_107 (tgt := 111) (by decide) ?_
      refine g_iadd (pc := 111) C dX8_playsOf_111 (v := (((wi (sm rl 0 (en g p q)) 0 99) / (nI 2)) + (nI 50))) rfl ?_
      refine g_goto (pc := 112) C dX8_playsOf_112 (tgt := 117) (by decide) ?_
      refine g_istore (pc := 117) C dX8_playsOf_117 (L' := [(6, .int (((wi (sm rl 0 (en g p q)) 0 99) / (nI 2)) + (nI 50))), (5, .int (g (4 * p))), (4, .int (wi (sm rl 0 (en g p q)) 0 99)), (3, .int (nI 4)), (0, .ref (Z.1 0)), (1, .int (nI p)), (2, .int (nI q))]) (by decide) rfl ?_
      refine g_iload (pc := 119) C dX8_playsOf_119 0 rfl ?_
      refine g_iconst (pc := 121) C dX8_playsOf_121 (v := (nI 0)) (by decide) ?_
      refine g_sipush (pc := 122) C dX8_playsOf_122 (v := (nI 999)) (by decide) ?_
      refine g_goi (pc := 125) C (g_runS C (As := [.int (((wi (sm rl 0 (en g p q)) 0 99) / (nI 2)) + (nI 50)), .int (nI 0), .int (nI 999)]) (rest := []) (mX8_within (((wi (sm rl 0 (en g p q)) 0 99) / (nI 2)) + (nI 50)) (nI 0) (nI 999)) gvX8_within_X8_243 rfl rfl rfl hdX8_within ⟨Nat.le_of_ble_eq_true rfl, Nat.le_of_ble_eq_true rfl⟩ rfl rfl (Nat.le_of_ble_eq_true rfl) dX8_playsOf_125 ⟨Nat.le_of_ble_eq_true rfl, Nat.le_of_ble_eq_true rfl⟩) (fun r34 J34 h34 => ?_)
      obtain ⟨eah34, ebh34⟩ := h34
      subst r34
      subst J34
      exact g_iret (pc := 128) C hR dX8_playsOf_128 ⟨vh27, by (try simp only [nI_lit0, nI_one, nI_2, nI_3, nI_4, nI_9, nI_10, nI_50, nI_99, nI_999] at hk c32); simp [pl, pl0, wi_0, nI_lit0, nI_one, nI_2, nI_3, nI_4, nI_9, nI_10, nI_50, nI_99, nI_999, hk, c32]⟩
  · refine g_eqv (y := nI 5) (congrArg nI hk) ?_
    refine g_istore_n (pc := 6) C dX8_playsOf_6 (L' := [(3, .int (nI 5)), (0, .ref (Z.1 0)), (1, .int (nI p)), (2, .int (nI q))]) rfl (by decide) rfl ?_
    refine g_iload_n (pc := 7) C dX8_playsOf_7 rfl 0 rfl ?_
    refine g_iconst (pc := 8) C dX8_playsOf_8 (v := (nI 5)) (by decide) ?_
    refine g_icmp_ne (pc := 9) C dX8_playsOf_9 (tgt := 14) (by decide) (fun c35 => absurd c35 (by decide)) (fun c35 => ?_)
    refine g_iconst (pc := 12) C dX8_playsOf_12 (v := (nI 0)) (by decide) ?_
    exact g_iret (pc := 13) C hR dX8_playsOf_13 ⟨hV, by (try simp only [nI_lit0, nI_one, nI_2, nI_3, nI_4, nI_9, nI_10, nI_50, nI_99, nI_999] at hk); simp [pl, pl0, wi_0, nI_lit0, nI_one, nI_2, nI_3, nI_4, nI_9, nI_10, nI_50, nI_99, nI_999, hk]⟩
theorem hdX8_throwsIt : yX8_throwsIt.cls = RX8 ∧ yX8_throwsIt.cls ≠ "java/lang/invoke/MethodHandle" ∧ yX8_throwsIt.cls ≠ "java/lang/invoke/VarHandle" ∧ (parseMethodDescriptor yX8_throwsIt.desc).map (fun d => d.parameters.length) = some 2 := by decide +kernel
theorem gvX8_throwsIt_X8_250 : GoodIn lw_all (wsV RX8 250 RX8 yX8_throwsIt (ws_ yX8_throwsIt cX8_throwsIt 6 (some .boolean))) := lw_V q1549 q1551 qs83 q122 q1552
theorem hdX8_playsOf : yX8_playsOf.cls = RX8 ∧ yX8_playsOf.cls ≠ "java/lang/invoke/MethodHandle" ∧ yX8_playsOf.cls ≠ "java/lang/invoke/VarHandle" ∧ (parseMethodDescriptor yX8_playsOf.desc).map (fun d => d.parameters.length) = some 2 := by decide +kernel
theorem gvX8_playsOf_X8_253 : GoodIn lw_all (wsV RX8 253 RX8 yX8_playsOf (ws_ yX8_playsOf cX8_playsOf 7 (some .int))) := lw_V q1560 q1562 qs85 q122 q1563
abbrev rmX8_powerOf : Room := { frames := 123, cells := 0, slots := 0, locals := 12075 }
set_option maxHeartbeats 4000000 in
theorem mX8_powerOf {E : gE} {Z : gS} {I : gI} {I0 : gI} {mn rl tn am : Nat} {kd : Nat → Nat} {sm : Nat → gSm} {fr : Nat → gG} {g : gG} (hT : tZ Z) (hV : tP I0 mn kd rl tn sm am fr g I) (p q : Nat) (hp : p < mn) (hq : q < mn) : gMet E yX8_powerOf (ws_ yX8_powerOf cX8_powerOf 3 (some .int)) rmX8_powerOf Z I [.ref (Z.1 0), .int (nI p), .int (nI q)] (cQi E Z (fun r J => tP I0 mn kd rl tn sm am fr g J ∧ r = pw kd (sm rl) g p q)) 0 0 := by
  refine g_of (own := RX8) (cc := cX8_powerOf) (nL := 3) (L0 := [(0, .ref (Z.1 0)), (1, .int (nI p)), (2, .int (nI q))]) (by decide) rfl rfl rfl (Nat.le_of_ble_eq_true rfl) rfl ?_
  intro K C hR _
  have hmn := hV.mn6
  refine g_aload_n (pc := 0) C dX8_powerOf_0 rfl 0 rfl ?_
  refine g_iload_n (pc := 1) C dX8_powerOf_1 rfl 1 rfl ?_
  refine g_iload_n (pc := 2) C dX8_powerOf_2 rfl 2 rfl ?_
  refine g_goi (pc := 3) C (g_runV C 0 (As := [.int (nI p), .int (nI q)]) (rest := []) (mX8_throwsIt hT hV p q (by omega) (by omega)) gvX8_throwsIt_X8_250 rfl rfl rfl hdX8_throwsIt ⟨Nat.le_of_ble_eq_true rfl, Nat.le_of_ble_eq_true rfl⟩ hT.s0 rfl rfl rfl (Nat.le_of_ble_eq_true rfl) dX8_powerOf_3 ⟨Nat.le_of_ble_eq_true rfl, Nat.le_of_ble_eq_true rfl⟩) (fun r1 J1 h1 => ?_)
  obtain ⟨vh1, eh1⟩ := h1
  subst r1
  refine g_ifB_eq (pc := 6) C dX8_powerOf_6 (tgt := 13) (by decide) (fun c2 => ?_) (fun c2 => ?_)
  · refine g_aload_n (pc := 13) C dX8_powerOf_13 rfl 0 rfl ?_
    refine g_iload_n (pc := 14) C dX8_powerOf_14 rfl 1 rfl ?_
    refine g_iload_n (pc := 15) C dX8_powerOf_15 rfl 2 rfl ?_
    refine g_goi (pc := 16) C (g_runV C 0 (As := [.int (nI p), .int (nI q)]) (rest := []) (mX8_playsOf hT vh1 p q (by omega) (by omega)) gvX8_playsOf_X8_253 rfl rfl rfl hdX8_playsOf ⟨Nat.le_of_ble_eq_true rfl, Nat.le_of_ble_eq_true rfl⟩ hT.s0 rfl rfl rfl (Nat.le_of_ble_eq_true rfl) dX8_powerOf_16 ⟨Nat.le_of_ble_eq_true rfl, Nat.le_of_ble_eq_true rfl⟩) (fun r3 J3 h3 => ?_)
    obtain ⟨vh3, eh3⟩ := h3
    subst r3
    exact g_iret (pc := 19) C hR dX8_powerOf_19 ⟨vh3, by (try simp only [nI_lit0, nI_one, nI_2, nI_3, nI_4, nI_9, nI_10, nI_50, nI_99, nI_999] at c2); simp [pw, nI_lit0, nI_one, nI_2, nI_3, nI_4, nI_9, nI_10, nI_50, nI_99, nI_999, c2]⟩
  · refine g_iconst (pc := 9) C dX8_powerOf_9 (v := (-1)) (by decide) ?_
    refine g_goto (pc := 10) C dX8_powerOf_10 (tgt := 19) (by decide) ?_
    exact g_iret (pc := 19) C hR dX8_powerOf_19 ⟨vh1, by (try simp only [nI_lit0, nI_one, nI_2, nI_3, nI_4, nI_9, nI_10, nI_50, nI_99, nI_999] at c2); simp [pw, nI_lit0, nI_one, nI_2, nI_3, nI_4, nI_9, nI_10, nI_50, nI_99, nI_999, c2]⟩
