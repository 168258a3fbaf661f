theorem hdX8_winnerOf : yX8_winnerOf.cls = RX8 ∧ yX8_winnerOf.cls ≠ "java/lang/invoke/MethodHandle" ∧ yX8_winnerOf.cls ≠ "java/lang/invoke/VarHandle" ∧ (parseMethodDescriptor yX8_winnerOf.desc).map (fun d => d.parameters.length) = some 2 := by decide +kernel
theorem gvX8_winnerOf_X8_259 : GoodIn lw_all (wsV RX8 259 RX8 yX8_winnerOf (ws_ yX8_winnerOf cX8_winnerOf 5 (some .int))) := lw_V q1564 q1566 qs86 q122 q1567
theorem hdX8_tiresOf : yX8_tiresOf.cls = RX8 ∧ yX8_tiresOf.cls ≠ "java/lang/invoke/MethodHandle" ∧ yX8_tiresOf.cls ≠ "java/lang/invoke/VarHandle" ∧ (parseMethodDescriptor yX8_tiresOf.desc).map (fun d => d.parameters.length) = some 3 := by decide +kernel
theorem gvX8_tiresOf_X8_262 : GoodIn lw_all (wsV RX8 262 RX8 yX8_tiresOf (ws_ yX8_tiresOf cX8_tiresOf 7 (some .int))) := lw_V q1568 q1570 qs87 q122 q1571
abbrev rmX8_games : Room := { frames := 125, cells := 0, slots := 0, locals := 12121 }
set_option maxHeartbeats 4000000 in
theorem mX8_games {E : gE} {Z : gS} {I : gI} {I0 : gI} {mn rl tn am : Nat} {kd : Nat → Nat} {sm : Nat → gSm} {fr : Nat → gG} {g : gG} (hT : tZ Z) (hV : tP I0 mn kd rl tn sm am fr g I) (a b : Nat) (ha : a < mn) (hb : b < mn) (hab : a ≠ b) : gMet E yX8_games (ws_ yX8_games cX8_games 8 (some .int)) rmX8_games Z I [.ref (Z.1 0), .int (nI a), .int (nI b)] (cQi E Z (fun r J => tP I0 mn kd rl tn sm am fr (gme kd (sm rl) g a b) J ∧ r = wnI (wn kd (sm rl) g a b) a b)) 0 0 := by
  refine g_of (own := RX8) (cc := cX8_games) (nL := 8) (L0 := [(0, .ref (Z.1 0)), (1, .int (nI a)), (2, .int (nI b))]) (by decide) rfl rfl rfl (Nat.le_of_ble_eq_true rfl) rfl ?_
  intro K C hR _
  have hmn := hV.mn6
  refine g_aload_n (pc := 0) C dX8_games_0 rfl 0 rfl ?_
  refine g_iload_n (pc := 1) C dX8_games_1 rfl 1 rfl ?_
  refine g_iload_n (pc := 2) C dX8_games_2 rfl 2 rfl ?_
  refine g_goi (pc := 3) C (g_runV C 0 (As := [.int (nI a), .int (nI b)]) (rest := []) (mX8_winnerOf hT hV a b (by omega) (by omega)) gvX8_winnerOf_X8_259 rfl rfl rfl hdX8_winnerOf ⟨Nat.le_of_ble_eq_true rfl, Nat.le_of_ble_eq_true rfl⟩ hT.s0 rfl rfl rfl (Nat.le_of_ble_eq_true rfl) dX8_games_3 ⟨Nat.le_of_ble_eq_true rfl, Nat.le_of_ble_eq_true rfl⟩) (fun r1 J1 h1 => ?_)
  obtain ⟨vh1, eh1⟩ := h1
  subst r1
  have hw3 := wn_lt kd (sm rl) g a b
  obtain hw | hw | hw : wn kd (sm rl) g a b = 0 ∨ wn kd (sm rl) g a b = 1 ∨ wn kd (sm rl) g a b = 2 := by omega
  · refine g_eqv (y := (nI a)) (by rw [hw]; rfl) ?_
    refine g_istore_n (pc := 6) C dX8_games_6 (L' := [(3, .int (nI a)), (0, .ref (Z.1 0)), (1, .int (nI a)), (2, .int (nI b))]) rfl (by decide) rfl ?_
    refine g_aload_n (pc := 7) C dX8_games_7 rfl 1 rfl ?_
    refine g_iload_n (pc := 8) C dX8_games_8 rfl 2 rfl ?_
    refine g_iload_n (pc := 9) C dX8_games_9 rfl 3 rfl ?_
    refine g_iload_n (pc := 10) C dX8_games_10 rfl 0 rfl ?_
    refine g_iload_n (pc := 11) C dX8_games_11 rfl 2 rfl ?_
    refine g_icmpN_ne (pc := 12) C dX8_games_12 (tgt := 19) (by decide) (by omega) (by omega) (fun c2 => absurd c2 (by omega)) (fun c2 => ?_)
    refine g_iconst (pc := 15) C dX8_games_15 (v := (nI 1)) (by decide) ?_
    refine g_goto (pc := 16) C dX8_games_16 (tgt := 20) (by decide) ?_
    refine g_goi (pc := 20) C (g_runV C 0 (As := [.int (nI a), .int (nI b), .int (nI 1)]) (rest := []) (mX8_tiresOf hT vh1 a b (by omega) (by omega) true) gvX8_tiresOf_X8_262 rfl rfl rfl hdX8_tiresOf ⟨Nat.le_of_ble_eq_true rfl, Nat.le_of_ble_eq_true rfl⟩ hT.s0 rfl rfl rfl (Nat.le_of_ble_eq_true rfl) dX8_games_20 ⟨Nat.le_of_ble_eq_true rfl, Nat.le_of_ble_eq_true rfl⟩) (fun r3 J3 h3 => ?_)
    obtain ⟨vh3, eh3⟩ := h3
    subst r3
    refine g_istore (pc := 23) C dX8_games_23 (L' := [(4, .int (ti kd (sm rl) g a b true)), (3, .int (nI a)), (0, .ref (Z.1 0)), (1, .int (nI a)), (2, .int (nI b))]) (by decide) rfl ?_
    refine g_aload_n (pc := 25) C dX8_games_25 rfl 2 rfl ?_
    refine g_iload_n (pc := 26) C dX8_games_26 rfl 4 rfl ?_
    refine g_iload_n (pc := 27) C dX8_games_27 rfl 3 rfl ?_
    refine g_iload_n (pc := 28) C dX8_games_28 rfl 1 rfl ?_
    refine g_iload_n (pc := 29) C dX8_games_29 rfl 4 rfl ?_
    refine g_icmpN_ne (pc := 30) C dX8_games_30 (tgt := 37) (by decide) (by omega) (by omega) (fun c4 => ?_) (fun c4 => absurd c4 (by omega))
    refine g_iconst (pc := 37) C dX8_games_37 (v := (nI 0)) (by decide) ?_
    refine g_goi (pc := 38) C (g_runV C 0 (As := [.int (nI b), .int (nI a), .int (nI 0)]) (rest := []) (mX8_tiresOf hT vh3 b a (by omega) (by omega) false) gvX8_tiresOf_X8_262 rfl rfl rfl hdX8_tiresOf ⟨Nat.le_of_ble_eq_true rfl, Nat.le_of_ble_eq_true rfl⟩ hT.s0 rfl rfl rfl (Nat.le_of_ble_eq_true rfl) dX8_games_38 ⟨Nat.le_of_ble_eq_true rfl, Nat.le_of_ble_eq_true rfl⟩) (fun r5 J5 h5 => ?_)
    obtain ⟨vh5, eh5⟩ := h5
    subst r5
    refine g_istore (pc := 41) C dX8_games_41 (L' := [(5, .int (ti kd (sm rl) g b a false)), (4, .int (ti kd (sm rl) g a b true)), (3, .int (nI a)), (0, .ref (Z.1 0)), (1, .int (nI a)), (2, .int (nI b))]) (by decide) rfl ?_
    refine g_aload_n (pc := 43) C dX8_games_43 rfl 3 rfl ?_
    refine g_iload_n (pc := 44) C dX8_games_44 rfl 4 rfl ?_
    refine g_goi (pc := 45) C (g_runV C 0 (As := [.int (nI a)]) (rest := []) (mX8_has hT a (by omega)) gvX8_has_X8_112 rfl rfl rfl hdX8_has ⟨Nat.le_of_ble_eq_true rfl, Nat.le_of_ble_eq_true rfl⟩ hT.s0 rfl rfl rfl (Nat.le_of_ble_eq_true rfl) dX8_games_45 ⟨Nat.le_of_ble_eq_true rfl, Nat.le_of_ble_eq_true rfl⟩) (fun r6 J6 h6 => ?_)
    obtain ⟨eah6, ebh6⟩ := h6
    subst r6
    subst J6
    refine g_eqv (y := g ((4 * a) + 3)) (vh5.row (by omega)) ?_
    refine g_aload_n (pc := 48) C dX8_games_48 rfl 3 rfl ?_
    refine g_iload_n (pc := 49) C dX8_games_49 rfl 5 rfl ?_
    refine g_goi (pc := 50) C (g_runV C 0 (As := [.int (nI b)]) (rest := [.int (g ((4 * a) + 3))]) (mX8_has hT b (by omega)) gvX8_has_X8_112 rfl rfl rfl hdX8_has ⟨Nat.le_of_ble_eq_true rfl, Nat.le_of_ble_eq_true rfl⟩ hT.s0 rfl rfl rfl (Nat.le_of_ble_eq_true rfl) dX8_games_50 ⟨Nat.le_of_ble_eq_true rfl, Nat.le_of_ble_eq_true rfl⟩) (fun r7 J7 h7 => ?_)
    obtain ⟨eah7, ebh7⟩ := h7
    subst r7
    subst J7
    refine g_eqv (y := g ((4 * b) + 3)) (vh5.row (by omega)) ?_
    refine g_ior (pc := 53) C dX8_games_53 (v := ((g ((4 * a) + 3)) ||| (g ((4 * b) + 3)))) rfl ?_
    refine g_aload_n (pc := 54) C dX8_games_54 rfl 3 rfl ?_
    refine gm_hall (pc := 55) C hT dX8_games_55 ?_
    refine g_eqv (y := (g 24)) vh5.hall ?_
    refine g_ior (pc := 58) C dX8_games_58 (v := (((g ((4 * a) + 3)) ||| (g ((4 * b) + 3))) ||| (g 24))) rfl ?_
    refine g_istore (pc := 59) C dX8_games_59 (L' := [(6, .int (((g ((4 * a) + 3)) ||| (g ((4 * b) + 3))) ||| (g 24))), (5, .int (ti kd (sm rl) g b a false)), (4, .int (ti kd (sm rl) g a b true)), (3, .int (nI a)), (0, .ref (Z.1 0)), (1, .int (nI a)), (2, .int (nI b))]) (by decide) rfl ?_
    refine g_aload_n (pc := 61) C dX8_games_61 rfl 4 rfl ?_
    refine gm_rows (pc := 62) C hT dX8_games_62 ?_
    refine g_iconst (pc := 65) C dX8_games_65 (v := (nI 4)) (by decide) ?_
    refine g_iload_n (pc := 66) C dX8_games_66 rfl 5 rfl ?_
    refine g_imul (pc := 67) C dX8_games_67 (v := (nI (4 * a))) (pk_mul _ _) ?_
    refine g_iconst (pc := 68) C dX8_games_68 (v := (nI 3)) (by decide) ?_
    refine g_iadd (pc := 69) C dX8_games_69 (v := (nI ((4 * a) + 3))) (nI_add _ _) ?_
    refine g_iconst (pc := 70) C dX8_games_70 (v := (nI 0)) (by decide) ?_
    refine g_iast (pc := 71) C 5 ((4 * a) + 3) hT.s5 (by omega) (by decide) dX8_games_71 ?_
    refine g_aload_n (pc := 72) C dX8_games_72 rfl 4 rfl ?_
    refine gm_rows (pc := 73) C hT dX8_games_73 ?_
    refine g_iconst (pc := 76) C dX8_games_76 (v := (nI 4)) (by decide) ?_
    refine g_iload_n (pc := 77) C dX8_games_77 rfl 6 rfl ?_
    refine g_imul (pc := 78) C dX8_games_78 (v := (nI (4 * b))) (pk_mul _ _) ?_
    refine g_iconst (pc := 79) C dX8_games_79 (v := (nI 3)) (by decide) ?_
    refine g_iadd (pc := 80) C dX8_games_80 (v := (nI ((4 * b) + 3))) (nI_add _ _) ?_
    refine g_iconst (pc := 81) C dX8_games_81 (v := (nI 0)) (by decide) ?_
    refine g_iast (pc := 82) C 5 ((4 * b) + 3) hT.s5 (by omega) (by decide) dX8_games_82 ?_
    refine g_aload_n (pc := 83) C dX8_games_83 rfl 4 rfl ?_
    refine g_iload_n (pc := 84) C dX8_games_84 rfl 3 rfl ?_
    refine g_iconst (pc := 85) C dX8_games_85 (v := (-1)) (by decide) ?_
    refine g_icmp_ne (pc := 86) C dX8_games_86 (tgt := 94) (by decide) (fun c8 => ?_) (fun c8 => absurd c8 (nI_m1 (by omega)))
    refine g_iconst (pc := 94) C dX8_games_94 (v := (nI 0)) (by decide) ?_
    refine gmp_hall (pc := 95) C hT dX8_games_95 ?_
    refine g_iload_n (pc := 98) C dX8_games_98 rfl 3 rfl ?_
    refine g_iconst (pc := 99) C dX8_games_99 (v := (-1)) (by decide) ?_
    refine g_icmp_eq (pc := 100) C dX8_games_100 (tgt := 157) (by decide) (fun c9 => absurd c9 (nI_m1 (by omega))) (fun c9 => ?_)
    refine g_iload_n (pc := 103) C dX8_games_103 rfl 3 rfl ?_
    refine g_iload_n (pc := 104) C dX8_games_104 rfl 5 rfl ?_
    refine g_icmpN_ne (pc := 105) C dX8_games_105 (tgt := 112) (by decide) (by omega) (by omega) (fun c10 => absurd c10 (by omega)) (fun c10 => ?_)
    refine g_iload_n (pc := 108) C dX8_games_108 rfl 6 rfl ?_
    refine g_goto (pc := 109) C dX8_games_109 (tgt := 113) (by decide) ?_
    refine g_istore (pc := 113) C dX8_games_113 (L' := [(7, .int (nI b)), (6, .int (((g ((4 * a) + 3)) ||| (g ((4 * b) + 3))) ||| (g 24))), (5, .int (ti kd (sm rl) g b a false)), (4, .int (ti kd (sm rl) g a b true)), (3, .int (nI a)), (0, .ref (Z.1 0)), (1, .int (nI a)), (2, .int (nI b))]) (by decide) rfl ?_
    refine g_aload_n (pc := 115) C dX8_games_115 rfl 5 rfl ?_
    refine gm_rows (pc := 116) C hT dX8_games_116 ?_
    refine g_iconst (pc := 119) C dX8_games_119 (v := (nI 4)) (by decide) ?_
    refine g_iload (pc := 120) C dX8_games_120 0 rfl ?_
    refine g_imul (pc := 122) C dX8_games_122 (v := (nI (4 * b))) (pk_mul _ _) ?_
    refine g_iconst (pc := 123) C dX8_games_123 (v := (nI 3)) (by decide) ?_
    refine g_iadd (pc := 124) C dX8_games_124 (v := (nI ((4 * b) + 3))) (nI_add _ _) ?_
    refine g_iload (pc := 125) C dX8_games_125 1 rfl ?_
    refine g_iast (pc := 127) C 5 ((4 * b) + 3) hT.s5 (by omega) (by decide) dX8_games_127 ?_
    refine g_aload_n (pc := 128) C dX8_games_128 rfl 5 rfl ?_
    refine gm_rows (pc := 129) C hT dX8_games_129 ?_
    refine g_iconst (pc := 132) C dX8_games_132 (v := (nI 4)) (by decide) ?_
    refine g_iload_n (pc := 133) C dX8_games_133 rfl 4 rfl ?_
    refine g_imul (pc := 134) C dX8_games_134 (v := (nI (4 * a))) (pk_mul _ _) ?_
    refine g_iconst (pc := 135) C dX8_games_135 (v := (nI 2)) (by decide) ?_
    refine g_iadd (pc := 136) C dX8_games_136 (v := (nI ((4 * a) + 2))) (nI_add _ _) ?_
    refine g_aload_n (pc := 137) C dX8_games_137 rfl 5 rfl ?_
    refine gm_rows (pc := 138) C hT dX8_games_138 ?_
    refine g_iconst (pc := 141) C dX8_games_141 (v := (nI 4)) (by decide) ?_
    refine g_iload_n (pc := 142) C dX8_games_142 rfl 4 rfl ?_
    refine g_imul (pc := 143) C dX8_games_143 (v := (nI (4 * a))) (pk_mul _ _) ?_
    refine g_iconst (pc := 144) C dX8_games_144 (v := (nI 2)) (by decide) ?_
    refine g_iadd (pc := 145) C dX8_games_145 (v := (nI ((4 * a) + 2))) (nI_add _ _) ?_
    refine g_iald (pc := 146) C 5 ((4 * a) + 2) hT.s5 (by omega) (by decide) dX8_games_146 ?_
    refine g_eqv (y := g ((4 * a) + 2)) ((up2_n _ _ (by omega)).trans ((up2_n _ _ (by omega)).trans ((up2_n _ _ (by omega)).trans ((up2_n _ _ (by omega)).trans (vh5.row (by omega)))))) ?_
    refine g_iconst (pc := 147) C dX8_games_147 (v := (nI 1)) (by decide) ?_
    refine g_iadd (pc := 148) C dX8_games_148 (v := ((g ((4 * a) + 2)) + (nI 1))) rfl ?_
    refine g_iconst (pc := 149) C dX8_games_149 (v := (nI 0)) (by decide) ?_
    refine g_sipush (pc := 150) C dX8_games_150 (v := (nI 999)) (by decide) ?_
    refine g_goi (pc := 153) C (g_runS C (As := [.int ((g ((4 * a) + 2)) + (nI 1)), .int (nI 0), .int (nI 999)]) (rest := [.int (nI ((4 * a) + 2)), .ref (Z.1 5)]) (mX8_within ((g ((4 * a) + 2)) + (nI 1)) (nI 0) (nI 999)) gvX8_within_X8_243 rfl rfl rfl hdX8_within ⟨Nat.le_of_ble_eq_true rfl, Nat.le_of_ble_eq_true rfl⟩ rfl rfl (Nat.le_of_ble_eq_true rfl) dX8_games_153 ⟨Nat.le_of_ble_eq_true rfl, Nat.le_of_ble_eq_true rfl⟩) (fun r11 J11 h11 => ?_)
    obtain ⟨eah11, ebh11⟩ := h11
    subst r11
    subst J11
    refine g_iast (pc := 156) C 5 ((4 * a) + 2) hT.s5 (by omega) (by decide) dX8_games_156 ?_
    refine g_aload_n (pc := 157) C dX8_games_157 rfl 5 rfl ?_
    refine gm_rows (pc := 158) C hT dX8_games_158 ?_
    refine g_iconst (pc := 161) C dX8_games_161 (v := (nI 4)) (by decide) ?_
    refine g_iload_n (pc := 162) C dX8_games_162 rfl 6 rfl ?_
    refine g_imul (pc := 163) C dX8_games_163 (v := (nI (4 * a))) (pk_mul _ _) ?_
    refine g_iconst (pc := 164) C dX8_games_164 (v := (nI 1)) (by decide) ?_
    refine g_iadd (pc := 165) C dX8_games_165 (v := (nI ((4 * a) + 1))) (nI_add _ _) ?_
    refine g_aload_n (pc := 166) C dX8_games_166 rfl 5 rfl ?_
    refine gm_rows (pc := 167) C hT dX8_games_167 ?_
    refine g_iconst (pc := 170) C dX8_games_170 (v := (nI 4)) (by decide) ?_
    refine g_iload_n (pc := 171) C dX8_games_171 rfl 6 rfl ?_
    refine g_imul (pc := 172) C dX8_games_172 (v := (nI (4 * a))) (pk_mul _ _) ?_
    refine g_iconst (pc := 173) C dX8_games_173 (v := (nI 1)) (by decide) ?_
    refine g_iadd (pc := 174) C dX8_games_174 (v := (nI ((4 * a) + 1))) (nI_add _ _) ?_
    refine g_iald (pc := 175) C 5 ((4 * a) + 1) hT.s5 (by omega) (by decide) dX8_games_175 ?_
    refine g_eqv (y := g ((4 * a) + 1)) ((up2_n _ _ (by omega)).trans ((up2_n _ _ (by omega)).trans ((up2_n _ _ (by omega)).trans ((up2_n _ _ (by omega)).trans ((up2_n _ _ (by omega)).trans (vh5.row (by omega))))))) ?_
    refine g_iload (pc := 176) C dX8_games_176 3 rfl ?_
    refine g_isub (pc := 178) C dX8_games_178 (v := ((g ((4 * a) + 1)) - (ti kd (sm rl) g a b true))) rfl ?_
    refine g_iconst (pc := 179) C dX8_games_179 (v := (nI 0)) (by decide) ?_
    refine g_bipush (pc := 180) C dX8_games_180 (v := (nI 99)) (by decide) ?_
    refine g_goi (pc := 182) C (g_runS C (As := [.int ((g ((4 * a) + 1)) - (ti kd (sm rl) g a b true)), .int (nI 0), .int (nI 99)]) (rest := [.int (nI ((4 * a) + 1)), .ref (Z.1 5)]) (mX8_within ((g ((4 * a) + 1)) - (ti kd (sm rl) g a b true)) (nI 0) (nI 99)) gvX8_within_X8_243 rfl rfl rfl hdX8_within ⟨Nat.le_of_ble_eq_true rfl, Nat.le_of_ble_eq_true rfl⟩ rfl rfl (Nat.le_of_ble_eq_true rfl) dX8_games_182 ⟨Nat.le_of_ble_eq_true rfl, Nat.le_of_ble_eq_true rfl⟩) (fun r12 J12 h12 => ?_)
    obtain ⟨eah12, ebh12⟩ := h12
    subst r12
    subst J12
    refine g_iast (pc := 185) C 5 ((4 * a) + 1) hT.s5 (by omega) (by decide) dX8_games_185 ?_
    refine g_aload_n (pc := 186) C dX8_games_186 rfl 5 rfl ?_
    refine gm_rows (pc := 187) C hT dX8_games_187 ?_
    refine g_iconst (pc := 190) C dX8_games_190 (v := (nI 4)) (by decide) ?_
    refine g_iload_n (pc := 191) C dX8_games_191 rfl 7 rfl ?_
    refine g_imul (pc := 192) C dX8_games_192 (v := (nI (4 * b))) (pk_mul _ _) ?_
    refine g_iconst (pc := 193) C dX8_games_193 (v := (nI 1)) (by decide) ?_
    refine g_iadd (pc := 194) C dX8_games_194 (v := (nI ((4 * b) + 1))) (nI_add _ _) ?_
    refine g_aload_n (pc := 195) C dX8_games_195 rfl 5 rfl ?_
    refine gm_rows (pc := 196) C hT dX8_games_196 ?_
    refine g_iconst (pc := 199) C dX8_games_199 (v := (nI 4)) (by decide) ?_
    refine g_iload_n (pc := 200) C dX8_games_200 rfl 7 rfl ?_
    refine g_imul (pc := 201) C dX8_games_201 (v := (nI (4 * b))) (pk_mul _ _) ?_
    refine g_iconst (pc := 202) C dX8_games_202 (v := (nI 1)) (by decide) ?_
    refine g_iadd (pc := 203) C dX8_games_203 (v := (nI ((4 * b) + 1))) (nI_add _ _) ?_
    refine g_iald (pc := 204) C 5 ((4 * b) + 1) hT.s5 (by omega) (by decide) dX8_games_204 ?_
    refine g_eqv (y := g ((4 * b) + 1)) ((up2_n _ _ (by omega)).trans ((up2_n _ _ (by omega)).trans ((up2_n _ _ (by omega)).trans ((up2_n _ _ (by omega)).trans ((up2_n _ _ (by omega)).trans ((up2_n _ _ (by omega)).trans (vh5.row (by omega)))))))) ?_
    refine g_iload (pc := 205) C dX8_games_205 2 rfl ?_
    refine g_isub (pc := 207) C dX8_games_207 (v := ((g ((4 * b) + 1)) - (ti kd (sm rl) g b a false))) rfl ?_
    refine g_iconst (pc := 208) C dX8_games_208 (v := (nI 0)) (by decide) ?_
    refine g_bipush (pc := 209) C dX8_games_209 (v := (nI 99)) (by decide) ?_
    refine g_goi (pc := 211) C (g_runS C (As := [.int ((g ((4 * b) + 1)) - (ti kd (sm rl) g b a false)), .int (nI 0), .int (nI 99)]) (rest := [.int (nI ((4 * b) + 1)), .ref (Z.1 5)]) (mX8_within ((g ((4 * b) + 1)) - (ti kd (sm rl) g b a false)) (nI 0) (nI 99)) gvX8_within_X8_243 rfl rfl rfl hdX8_within ⟨Nat.le_of_ble_eq_true rfl, Nat.le_of_ble_eq_true rfl⟩ rfl rfl (Nat.le_of_ble_eq_true rfl) dX8_games_211 ⟨Nat.le_of_ble_eq_true rfl, Nat.le_of_ble_eq_true rfl⟩) (fun r13 J13 h13 => ?_)
    obtain ⟨eah13, ebh13⟩ := h13
    subst r13
    subst J13
    refine g_iast (pc := 214) C 5 ((4 * b) + 1) hT.s5 (by omega) (by decide) dX8_games_214 ?_
    refine g_aload_n (pc := 215) C dX8_games_215 rfl 5 rfl ?_
    refine g_dup (pc := 216) C dX8_games_216 rfl ?_
    refine gm_roundNow (pc := 217) C hT dX8_games_217 ?_
    refine g_eqv (y := (g 25)) ((up2_n _ _ (by omega)).trans ((up2_n _ _ (by omega)).trans ((up2_n _ _ (by omega)).trans ((up2_n _ _ (by omega)).trans ((up2_n _ _ (by omega)).trans ((up2_n _ _ (by omega)).trans ((up2_n _ _ (by omega)).trans (vh5.round)))))))) ?_
    refine g_iconst (pc := 220) C dX8_games_220 (v := (nI 1)) (by decide) ?_
    refine g_iadd (pc := 221) C dX8_games_221 (v := ((g 25) + (nI 1))) rfl ?_
    refine gmp_roundNow (pc := 222) C hT dX8_games_222 ?_
    refine g_iload_n (pc := 225) C dX8_games_225 rfl 4 rfl ?_
    refine g_iret (pc := 226) C hR dX8_games_226 ⟨?_, by rw [hw]; rfl⟩
    refine vh5.upd (g' := gme kd (sm rl) g a b) (agr.up (S := SGm) (agr.up (S := SGm) (agr.up (S := SGm) (agr.up (S := SGm) (agr.up (S := SGm) (agr.up (S := SGm) (agr.up (S := SGm) (agr.up (S := SGm) (agr.rf (S := SGm)) (fun _ _ q => q) (by unfold SGm; omega)) (fun _ _ q => q) (by unfold SGm; omega)) (fun _ _ q => q) (by unfold SGm; omega)) (fun _ _ q => q) (by unfold SGm; omega)) (fun _ _ q => q) (by unfold SGm; omega)) (fun _ _ q => q) (by unfold SGm; omega)) (fun _ _ q => q) (by unfold SGm; omega)) (fun _ _ q => q) (by unfold SGm; omega)) (fun j hj => ?_) ?_ ?_ (gme_gB hV.gB9 ha hb)
    · exact gme_w0 hab hw hj (vh5.row hj)
    · exact (((up2_n _ _ (by omega)).trans ((up2_n _ _ (by omega)).trans ((up2_n _ _ (by omega)).trans ((up2_n _ _ (by omega)).trans ((up2_n _ _ (by omega)).trans (up2_s _ _ _ _))))))).trans (by simp [gme, hw, sg, nI_lit0])
    · exact ((up2_s _ _ _ _)).trans (by simp [gme, nI_one])
  · refine g_eqv (y := (nI b)) (by rw [hw]; rfl) ?_
    refine g_istore_n (pc := 6) C dX8_games_6 (L' := [(3, .int (nI b)), (0, .ref (Z.1 0)), (1, .int (nI a)), (2, .int (nI b))]) rfl (by decide) rfl ?_
    refine g_aload_n (pc := 7) C dX8_games_7 rfl 1 rfl ?_
    refine g_iload_n (pc := 8) C dX8_games_8 rfl 2 rfl ?_
    refine g_iload_n (pc := 9) C dX8_games_9 rfl 3 rfl ?_
    refine g_iload_n (pc := 10) C dX8_games_10 rfl 0 rfl ?_
    refine g_iload_n (pc := 11) C dX8_games_11 rfl 2 rfl ?_
    refine g_icmpN_ne (pc := 12) C dX8_games_12 (tgt := 19) (by decide) (by omega) (by omega) (fun c14 => ?_) (fun c14 => absurd c14 (by omega))
    refine g_iconst (pc := 19) C dX8_games_19 (v := (nI 0)) (by decide) ?_
    refine g_goi (pc := 20) C (g_runV C 0 (As := [.int (nI a), .int (nI b), .int (nI 0)]) (rest := []) (mX8_tiresOf hT vh1 a b (by omega) (by omega) false) gvX8_tiresOf_X8_262 rfl rfl rfl hdX8_tiresOf ⟨Nat.le_of_ble_eq_true rfl, Nat.le_of_ble_eq_true rfl⟩ hT.s0 rfl rfl rfl (Nat.le_of_ble_eq_true rfl) dX8_games_20 ⟨Nat.le_of_ble_eq_true rfl, Nat.le_of_ble_eq_true rfl⟩) (fun r15 J15 h15 => ?_)
    obtain ⟨vh15, eh15⟩ := h15
    subst r15
    refine g_istore (pc := 23) C dX8_games_23 (L' := [(4, .int (ti kd (sm rl) g a b false)), (3, .int (nI b)), (0, .ref (Z.1 0)), (1, .int (nI a)), (2, .int (nI b))]) (by decide) rfl ?_
    refine g_aload_n (pc := 25) C dX8_games_25 rfl 2 rfl ?_
    refine g_iload_n (pc := 26) C dX8_games_26 rfl 4 rfl ?_
    refine g_iload_n (pc := 27) C dX8_games_27 rfl 3 rfl ?_
    refine g_iload_n (pc := 28) C dX8_games_28 rfl 1 rfl ?_
    refine g_iload_n (pc := 29) C dX8_games_29 rfl 4 rfl ?_
    refine g_icmpN_ne (pc := 30) C dX8_games_30 (tgt := 37) (by decide) (by omega) (by omega) (fun c16 => absurd c16 (by omega)) (fun c16 => ?_)
    refine g_iconst (pc := 33) C dX8_games_33 (v := (nI 1)) (by decide) ?_
    refine g_goto (pc := 34) C dX8_games_34 (tgt := 38) (by decide) ?_
    refine g_goi (pc := 38) C (g_runV C 0 (As := [.int (nI b), .int (nI a), .int (nI 1)]) (rest := []) (mX8_tiresOf hT vh15 b a (by omega) (by omega) true) gvX8_tiresOf_X8_262 rfl rfl rfl hdX8_tiresOf ⟨Nat.le_of_ble_eq_true rfl, Nat.le_of_ble_eq_true rfl⟩ hT.s0 rfl rfl rfl (Nat.le_of_ble_eq_true rfl) dX8_games_38 ⟨Nat.le_of_ble_eq_true rfl, Nat.le_of_ble_eq_true rfl⟩) (fun r17 J17 h17 => ?_)
    obtain ⟨vh17, eh17⟩ := h17
    subst r17
    refine g_istore (pc := 41) C dX8_games_41 (L' := [(5, .int (ti kd (sm rl) g b a true)), (4, .int (ti kd (sm rl) g a b false)), (3, .int (nI b)), (0, .ref (Z.1 0)), (1, .int (nI a)), (2, .int (nI b))]) (by decide) rfl ?_
    refine g_aload_n (pc := 43) C dX8_games_43 rfl 3 rfl ?_
    refine g_iload_n (pc := 44) C dX8_games_44 rfl 4 rfl ?_
    refine g_goi (pc := 45) C (g_runV C 0 (As := [.int (nI a)]) (rest := []) (mX8_has hT a (by omega)) gvX8_has_X8_112 rfl rfl rfl hdX8_has ⟨Nat.le_of_ble_eq_true rfl, Nat.le_of_ble_eq_true rfl⟩ hT.s0 rfl rfl rfl (Nat.le_of_ble_eq_true rfl) dX8_games_45 ⟨Nat.le_of_ble_eq_true rfl, Nat.le_of_ble_eq_true rfl⟩) (fun r18 J18 h18 => ?_)
    obtain ⟨eah18, ebh18⟩ := h18
    subst r18
    subst J18
    refine g_eqv (y := g ((4 * a) + 3)) (vh17.row (by omega)) ?_
    refine g_aload_n (pc := 48) C dX8_games_48 rfl 3 rfl ?_
    refine g_iload_n (pc := 49) C dX8_games_49 rfl 5 rfl ?_
    refine g_goi (pc := 50) C (g_runV C 0 (As := [.int (nI b)]) (rest := [.int (g ((4 * a) + 3))]) (mX8_has hT b (by omega)) gvX8_has_X8_112 rfl rfl rfl hdX8_has ⟨Nat.le_of_ble_eq_true rfl, Nat.le_of_ble_eq_true rfl⟩ hT.s0 rfl rfl rfl (Nat.le_of_ble_eq_true rfl) dX8_games_50 ⟨Nat.le_of_ble_eq_true rfl, Nat.le_of_ble_eq_true rfl⟩) (fun r19 J19 h19 => ?_)
    obtain ⟨eah19, ebh19⟩ := h19
    subst r19
    subst J19
    refine g_eqv (y := g ((4 * b) + 3)) (vh17.row (by omega)) ?_
    refine g_ior (pc := 53) C dX8_games_53 (v := ((g ((4 * a) + 3)) ||| (g ((4 * b) + 3)))) rfl ?_
    refine g_aload_n (pc := 54) C dX8_games_54 rfl 3 rfl ?_
    refine gm_hall (pc := 55) C hT dX8_games_55 ?_
    refine g_eqv (y := (g 24)) vh17.hall ?_
    refine g_ior (pc := 58) C dX8_games_58 (v := (((g ((4 * a) + 3)) ||| (g ((4 * b) + 3))) ||| (g 24))) rfl ?_
    refine g_istore (pc := 59) C dX8_games_59 (L' := [(6, .int (((g ((4 * a) + 3)) ||| (g ((4 * b) + 3))) ||| (g 24))), (5, .int (ti kd (sm rl) g b a true)), (4, .int (ti kd (sm rl) g a b false)), (3, .int (nI b)), (0, .ref (Z.1 0)), (1, .int (nI a)), (2, .int (nI b))]) (by decide) rfl ?_
    refine g_aload_n (pc := 61) C dX8_games_61 rfl 4 rfl ?_
    refine gm_rows (pc := 62) C hT dX8_games_62 ?_
    refine g_iconst (pc := 65) C dX8_games_65 (v := (nI 4)) (by decide) ?_
    refine g_iload_n (pc := 66) C dX8_games_66 rfl 5 rfl ?_
    refine g_imul (pc := 67) C dX8_games_67 (v := (nI (4 * a))) (pk_mul _ _) ?_
    refine g_iconst (pc := 68) C dX8_games_68 (v := (nI 3)) (by decide) ?_
    refine g_iadd (pc := 69) C dX8_games_69 (v := (nI ((4 * a) + 3))) (nI_add _ _) ?_
    refine g_iconst (pc := 70) C dX8_games_70 (v := (nI 0)) (by decide) ?_
    refine g_iast (pc := 71) C 5 ((4 * a) + 3) hT.s5 (by omega) (by decide) dX8_games_71 ?_
    refine g_aload_n (pc := 72) C dX8_games_72 rfl 4 rfl ?_
    refine gm_rows (pc := 73) C hT dX8_games_73 ?_
    refine g_iconst (pc := 76) C dX8_games_76 (v := (nI 4)) (by decide) ?_
    refine g_iload_n (pc := 77) C dX8_games_77 rfl 6 rfl ?_
    refine g_imul (pc := 78) C dX8_games_78 (v := (nI (4 * b))) (pk_mul _ _) ?_
    refine g_iconst (pc := 79) C dX8_games_79 (v := (nI 3)) (by decide) ?_
    refine g_iadd (pc := 80) C dX8_games_80 (v := (nI ((4 * b) + 3))) (nI_add _ _) ?_
    refine g_iconst (pc := 81) C dX8_games_81 (v := (nI 0)) (by decide) ?_
    refine g_iast (pc := 82) C 5 ((4 * b) + 3) hT.s5 (by omega) (by decide) dX8_games_82 ?_
    refine g_aload_n (pc := 83) C dX8_games_83 rfl 4 rfl ?_
    refine g_iload_n (pc := 84) C dX8_games_84 rfl 3 rfl ?_
    refine g_iconst (pc := 85) C dX8_games_85 (v := (-1)) (by decide) ?_
    refine g_icmp_ne (pc := 86) C dX8_games_86 (tgt := 94) (by decide) (fun c20 => ?_) (fun c20 => absurd c20 (nI_m1 (by omega)))
    refine g_iconst (pc := 94) C dX8_games_94 (v := (nI 0)) (by decide) ?_
    refine gmp_hall (pc := 95) C hT dX8_games_95 ?_
    refine g_iload_n (pc := 98) C dX8_games_98 rfl 3 rfl ?_
    refine g_iconst (pc := 99) C dX8_games_99 (v := (-1)) (by decide) ?_
    refine g_icmp_eq (pc := 100) C dX8_games_100 (tgt := 157) (by decide) (fun c21 => absurd c21 (nI_m1 (by omega))) (fun c21 => ?_)
    refine g_iload_n (pc := 103) C dX8_games_103 rfl 3 rfl ?_
    refine g_iload_n (pc := 104) C dX8_games_104 rfl 5 rfl ?_
    refine g_icmpN_ne (pc := 105) C dX8_games_105 (tgt := 112) (by decide) (by omega) (by omega) (fun c22 => ?_) (fun c22 => absurd c22 (by omega))
    refine g_iload_n (pc := 112) C dX8_games_112 rfl 5 rfl ?_
    refine g_istore (pc := 113) C dX8_games_113 (L' := [(7, .int (nI a)), (6, .int (((g ((4 * a) + 3)) ||| (g ((4 * b) + 3))) ||| (g 24))), (5, .int (ti kd (sm rl) g b a true)), (4, .int (ti kd (sm rl) g a b false)), (3, .int (nI b)), (0, .ref (Z.1 0)), (1, .int (nI a)), (2, .int (nI b))]) (by decide) rfl ?_
    refine g_aload_n (pc := 115) C dX8_games_115 rfl 5 rfl ?_
    refine gm_rows (pc := 116) C hT dX8_games_116 ?_
    refine g_iconst (pc := 119) C dX8_games_119 (v := (nI 4)) (by decide) ?_
    refine g_iload (pc := 120) C dX8_games_120 0 rfl ?_
    refine g_imul (pc := 122) C dX8_games_122 (v := (nI (4 * a))) (pk_mul _ _) ?_
    refine g_iconst (pc := 123) C dX8_games_123 (v := (nI 3)) (by decide) ?_
    refine g_iadd (pc := 124) C dX8_games_124 (v := (nI ((4 * a) + 3))) (nI_add _ _) ?_
    refine g_iload (pc := 125) C dX8_games_125 1 rfl ?_
    refine g_iast (pc := 127) C 5 ((4 * a) + 3) hT.s5 (by omega) (by decide) dX8_games_127 ?_
    refine g_aload_n (pc := 128) C dX8_games_128 rfl 5 rfl ?_
    refine gm_rows (pc := 129) C hT dX8_games_129 ?_
    refine g_iconst (pc := 132) C dX8_games_132 (v := (nI 4)) (by decide) ?_
    refine g_iload_n (pc := 133) C dX8_games_133 rfl 4 rfl ?_
    refine g_imul (pc := 134) C dX8_games_134 (v := (nI (4 * b))) (pk_mul _ _) ?_
    refine g_iconst (pc := 135) C dX8_games_135 (v := (nI 2)) (by decide) ?_
    refine g_iadd (pc := 136) C dX8_games_136 (v := (nI ((4 * b) + 2))) (nI_add _ _) ?_
    refine g_aload_n (pc := 137) C dX8_games_137 rfl 5 rfl ?_
    refine gm_rows (pc := 138) C hT dX8_games_138 ?_
    refine g_iconst (pc := 141) C dX8_games_141 (v := (nI 4)) (by decide) ?_
    refine g_iload_n (pc := 142) C dX8_games_142 rfl 4 rfl ?_
    refine g_imul (pc := 143) C dX8_games_143 (v := (nI (4 * b))) (pk_mul _ _) ?_
    refine g_iconst (pc := 144) C dX8_games_144 (v := (nI 2)) (by decide) ?_
    refine g_iadd (pc := 145) C dX8_games_145 (v := (nI ((4 * b) + 2))) (nI_add _ _) ?_
    refine g_iald (pc := 146) C 5 ((4 * b) + 2) hT.s5 (by omega) (by decide) dX8_games_146 ?_
    refine g_eqv (y := g ((4 * b) + 2)) ((up2_n _ _ (by omega)).trans ((up2_n _ _ (by omega)).trans ((up2_n _ _ (by omega)).trans ((up2_n _ _ (by omega)).trans (vh17.row (by omega)))))) ?_
    refine g_iconst (pc := 147) C dX8_games_147 (v := (nI 1)) (by decide) ?_
    refine g_iadd (pc := 148) C dX8_games_148 (v := ((g ((4 * b) + 2)) + (nI 1))) rfl ?_
    refine g_iconst (pc := 149) C dX8_games_149 (v := (nI 0)) (by decide) ?_
    refine g_sipush (pc := 150) C dX8_games_150 (v := (nI 999)) (by decide) ?_
    refine g_goi (pc := 153) C (g_runS C (As := [.int ((g ((4 * b) + 2)) + (nI 1)), .int (nI 0), .int (nI 999)]) (rest := [.int (nI ((4 * b) + 2)), .ref (Z.1 5)]) (mX8_within ((g ((4 * b) + 2)) + (nI 1)) (nI 0) (nI 999)) gvX8_within_X8_243 rfl rfl rfl hdX8_within ⟨Nat.le_of_ble_eq_true rfl, Nat.le_of_ble_eq_true rfl⟩ rfl rfl (Nat.le_of_ble_eq_true rfl) dX8_games_153 ⟨Nat.le_of_ble_eq_true rfl, Nat.le_of_ble_eq_true rfl⟩) (fun r23 J23 h23 => ?_)
    obtain ⟨eah23, ebh23⟩ := h23
    subst r23
    subst J23
    refine g_iast (pc := 156) C 5 ((4 * b) + 2) hT.s5 (by omega) (by decide) dX8_games_156 ?_
    refine g_aload_n (pc := 157) C dX8_games_157 rfl 5 rfl ?_
    refine gm_rows (pc := 158) C hT dX8_games_158 ?_
    refine g_iconst (pc := 161) C dX8_games_161 (v := (nI 4)) (by decide) ?_
    refine g_iload_n (pc := 162) C dX8_games_162 rfl 6 rfl ?_
    refine g_imul (pc := 163) C dX8_games_163 (v := (nI (4 * a))) (pk_mul _ _) ?_
    refine g_iconst (pc := 164) C dX8_games_164 (v := (nI 1)) (by decide) ?_
    refine g_iadd (pc := 165) C dX8_games_165 (v := (nI ((4 * a) + 1))) (nI_add _ _) ?_
    refine g_aload_n (pc := 166) C dX8_games_166 rfl 5 rfl ?_
    refine gm_rows (pc := 167) C hT dX8_games_167 ?_
    refine g_iconst (pc := 170) C dX8_games_170 (v := (nI 4)) (by decide) ?_
    refine g_iload_n (pc := 171) C dX8_games_171 rfl 6 rfl ?_
    refine g_imul (pc := 172) C dX8_games_172 (v := (nI (4 * a))) (pk_mul _ _) ?_
    refine g_iconst (pc := 173) C dX8_games_173 (v := (nI 1)) (by decide) ?_
    refine g_iadd (pc := 174) C dX8_games_174 (v := (nI ((4 * a) + 1))) (nI_add _ _) ?_
    refine g_iald (pc := 175) C 5 ((4 * a) + 1) hT.s5 (by omega) (by decide) dX8_games_175 ?_
    refine g_eqv (y := g ((4 * a) + 1)) ((up2_n _ _ (by omega)).trans ((up2_n _ _ (by omega)).trans ((up2_n _ _ (by omega)).trans ((up2_n _ _ (by omega)).trans ((up2_n _ _ (by omega)).trans (vh17.row (by omega))))))) ?_
    refine g_iload (pc := 176) C dX8_games_176 3 rfl ?_
    refine g_isub (pc := 178) C dX8_games_178 (v := ((g ((4 * a) + 1)) - (ti kd (sm rl) g a b false))) rfl ?_
    refine g_iconst (pc := 179) C dX8_games_179 (v := (nI 0)) (by decide) ?_
    refine g_bipush (pc := 180) C dX8_games_180 (v := (nI 99)) (by decide) ?_
    refine g_goi (pc := 182) C (g_runS C (As := [.int ((g ((4 * a) + 1)) - (ti kd (sm rl) g a b false)), .int (nI 0), .int (nI 99)]) (rest := [.int (nI ((4 * a) + 1)), .ref (Z.1 5)]) (mX8_within ((g ((4 * a) + 1)) - (ti kd (sm rl) g a b false)) (nI 0) (nI 99)) gvX8_within_X8_243 rfl rfl rfl hdX8_within ⟨Nat.le_of_ble_eq_true rfl, Nat.le_of_ble_eq_true rfl⟩ rfl rfl (Nat.le_of_ble_eq_true rfl) dX8_games_182 ⟨Nat.le_of_ble_eq_true rfl, Nat.le_of_ble_eq_true rfl⟩) (fun r24 J24 h24 => ?_)
    obtain ⟨eah24, ebh24⟩ := h24
    subst r24
    subst J24
    refine g_iast (pc := 185) C 5 ((4 * a) + 1) hT.s5 (by omega) (by decide) dX8_games_185 ?_
    refine g_aload_n (pc := 186) C dX8_games_186 rfl 5 rfl ?_
    refine gm_rows (pc := 187) C hT dX8_games_187 ?_
    refine g_iconst (pc := 190) C dX8_games_190 (v := (nI 4)) (by decide) ?_
    refine g_iload_n (pc := 191) C dX8_games_191 rfl 7 rfl ?_
    refine g_imul (pc := 192) C dX8_games_192 (v := (nI (4 * b))) (pk_mul _ _) ?_
    refine g_iconst (pc := 193) C dX8_games_193 (v := (nI 1)) (by decide) ?_
    refine g_iadd (pc := 194) C dX8_games_194 (v := (nI ((4 * b) + 1))) (nI_add _ _) ?_
    refine g_aload_n (pc := 195) C dX8_games_195 rfl 5 rfl ?_
    refine gm_rows (pc := 196) C hT dX8_games_196 ?_
    refine g_iconst (pc := 199) C dX8_games_199 (v := (nI 4)) (by decide) ?_
    refine g_iload_n (pc := 200) C dX8_games_200 rfl 7 rfl ?_
    refine g_imul (pc := 201) C dX8_games_201 (v := (nI (4 * b))) (pk_mul _ _) ?_
    refine g_iconst (pc := 202) C dX8_games_202 (v := (nI 1)) (by decide) ?_
    refine g_iadd (pc := 203) C dX8_games_203 (v := (nI ((4 * b) + 1))) (nI_add _ _) ?_
    refine g_iald (pc := 204) C 5 ((4 * b) + 1) hT.s5 (by omega) (by decide) dX8_games_204 ?_
    refine g_eqv (y := g ((4 * b) + 1)) ((up2_n _ _ (by omega)).trans ((up2_n _ _ (by omega)).trans ((up2_n _ _ (by omega)).trans ((up2_n _ _ (by omega)).trans ((up2_n _ _ (by omega)).trans ((up2_n _ _ (by omega)).trans (vh17.row (by omega)))))))) ?_
    refine g_iload (pc := 205) C dX8_games_205 2 rfl ?_
    refine g_isub (pc := 207) C dX8_games_207 (v := ((g ((4 * b) + 1)) - (ti kd (sm rl) g b a true))) rfl ?_
    refine g_iconst (pc := 208) C dX8_games_208 (v := (nI 0)) (by decide) ?_
    refine g_bipush (pc := 209) C dX8_games_209 (v := (nI 99)) (by decide) ?_
    refine g_goi (pc := 211) C (g_runS C (As := [.int ((g ((4 * b) + 1)) - (ti kd (sm rl) g b a true)), .int (nI 0), .int (nI 99)]) (rest := [.int (nI ((4 * b) + 1)), .ref (Z.1 5)]) (mX8_within ((g ((4 * b) + 1)) - (ti kd (sm rl) g b a true)) (nI 0) (nI 99)) gvX8_within_X8_243 rfl rfl rfl hdX8_within ⟨Nat.le_of_ble_eq_true rfl, Nat.le_of_ble_eq_true rfl⟩ rfl rfl (Nat.le_of_ble_eq_true rfl) dX8_games_211 ⟨Nat.le_of_ble_eq_true rfl, Nat.le_of_ble_eq_true rfl⟩) (fun r25 J25 h25 => ?_)
    obtain ⟨eah25, ebh25⟩ := h25
    subst r25
    subst J25
    refine g_iast (pc := 214) C 5 ((4 * b) + 1) hT.s5 (by omega) (by decide) dX8_games_214 ?_
    refine g_aload_n (pc := 215) C dX8_games_215 rfl 5 rfl ?_
    refine g_dup (pc := 216) C dX8_games_216 rfl ?_
    refine gm_roundNow (pc := 217) C hT dX8_games_217 ?_
    refine g_eqv (y := (g 25)) ((up2_n _ _ (by omega)).trans ((up2_n _ _ (by omega)).trans ((up2_n _ _ (by omega)).trans ((up2_n _ _ (by omega)).trans ((up2_n _ _ (by omega)).trans ((up2_n _ _ (by omega)).trans ((up2_n _ _ (by omega)).trans (vh17.round)))))))) ?_
    refine g_iconst (pc := 220) C dX8_games_220 (v := (nI 1)) (by decide) ?_
    refine g_iadd (pc := 221) C dX8_games_221 (v := ((g 25) + (nI 1))) rfl ?_
    refine gmp_roundNow (pc := 222) C hT dX8_games_222 ?_
    refine g_iload_n (pc := 225) C dX8_games_225 rfl 4 rfl ?_
    refine g_iret (pc := 226) C hR dX8_games_226 ⟨?_, by rw [hw]; rfl⟩
    refine vh17.upd (g' := gme kd (sm rl) g a b) (agr.up (S := SGm) (agr.up (S := SGm) (agr.up (S := SGm) (agr.up (S := SGm) (agr.up (S := SGm) (agr.up (S := SGm) (agr.up (S := SGm) (agr.up (S := SGm) (agr.rf (S := SGm)) (fun _ _ q => q) (by unfold SGm; omega)) (fun _ _ q => q) (by unfold SGm; omega)) (fun _ _ q => q) (by unfold SGm; omega)) (fun _ _ q => q) (by unfold SGm; omega)) (fun _ _ q => q) (by unfold SGm; omega)) (fun _ _ q => q) (by unfold SGm; omega)) (fun _ _ q => q) (by unfold SGm; omega)) (fun _ _ q => q) (by unfold SGm; omega)) (fun j hj => ?_) ?_ ?_ (gme_gB hV.gB9 ha hb)
    · exact gme_w1 hab hw hj (vh17.row hj)
    · exact (((up2_n _ _ (by omega)).trans ((up2_n _ _ (by omega)).trans ((up2_n _ _ (by omega)).trans ((up2_n _ _ (by omega)).trans ((up2_n _ _ (by omega)).trans (up2_s _ _ _ _))))))).trans (by simp [gme, hw, sg, nI_lit0])
    · exact ((up2_s _ _ _ _)).trans (by simp [gme, nI_one])
  · refine g_eqv (y := (-1)) (by rw [hw]; rfl) ?_
    refine g_istore_n (pc := 6) C dX8_games_6 (L' := [(3, .int (-1)), (0, .ref (Z.1 0)), (1, .int (nI a)), (2, .int (nI b))]) rfl (by decide) rfl ?_
    refine g_aload_n (pc := 7) C dX8_games_7 rfl 1 rfl ?_
    refine g_iload_n (pc := 8) C dX8_games_8 rfl 2 rfl ?_
    refine g_iload_n (pc := 9) C dX8_games_9 rfl 3 rfl ?_
    refine g_iload_n (pc := 10) C dX8_games_10 rfl 0 rfl ?_
    refine g_iload_n (pc := 11) C dX8_games_11 rfl 2 rfl ?_
    refine g_icmp_ne (pc := 12) C dX8_games_12 (tgt := 19) (by decide) (fun c26 => ?_) (fun c26 => absurd c26 (nI_m1r (by omega)))
    refine g_iconst (pc := 19) C dX8_games_19 (v := (nI 0)) (by decide) ?_
    refine g_goi (pc := 20) C (g_runV C 0 (As := [.int (nI a), .int (nI b), .int (nI 0)]) (rest := []) (mX8_tiresOf hT vh1 a b (by omega) (by omega) false) gvX8_tiresOf_X8_262 rfl rfl rfl hdX8_tiresOf ⟨Nat.le_of_ble_eq_true rfl, Nat.le_of_ble_eq_true rfl⟩ hT.s0 rfl rfl rfl (Nat.le_of_ble_eq_true rfl) dX8_games_20 ⟨Nat.le_of_ble_eq_true rfl, Nat.le_of_ble_eq_true rfl⟩) (fun r27 J27 h27 => ?_)
    obtain ⟨vh27, eh27⟩ := h27
    subst r27
    refine g_istore (pc := 23) C dX8_games_23 (L' := [(4, .int (ti kd (sm rl) g a b false)), (3, .int (-1)), (0, .ref (Z.1 0)), (1, .int (nI a)), (2, .int (nI b))]) (by decide) rfl ?_
    refine g_aload_n (pc := 25) C dX8_games_25 rfl 2 rfl ?_
    refine g_iload_n (pc := 26) C dX8_games_26 rfl 4 rfl ?_
    refine g_iload_n (pc := 27) C dX8_games_27 rfl 3 rfl ?_
    refine g_iload_n (pc := 28) C dX8_games_28 rfl 1 rfl ?_
    refine g_iload_n (pc := 29) C dX8_games_29 rfl 4 rfl ?_
    refine g_icmp_ne (pc := 30) C dX8_games_30 (tgt := 37) (by decide) (fun c28 => ?_) (fun c28 => absurd c28 (nI_m1r (by omega)))
    refine g_iconst (pc := 37) C dX8_games_37 (v := (nI 0)) (by decide) ?_
    refine g_goi (pc := 38) C (g_runV C 0 (As := [.int (nI b), .int (nI a), .int (nI 0)]) (rest := []) (mX8_tiresOf hT vh27 b a (by omega) (by omega) false) gvX8_tiresOf_X8_262 rfl rfl rfl hdX8_tiresOf ⟨Nat.le_of_ble_eq_true rfl, Nat.le_of_ble_eq_true rfl⟩ hT.s0 rfl rfl rfl (Nat.le_of_ble_eq_true rfl) dX8_games_38 ⟨Nat.le_of_ble_eq_true rfl, Nat.le_of_ble_eq_true rfl⟩) (fun r29 J29 h29 => ?_)
    obtain ⟨vh29, eh29⟩ := h29
    subst r29
    refine g_istore (pc := 41) C dX8_games_41 (L' := [(5, .int (ti kd (sm rl) g b a false)), (4, .int (ti kd (sm rl) g a b false)), (3, .int (-1)), (0, .ref (Z.1 0)), (1, .int (nI a)), (2, .int (nI b))]) (by decide) rfl ?_
    refine g_aload_n (pc := 43) C dX8_games_43 rfl 3 rfl ?_
    refine g_iload_n (pc := 44) C dX8_games_44 rfl 4 rfl ?_
    refine g_goi (pc := 45) C (g_runV C 0 (As := [.int (nI a)]) (rest := []) (mX8_has hT a (by omega)) gvX8_has_X8_112 rfl rfl rfl hdX8_has ⟨Nat.le_of_ble_eq_true rfl, Nat.le_of_ble_eq_true rfl⟩ hT.s0 rfl rfl rfl (Nat.le_of_ble_eq_true rfl) dX8_games_45 ⟨Nat.le_of_ble_eq_true rfl, Nat.le_of_ble_eq_true rfl⟩) (fun r30 J30 h30 => ?_)
    obtain ⟨eah30, ebh30⟩ := h30
    subst r30
    subst J30
    refine g_eqv (y := g ((4 * a) + 3)) (vh29.row (by omega)) ?_
    refine g_aload_n (pc := 48) C dX8_games_48 rfl 3 rfl ?_
    refine g_iload_n (pc := 49) C dX8_games_49 rfl 5 rfl ?_
    refine g_goi (pc := 50) C (g_runV C 0 (As := [.int (nI b)]) (rest := [.int (g ((4 * a) + 3))]) (mX8_has hT b (by omega)) gvX8_has_X8_112 rfl rfl rfl hdX8_has ⟨Nat.le_of_ble_eq_true rfl, Nat.le_of_ble_eq_true rfl⟩ hT.s0 rfl rfl rfl (Nat.le_of_ble_eq_true rfl) dX8_games_50 ⟨Nat.le_of_ble_eq_true rfl, Nat.le_of_ble_eq_true rfl⟩) (fun r31 J31 h31 => ?_)
    obtain ⟨eah31, ebh31⟩ := h31
    subst r31
    subst J31
    refine g_eqv (y := g ((4 * b) + 3)) (vh29.row (by omega)) ?_
    refine g_ior (pc := 53) C dX8_games_53 (v := ((g ((4 * a) + 3)) ||| (g ((4 * b) + 3)))) rfl ?_
    refine g_aload_n (pc := 54) C dX8_games_54 rfl 3 rfl ?_
    refine gm_hall (pc := 55) C hT dX8_games_55 ?_
    refine g_eqv (y := (g 24)) vh29.hall ?_
    refine g_ior (pc := 58) C dX8_games_58 (v := (((g ((4 * a) + 3)) ||| (g ((4 * b) + 3))) ||| (g 24))) rfl ?_
    refine g_istore (pc := 59) C dX8_games_59 (L' := [(6, .int (((g ((4 * a) + 3)) ||| (g ((4 * b) + 3))) ||| (g 24))), (5, .int (ti kd (sm rl) g b a false)), (4, .int (ti kd (sm rl) g a b false)), (3, .int (-1)), (0, .ref (Z.1 0)), (1, .int (nI a)), (2, .int (nI b))]) (by decide) rfl ?_
    refine g_aload_n (pc := 61) C dX8_games_61 rfl 4 rfl ?_
    refine gm_rows (pc := 62) C hT dX8_games_62 ?_
    refine g_iconst (pc := 65) C dX8_games_65 (v := (nI 4)) (by decide) ?_
    refine g_iload_n (pc := 66) C dX8_games_66 rfl 5 rfl ?_
    refine g_imul (pc := 67) C dX8_games_67 (v := (nI (4 * a))) (pk_mul _ _) ?_
    refine g_iconst (pc := 68) C dX8_games_68 (v := (nI 3)) (by decide) ?_
    refine g_iadd (pc := 69) C dX8_games_69 (v := (nI ((4 * a) + 3))) (nI_add _ _) ?_
    refine g_iconst (pc := 70) C dX8_games_70 (v := (nI 0)) (by decide) ?_
    refine g_iast (pc := 71) C 5 ((4 * a) + 3) hT.s5 (by omega) (by decide) dX8_games_71 ?_
    refine g_aload_n (pc := 72) C dX8_games_72 rfl 4 rfl ?_
    refine gm_rows (pc := 73) C hT dX8_games_73 ?_
    refine g_iconst (pc := 76) C dX8_games_76 (v := (nI 4)) (by decide) ?_
    refine g_iload_n (pc := 77) C dX8_games_77 rfl 6 rfl ?_
    refine g_imul (pc := 78) C dX8_games_78 (v := (nI (4 * b))) (pk_mul _ _) ?_
    refine g_iconst (pc := 79) C dX8_games_79 (v := (nI 3)) (by decide) ?_
    refine g_iadd (pc := 80) C dX8_games_80 (v := (nI ((4 * b) + 3))) (nI_add _ _) ?_
    refine g_iconst (pc := 81) C dX8_games_81 (v := (nI 0)) (by decide) ?_
    refine g_iast (pc := 82) C 5 ((4 * b) + 3) hT.s5 (by omega) (by decide) dX8_games_82 ?_
    refine g_aload_n (pc := 83) C dX8_games_83 rfl 4 rfl ?_
    refine g_iload_n (pc := 84) C dX8_games_84 rfl 3 rfl ?_
    refine g_iconst (pc := 85) C dX8_games_85 (v := (-1)) (by decide) ?_
    refine g_icmp_ne (pc := 86) C dX8_games_86 (tgt := 94) (by decide) (fun c32 => absurd c32 (by decide)) (fun c32 => ?_)
    refine g_iload (pc := 89) C dX8_games_89 0 rfl ?_
    refine g_goto (pc := 91) C dX8_games_91 (tgt := 95) (by decide) ?_
    refine gmp_hall (pc := 95) C hT dX8_games_95 ?_
    refine g_iload_n (pc := 98) C dX8_games_98 rfl 3 rfl ?_
    refine g_iconst (pc := 99) C dX8_games_99 (v := (-1)) (by decide) ?_
    refine g_icmp_eq (pc := 100) C dX8_games_100 (tgt := 157) (by decide) (fun c33 => ?_) (fun c33 => absurd c33 (by decide))
    refine g_aload_n (pc := 157) C dX8_games_157 rfl 4 rfl ?_
    refine gm_rows (pc := 158) C hT dX8_games_158 ?_
    refine g_iconst (pc := 161) C dX8_games_161 (v := (nI 4)) (by decide) ?_
    refine g_iload_n (pc := 162) C dX8_games_162 rfl 5 rfl ?_
    refine g_imul (pc := 163) C dX8_games_163 (v := (nI (4 * a))) (pk_mul _ _) ?_
    refine g_iconst (pc := 164) C dX8_games_164 (v := (nI 1)) (by decide) ?_
    refine g_iadd (pc := 165) C dX8_games_165 (v := (nI ((4 * a) + 1))) (nI_add _ _) ?_
    refine g_aload_n (pc := 166) C dX8_games_166 rfl 4 rfl ?_
    refine gm_rows (pc := 167) C hT dX8_games_167 ?_
    refine g_iconst (pc := 170) C dX8_games_170 (v := (nI 4)) (by decide) ?_
    refine g_iload_n (pc := 171) C dX8_games_171 rfl 5 rfl ?_
    refine g_imul (pc := 172) C dX8_games_172 (v := (nI (4 * a))) (pk_mul _ _) ?_
    refine g_iconst (pc := 173) C dX8_games_173 (v := (nI 1)) (by decide) ?_
    refine g_iadd (pc := 174) C dX8_games_174 (v := (nI ((4 * a) + 1))) (nI_add _ _) ?_
    refine g_iald (pc := 175) C 5 ((4 * a) + 1) hT.s5 (by omega) (by decide) dX8_games_175 ?_
    refine g_eqv (y := g ((4 * a) + 1)) ((up2_n _ _ (by omega)).trans ((up2_n _ _ (by omega)).trans ((up2_n _ _ (by omega)).trans (vh29.row (by omega))))) ?_
    refine g_iload (pc := 176) C dX8_games_176 2 rfl ?_
    refine g_isub (pc := 178) C dX8_games_178 (v := ((g ((4 * a) + 1)) - (ti kd (sm rl) g a b false))) rfl ?_
    refine g_iconst (pc := 179) C dX8_games_179 (v := (nI 0)) (by decide) ?_
    refine g_bipush (pc := 180) C dX8_games_180 (v := (nI 99)) (by decide) ?_
    refine g_goi (pc := 182) C (g_runS C (As := [.int ((g ((4 * a) + 1)) - (ti kd (sm rl) g a b false)), .int (nI 0), .int (nI 99)]) (rest := [.int (nI ((4 * a) + 1)), .ref (Z.1 5)]) (mX8_within ((g ((4 * a) + 1)) - (ti kd (sm rl) g a b false)) (nI 0) (nI 99)) gvX8_within_X8_243 rfl rfl rfl hdX8_within ⟨Nat.le_of_ble_eq_true rfl, Nat.le_of_ble_eq_true rfl⟩ rfl rfl (Nat.le_of_ble_eq_true rfl) dX8_games_182 ⟨Nat.le_of_ble_eq_true rfl, Nat.le_of_ble_eq_true rfl⟩) (fun r34 J34 h34 => ?_)
    obtain ⟨eah34, ebh34⟩ := h34
    subst r34
    subst J34
    refine g_iast (pc := 185) C 5 ((4 * a) + 1) hT.s5 (by omega) (by decide) dX8_games_185 ?_
    refine g_aload_n (pc := 186) C dX8_games_186 rfl 4 rfl ?_
    refine gm_rows (pc := 187) C hT dX8_games_187 ?_
    refine g_iconst (pc := 190) C dX8_games_190 (v := (nI 4)) (by decide) ?_
    refine g_iload_n (pc := 191) C dX8_games_191 rfl 6 rfl ?_
    refine g_imul (pc := 192) C dX8_games_192 (v := (nI (4 * b))) (pk_mul _ _) ?_
    refine g_iconst (pc := 193) C dX8_games_193 (v := (nI 1)) (by decide) ?_
    refine g_iadd (pc := 194) C dX8_games_194 (v := (nI ((4 * b) + 1))) (nI_add _ _) ?_
    refine g_aload_n (pc := 195) C dX8_games_195 rfl 4 rfl ?_
    refine gm_rows (pc := 196) C hT dX8_games_196 ?_
    refine g_iconst (pc := 199) C dX8_games_199 (v := (nI 4)) (by decide) ?_
    refine g_iload_n (pc := 200) C dX8_games_200 rfl 6 rfl ?_
    refine g_imul (pc := 201) C dX8_games_201 (v := (nI (4 * b))) (pk_mul _ _) ?_
    refine g_iconst (pc := 202) C dX8_games_202 (v := (nI 1)) (by decide) ?_
    refine g_iadd (pc := 203) C dX8_games_203 (v := (nI ((4 * b) + 1))) (nI_add _ _) ?_
    refine g_iald (pc := 204) C 5 ((4 * b) + 1) hT.s5 (by omega) (by decide) dX8_games_204 ?_
    refine g_eqv (y := g ((4 * b) + 1)) ((up2_n _ _ (by omega)).trans ((up2_n _ _ (by omega)).trans ((up2_n _ _ (by omega)).trans ((up2_n _ _ (by omega)).trans (vh29.row (by omega)))))) ?_
    refine g_iload (pc := 205) C dX8_games_205 1 rfl ?_
    refine g_isub (pc := 207) C dX8_games_207 (v := ((g ((4 * b) + 1)) - (ti kd (sm rl) g b a false))) rfl ?_
    refine g_iconst (pc := 208) C dX8_games_208 (v := (nI 0)) (by decide) ?_
    refine g_bipush (pc := 209) C dX8_games_209 (v := (nI 99)) (by decide) ?_
    refine g_goi (pc := 211) C (g_runS C (As := [.int ((g ((4 * b) + 1)) - (ti kd (sm rl) g b a false)), .int (nI 0), .int (nI 99)]) (rest := [.int (nI ((4 * b) + 1)), .ref (Z.1 5)]) (mX8_within ((g ((4 * b) + 1)) - (ti kd (sm rl) g b a false)) (nI 0) (nI 99)) gvX8_within_X8_243 rfl rfl rfl hdX8_within ⟨Nat.le_of_ble_eq_true rfl, Nat.le_of_ble_eq_true rfl⟩ rfl rfl (Nat.le_of_ble_eq_true rfl) dX8_games_211 ⟨Nat.le_of_ble_eq_true rfl, Nat.le_of_ble_eq_true rfl⟩) (fun r35 J35 h35 => ?_)
    obtain ⟨eah35, ebh35⟩ := h35
    subst r35
    subst J35
    refine g_iast (pc := 214) C 5 ((4 * b) + 1) hT.s5 (by omega) (by decide) dX8_games_214 ?_
    refine g_aload_n (pc := 215) C dX8_games_215 rfl 4 rfl ?_
    refine g_dup (pc := 216) C dX8_games_216 rfl ?_
    refine gm_roundNow (pc := 217) C hT dX8_games_217 ?_
    refine g_eqv (y := (g 25)) ((up2_n _ _ (by omega)).trans ((up2_n _ _ (by omega)).trans ((up2_n _ _ (by omega)).trans ((up2_n _ _ (by omega)).trans ((up2_n _ _ (by omega)).trans (vh29.round)))))) ?_
    refine g_iconst (pc := 220) C dX8_games_220 (v := (nI 1)) (by decide) ?_
    refine g_iadd (pc := 221) C dX8_games_221 (v := ((g 25) + (nI 1))) rfl ?_
    refine gmp_roundNow (pc := 222) C hT dX8_games_222 ?_
    refine g_iload_n (pc := 225) C dX8_games_225 rfl 3 rfl ?_
    refine g_iret (pc := 226) C hR dX8_games_226 ⟨?_, by rw [hw]; rfl⟩
    refine vh29.upd (g' := gme kd (sm rl) g a b) (agr.up (S := SGm) (agr.up (S := SGm) (agr.up (S := SGm) (agr.up (S := SGm) (agr.up (S := SGm) (agr.up (S := SGm) (agr.rf (S := SGm)) (fun _ _ q => q) (by unfold SGm; omega)) (fun _ _ q => q) (by unfold SGm; omega)) (fun _ _ q => q) (by unfold SGm; omega)) (fun _ _ q => q) (by unfold SGm; omega)) (fun _ _ q => q) (by unfold SGm; omega)) (fun _ _ q => q) (by unfold SGm; omega)) (fun j hj => ?_) ?_ ?_ (gme_gB hV.gB9 ha hb)
    · exact gme_w2 hab hw hj (vh29.row hj)
    · exact (((up2_n _ _ (by omega)).trans ((up2_n _ _ (by omega)).trans ((up2_n _ _ (by omega)).trans (up2_s _ _ _ _))))).trans (by simp [gme, hw, sg, nI_lit0])
    · exact ((up2_s _ _ _ _)).trans (by simp [gme, nI_one])
