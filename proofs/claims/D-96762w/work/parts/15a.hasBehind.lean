theorem hdX8_laysAside : yX8_laysAside.cls = RX8 ∧ yX8_laysAside.cls ≠ "java/lang/invoke/MethodHandle" ∧ yX8_laysAside.cls ≠ "java/lang/invoke/VarHandle" ∧ (parseMethodDescriptor yX8_laysAside.desc).map (fun d => d.parameters.length) = some 0 := by decide +kernel
theorem gvX8_laysAside_X8_275 : GoodIn lw_all (wsV RX8 275 RX8 yX8_laysAside (ws_ yX8_laysAside cX8_laysAside 2 none)) := lw_V q1576 q1578 qs89 q122 q1579
theorem hdX8_games : yX8_games.cls = RX8 ∧ yX8_games.cls ≠ "java/lang/invoke/MethodHandle" ∧ yX8_games.cls ≠ "java/lang/invoke/VarHandle" ∧ (parseMethodDescriptor yX8_games.desc).map (fun d => d.parameters.length) = some 2 := by decide +kernel
theorem gvX8_games_X8_278 : GoodIn lw_all (wsV RX8 278 RX8 yX8_games (ws_ yX8_games cX8_games 8 (some .int))) := lw_V q1580 q1582 qs90 q122 q1583
theorem hdX8_laysBack : yX8_laysBack.cls = RX8 ∧ yX8_laysBack.cls ≠ "java/lang/invoke/MethodHandle" ∧ yX8_laysBack.cls ≠ "java/lang/invoke/VarHandle" ∧ (parseMethodDescriptor yX8_laysBack.desc).map (fun d => d.parameters.length) = some 0 := by decide +kernel
theorem gvX8_laysBack_X8_281 : GoodIn lw_all (wsV RX8 281 RX8 yX8_laysBack (ws_ yX8_laysBack cX8_laysBack 2 none)) := lw_V q1584 q1586 qs91 q122 q1587
abbrev rmX8_hasBehind : Room := { frames := 126, cells := 0, slots := 0, locals := 12148 }
set_option maxHeartbeats 4000000 in
theorem mX8_hasBehind {E : gE} {Z : gS} {I : gI} {I0 : gI} {mn rl tn am : Nat} {kd : Nat → Nat} {sm : Nat → gSm} {fr : Nat → gG} {g : gG} (hT : tZ Z) (hV : tP I0 mn kd rl tn sm am fr g I) (a b : Nat) (ha : a < mn) (hb : b < mn) (hab : a ≠ b) (ha8 : am < 8) : gMet E yX8_hasBehind (ws_ yX8_hasBehind cX8_hasBehind 4 (some .int)) rmX8_hasBehind Z I [.ref (Z.1 0), .int (nI a), .int (nI b)] (cQi E Z (fun r J => tP I0 mn kd rl tn sm am fr g J ∧ r = hbV kd (sm rl) g a b)) 0 0 := by
  refine g_of (own := RX8) (cc := cX8_hasBehind) (nL := 4) (L0 := [(0, .ref (Z.1 0)), (1, .int (nI a)), (2, .int (nI b))]) (by decide) rfl rfl rfl (Nat.le_of_ble_eq_true rfl) rfl ?_
  intro K C hR _
  have hmn := hV.mn6
  refine g_aload_n (pc := 0) C dX8_hasBehind_0 rfl 0 rfl ?_
  refine g_gov (pc := 1) C (g_runV C 0 (As := []) (rest := []) (mX8_laysAside hT hV (by omega)) gvX8_laysAside_X8_275 rfl rfl rfl hdX8_laysAside ⟨Nat.le_of_ble_eq_true rfl, Nat.le_of_ble_eq_true rfl⟩ hT.s0 rfl rfl rfl (Nat.le_of_ble_eq_true rfl) dX8_hasBehind_1 ⟨Nat.le_of_ble_eq_true rfl, Nat.le_of_ble_eq_true rfl⟩) (fun J1 h1 => ?_)
  have vh1 := h1
  refine g_aload_n (pc := 4) C dX8_hasBehind_4 rfl 0 rfl ?_
  refine g_iload_n (pc := 5) C dX8_hasBehind_5 rfl 1 rfl ?_
  refine g_iload_n (pc := 6) C dX8_hasBehind_6 rfl 2 rfl ?_
  refine g_goi (pc := 7) C (g_runV C 0 (As := [.int (nI a), .int (nI b)]) (rest := []) (mX8_games hT vh1 a b (by omega) (by omega) (by omega)) gvX8_games_X8_278 rfl rfl rfl hdX8_games ⟨Nat.le_of_ble_eq_true rfl, Nat.le_of_ble_eq_true rfl⟩ hT.s0 rfl rfl rfl (Nat.le_of_ble_eq_true rfl) dX8_hasBehind_7 ⟨Nat.le_of_ble_eq_true rfl, Nat.le_of_ble_eq_true rfl⟩) (fun r2 J2 h2 => ?_)
  obtain ⟨vh2, eh2⟩ := h2
  subst r2
  refine g_pop (pc := 10) C dX8_hasBehind_10 rfl ?_
  refine g_aload_n (pc := 11) C dX8_hasBehind_11 rfl 0 rfl ?_
  refine g_iload_n (pc := 12) C dX8_hasBehind_12 rfl 1 rfl ?_
  refine g_goi (pc := 13) C (g_runV C 0 (As := [.int (nI a)]) (rest := []) (mX8_hasMany hT a (by omega) (by obtain ⟨z, hz, ez⟩ := vh2.has (p := a) (by omega); exact ⟨z, hz, (vh2.row (by omega)).trans ez⟩)) gvX8_hasMany_X8_122 rfl rfl rfl hdX8_hasMany ⟨Nat.le_of_ble_eq_true rfl, Nat.le_of_ble_eq_true rfl⟩ hT.s0 rfl rfl rfl (Nat.le_of_ble_eq_true rfl) dX8_hasBehind_13 ⟨Nat.le_of_ble_eq_true rfl, Nat.le_of_ble_eq_true rfl⟩) (fun r3 J3 h3 => ?_)
  obtain ⟨eah3, ebh3⟩ := h3
  subst r3
  subst J3
  refine g_eqv (y := bc ((gme kd (sm rl) g a b) ((4 * a) + 3))) (congrArg bc (vh2.row (by omega))) ?_
  refine g_istore_n (pc := 16) C dX8_hasBehind_16 (L' := [(3, .int (bc ((gme kd (sm rl) g a b) ((4 * a) + 3)))), (0, .ref (Z.1 0)), (1, .int (nI a)), (2, .int (nI b))]) rfl (by decide) rfl ?_
  refine g_aload_n (pc := 17) C dX8_hasBehind_17 rfl 1 rfl ?_
  refine g_gov (pc := 18) C (g_runV C 0 (As := []) (rest := []) (mX8_laysBack hT vh2 hV.gB9) gvX8_laysBack_X8_281 rfl rfl rfl hdX8_laysBack ⟨Nat.le_of_ble_eq_true rfl, Nat.le_of_ble_eq_true rfl⟩ hT.s0 rfl rfl rfl (Nat.le_of_ble_eq_true rfl) dX8_hasBehind_18 ⟨Nat.le_of_ble_eq_true rfl, Nat.le_of_ble_eq_true rfl⟩) (fun J4 h4 => ?_)
  have vh4 := h4
  refine g_iload_n (pc := 21) C dX8_hasBehind_21 rfl 0 rfl ?_
  exact g_iret (pc := 22) C hR dX8_hasBehind_22 ⟨vh4, rfl⟩
theorem hdX8_areTwo : yX8_areTwo.cls = RX8 ∧ yX8_areTwo.cls ≠ "java/lang/invoke/MethodHandle" ∧ yX8_areTwo.cls ≠ "java/lang/invoke/VarHandle" ∧ (parseMethodDescriptor yX8_areTwo.desc).map (fun d => d.parameters.length) = some 2 := by decide +kernel
theorem gvX8_areTwo_X8_269 : GoodIn lw_all (wsV RX8 269 RX8 yX8_areTwo (ws_ yX8_areTwo cX8_areTwo 3 (some .boolean))) := lw_V q1541 q1543 qs81 q122 q1544
abbrev rmX8_eveningBad : Room := { frames := 4, cells := 0, slots := 0, locals := 80 }
set_option maxHeartbeats 4000000 in
theorem mX8_eveningBad {E : gE} {Z : gS} {I : gI} {I0 : gI} {mn rl tn am : Nat} {kd : Nat → Nat} {sm : Nat → gSm} {fr : Nat → gG} {g : gG} (hT : tZ Z) (hV : tP I0 mn kd rl tn sm am fr g I) {th : Nat → Bool} {so sz : Nat → Nat} {it : Nat → Nat → Int32} (hS : shI I0 th so sz it) (s9 : Nat) (hs9 : s9 < 4) : gMet E yX8_eveningBad (ws_ yX8_eveningBad cX8_eveningBad 4 (some .int)) rmX8_eveningBad Z I [.ref (Z.1 0), .int (nI s9)] (cQi E Z (fun r J => I = J ∧ r = ebV mn (th s9) (it s9) (sz s9))) 0 0 := by
  refine g_of (own := RX8) (cc := cX8_eveningBad) (nL := 4) (L0 := [(0, .ref (Z.1 0)), (1, .int (nI s9))]) (by decide) rfl rfl rfl (Nat.le_of_ble_eq_true rfl) rfl ?_
  intro K C hR _
  have hmn := hV.mn6
  refine g_aload_n (pc := 0) C dX8_eveningBad_0 rfl 0 rfl ?_
  refine gm_isThere (pc := 1) C hT dX8_eveningBad_1 ?_
  refine g_iload_n (pc := 4) C dX8_eveningBad_4 rfl 1 rfl ?_
  refine g_zald (pc := 5) C 8 s9 hT.s8 (by omega) (by decide) dX8_eveningBad_5 ?_
  refine g_eqv (y := bI (th s9)) ((hV.base (by unfold SG; omega)).trans (hS s9 (by omega)).1) ?_
  refine g_ifB_ne (pc := 6) C dX8_eveningBad_6 (tgt := 12) (by decide) (fun c1 => ?_) (fun c1 => ?_)
  · have hth := c1
    have hsz := ((hS s9 (by omega)).2 hth).2.2.2.1
    refine g_iconst (pc := 12) C dX8_eveningBad_12 (v := (nI 0)) (by decide) ?_
    refine g_istore_n (pc := 13) C dX8_eveningBad_13 (L' := [(2, .int (nI 0)), (0, .ref (Z.1 0)), (1, .int (nI s9))]) rfl (by decide) rfl ?_
    have lp14 : ∀ (n14 : Nat) (i : Nat) (hi : i ≤ sz s9) (hev : evOk mn (it s9) i = true), sz s9 - i = n14 → G E K Z I 0 0 [(2, .int (nI i)), (0, .ref (Z.1 0)), (1, .int (nI s9))] 14 [] := by
      intro n14
      induction n14 using Nat.strongRecOn with
      | _ n14 ih14 =>
        intro i hi hev hm14
        refine g_iload_n (pc := 14) C dX8_eveningBad_14 rfl 0 rfl ?_
        refine g_aload_n (pc := 15) C dX8_eveningBad_15 rfl 1 rfl ?_
        refine gm_sheetSize (pc := 16) C hT dX8_eveningBad_16 ?_
        refine g_iload_n (pc := 19) C dX8_eveningBad_19 rfl 2 rfl ?_
        refine g_iald (pc := 20) C 10 s9 hT.s10 (by omega) (by decide) dX8_eveningBad_20 ?_
        refine g_eqv (y := nI (sz s9)) ((hV.base (by unfold SG; omega)).trans ((hS s9 (by omega)).2 hth).2.2.1) ?_
        refine g_icmpN_ge (pc := 21) C dX8_eveningBad_21 (tgt := 72) (by decide) (by omega) (by omega) (fun c2 => ?_) (fun c2 => ?_)
        · refine g_iconst (pc := 72) C dX8_eveningBad_72 (v := (nI 0)) (by decide) ?_
          exact g_iret (pc := 73) C hR dX8_eveningBad_73 ⟨rfl, by have e9 : i = sz s9 := (by omega); rw [ebV, hth, ← e9, hev]; rfl⟩
        · refine g_aload_n (pc := 24) C dX8_eveningBad_24 rfl 1 rfl ?_
          refine gm_items (pc := 25) C hT dX8_eveningBad_25 ?_
          refine g_bipush (pc := 28) C dX8_eveningBad_28 (v := (nI 40)) (by decide) ?_
          refine g_iload_n (pc := 30) C dX8_eveningBad_30 rfl 2 rfl ?_
          refine g_imul (pc := 31) C dX8_eveningBad_31 (v := (nI (40 * s9))) (pk_mul _ _) ?_
          refine g_iload_n (pc := 32) C dX8_eveningBad_32 rfl 0 rfl ?_
          refine g_iadd (pc := 33) C dX8_eveningBad_33 (v := (nI ((40 * s9) + i))) (nI_add _ _) ?_
          refine g_iald (pc := 34) C 11 ((40 * s9) + i) hT.s11 (by omega) (by decide) dX8_eveningBad_34 ?_
          refine g_eqv (y := it s9 i) ((hV.base (by unfold SG; omega)).trans (((hS s9 (by omega)).2 hth).2.2.2.2 i (by omega))) ?_
          refine g_istore_n (pc := 35) C dX8_eveningBad_35 (L' := [(3, .int (it s9 i)), (2, .int (nI i)), (0, .ref (Z.1 0)), (1, .int (nI s9))]) rfl (by decide) rfl ?_
          refine g_iload_n (pc := 36) C dX8_eveningBad_36 rfl 0 rfl ?_
          refine g_i2l (pc := 37) C dX8_eveningBad_37 (v := (it s9 i).toInt64) rfl ?_
          refine g_lconst (pc := 38) C dX8_eveningBad_38 (v := 0) (by decide) ?_
          refine g_ldc2 (pc := 39) C dX8_eveningBad_39 q1604 ?_
          refine g_goi (pc := 42) C (g_runS C (As := [.long ((it s9 i).toInt64), .long (0 : Int64), .long (55 : Int64)]) (rest := []) (mX8_in ((it s9 i).toInt64) (0 : Int64) (55 : Int64)) gvX8_in_X8_64 rfl rfl rfl hdX8_in ⟨Nat.le_of_ble_eq_true rfl, Nat.le_of_ble_eq_true rfl⟩ rfl rfl (Nat.le_of_ble_eq_true rfl) dX8_eveningBad_42 ⟨Nat.le_of_ble_eq_true rfl, Nat.le_of_ble_eq_true rfl⟩) (fun r3 J3 h3 => ?_)
          obtain ⟨eah3, ebh3⟩ := h3
          subst r3
          subst J3
          refine g_eqv (y := bI (isP 56 (it s9 i))) (congrArg bI (isP_lit (by decide))) ?_
          refine g_ifB_eq (pc := 45) C dX8_eveningBad_45 (tgt := 63) (by decide) (fun c4 => ?_) (fun c4 => ?_)
          · refine g_bipush (pc := 63) C dX8_eveningBad_63 (v := (-2)) (by decide) ?_
            exact g_iret (pc := 65) C hR dX8_eveningBad_65 ⟨rfl, by rw [ebV, hth, ev_f (gm_1 c4) c2]; rfl⟩
          · obtain ⟨z, hz, ez⟩ := isP_ofN (by decide) c4
            refine g_aload_n (pc := 48) C dX8_eveningBad_48 rfl 2 rfl ?_
            refine g_iload_n (pc := 49) C dX8_eveningBad_49 rfl 0 rfl ?_
            refine g_eqv (y := (nI z)) ez ?_
            refine g_bipush (pc := 50) C dX8_eveningBad_50 (v := (nI 10)) (by decide) ?_
            refine g_idiv (pc := 52) C dX8_eveningBad_52 (nI_ne0 (by omega) (by omega)) (v := (nI (z / 10))) (pk_div (by omega) (by omega) (by omega)) ?_
            refine g_iload_n (pc := 53) C dX8_eveningBad_53 rfl 0 rfl ?_
            refine g_eqv (y := (nI z)) ez ?_
            refine g_bipush (pc := 54) C dX8_eveningBad_54 (v := (nI 10)) (by decide) ?_
            refine g_irem (pc := 56) C dX8_eveningBad_56 (nI_ne0 (by omega) (by omega)) (v := (nI (z % 10))) (pk_rem (by omega) (by omega) (by omega)) ?_
            refine g_goi (pc := 57) C (g_runV C 0 (As := [.int (nI (z / 10)), .int (nI (z % 10))]) (rest := []) (mX8_areTwo hT hV.many hV.mn6 (nI (z / 10)) (nI (z % 10))) gvX8_areTwo_X8_269 rfl rfl rfl hdX8_areTwo ⟨Nat.le_of_ble_eq_true rfl, Nat.le_of_ble_eq_true rfl⟩ hT.s0 rfl rfl rfl (Nat.le_of_ble_eq_true rfl) dX8_eveningBad_57 ⟨Nat.le_of_ble_eq_true rfl, Nat.le_of_ble_eq_true rfl⟩) (fun r5 J5 h5 => ?_)
            obtain ⟨eah5, ebh5⟩ := h5
            subst r5
            subst J5
            refine g_ifB_ne (pc := 60) C dX8_eveningBad_60 (tgt := 66) (by decide) (fun c6 => ?_) (fun c6 => ?_)
            · refine g_iinc (pc := 66) C dX8_eveningBad_66 (v := (nI (i + 1))) (L' := [(2, .int (nI (i + 1))), (3, .int (it s9 i)), (0, .ref (Z.1 0)), (1, .int (nI s9))]) 1 rfl (nI_add _ _) (by decide) rfl ?_
              refine g_goto (pc := 69) C dX8_eveningBad_69 (tgt := 14) (by decide) ?_
              refine g_locals C [0, 2, 3] rfl ?_
              exact ih14 (sz s9 - (i + 1)) (by omega) (i + 1) (by omega) (ev_s hev (gm_2 hz ez c6)) rfl
            · refine g_bipush (pc := 63) C dX8_eveningBad_63 (v := (-2)) (by decide) ?_
              exact g_iret (pc := 65) C hR dX8_eveningBad_65 ⟨rfl, by rw [ebV, hth, ev_f (gm_2 hz ez c6) c2]; rfl⟩
    exact lp14 _ 0 (Nat.zero_le _) rfl rfl
  · refine g_bipush (pc := 9) C dX8_eveningBad_9 (v := (-11)) (by decide) ?_
    exact g_iret (pc := 11) C hR dX8_eveningBad_11 ⟨rfl, by rw [ebV, c1]; rfl⟩
