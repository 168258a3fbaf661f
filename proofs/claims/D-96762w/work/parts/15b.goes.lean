abbrev rmX8_goes : Room := { frames := 126, cells := 0, slots := 0, locals := 12148 }
set_option maxHeartbeats 4000000 in
theorem mX8_goes {E : gE} {Z : gS} {I : gI} {I0 : gI} {mn rl tn am : Nat} {kd : Nat → Nat} {sm : Nat → gSm} {fr : Nat → gG} {g : gG} (hT : tZ Z) (hV : tP I0 mn kd rl tn sm am fr g I) {th : Nat → Bool} {so sz : Nat → Nat} {it : Nat → Nat → Int32} (hS : shI I0 th so sz it) (s9 : Nat) (hs9 : s9 < 4) (hth : th s9 = true) (hok : evOk mn (it s9) (sz s9) = true) : gMet E yX8_goes (ws_ yX8_goes cX8_goes 5 (some .int)) rmX8_goes Z I [.ref (Z.1 0), .int (nI s9)] (cQi E Z (fun r J => tP I0 mn kd rl tn sm am fr ((gos kd (sm rl) (it s9) (sz s9) g).1) J ∧ r = nI (gos kd (sm rl) (it s9) (sz s9) g).2)) 0 0 := by
  refine g_of (own := RX8) (cc := cX8_goes) (nL := 5) (L0 := [(0, .ref (Z.1 0)), (1, .int (nI s9))]) (by decide) rfl rfl rfl (Nat.le_of_ble_eq_true rfl) rfl ?_
  intro K C hR _
  have hmn := hV.mn6
  have hsz := ((hS s9 (by omega)).2 hth).2.2.2.1
  refine g_iconst (pc := 0) C dX8_goes_0 (v := (nI 0)) (by decide) ?_
  refine g_istore_n (pc := 1) C dX8_goes_1 (L' := [(2, .int (nI 0)), (0, .ref (Z.1 0)), (1, .int (nI s9))]) rfl (by decide) rfl ?_
  refine g_iconst (pc := 2) C dX8_goes_2 (v := (nI 0)) (by decide) ?_
  refine g_istore_n (pc := 3) C dX8_goes_3 (L' := [(3, .int (nI 0)), (2, .int (nI 0)), (0, .ref (Z.1 0)), (1, .int (nI s9))]) rfl (by decide) rfl ?_
  have lp4 : ∀ (n4 : Nat) (i : Nat) (J : gI) (hi : i ≤ sz s9) (hJ : tP I0 mn kd rl tn sm am fr ((gos kd (sm rl) (it s9) i g).1) J), sz s9 - i = n4 → G E K Z J 0 0 [(3, .int (nI i)), (2, .int (nI ((gos kd (sm rl) (it s9) i g).2))), (0, .ref (Z.1 0)), (1, .int (nI s9))] 4 [] := by
    intro n4
    induction n4 using Nat.strongRecOn with
    | _ n4 ih4 =>
      intro i J hi hJ hm4
      refine g_iload_n (pc := 4) C dX8_goes_4 rfl 0 rfl ?_
      refine g_aload_n (pc := 5) C dX8_goes_5 rfl 2 rfl ?_
      refine gm_sheetSize (pc := 6) C hT dX8_goes_6 ?_
      refine g_iload_n (pc := 9) C dX8_goes_9 rfl 3 rfl ?_
      refine g_iald (pc := 10) C 10 s9 hT.s10 (by omega) (by decide) dX8_goes_10 ?_
      refine g_eqv (y := nI (sz s9)) ((hJ.base (by unfold SG; omega)).trans ((hS s9 (by omega)).2 hth).2.2.1) ?_
      refine g_icmpN_ge (pc := 11) C dX8_goes_11 (tgt := 59) (by decide) (by omega) (by omega) (fun c1 => ?_) (fun c1 => ?_)
      · refine g_iload_n (pc := 59) C dX8_goes_59 rfl 1 rfl ?_
        exact g_iret (pc := 60) C hR dX8_goes_60 (by have e9 : i = sz s9 := (by omega); rw [← e9]; exact ⟨hJ, rfl⟩)
      · refine g_aload_n (pc := 14) C dX8_goes_14 rfl 2 rfl ?_
        refine gm_items (pc := 15) C hT dX8_goes_15 ?_
        refine g_bipush (pc := 18) C dX8_goes_18 (v := (nI 40)) (by decide) ?_
        refine g_iload_n (pc := 20) C dX8_goes_20 rfl 3 rfl ?_
        refine g_imul (pc := 21) C dX8_goes_21 (v := (nI (40 * s9))) (pk_mul _ _) ?_
        refine g_iload_n (pc := 22) C dX8_goes_22 rfl 0 rfl ?_
        refine g_iadd (pc := 23) C dX8_goes_23 (v := (nI ((40 * s9) + i))) (nI_add _ _) ?_
        refine g_iald (pc := 24) C 11 ((40 * s9) + i) hT.s11 (by omega) (by decide) dX8_goes_24 ?_
        refine g_eqv (y := it s9 i) ((hJ.base (by unfold SG; omega)).trans (((hS s9 (by omega)).2 hth).2.2.2.2 i (by omega))) ?_
        refine g_istore (pc := 25) C dX8_goes_25 (L' := [(4, .int (it s9 i)), (3, .int (nI i)), (2, .int (nI ((gos kd (sm rl) (it s9) i g).2))), (0, .ref (Z.1 0)), (1, .int (nI s9))]) (by decide) rfl ?_
        refine g_iload_n (pc := 27) C dX8_goes_27 rfl 2 rfl ?_
        obtain ⟨z, hz, ez, hza, hzb, hzn, eA, eB⟩ := gm_of (ev_of hok c1)
        refine g_aload_n (pc := 28) C dX8_goes_28 rfl 3 rfl ?_
        refine g_iload (pc := 29) C dX8_goes_29 0 rfl ?_
        refine g_eqv (y := (nI z)) ez ?_
        refine g_bipush (pc := 31) C dX8_goes_31 (v := (nI 10)) (by decide) ?_
        refine g_idiv (pc := 33) C dX8_goes_33 (nI_ne0 (by omega) (by omega)) (v := (nI (z / 10))) (pk_div (by omega) (by omega) (by omega)) ?_
        refine g_iload (pc := 34) C dX8_goes_34 0 rfl ?_
        refine g_eqv (y := (nI z)) ez ?_
        refine g_bipush (pc := 36) C dX8_goes_36 (v := (nI 10)) (by decide) ?_
        refine g_irem (pc := 38) C dX8_goes_38 (nI_ne0 (by omega) (by omega)) (v := (nI (z % 10))) (pk_rem (by omega) (by omega) (by omega)) ?_
        refine g_goi (pc := 39) C (g_runV C 0 (As := [.int (nI (z / 10)), .int (nI (z % 10))]) (rest := [.int (nI ((gos kd (sm rl) (it s9) i g).2))]) (mX8_games hT hJ (z / 10) (z % 10) (by omega) (by omega) (by omega)) gvX8_games_X8_278 rfl rfl rfl hdX8_games ⟨Nat.le_of_ble_eq_true rfl, Nat.le_of_ble_eq_true rfl⟩ hT.s0 rfl rfl rfl (Nat.le_of_ble_eq_true rfl) dX8_goes_39 ⟨Nat.le_of_ble_eq_true rfl, Nat.le_of_ble_eq_true rfl⟩) (fun r2 J2 h2 => ?_)
        obtain ⟨vh2, eh2⟩ := h2
        subst r2
        have hw3 := wn_lt kd (sm rl) ((gos kd (sm rl) (it s9) i g).1) (z / 10) (z % 10)
        obtain hw | hw | hw : wn kd (sm rl) ((gos kd (sm rl) (it s9) i g).1) (z / 10) (z % 10) = 0 ∨ wn kd (sm rl) ((gos kd (sm rl) (it s9) i g).1) (z / 10) (z % 10) = 1 ∨ wn kd (sm rl) ((gos kd (sm rl) (it s9) i g).1) (z / 10) (z % 10) = 2 := by omega
        · refine g_eqv (y := (nI (z / 10))) (by rw [hw]; rfl) ?_
          refine g_iconst (pc := 42) C dX8_goes_42 (v := (-1)) (by decide) ?_
          refine g_icmp_ne (pc := 43) C dX8_goes_43 (tgt := 50) (by decide) (fun c3 => ?_) (fun c3 => absurd c3 (nI_m1 (by omega)))
          refine g_iconst (pc := 50) C dX8_goes_50 (v := (nI 0)) (by decide) ?_
          refine g_iadd (pc := 51) C dX8_goes_51 (v := (nI (((gos kd (sm rl) (it s9) i g).2) + 0))) (nI_add _ _) ?_
          refine g_eqv (y := nI (gos kd (sm rl) (it s9) (i + 1) g).2) (congrArg nI (gos_n eA eB (by rw [hw]; rfl))) ?_
          refine g_istore_n (pc := 52) C dX8_goes_52 (L' := [(2, .int (nI ((gos kd (sm rl) (it s9) (i + 1) g).2))), (4, .int (it s9 i)), (3, .int (nI i)), (0, .ref (Z.1 0)), (1, .int (nI s9))]) rfl (by decide) rfl ?_
          refine g_iinc (pc := 53) C dX8_goes_53 (v := (nI (i + 1))) (L' := [(3, .int (nI (i + 1))), (2, .int (nI ((gos kd (sm rl) (it s9) (i + 1) g).2))), (4, .int (it s9 i)), (0, .ref (Z.1 0)), (1, .int (nI s9))]) 2 rfl (nI_add _ _) (by decide) rfl ?_
          refine g_goto (pc := 56) C dX8_goes_56 (tgt := 4) (by decide) ?_
          refine g_locals C [0, 1, 3, 4] rfl ?_
          exact ih4 (sz s9 - (i + 1)) (by omega) (i + 1) J2 (by omega) (by rw [gos_e eA eB]; exact vh2) rfl
        · refine g_eqv (y := (nI (z % 10))) (by rw [hw]; rfl) ?_
          refine g_iconst (pc := 42) C dX8_goes_42 (v := (-1)) (by decide) ?_
          refine g_icmp_ne (pc := 43) C dX8_goes_43 (tgt := 50) (by decide) (fun c4 => ?_) (fun c4 => absurd c4 (nI_m1 (by omega)))
          refine g_iconst (pc := 50) C dX8_goes_50 (v := (nI 0)) (by decide) ?_
          refine g_iadd (pc := 51) C dX8_goes_51 (v := (nI (((gos kd (sm rl) (it s9) i g).2) + 0))) (nI_add _ _) ?_
          refine g_eqv (y := nI (gos kd (sm rl) (it s9) (i + 1) g).2) (congrArg nI (gos_n eA eB (by rw [hw]; rfl))) ?_
          refine g_istore_n (pc := 52) C dX8_goes_52 (L' := [(2, .int (nI ((gos kd (sm rl) (it s9) (i + 1) g).2))), (4, .int (it s9 i)), (3, .int (nI i)), (0, .ref (Z.1 0)), (1, .int (nI s9))]) rfl (by decide) rfl ?_
          refine g_iinc (pc := 53) C dX8_goes_53 (v := (nI (i + 1))) (L' := [(3, .int (nI (i + 1))), (2, .int (nI ((gos kd (sm rl) (it s9) (i + 1) g).2))), (4, .int (it s9 i)), (0, .ref (Z.1 0)), (1, .int (nI s9))]) 2 rfl (nI_add _ _) (by decide) rfl ?_
          refine g_goto (pc := 56) C dX8_goes_56 (tgt := 4) (by decide) ?_
          refine g_locals C [0, 1, 3, 4] rfl ?_
          exact ih4 (sz s9 - (i + 1)) (by omega) (i + 1) J2 (by omega) (by rw [gos_e eA eB]; exact vh2) rfl
        · refine g_eqv (y := (-1)) (by rw [hw]; rfl) ?_
          refine g_iconst (pc := 42) C dX8_goes_42 (v := (-1)) (by decide) ?_
          refine g_icmp_ne (pc := 43) C dX8_goes_43 (tgt := 50) (by decide) (fun c5 => absurd c5 (by decide)) (fun c5 => ?_)
          refine g_iconst (pc := 46) C dX8_goes_46 (v := (nI 1)) (by decide) ?_
          refine g_goto (pc := 47) C dX8_goes_47 (tgt := 51) (by decide) ?_
          refine g_iadd (pc := 51) C dX8_goes_51 (v := (nI (((gos kd (sm rl) (it s9) i g).2) + 1))) (nI_add _ _) ?_
          refine g_eqv (y := nI (gos kd (sm rl) (it s9) (i + 1) g).2) (congrArg nI (gos_n eA eB (by rw [hw]; rfl))) ?_
          refine g_istore_n (pc := 52) C dX8_goes_52 (L' := [(2, .int (nI ((gos kd (sm rl) (it s9) (i + 1) g).2))), (4, .int (it s9 i)), (3, .int (nI i)), (0, .ref (Z.1 0)), (1, .int (nI s9))]) rfl (by decide) rfl ?_
          refine g_iinc (pc := 53) C dX8_goes_53 (v := (nI (i + 1))) (L' := [(3, .int (nI (i + 1))), (2, .int (nI ((gos kd (sm rl) (it s9) (i + 1) g).2))), (4, .int (it s9 i)), (0, .ref (Z.1 0)), (1, .int (nI s9))]) 2 rfl (nI_add _ _) (by decide) rfl ?_
          refine g_goto (pc := 56) C dX8_goes_56 (tgt := 4) (by decide) ?_
          refine g_locals C [0, 1, 3, 4] rfl ?_
          exact ih4 (sz s9 - (i + 1)) (by omega) (i + 1) J2 (by omega) (by rw [gos_e eA eB]; exact vh2) rfl
  exact lp4 _ 0 I (Nat.zero_le _) hV rfl
