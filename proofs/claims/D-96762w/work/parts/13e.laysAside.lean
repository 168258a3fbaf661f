abbrev rmX8_laysAside : Room := { frames := 1, cells := 0, slots := 0, locals := 12 }
set_option maxHeartbeats 4000000 in
theorem mX8_laysAside {E : gE} {Z : gS} {I : gI} {I0 : gI} {mn rl tn am : Nat} {kd : Nat → Nat} {sm : Nat → gSm} {fr : Nat → gG} {g : gG} (hT : tZ Z) (hV : tP I0 mn kd rl tn sm am fr g I) (ha8 : am < 8) : gMet E yX8_laysAside (ws_ yX8_laysAside cX8_laysAside 2 none) rmX8_laysAside Z I [.ref (Z.1 0)] (cQv E Z (fun J => tP I0 mn kd rl tn sm (am + 1) (va_up fr am g) g J)) 0 0 := by
  refine g_of (own := RX8) (cc := cX8_laysAside) (nL := 2) (L0 := [(0, .ref (Z.1 0))]) (by decide) rfl rfl rfl (Nat.le_of_ble_eq_true rfl) rfl ?_
  intro K C hR _
  have hmn := hV.mn6
  refine g_iconst (pc := 0) C dX8_laysAside_0 (v := (nI 0)) (by decide) ?_
  refine g_istore_n (pc := 1) C dX8_laysAside_1 (L' := [(1, .int (nI 0)), (0, .ref (Z.1 0))]) rfl (by decide) rfl ?_
  have lp2 : ∀ (n2 : Nat) (i : Nat) (J : gI) (hi : i ≤ 24) (hJ : tP I0 mn kd rl tn sm am fr g J) (hc : ∀ k, k < i → J 6 (26 * am + k) = g k), 24 - i = n2 → G E K Z J 0 0 [(1, .int (nI i)), (0, .ref (Z.1 0))] 2 [] := by
    intro n2
    induction n2 using Nat.strongRecOn with
    | _ n2 ih2 =>
      intro i J hi hJ hc hm2
      refine g_iload_n (pc := 2) C dX8_laysAside_2 rfl 0 rfl ?_
      refine g_bipush (pc := 3) C dX8_laysAside_3 (v := (nI 24)) (by decide) ?_
      refine g_icmpN_ge (pc := 5) C dX8_laysAside_5 (tgt := 34) (by decide) (by omega) (by omega) (fun c1 => ?_) (fun c1 => ?_)
      · refine g_aload_n (pc := 34) C dX8_laysAside_34 rfl 1 rfl ?_
        refine gm_aside (pc := 35) C hT dX8_laysAside_35 ?_
        refine g_bipush (pc := 38) C dX8_laysAside_38 (v := (nI 26)) (by decide) ?_
        refine g_aload_n (pc := 40) C dX8_laysAside_40 rfl 1 rfl ?_
        refine gm_asideMany (pc := 41) C hT dX8_laysAside_41 ?_
        refine g_eqv (y := (nI am)) hJ.amN ?_
        refine g_imul (pc := 44) C dX8_laysAside_44 (v := (nI (26 * am))) (pk_mul _ _) ?_
        refine g_bipush (pc := 45) C dX8_laysAside_45 (v := (nI 24)) (by decide) ?_
        refine g_iadd (pc := 47) C dX8_laysAside_47 (v := (nI ((26 * am) + 24))) (nI_add _ _) ?_
        refine g_aload_n (pc := 48) C dX8_laysAside_48 rfl 1 rfl ?_
        refine gm_hall (pc := 49) C hT dX8_laysAside_49 ?_
        refine g_eqv (y := (g 24)) hJ.hall ?_
        refine g_iast (pc := 52) C 6 ((26 * am) + 24) hT.s6 (by omega) (by decide) dX8_laysAside_52 ?_
        refine g_aload_n (pc := 53) C dX8_laysAside_53 rfl 1 rfl ?_
        refine gm_aside (pc := 54) C hT dX8_laysAside_54 ?_
        refine g_bipush (pc := 57) C dX8_laysAside_57 (v := (nI 26)) (by decide) ?_
        refine g_aload_n (pc := 59) C dX8_laysAside_59 rfl 1 rfl ?_
        refine gm_asideMany (pc := 60) C hT dX8_laysAside_60 ?_
        refine g_eqv (y := (nI am)) ((up2_n _ _ (by omega)).trans (hJ.amN)) ?_
        refine g_imul (pc := 63) C dX8_laysAside_63 (v := (nI (26 * am))) (pk_mul _ _) ?_
        refine g_bipush (pc := 64) C dX8_laysAside_64 (v := (nI 25)) (by decide) ?_
        refine g_iadd (pc := 66) C dX8_laysAside_66 (v := (nI ((26 * am) + 25))) (nI_add _ _) ?_
        refine g_aload_n (pc := 67) C dX8_laysAside_67 rfl 1 rfl ?_
        refine gm_roundNow (pc := 68) C hT dX8_laysAside_68 ?_
        refine g_eqv (y := (g 25)) ((up2_n _ _ (by omega)).trans (hJ.round)) ?_
        refine g_iast (pc := 71) C 6 ((26 * am) + 25) hT.s6 (by omega) (by decide) dX8_laysAside_71 ?_
        refine g_aload_n (pc := 72) C dX8_laysAside_72 rfl 1 rfl ?_
        refine g_dup (pc := 73) C dX8_laysAside_73 rfl ?_
        refine gm_asideMany (pc := 74) C hT dX8_laysAside_74 ?_
        refine g_eqv (y := (nI am)) ((up2_n _ _ (by omega)).trans ((up2_n _ _ (by omega)).trans (hJ.amN))) ?_
        refine g_iconst (pc := 77) C dX8_laysAside_77 (v := (nI 1)) (by decide) ?_
        refine g_iadd (pc := 78) C dX8_laysAside_78 (v := (nI (am + 1))) (nI_add _ _) ?_
        refine gmp_asideMany (pc := 79) C hT dX8_laysAside_79 ?_
        exact g_vret (pc := 82) C hR dX8_laysAside_82 (hJ.push ha8 (fun k hk => hc k (by omega)))
      · refine g_aload_n (pc := 8) C dX8_laysAside_8 rfl 1 rfl ?_
        refine gm_aside (pc := 9) C hT dX8_laysAside_9 ?_
        refine g_bipush (pc := 12) C dX8_laysAside_12 (v := (nI 26)) (by decide) ?_
        refine g_aload_n (pc := 14) C dX8_laysAside_14 rfl 1 rfl ?_
        refine gm_asideMany (pc := 15) C hT dX8_laysAside_15 ?_
        refine g_eqv (y := (nI am)) hJ.amN ?_
        refine g_imul (pc := 18) C dX8_laysAside_18 (v := (nI (26 * am))) (pk_mul _ _) ?_
        refine g_iload_n (pc := 19) C dX8_laysAside_19 rfl 0 rfl ?_
        refine g_iadd (pc := 20) C dX8_laysAside_20 (v := (nI ((26 * am) + i))) (nI_add _ _) ?_
        refine g_aload_n (pc := 21) C dX8_laysAside_21 rfl 1 rfl ?_
        refine gm_rows (pc := 22) C hT dX8_laysAside_22 ?_
        refine g_iload_n (pc := 25) C dX8_laysAside_25 rfl 0 rfl ?_
        refine g_iald (pc := 26) C 5 i hT.s5 (by omega) (by decide) dX8_laysAside_26 ?_
        refine g_eqv (y := g (i)) (hJ.row (by omega)) ?_
        refine g_iast (pc := 27) C 6 ((26 * am) + i) hT.s6 (by omega) (by decide) dX8_laysAside_27 ?_
        refine g_iinc (pc := 28) C dX8_laysAside_28 (v := (nI (i + 1))) (L' := [(1, .int (nI (i + 1))), (0, .ref (Z.1 0))]) 0 rfl (nI_add _ _) (by decide) rfl ?_
        refine g_goto (pc := 31) C dX8_laysAside_31 (tgt := 2) (by decide) ?_
        exact ih2 (24 - (i + 1)) (by omega) (i + 1) (up2 J 6 ((26 * am) + i) (g (i))) (by omega) (hJ.asd (by omega)) (asd_s hc) rfl
  exact lp2 _ 0 I (by omega) hV (fun k h => absurd h (by omega)) rfl
abbrev rmX8_laysBack : Room := { frames := 1, cells := 0, slots := 0, locals := 12 }
set_option maxHeartbeats 4000000 in
theorem mX8_laysBack {E : gE} {Z : gS} {I : gI} {g0 : gG} {I0 : gI} {mn rl tn am : Nat} {kd : Nat → Nat} {sm : Nat → gSm} {fr : Nat → gG} {g : gG} (hT : tZ Z) (hV : tP I0 mn kd rl tn sm (am + 1) (va_up fr am g0) g I) (hg : gB mn g0) : gMet E yX8_laysBack (ws_ yX8_laysBack cX8_laysBack 2 none) rmX8_laysBack Z I [.ref (Z.1 0)] (cQv E Z (fun J => tP I0 mn kd rl tn sm am fr g0 J)) 0 0 := by
  refine g_of (own := RX8) (cc := cX8_laysBack) (nL := 2) (L0 := [(0, .ref (Z.1 0))]) (by decide) rfl rfl rfl (Nat.le_of_ble_eq_true rfl) rfl ?_
  intro K C hR _
  have hmn := hV.mn6
  have h8 := hV.am8
  refine g_aload_n (pc := 0) C dX8_laysBack_0 rfl 0 rfl ?_
  refine g_dup (pc := 1) C dX8_laysBack_1 rfl ?_
  refine gm_asideMany (pc := 2) C hT dX8_laysBack_2 ?_
  refine g_eqv (y := (nI (am + 1))) hV.amN ?_
  refine g_iconst (pc := 5) C dX8_laysBack_5 (v := (nI 1)) (by decide) ?_
  refine g_isub (pc := 6) C dX8_laysBack_6 (v := (nI ((am + 1) - 1))) (pk_sub (by omega)) ?_
  refine gmp_asideMany (pc := 7) C hT dX8_laysBack_7 ?_
  refine g_iconst (pc := 10) C dX8_laysBack_10 (v := (nI 0)) (by decide) ?_
  refine g_istore_n (pc := 11) C dX8_laysBack_11 (L' := [(1, .int (nI 0)), (0, .ref (Z.1 0))]) rfl (by decide) rfl ?_
  have lp12 : ∀ (n12 : Nat) (i : Nat) (J : gI) (hi : i ≤ 24) (hJ : lbI I0 mn kd rl tn sm am (va_up fr am g0) i J), 24 - i = n12 → G E K Z J 0 0 [(1, .int (nI i)), (0, .ref (Z.1 0))] 12 [] := by
    intro n12
    induction n12 using Nat.strongRecOn with
    | _ n12 ih12 =>
      intro i J hi hJ hm12
      refine g_iload_n (pc := 12) C dX8_laysBack_12 rfl 0 rfl ?_
      refine g_bipush (pc := 13) C dX8_laysBack_13 (v := (nI 24)) (by decide) ?_
      refine g_icmpN_ge (pc := 15) C dX8_laysBack_15 (tgt := 44) (by decide) (by omega) (by omega) (fun c1 => ?_) (fun c1 => ?_)
      · refine g_aload_n (pc := 44) C dX8_laysBack_44 rfl 1 rfl ?_
        refine g_aload_n (pc := 45) C dX8_laysBack_45 rfl 1 rfl ?_
        refine gm_aside (pc := 46) C hT dX8_laysBack_46 ?_
        refine g_bipush (pc := 49) C dX8_laysBack_49 (v := (nI 26)) (by decide) ?_
        refine g_aload_n (pc := 51) C dX8_laysBack_51 rfl 1 rfl ?_
        refine gm_asideMany (pc := 52) C hT dX8_laysBack_52 ?_
        refine g_eqv (y := (nI am)) hJ.1 ?_
        refine g_imul (pc := 55) C dX8_laysBack_55 (v := (nI (26 * am))) (pk_mul _ _) ?_
        refine g_bipush (pc := 56) C dX8_laysBack_56 (v := (nI 24)) (by decide) ?_
        refine g_iadd (pc := 58) C dX8_laysBack_58 (v := (nI ((26 * am) + 24))) (nI_add _ _) ?_
        refine g_iald (pc := 59) C 6 ((26 * am) + 24) hT.s6 (by omega) (by decide) dX8_laysBack_59 ?_
        refine g_eqv (y := (va_up fr am g0) am 24) (hJ.2.2 24 (by omega)) ?_
        refine gmp_hall (pc := 60) C hT dX8_laysBack_60 ?_
        refine g_aload_n (pc := 63) C dX8_laysBack_63 rfl 1 rfl ?_
        refine g_aload_n (pc := 64) C dX8_laysBack_64 rfl 1 rfl ?_
        refine gm_aside (pc := 65) C hT dX8_laysBack_65 ?_
        refine g_bipush (pc := 68) C dX8_laysBack_68 (v := (nI 26)) (by decide) ?_
        refine g_aload_n (pc := 70) C dX8_laysBack_70 rfl 1 rfl ?_
        refine gm_asideMany (pc := 71) C hT dX8_laysBack_71 ?_
        refine g_eqv (y := (nI am)) ((up2_n _ _ (by omega)).trans (hJ.1)) ?_
        refine g_imul (pc := 74) C dX8_laysBack_74 (v := (nI (26 * am))) (pk_mul _ _) ?_
        refine g_bipush (pc := 75) C dX8_laysBack_75 (v := (nI 25)) (by decide) ?_
        refine g_iadd (pc := 77) C dX8_laysBack_77 (v := (nI ((26 * am) + 25))) (nI_add _ _) ?_
        refine g_iald (pc := 78) C 6 ((26 * am) + 25) hT.s6 (by omega) (by decide) dX8_laysBack_78 ?_
        refine g_eqv (y := (va_up fr am g0) am 25) ((up2_n _ _ (by omega)).trans (hJ.2.2 25 (by omega))) ?_
        refine gmp_roundNow (pc := 79) C hT dX8_laysBack_79 ?_
        exact g_vret (pc := 82) C hR dX8_laysBack_82 (tP.unp (lbI.fin hJ (by omega) (by rw [va_up_self]; exact hg)))
      · refine g_aload_n (pc := 18) C dX8_laysBack_18 rfl 1 rfl ?_
        refine gm_rows (pc := 19) C hT dX8_laysBack_19 ?_
        refine g_iload_n (pc := 22) C dX8_laysBack_22 rfl 0 rfl ?_
        refine g_aload_n (pc := 23) C dX8_laysBack_23 rfl 1 rfl ?_
        refine gm_aside (pc := 24) C hT dX8_laysBack_24 ?_
        refine g_bipush (pc := 27) C dX8_laysBack_27 (v := (nI 26)) (by decide) ?_
        refine g_aload_n (pc := 29) C dX8_laysBack_29 rfl 1 rfl ?_
        refine gm_asideMany (pc := 30) C hT dX8_laysBack_30 ?_
        refine g_eqv (y := (nI am)) hJ.1 ?_
        refine g_imul (pc := 33) C dX8_laysBack_33 (v := (nI (26 * am))) (pk_mul _ _) ?_
        refine g_iload_n (pc := 34) C dX8_laysBack_34 rfl 0 rfl ?_
        refine g_iadd (pc := 35) C dX8_laysBack_35 (v := (nI ((26 * am) + i))) (nI_add _ _) ?_
        refine g_iald (pc := 36) C 6 ((26 * am) + i) hT.s6 (by omega) (by decide) dX8_laysBack_36 ?_
        refine g_eqv (y := (va_up fr am g0) am i) (hJ.2.2 i (by omega)) ?_
        refine g_iast (pc := 37) C 5 i hT.s5 (by omega) (by decide) dX8_laysBack_37 ?_
        refine g_iinc (pc := 38) C dX8_laysBack_38 (v := (nI (i + 1))) (L' := [(1, .int (nI (i + 1))), (0, .ref (Z.1 0))]) 0 rfl (nI_add _ _) (by decide) rfl ?_
        refine g_goto (pc := 41) C dX8_laysBack_41 (tgt := 12) (by decide) ?_
        exact ih12 (24 - (i + 1)) (by omega) (i + 1) (up2 J 5 i ((va_up fr am g0) am i)) (by omega) (hJ.lbs (by omega)) rfl
  exact lp12 _ 0 (up2 I 0 28 (nI ((am + 1) - 1))) (by omega) (hV.lb0) rfl
