abbrev rmX8_richest : Room := { frames := 3, cells := 0, slots := 0, locals := 55 }
set_option maxHeartbeats 4000000 in
theorem mX8_richest {E : gE} {Z : gS} {I : gI} {I0 : gI} {mn rl tn am : Nat} {kd : Nat → Nat} {sm : Nat → gSm} {fr : Nat → gG} {g : gG} (hT : tZ Z) (hV : tP I0 mn kd rl tn sm am fr g I) : gMet E yX8_richest (ws_ yX8_richest cX8_richest 3 (some .int)) rmX8_richest Z I [.ref (Z.1 0)] (cQi E Z (fun r J => I = J ∧ r = (rch g mn).1)) 0 0 := by
  refine g_of (own := RX8) (cc := cX8_richest) (nL := 3) (L0 := [(0, .ref (Z.1 0))]) (by decide) rfl rfl rfl (Nat.le_of_ble_eq_true rfl) rfl ?_
  intro K C hR _
  have hmn := hV.mn6
  refine g_iconst (pc := 0) C dX8_richest_0 (v := (-1)) (by decide) ?_
  refine g_istore_n (pc := 1) C dX8_richest_1 (L' := [(1, .int (-1)), (0, .ref (Z.1 0))]) rfl (by decide) rfl ?_
  refine g_iconst (pc := 2) C dX8_richest_2 (v := (nI 0)) (by decide) ?_
  refine g_istore_n (pc := 3) C dX8_richest_3 (L' := [(2, .int (nI 0)), (1, .int (-1)), (0, .ref (Z.1 0))]) rfl (by decide) rfl ?_
  have lp4 : ∀ (n4 : Nat) (i : Nat) (hi : i ≤ mn), mn - i = n4 → G E K Z I 0 0 [(2, .int (nI i)), (1, .int ((rch g i).1)), (0, .ref (Z.1 0))] 4 [] := by
    intro n4
    induction n4 using Nat.strongRecOn with
    | _ n4 ih4 =>
      intro i hi hm4
      refine g_iload_n (pc := 4) C dX8_richest_4 rfl 0 rfl ?_
      refine g_aload_n (pc := 5) C dX8_richest_5 rfl 2 rfl ?_
      refine gm_many (pc := 6) C hT dX8_richest_6 ?_
      refine g_eqv (y := (nI mn)) hV.many ?_
      refine g_icmpN_ge (pc := 9) C dX8_richest_9 (tgt := 46) (by decide) (by omega) (by omega) (fun c1 => ?_) (fun c1 => ?_)
      · refine g_iload_n (pc := 46) C dX8_richest_46 rfl 1 rfl ?_
        exact g_iret (pc := 47) C hR dX8_richest_47 ⟨rfl, by have e9 : i = mn := (by omega); rw [e9]⟩
      · rcases rch_c hV.gB9 (i := i) (by omega) with er | ⟨j, hj, er⟩
        · refine g_eqL (congrArg (fun x9 : Int32 => ([(2, .int (nI i)), (1, .int x9), (0, .ref (Z.1 0))] : List (Nat × Value))) (show (rch g i).1 = (-1) from by rw [er])) ?_
          refine g_aload_n (pc := 12) C dX8_richest_12 rfl 2 rfl ?_
          refine g_iload_n (pc := 13) C dX8_richest_13 rfl 0 rfl ?_
          refine g_goi (pc := 14) C (g_runV C 0 (As := [.int (nI i)]) (rest := []) (mX8_has hT i (by omega)) gvX8_has_X8_112 rfl rfl rfl hdX8_has ⟨Nat.le_of_ble_eq_true rfl, Nat.le_of_ble_eq_true rfl⟩ hT.s0 rfl rfl rfl (Nat.le_of_ble_eq_true rfl) dX8_richest_14 ⟨Nat.le_of_ble_eq_true rfl, Nat.le_of_ble_eq_true rfl⟩) (fun r2 J2 h2 => ?_)
          obtain ⟨eah2, ebh2⟩ := h2
          subst r2
          subst J2
          refine g_eqv (y := g ((4 * i) + 3)) (hV.row (by omega)) ?_
          refine g_if_eq (pc := 17) C dX8_richest_17 (tgt := 40) (by decide) (fun c3 => ?_) (fun c3 => ?_)
          · refine g_eqL (congrArg (fun x9 : Int32 => ([(2, .int (nI i)), (1, .int x9), (0, .ref (Z.1 0))] : List (Nat × Value))) (show (-1) = (rch g (i + 1)).1 from (by rw [← rch_1 hV.gB9 (i := i) (by omega) c3, er]))) ?_
            refine g_iinc (pc := 40) C dX8_richest_40 (v := (nI (i + 1))) (L' := [(2, .int (nI (i + 1))), (1, .int ((rch g (i + 1)).1)), (0, .ref (Z.1 0))]) 0 rfl (nI_add _ _) (by decide) rfl ?_
            refine g_goto (pc := 43) C dX8_richest_43 (tgt := 4) (by decide) ?_
            exact ih4 (mn - (i + 1)) (by omega) (i + 1) (by omega) rfl
          · refine g_iload_n (pc := 20) C dX8_richest_20 rfl 1 rfl ?_
            refine g_iconst (pc := 21) C dX8_richest_21 (v := (-1)) (by decide) ?_
            refine g_icmp_eq (pc := 22) C dX8_richest_22 (tgt := 38) (by decide) (fun c4 => ?_) (fun c4 => absurd c4 (by decide))
            refine g_iload_n (pc := 38) C dX8_richest_38 rfl 0 rfl ?_
            refine g_istore_n (pc := 39) C dX8_richest_39 (L' := [(1, .int (nI i)), (2, .int (nI i)), (0, .ref (Z.1 0))]) rfl (by decide) rfl ?_
            refine g_eqL (congrArg (fun x9 : Int32 => ([(1, .int x9), (2, .int (nI i)), (0, .ref (Z.1 0))] : List (Nat × Value))) (show (nI i) = (rch g (i + 1)).1 from (rch_2 hV.gB9 (by omega) c3 er))) ?_
            refine g_iinc (pc := 40) C dX8_richest_40 (v := (nI (i + 1))) (L' := [(2, .int (nI (i + 1))), (1, .int ((rch g (i + 1)).1)), (0, .ref (Z.1 0))]) 1 rfl (nI_add _ _) (by decide) rfl ?_
            refine g_goto (pc := 43) C dX8_richest_43 (tgt := 4) (by decide) ?_
            exact ih4 (mn - (i + 1)) (by omega) (i + 1) (by omega) rfl
        · refine g_eqL (congrArg (fun x9 : Int32 => ([(2, .int (nI i)), (1, .int x9), (0, .ref (Z.1 0))] : List (Nat × Value))) (show (rch g i).1 = nI j from by rw [er])) ?_
          refine g_aload_n (pc := 12) C dX8_richest_12 rfl 2 rfl ?_
          refine g_iload_n (pc := 13) C dX8_richest_13 rfl 0 rfl ?_
          refine g_goi (pc := 14) C (g_runV C 0 (As := [.int (nI i)]) (rest := []) (mX8_has hT i (by omega)) gvX8_has_X8_112 rfl rfl rfl hdX8_has ⟨Nat.le_of_ble_eq_true rfl, Nat.le_of_ble_eq_true rfl⟩ hT.s0 rfl rfl rfl (Nat.le_of_ble_eq_true rfl) dX8_richest_14 ⟨Nat.le_of_ble_eq_true rfl, Nat.le_of_ble_eq_true rfl⟩) (fun r5 J5 h5 => ?_)
          obtain ⟨eah5, ebh5⟩ := h5
          subst r5
          subst J5
          refine g_eqv (y := g ((4 * i) + 3)) (hV.row (by omega)) ?_
          refine g_if_eq (pc := 17) C dX8_richest_17 (tgt := 40) (by decide) (fun c6 => ?_) (fun c6 => ?_)
          · refine g_eqL (congrArg (fun x9 : Int32 => ([(2, .int (nI i)), (1, .int x9), (0, .ref (Z.1 0))] : List (Nat × Value))) (show (nI j) = (rch g (i + 1)).1 from (by rw [← rch_1 hV.gB9 (i := i) (by omega) c6, er]))) ?_
            refine g_iinc (pc := 40) C dX8_richest_40 (v := (nI (i + 1))) (L' := [(2, .int (nI (i + 1))), (1, .int ((rch g (i + 1)).1)), (0, .ref (Z.1 0))]) 0 rfl (nI_add _ _) (by decide) rfl ?_
            refine g_goto (pc := 43) C dX8_richest_43 (tgt := 4) (by decide) ?_
            exact ih4 (mn - (i + 1)) (by omega) (i + 1) (by omega) rfl
          · refine g_iload_n (pc := 20) C dX8_richest_20 rfl 1 rfl ?_
            refine g_iconst (pc := 21) C dX8_richest_21 (v := (-1)) (by decide) ?_
            refine g_icmp_eq (pc := 22) C dX8_richest_22 (tgt := 38) (by decide) (fun c7 => absurd c7 (nI_m1 (by omega))) (fun c7 => ?_)
            refine g_aload_n (pc := 25) C dX8_richest_25 rfl 2 rfl ?_
            refine g_iload_n (pc := 26) C dX8_richest_26 rfl 0 rfl ?_
            refine g_goi (pc := 27) C (g_runV C 0 (As := [.int (nI i)]) (rest := []) (mX8_hasMany hT i (by omega) (by obtain ⟨z, hz, ez⟩ := hV.has (p := i) (by omega); exact ⟨z, hz, (hV.row (by omega)).trans ez⟩)) gvX8_hasMany_X8_122 rfl rfl rfl hdX8_hasMany ⟨Nat.le_of_ble_eq_true rfl, Nat.le_of_ble_eq_true rfl⟩ hT.s0 rfl rfl rfl (Nat.le_of_ble_eq_true rfl) dX8_richest_27 ⟨Nat.le_of_ble_eq_true rfl, Nat.le_of_ble_eq_true rfl⟩) (fun r8 J8 h8 => ?_)
            obtain ⟨eah8, ebh8⟩ := h8
            subst r8
            subst J8
            refine g_eqv (y := bc (g ((4 * i) + 3))) (congrArg bc (hV.row (by omega))) ?_
            refine g_aload_n (pc := 30) C dX8_richest_30 rfl 2 rfl ?_
            refine g_iload_n (pc := 31) C dX8_richest_31 rfl 1 rfl ?_
            refine g_goi (pc := 32) C (g_runV C 0 (As := [.int (nI j)]) (rest := [.int (bc (g ((4 * i) + 3)))]) (mX8_hasMany hT j (by omega) (by obtain ⟨z, hz, ez⟩ := hV.has (p := j) (by omega); exact ⟨z, hz, (hV.row (by omega)).trans ez⟩)) gvX8_hasMany_X8_122 rfl rfl rfl hdX8_hasMany ⟨Nat.le_of_ble_eq_true rfl, Nat.le_of_ble_eq_true rfl⟩ hT.s0 rfl rfl rfl (Nat.le_of_ble_eq_true rfl) dX8_richest_32 ⟨Nat.le_of_ble_eq_true rfl, Nat.le_of_ble_eq_true rfl⟩) (fun r9 J9 h9 => ?_)
            obtain ⟨eah9, ebh9⟩ := h9
            subst r9
            subst J9
            refine g_eqv (y := bc (g ((4 * j) + 3))) (congrArg bc (hV.row (by omega))) ?_
            refine g_icmp_le (pc := 35) C dX8_richest_35 (tgt := 40) (by decide) (fun c10 => ?_) (fun c10 => ?_)
            · refine g_eqL (congrArg (fun x9 : Int32 => ([(2, .int (nI i)), (1, .int x9), (0, .ref (Z.1 0))] : List (Nat × Value))) (show (nI j) = (rch g (i + 1)).1 from (rch_4 er c10))) ?_
              refine g_iinc (pc := 40) C dX8_richest_40 (v := (nI (i + 1))) (L' := [(2, .int (nI (i + 1))), (1, .int ((rch g (i + 1)).1)), (0, .ref (Z.1 0))]) 0 rfl (nI_add _ _) (by decide) rfl ?_
              refine g_goto (pc := 43) C dX8_richest_43 (tgt := 4) (by decide) ?_
              exact ih4 (mn - (i + 1)) (by omega) (i + 1) (by omega) rfl
            · refine g_iload_n (pc := 38) C dX8_richest_38 rfl 0 rfl ?_
              refine g_istore_n (pc := 39) C dX8_richest_39 (L' := [(1, .int (nI i)), (2, .int (nI i)), (0, .ref (Z.1 0))]) rfl (by decide) rfl ?_
              refine g_eqL (congrArg (fun x9 : Int32 => ([(1, .int x9), (2, .int (nI i)), (0, .ref (Z.1 0))] : List (Nat × Value))) (show (nI i) = (rch g (i + 1)).1 from (rch_3 er c10))) ?_
              refine g_iinc (pc := 40) C dX8_richest_40 (v := (nI (i + 1))) (L' := [(2, .int (nI (i + 1))), (1, .int ((rch g (i + 1)).1)), (0, .ref (Z.1 0))]) 1 rfl (nI_add _ _) (by decide) rfl ?_
              refine g_goto (pc := 43) C dX8_richest_43 (tgt := 4) (by decide) ?_
              exact ih4 (mn - (i + 1)) (by omega) (i + 1) (by omega) rfl
  exact lp4 _ 0 (Nat.zero_le _) rfl
