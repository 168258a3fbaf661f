abbrev rmX8_tiresOf : Room := { frames := 122, cells := 0, slots := 0, locals := 12049 }
set_option maxHeartbeats 4000000 in
theorem mX8_tiresOf {E : gE} {Z : gS} {I : gI} {I0 : gI} {mn rl tn am : Nat} {kd : Nat → Nat} {sm : Nat → gSm} {fr : Nat → gG} {g : gG} (hT : tZ Z) (hV : tP I0 mn kd rl tn sm am fr g I) (p q : Nat) (hp : p < mn) (hq : q < mn) (won : Bool) : gMet E yX8_tiresOf (ws_ yX8_tiresOf cX8_tiresOf 7 (some .int)) rmX8_tiresOf Z I [.ref (Z.1 0), .int (nI p), .int (nI q), .int (bI won)] (cQi E Z (fun r J => tP I0 mn kd rl tn sm am fr g J ∧ r = ti kd (sm rl) g p q won)) 0 0 := by
  refine g_of (own := RX8) (cc := cX8_tiresOf) (nL := 7) (L0 := [(0, .ref (Z.1 0)), (1, .int (nI p)), (2, .int (nI q)), (3, .int (bI won))]) (by decide) rfl rfl rfl (Nat.le_of_ble_eq_true rfl) rfl ?_
  intro K C hR _
  have hmn := hV.mn6
  refine g_aload_n (pc := 0) C dX8_tiresOf_0 rfl 0 rfl ?_
  refine gm_kinds (pc := 1) C hT dX8_tiresOf_1 ?_
  refine g_iload_n (pc := 4) C dX8_tiresOf_4 rfl 1 rfl ?_
  refine g_iald (pc := 5) C 4 p hT.s4 (by omega) (by decide) dX8_tiresOf_5 ?_
  refine g_eqv (y := nI (kd p)) (hV.kind (by omega)) ?_
  have hk5 := hV.kd5 hp
  obtain hk | hk | hk | hk | hk | hk : kd p = 0 ∨ kd p = 1 ∨ kd p = 2 ∨ kd p = 3 ∨ kd p = 4 ∨ kd p = 5 := by omega
  · refine g_eqv (y := nI 0) (congrArg nI hk) ?_
    refine g_istore (pc := 6) C dX8_tiresOf_6 (L' := [(4, .int (nI 0)), (0, .ref (Z.1 0)), (1, .int (nI p)), (2, .int (nI q)), (3, .int (bI won))]) (by decide) rfl ?_
    refine g_iload (pc := 8) C dX8_tiresOf_8 0 rfl ?_
    refine g_iconst (pc := 10) C dX8_tiresOf_10 (v := (nI 5)) (by decide) ?_
    refine g_icmp_ne (pc := 11) C dX8_tiresOf_11 (tgt := 16) (by decide) (fun c1 => ?_) (fun c1 => absurd c1 (by decide))
    refine g_aload_n (pc := 16) C dX8_tiresOf_16 rfl 1 rfl ?_
    refine g_iconst (pc := 17) C dX8_tiresOf_17 (v := (nI 2)) (by decide) ?_
    refine g_iload_n (pc := 18) C dX8_tiresOf_18 rfl 2 rfl ?_
    refine g_iload_n (pc := 19) C dX8_tiresOf_19 rfl 3 rfl ?_
    refine g_goi (pc := 20) C (g_runV C 0 (As := [.int (nI 2), .int (nI p), .int (nI q)]) (rest := []) (mX8_says hT hV 2 p q (by decide) (by omega) (by omega)) gvX8_says_X8_247 rfl rfl rfl hdX8_says ⟨Nat.le_of_ble_eq_true rfl, Nat.le_of_ble_eq_true rfl⟩ hT.s0 rfl rfl rfl (Nat.le_of_ble_eq_true rfl) dX8_tiresOf_20 ⟨Nat.le_of_ble_eq_true rfl, Nat.le_of_ble_eq_true rfl⟩) (fun r2 J2 h2 => ?_)
    obtain ⟨vh2, eh2⟩ := h2
    subst r2
    refine g_eqv (y := wi (sm rl 2 (en g p q)) (-9) 9) rfl ?_
    refine g_istore (pc := 23) C dX8_tiresOf_23 (L' := [(5, .int (wi (sm rl 2 (en g p q)) (-9) 9)), (4, .int (nI 0)), (0, .ref (Z.1 0)), (1, .int (nI p)), (2, .int (nI q)), (3, .int (bI won))]) (by decide) rfl ?_
    refine g_iload_n (pc := 25) C dX8_tiresOf_25 rfl 5 rfl ?_
    refine g_ifB_eq (pc := 26) C dX8_tiresOf_26 (tgt := 33) (by decide) (fun c3 => ?_) (fun c3 => ?_)
    · refine g_iload (pc := 33) C dX8_tiresOf_33 0 rfl ?_
      refine g_istore (pc := 35) C dX8_tiresOf_35 (L' := [(6, .int (wi (sm rl 2 (en g p q)) (-9) 9)), (5, .int (wi (sm rl 2 (en g p q)) (-9) 9)), (4, .int (nI 0)), (0, .ref (Z.1 0)), (1, .int (nI p)), (2, .int (nI q)), (3, .int (bI won))]) (by decide) rfl ?_
      refine g_iload (pc := 37) C dX8_tiresOf_37 2 rfl ?_
      refine g_iconst (pc := 39) C dX8_tiresOf_39 (v := (nI 1)) (by decide) ?_
      refine g_icmp_ne (pc := 40) C dX8_tiresOf_40 (tgt := 48) (by decide) (fun c4 => ?_) (fun c4 => absurd c4 (by decide))
      refine g_iload (pc := 48) C dX8_tiresOf_48 2 rfl ?_
      refine g_iconst (pc := 50) C dX8_tiresOf_50 (v := (nI 3)) (by decide) ?_
      refine g_icmp_ne (pc := 51) C dX8_tiresOf_51 (tgt := 61) (by decide) (fun c5 => ?_) (fun c5 => absurd c5 (by decide))
      refine g_iload (pc := 61) C dX8_tiresOf_61 2 rfl ?_
      refine g_iconst (pc := 63) C dX8_tiresOf_63 (v := (nI 2)) (by decide) ?_
      refine g_icmp_ne (pc := 64) C dX8_tiresOf_64 (tgt := 73) (by decide) (fun c6 => ?_) (fun c6 => absurd c6 (by decide))
      refine g_iload (pc := 73) C dX8_tiresOf_73 2 rfl ?_
      refine g_iconst (pc := 75) C dX8_tiresOf_75 (v := (nI 4)) (by decide) ?_
      refine g_icmp_ne (pc := 76) C dX8_tiresOf_76 (tgt := 87) (by decide) (fun c7 => ?_) (fun c7 => absurd c7 (by decide))
      refine g_iload (pc := 87) C dX8_tiresOf_87 1 rfl ?_
      refine g_bipush (pc := 89) C dX8_tiresOf_89 (v := (-99)) (by decide) ?_
      refine g_bipush (pc := 91) C dX8_tiresOf_91 (v := (nI 99)) (by decide) ?_
      refine g_goi (pc := 93) C (g_runS C (As := [.int (wi (sm rl 2 (en g p q)) (-9) 9), .int (-99), .int (nI 99)]) (rest := []) (mX8_within (wi (sm rl 2 (en g p q)) (-9) 9) (-99) (nI 99)) gvX8_within_X8_243 rfl rfl rfl hdX8_within ⟨Nat.le_of_ble_eq_true rfl, Nat.le_of_ble_eq_true rfl⟩ rfl rfl (Nat.le_of_ble_eq_true rfl) dX8_tiresOf_93 ⟨Nat.le_of_ble_eq_true rfl, Nat.le_of_ble_eq_true rfl⟩) (fun r8 J8 h8 => ?_)
      obtain ⟨eah8, ebh8⟩ := h8
      subst r8
      subst J8
      exact g_iret (pc := 96) C hR dX8_tiresOf_96 ⟨vh2, by (try simp only [nI_lit0, nI_one, nI_2, nI_3, nI_4, nI_9, nI_10, nI_50, nI_99, nI_999] at hk c3); simp [ti, ti0, wi_0t, nI_lit0, nI_one, nI_2, nI_3, nI_4, nI_9, nI_10, nI_50, nI_99, nI_999, hk, c3]⟩
    · refine g_iconst (pc := 29) C dX8_tiresOf_29 (v := (nI 0)) (by decide) ?_
      refine g_goto (pc := 30) C dX8_tiresOf_30 (tgt := 35) (by decide) ?_
      refine g_istore (pc := 35) C dX8_tiresOf_35 (L' := [(6, .int (nI 0)), (5, .int (wi (sm rl 2 (en g p q)) (-9) 9)), (4, .int (nI 0)), (0, .ref (Z.1 0)), (1, .int (nI p)), (2, .int (nI q)), (3, .int (bI won))]) (by decide) rfl ?_
      refine g_iload (pc := 37) C dX8_tiresOf_37 2 rfl ?_
      refine g_iconst (pc := 39) C dX8_tiresOf_39 (v := (nI 1)) (by decide) ?_
      refine g_icmp_ne (pc := 40) C dX8_tiresOf_40 (tgt := 48) (by decide) (fun c9 => ?_) (fun c9 => absurd c9 (by decide))
      refine g_iload (pc := 48) C dX8_tiresOf_48 2 rfl ?_
      refine g_iconst (pc := 50) C dX8_tiresOf_50 (v := (nI 3)) (by decide) ?_
      refine g_icmp_ne (pc := 51) C dX8_tiresOf_51 (tgt := 61) (by decide) (fun c10 => ?_) (fun c10 => absurd c10 (by decide))
      refine g_iload (pc := 61) C dX8_tiresOf_61 2 rfl ?_
      refine g_iconst (pc := 63) C dX8_tiresOf_63 (v := (nI 2)) (by decide) ?_
      refine g_icmp_ne (pc := 64) C dX8_tiresOf_64 (tgt := 73) (by decide) (fun c11 => ?_) (fun c11 => absurd c11 (by decide))
      refine g_iload (pc := 73) C dX8_tiresOf_73 2 rfl ?_
      refine g_iconst (pc := 75) C dX8_tiresOf_75 (v := (nI 4)) (by decide) ?_
      refine g_icmp_ne (pc := 76) C dX8_tiresOf_76 (tgt := 87) (by decide) (fun c12 => ?_) (fun c12 => absurd c12 (by decide))
      refine g_iload (pc := 87) C dX8_tiresOf_87 1 rfl ?_
      refine g_bipush (pc := 89) C dX8_tiresOf_89 (v := (-99)) (by decide) ?_
      refine g_bipush (pc := 91) C dX8_tiresOf_91 (v := (nI 99)) (by decide) ?_
      refine g_goi (pc := 93) C (g_runS C (As := [.int (wi (sm rl 2 (en g p q)) (-9) 9), .int (-99), .int (nI 99)]) (rest := []) (mX8_within (wi (sm rl 2 (en g p q)) (-9) 9) (-99) (nI 99)) gvX8_within_X8_243 rfl rfl rfl hdX8_within ⟨Nat.le_of_ble_eq_true rfl, Nat.le_of_ble_eq_true rfl⟩ rfl rfl (Nat.le_of_ble_eq_true rfl) dX8_tiresOf_93 ⟨Nat.le_of_ble_eq_true rfl, Nat.le_of_ble_eq_true rfl⟩) (fun r13 J13 h13 => ?_)
      obtain ⟨eah13, ebh13⟩ := h13
      subst r13
      subst J13
      exact g_iret (pc := 96) C hR dX8_tiresOf_96 ⟨vh2, by (try simp only [nI_lit0, nI_one, nI_2, nI_3, nI_4, nI_9, nI_10, nI_50, nI_99, nI_999] at hk c3); simp [ti, ti0, wi_0t, nI_lit0, nI_one, nI_2, nI_3, nI_4, nI_9, nI_10, nI_50, nI_99, nI_999, hk, c3]⟩
  · refine g_eqv (y := nI 1) (congrArg nI hk) ?_
    refine g_istore (pc := 6) C dX8_tiresOf_6 (L' := [(4, .int (nI 1)), (0, .ref (Z.1 0)), (1, .int (nI p)), (2, .int (nI q)), (3, .int (bI won))]) (by decide) rfl ?_
    refine g_iload (pc := 8) C dX8_tiresOf_8 0 rfl ?_
    refine g_iconst (pc := 10) C dX8_tiresOf_10 (v := (nI 5)) (by decide) ?_
    refine g_icmp_ne (pc := 11) C dX8_tiresOf_11 (tgt := 16) (by decide) (fun c14 => ?_) (fun c14 => absurd c14 (by decide))
    refine g_aload_n (pc := 16) C dX8_tiresOf_16 rfl 1 rfl ?_
    refine g_iconst (pc := 17) C dX8_tiresOf_17 (v := (nI 2)) (by decide) ?_
    refine g_iload_n (pc := 18) C dX8_tiresOf_18 rfl 2 rfl ?_
    refine g_iload_n (pc := 19) C dX8_tiresOf_19 rfl 3 rfl ?_
    refine g_goi (pc := 20) C (g_runV C 0 (As := [.int (nI 2), .int (nI p), .int (nI q)]) (rest := []) (mX8_says hT hV 2 p q (by decide) (by omega) (by omega)) gvX8_says_X8_247 rfl rfl rfl hdX8_says ⟨Nat.le_of_ble_eq_true rfl, Nat.le_of_ble_eq_true rfl⟩ hT.s0 rfl rfl rfl (Nat.le_of_ble_eq_true rfl) dX8_tiresOf_20 ⟨Nat.le_of_ble_eq_true rfl, Nat.le_of_ble_eq_true rfl⟩) (fun r15 J15 h15 => ?_)
    obtain ⟨vh15, eh15⟩ := h15
    subst r15
    refine g_eqv (y := wi (sm rl 2 (en g p q)) (-9) 9) rfl ?_
    refine g_istore (pc := 23) C dX8_tiresOf_23 (L' := [(5, .int (wi (sm rl 2 (en g p q)) (-9) 9)), (4, .int (nI 1)), (0, .ref (Z.1 0)), (1, .int (nI p)), (2, .int (nI q)), (3, .int (bI won))]) (by decide) rfl ?_
    refine g_iload_n (pc := 25) C dX8_tiresOf_25 rfl 5 rfl ?_
    refine g_ifB_eq (pc := 26) C dX8_tiresOf_26 (tgt := 33) (by decide) (fun c16 => ?_) (fun c16 => ?_)
    · refine g_iload (pc := 33) C dX8_tiresOf_33 0 rfl ?_
      refine g_istore (pc := 35) C dX8_tiresOf_35 (L' := [(6, .int (wi (sm rl 2 (en g p q)) (-9) 9)), (5, .int (wi (sm rl 2 (en g p q)) (-9) 9)), (4, .int (nI 1)), (0, .ref (Z.1 0)), (1, .int (nI p)), (2, .int (nI q)), (3, .int (bI won))]) (by decide) rfl ?_
      refine g_iload (pc := 37) C dX8_tiresOf_37 2 rfl ?_
      refine g_iconst (pc := 39) C dX8_tiresOf_39 (v := (nI 1)) (by decide) ?_
      refine g_icmp_ne (pc := 40) C dX8_tiresOf_40 (tgt := 48) (by decide) (fun c17 => absurd c17 (by decide)) (fun c17 => ?_)
      refine g_iload (pc := 43) C dX8_tiresOf_43 0 rfl ?_
      refine g_goto (pc := 45) C dX8_tiresOf_45 (tgt := 89) (by decide) ?_
      refine g_bipush (pc := 89) C dX8_tiresOf_89 (v := (-99)) (by decide) ?_
      refine g_bipush (pc := 91) C dX8_tiresOf_91 (v := (nI 99)) (by decide) ?_
      refine g_goi (pc := 93) C (g_runS C (As := [.int (wi (sm rl 2 (en g p q)) (-9) 9), .int (-99), .int (nI 99)]) (rest := []) (mX8_within (wi (sm rl 2 (en g p q)) (-9) 9) (-99) (nI 99)) gvX8_within_X8_243 rfl rfl rfl hdX8_within ⟨Nat.le_of_ble_eq_true rfl, Nat.le_of_ble_eq_true rfl⟩ rfl rfl (Nat.le_of_ble_eq_true rfl) dX8_tiresOf_93 ⟨Nat.le_of_ble_eq_true rfl, Nat.le_of_ble_eq_true rfl⟩) (fun r18 J18 h18 => ?_)
      obtain ⟨eah18, ebh18⟩ := h18
      subst r18
      subst J18
      exact g_iret (pc := 96) C hR dX8_tiresOf_96 ⟨vh15, by (try simp only [nI_lit0, nI_one, nI_2, nI_3, nI_4, nI_9, nI_10, nI_50, nI_99, nI_999] at hk c16); simp [ti, ti0, wi_0t, nI_lit0, nI_one, nI_2, nI_3, nI_4, nI_9, nI_10, nI_50, nI_99, nI_999, hk, c16]⟩
    · refine g_iconst (pc := 29) C dX8_tiresOf_29 (v := (nI 0)) (by decide) ?_
      refine g_goto (pc := 30) C dX8_tiresOf_30 (tgt := 35) (by decide) ?_
      refine g_istore (pc := 35) C dX8_tiresOf_35 (L' := [(6, .int (nI 0)), (5, .int (wi (sm rl 2 (en g p q)) (-9) 9)), (4, .int (nI 1)), (0, .ref (Z.1 0)), (1, .int (nI p)), (2, .int (nI q)), (3, .int (bI won))]) (by decide) rfl ?_
      refine g_iload (pc := 37) C dX8_tiresOf_37 2 rfl ?_
      refine g_iconst (pc := 39) C dX8_tiresOf_39 (v := (nI 1)) (by decide) ?_
      refine g_icmp_ne (pc := 40) C dX8_tiresOf_40 (tgt := 48) (by decide) (fun c19 => absurd c19 (by decide)) (fun c19 => ?_)
      refine g_iload (pc := 43) C dX8_tiresOf_43 0 rfl ?_
      refine g_goto (pc := 45) C dX8_tiresOf_45 (tgt := 89) (by decide) ?_
      refine g_bipush (pc := 89) C dX8_tiresOf_89 (v := (-99)) (by decide) ?_
      refine g_bipush (pc := 91) C dX8_tiresOf_91 (v := (nI 99)) (by decide) ?_
      refine g_goi (pc := 93) C (g_runS C (As := [.int (nI 0), .int (-99), .int (nI 99)]) (rest := []) (mX8_within (nI 0) (-99) (nI 99)) gvX8_within_X8_243 rfl rfl rfl hdX8_within ⟨Nat.le_of_ble_eq_true rfl, Nat.le_of_ble_eq_true rfl⟩ rfl rfl (Nat.le_of_ble_eq_true rfl) dX8_tiresOf_93 ⟨Nat.le_of_ble_eq_true rfl, Nat.le_of_ble_eq_true rfl⟩) (fun r20 J20 h20 => ?_)
      obtain ⟨eah20, ebh20⟩ := h20
      subst r20
      subst J20
      exact g_iret (pc := 96) C hR dX8_tiresOf_96 ⟨vh15, by (try simp only [nI_lit0, nI_one, nI_2, nI_3, nI_4, nI_9, nI_10, nI_50, nI_99, nI_999] at hk c16); simp [ti, ti0, wi_0t, nI_lit0, nI_one, nI_2, nI_3, nI_4, nI_9, nI_10, nI_50, nI_99, nI_999, hk, c16]⟩
  · refine g_eqv (y := nI 2) (congrArg nI hk) ?_
    refine g_istore (pc := 6) C dX8_tiresOf_6 (L' := [(4, .int (nI 2)), (0, .ref (Z.1 0)), (1, .int (nI p)), (2, .int (nI q)), (3, .int (bI won))]) (by decide) rfl ?_
    refine g_iload (pc := 8) C dX8_tiresOf_8 0 rfl ?_
    refine g_iconst (pc := 10) C dX8_tiresOf_10 (v := (nI 5)) (by decide) ?_
    refine g_icmp_ne (pc := 11) C dX8_tiresOf_11 (tgt := 16) (by decide) (fun c21 => ?_) (fun c21 => absurd c21 (by decide))
    refine g_aload_n (pc := 16) C dX8_tiresOf_16 rfl 1 rfl ?_
    refine g_iconst (pc := 17) C dX8_tiresOf_17 (v := (nI 2)) (by decide) ?_
    refine g_iload_n (pc := 18) C dX8_tiresOf_18 rfl 2 rfl ?_
    refine g_iload_n (pc := 19) C dX8_tiresOf_19 rfl 3 rfl ?_
    refine g_goi (pc := 20) C (g_runV C 0 (As := [.int (nI 2), .int (nI p), .int (nI q)]) (rest := []) (mX8_says hT hV 2 p q (by decide) (by omega) (by omega)) gvX8_says_X8_247 rfl rfl rfl hdX8_says ⟨Nat.le_of_ble_eq_true rfl, Nat.le_of_ble_eq_true rfl⟩ hT.s0 rfl rfl rfl (Nat.le_of_ble_eq_true rfl) dX8_tiresOf_20 ⟨Nat.le_of_ble_eq_true rfl, Nat.le_of_ble_eq_true rfl⟩) (fun r22 J22 h22 => ?_)
    obtain ⟨vh22, eh22⟩ := h22
    subst r22
    refine g_eqv (y := wi (sm rl 2 (en g p q)) (-9) 9) rfl ?_
    refine g_istore (pc := 23) C dX8_tiresOf_23 (L' := [(5, .int (wi (sm rl 2 (en g p q)) (-9) 9)), (4, .int (nI 2)), (0, .ref (Z.1 0)), (1, .int (nI p)), (2, .int (nI q)), (3, .int (bI won))]) (by decide) rfl ?_
    refine g_iload_n (pc := 25) C dX8_tiresOf_25 rfl 5 rfl ?_
    refine g_ifB_eq (pc := 26) C dX8_tiresOf_26 (tgt := 33) (by decide) (fun c23 => ?_) (fun c23 => ?_)
    · refine g_iload (pc := 33) C dX8_tiresOf_33 0 rfl ?_
      refine g_istore (pc := 35) C dX8_tiresOf_35 (L' := [(6, .int (wi (sm rl 2 (en g p q)) (-9) 9)), (5, .int (wi (sm rl 2 (en g p q)) (-9) 9)), (4, .int (nI 2)), (0, .ref (Z.1 0)), (1, .int (nI p)), (2, .int (nI q)), (3, .int (bI won))]) (by decide) rfl ?_
      refine g_iload (pc := 37) C dX8_tiresOf_37 2 rfl ?_
      refine g_iconst (pc := 39) C dX8_tiresOf_39 (v := (nI 1)) (by decide) ?_
      refine g_icmp_ne (pc := 40) C dX8_tiresOf_40 (tgt := 48) (by decide) (fun c24 => ?_) (fun c24 => absurd c24 (by decide))
      refine g_iload (pc := 48) C dX8_tiresOf_48 2 rfl ?_
      refine g_iconst (pc := 50) C dX8_tiresOf_50 (v := (nI 3)) (by decide) ?_
      refine g_icmp_ne (pc := 51) C dX8_tiresOf_51 (tgt := 61) (by decide) (fun c25 => ?_) (fun c25 => absurd c25 (by decide))
      refine g_iload (pc := 61) C dX8_tiresOf_61 2 rfl ?_
      refine g_iconst (pc := 63) C dX8_tiresOf_63 (v := (nI 2)) (by decide) ?_
      refine g_icmp_ne (pc := 64) C dX8_tiresOf_64 (tgt := 73) (by decide) (fun c26 => absurd c26 (by decide)) (fun c26 => ?_)
      refine g_iload (pc := 67) C dX8_tiresOf_67 1 rfl ?_
      refine g_ineg (pc := 69) C dX8_tiresOf_69 (v := -(wi (sm rl 2 (en g p q)) (-9) 9)) rfl ?_
      refine g_goto (pc := 70) C dX8_tiresOf_70 (tgt := 89) (by decide) ?_
      refine g_bipush (pc := 89) C dX8_tiresOf_89 (v := (-99)) (by decide) ?_
      refine g_bipush (pc := 91) C dX8_tiresOf_91 (v := (nI 99)) (by decide) ?_
      refine g_goi (pc := 93) C (g_runS C (As := [.int (-(wi (sm rl 2 (en g p q)) (-9) 9)), .int (-99), .int (nI 99)]) (rest := []) (mX8_within (-(wi (sm rl 2 (en g p q)) (-9) 9)) (-99) (nI 99)) gvX8_within_X8_243 rfl rfl rfl hdX8_within ⟨Nat.le_of_ble_eq_true rfl, Nat.le_of_ble_eq_true rfl⟩ rfl rfl (Nat.le_of_ble_eq_true rfl) dX8_tiresOf_93 ⟨Nat.le_of_ble_eq_true rfl, Nat.le_of_ble_eq_true rfl⟩) (fun r27 J27 h27 => ?_)
      obtain ⟨eah27, ebh27⟩ := h27
      subst r27
      subst J27
      exact g_iret (pc := 96) C hR dX8_tiresOf_96 ⟨vh22, by (try simp only [nI_lit0, nI_one, nI_2, nI_3, nI_4, nI_9, nI_10, nI_50, nI_99, nI_999] at hk c23); simp [ti, ti0, wi_0t, nI_lit0, nI_one, nI_2, nI_3, nI_4, nI_9, nI_10, nI_50, nI_99, nI_999, hk, c23]⟩
    · refine g_iconst (pc := 29) C dX8_tiresOf_29 (v := (nI 0)) (by decide) ?_
      refine g_goto (pc := 30) C dX8_tiresOf_30 (tgt := 35) (by decide) ?_
      refine g_istore (pc := 35) C dX8_tiresOf_35 (L' := [(6, .int (nI 0)), (5, .int (wi (sm rl 2 (en g p q)) (-9) 9)), (4, .int (nI 2)), (0, .ref (Z.1 0)), (1, .int (nI p)), (2, .int (nI q)), (3, .int (bI won))]) (by decide) rfl ?_
      refine g_iload (pc := 37) C dX8_tiresOf_37 2 rfl ?_
      refine g_iconst (pc := 39) C dX8_tiresOf_39 (v := (nI 1)) (by decide) ?_
      refine g_icmp_ne (pc := 40) C dX8_tiresOf_40 (tgt := 48) (by decide) (fun c28 => ?_) (fun c28 => absurd c28 (by decide))
      refine g_iload (pc := 48) C dX8_tiresOf_48 2 rfl ?_
      refine g_iconst (pc := 50) C dX8_tiresOf_50 (v := (nI 3)) (by decide) ?_
      refine g_icmp_ne (pc := 51) C dX8_tiresOf_51 (tgt := 61) (by decide) (fun c29 => ?_) (fun c29 => absurd c29 (by decide))
      refine g_iload (pc := 61) C dX8_tiresOf_61 2 rfl ?_
      refine g_iconst (pc := 63) C dX8_tiresOf_63 (v := (nI 2)) (by decide) ?_
      refine g_icmp_ne (pc := 64) C dX8_tiresOf_64 (tgt := 73) (by decide) (fun c30 => absurd c30 (by decide)) (fun c30 => ?_)
      refine g_iload (pc := 67) C dX8_tiresOf_67 1 rfl ?_
      refine g_ineg (pc := 69) C dX8_tiresOf_69 (v := -(wi (sm rl 2 (en g p q)) (-9) 9)) rfl ?_
      refine g_goto (pc := 70) C dX8_tiresOf_70 (tgt := 89) (by decide) ?_
      refine g_bipush (pc := 89) C dX8_tiresOf_89 (v := (-99)) (by decide) ?_
      refine g_bipush (pc := 91) C dX8_tiresOf_91 (v := (nI 99)) (by decide) ?_
      refine g_goi (pc := 93) C (g_runS C (As := [.int (-(wi (sm rl 2 (en g p q)) (-9) 9)), .int (-99), .int (nI 99)]) (rest := []) (mX8_within (-(wi (sm rl 2 (en g p q)) (-9) 9)) (-99) (nI 99)) gvX8_within_X8_243 rfl rfl rfl hdX8_within ⟨Nat.le_of_ble_eq_true rfl, Nat.le_of_ble_eq_true rfl⟩ rfl rfl (Nat.le_of_ble_eq_true rfl) dX8_tiresOf_93 ⟨Nat.le_of_ble_eq_true rfl, Nat.le_of_ble_eq_true rfl⟩) (fun r31 J31 h31 => ?_)
      obtain ⟨eah31, ebh31⟩ := h31
      subst r31
      subst J31
      exact g_iret (pc := 96) C hR dX8_tiresOf_96 ⟨vh22, by (try simp only [nI_lit0, nI_one, nI_2, nI_3, nI_4, nI_9, nI_10, nI_50, nI_99, nI_999] at hk c23); simp [ti, ti0, wi_0t, nI_lit0, nI_one, nI_2, nI_3, nI_4, nI_9, nI_10, nI_50, nI_99, nI_999, hk, c23]⟩
  · refine g_eqv (y := nI 3) (congrArg nI hk) ?_
    refine g_istore (pc := 6) C dX8_tiresOf_6 (L' := [(4, .int (nI 3)), (0, .ref (Z.1 0)), (1, .int (nI p)), (2, .int (nI q)), (3, .int (bI won))]) (by decide) rfl ?_
    refine g_iload (pc := 8) C dX8_tiresOf_8 0 rfl ?_
    refine g_iconst (pc := 10) C dX8_tiresOf_10 (v := (nI 5)) (by decide) ?_
    refine g_icmp_ne (pc := 11) C dX8_tiresOf_11 (tgt := 16) (by decide) (fun c32 => ?_) (fun c32 => absurd c32 (by decide))
    refine g_aload_n (pc := 16) C dX8_tiresOf_16 rfl 1 rfl ?_
    refine g_iconst (pc := 17) C dX8_tiresOf_17 (v := (nI 2)) (by decide) ?_
    refine g_iload_n (pc := 18) C dX8_tiresOf_18 rfl 2 rfl ?_
    refine g_iload_n (pc := 19) C dX8_tiresOf_19 rfl 3 rfl ?_
    refine g_goi (pc := 20) C (g_runV C 0 (As := [.int (nI 2), .int (nI p), .int (nI q)]) (rest := []) (mX8_says hT hV 2 p q (by decide) (by omega) (by omega)) gvX8_says_X8_247 rfl rfl rfl hdX8_says ⟨Nat.le_of_ble_eq_true rfl, Nat.le_of_ble_eq_true rfl⟩ hT.s0 rfl rfl rfl (Nat.le_of_ble_eq_true rfl) dX8_tiresOf_20 ⟨Nat.le_of_ble_eq_true rfl, Nat.le_of_ble_eq_true rfl⟩) (fun r33 J33 h33 => ?_)
    obtain ⟨vh33, eh33⟩ := h33
    subst r33
    refine g_eqv (y := wi (sm rl 2 (en g p q)) (-9) 9) rfl ?_
    refine g_istore (pc := 23) C dX8_tiresOf_23 (L' := [(5, .int (wi (sm rl 2 (en g p q)) (-9) 9)), (4, .int (nI 3)), (0, .ref (Z.1 0)), (1, .int (nI p)), (2, .int (nI q)), (3, .int (bI won))]) (by decide) rfl ?_
    refine g_iload_n (pc := 25) C dX8_tiresOf_25 rfl 5 rfl ?_
    refine g_ifB_eq (pc := 26) C dX8_tiresOf_26 (tgt := 33) (by decide) (fun c34 => ?_) (fun c34 => ?_)
    · refine g_iload (pc := 33) C dX8_tiresOf_33 0 rfl ?_
      refine g_istore (pc := 35) C dX8_tiresOf_35 (L' := [(6, .int (wi (sm rl 2 (en g p q)) (-9) 9)), (5, .int (wi (sm rl 2 (en g p q)) (-9) 9)), (4, .int (nI 3)), (0, .ref (Z.1 0)), (1, .int (nI p)), (2, .int (nI q)), (3, .int (bI won))]) (by decide) rfl ?_
      refine g_iload (pc := 37) C dX8_tiresOf_37 2 rfl ?_
      refine g_iconst (pc := 39) C dX8_tiresOf_39 (v := (nI 1)) (by decide) ?_
      refine g_icmp_ne (pc := 40) C dX8_tiresOf_40 (tgt := 48) (by decide) (fun c35 => ?_) (fun c35 => absurd c35 (by decide))
      refine g_iload (pc := 48) C dX8_tiresOf_48 2 rfl ?_
      refine g_iconst (pc := 50) C dX8_tiresOf_50 (v := (nI 3)) (by decide) ?_
      refine g_icmp_ne (pc := 51) C dX8_tiresOf_51 (tgt := 61) (by decide) (fun c36 => absurd c36 (by decide)) (fun c36 => ?_)
      refine g_iload (pc := 54) C dX8_tiresOf_54 0 rfl ?_
      refine g_iconst (pc := 56) C dX8_tiresOf_56 (v := (nI 1)) (by decide) ?_
      refine g_iadd (pc := 57) C dX8_tiresOf_57 (v := ((wi (sm rl 2 (en g p q)) (-9) 9) + (nI 1))) rfl ?_
      refine g_goto (pc := 58) C dX8_tiresOf_58 (tgt := 89) (by decide) ?_
      refine g_bipush (pc := 89) C dX8_tiresOf_89 (v := (-99)) (by decide) ?_
      refine g_bipush (pc := 91) C dX8_tiresOf_91 (v := (nI 99)) (by decide) ?_
      refine g_goi (pc := 93) C (g_runS C (As := [.int ((wi (sm rl 2 (en g p q)) (-9) 9) + (nI 1)), .int (-99), .int (nI 99)]) (rest := []) (mX8_within ((wi (sm rl 2 (en g p q)) (-9) 9) + (nI 1)) (-99) (nI 99)) gvX8_within_X8_243 rfl rfl rfl hdX8_within ⟨Nat.le_of_ble_eq_true rfl, Nat.le_of_ble_eq_true rfl⟩ rfl rfl (Nat.le_of_ble_eq_true rfl) dX8_tiresOf_93 ⟨Nat.le_of_ble_eq_true rfl, Nat.le_of_ble_eq_true rfl⟩) (fun r37 J37 h37 => ?_)
      obtain ⟨eah37, ebh37⟩ := h37
      subst r37
      subst J37
      exact g_iret (pc := 96) C hR dX8_tiresOf_96 ⟨vh33, by (try simp only [nI_lit0, nI_one, nI_2, nI_3, nI_4, nI_9, nI_10, nI_50, nI_99, nI_999] at hk c34); simp [ti, ti0, wi_0t, nI_lit0, nI_one, nI_2, nI_3, nI_4, nI_9, nI_10, nI_50, nI_99, nI_999, hk, c34]⟩
    · refine g_iconst (pc := 29) C dX8_tiresOf_29 (v := (nI 0)) (by decide) ?_
      refine g_goto (pc := 30) C dX8_tiresOf_30 (tgt := 35) (by decide) ?_
      refine g_istore (pc := 35) C dX8_tiresOf_35 (L' := [(6, .int (nI 0)), (5, .int (wi (sm rl 2 (en g p q)) (-9) 9)), (4, .int (nI 3)), (0, .ref (Z.1 0)), (1, .int (nI p)), (2, .int (nI q)), (3, .int (bI won))]) (by decide) rfl ?_
      refine g_iload (pc := 37) C dX8_tiresOf_37 2 rfl ?_
      refine g_iconst (pc := 39) C dX8_tiresOf_39 (v := (nI 1)) (by decide) ?_
      refine g_icmp_ne (pc := 40) C dX8_tiresOf_40 (tgt := 48) (by decide) (fun c38 => ?_) (fun c38 => absurd c38 (by decide))
      refine g_iload (pc := 48) C dX8_tiresOf_48 2 rfl ?_
      refine g_iconst (pc := 50) C dX8_tiresOf_50 (v := (nI 3)) (by decide) ?_
      refine g_icmp_ne (pc := 51) C dX8_tiresOf_51 (tgt := 61) (by decide) (fun c39 => absurd c39 (by decide)) (fun c39 => ?_)
      refine g_iload (pc := 54) C dX8_tiresOf_54 0 rfl ?_
      refine g_iconst (pc := 56) C dX8_tiresOf_56 (v := (nI 1)) (by decide) ?_
      refine g_iadd (pc := 57) C dX8_tiresOf_57 (v := (nI (0 + 1))) (nI_add _ _) ?_
      refine g_goto (pc := 58) C dX8_tiresOf_58 (tgt := 89) (by decide) ?_
      refine g_bipush (pc := 89) C dX8_tiresOf_89 (v := (-99)) (by decide) ?_
      refine g_bipush (pc := 91) C dX8_tiresOf_91 (v := (nI 99)) (by decide) ?_
      refine g_goi (pc := 93) C (g_runS C (As := [.int (nI (0 + 1)), .int (-99), .int (nI 99)]) (rest := []) (mX8_within (nI (0 + 1)) (-99) (nI 99)) gvX8_within_X8_243 rfl rfl rfl hdX8_within ⟨Nat.le_of_ble_eq_true rfl, Nat.le_of_ble_eq_true rfl⟩ rfl rfl (Nat.le_of_ble_eq_true rfl) dX8_tiresOf_93 ⟨Nat.le_of_ble_eq_true rfl, Nat.le_of_ble_eq_true rfl⟩) (fun r40 J40 h40 => ?_)
      obtain ⟨eah40, ebh40⟩ := h40
      subst r40
      subst J40
      exact g_iret (pc := 96) C hR dX8_tiresOf_96 ⟨vh33, by (try simp only [nI_lit0, nI_one, nI_2, nI_3, nI_4, nI_9, nI_10, nI_50, nI_99, nI_999] at hk c34); simp [ti, ti0, wi_0t, nI_lit0, nI_one, nI_2, nI_3, nI_4, nI_9, nI_10, nI_50, nI_99, nI_999, hk, c34]⟩
  · refine g_eqv (y := nI 4) (congrArg nI hk) ?_
    refine g_istore (pc := 6) C dX8_tiresOf_6 (L' := [(4, .int (nI 4)), (0, .ref (Z.1 0)), (1, .int (nI p)), (2, .int (nI q)), (3, .int (bI won))]) (by decide) rfl ?_
    refine g_iload (pc := 8) C dX8_tiresOf_8 0 rfl ?_
    refine g_iconst (pc := 10) C dX8_tiresOf_10 (v := (nI 5)) (by decide) ?_
    refine g_icmp_ne (pc := 11) C dX8_tiresOf_11 (tgt := 16) (by decide) (fun c41 => ?_) (fun c41 => absurd c41 (by decide))
    refine g_aload_n (pc := 16) C dX8_tiresOf_16 rfl 1 rfl ?_
    refine g_iconst (pc := 17) C dX8_tiresOf_17 (v := (nI 2)) (by decide) ?_
    refine g_iload_n (pc := 18) C dX8_tiresOf_18 rfl 2 rfl ?_
    refine g_iload_n (pc := 19) C dX8_tiresOf_19 rfl 3 rfl ?_
    refine g_goi (pc := 20) C (g_runV C 0 (As := [.int (nI 2), .int (nI p), .int (nI q)]) (rest := []) (mX8_says hT hV 2 p q (by decide) (by omega) (by omega)) gvX8_says_X8_247 rfl rfl rfl hdX8_says ⟨Nat.le_of_ble_eq_true rfl, Nat.le_of_ble_eq_true rfl⟩ hT.s0 rfl rfl rfl (Nat.le_of_ble_eq_true rfl) dX8_tiresOf_20 ⟨Nat.le_of_ble_eq_true rfl, Nat.le_of_ble_eq_true rfl⟩) (fun r42 J42 h42 => ?_)
    obtain ⟨vh42, eh42⟩ := h42
    subst r42
    refine g_eqv (y := wi (sm rl 2 (en g p q)) (-9) 9) rfl ?_
    refine g_istore (pc := 23) C dX8_tiresOf_23 (L' := [(5, .int (wi (sm rl 2 (en g p q)) (-9) 9)), (4, .int (nI 4)), (0, .ref (Z.1 0)), (1, .int (nI p)), (2, .int (nI q)), (3, .int (bI won))]) (by decide) rfl ?_
    refine g_iload_n (pc := 25) C dX8_tiresOf_25 rfl 5 rfl ?_
    refine g_ifB_eq (pc := 26) C dX8_tiresOf_26 (tgt := 33) (by decide) (fun c43 => ?_) (fun c43 => ?_)
    · refine g_iload (pc := 33) C dX8_tiresOf_33 0 rfl ?_
      refine g_istore (pc := 35) C dX8_tiresOf_35 (L' := [(6, .int (wi (sm rl 2 (en g p q)) (-9) 9)), (5, .int (wi (sm rl 2 (en g p q)) (-9) 9)), (4, .int (nI 4)), (0, .ref (Z.1 0)), (1, .int (nI p)), (2, .int (nI q)), (3, .int (bI won))]) (by decide) rfl ?_
      refine g_iload (pc := 37) C dX8_tiresOf_37 2 rfl ?_
      refine g_iconst (pc := 39) C dX8_tiresOf_39 (v := (nI 1)) (by decide) ?_
      refine g_icmp_ne (pc := 40) C dX8_tiresOf_40 (tgt := 48) (by decide) (fun c44 => ?_) (fun c44 => absurd c44 (by decide))
      refine g_iload (pc := 48) C dX8_tiresOf_48 2 rfl ?_
      refine g_iconst (pc := 50) C dX8_tiresOf_50 (v := (nI 3)) (by decide) ?_
      refine g_icmp_ne (pc := 51) C dX8_tiresOf_51 (tgt := 61) (by decide) (fun c45 => ?_) (fun c45 => absurd c45 (by decide))
      refine g_iload (pc := 61) C dX8_tiresOf_61 2 rfl ?_
      refine g_iconst (pc := 63) C dX8_tiresOf_63 (v := (nI 2)) (by decide) ?_
      refine g_icmp_ne (pc := 64) C dX8_tiresOf_64 (tgt := 73) (by decide) (fun c46 => ?_) (fun c46 => absurd c46 (by decide))
      refine g_iload (pc := 73) C dX8_tiresOf_73 2 rfl ?_
      refine g_iconst (pc := 75) C dX8_tiresOf_75 (v := (nI 4)) (by decide) ?_
      refine g_icmp_ne (pc := 76) C dX8_tiresOf_76 (tgt := 87) (by decide) (fun c47 => absurd c47 (by decide)) (fun c47 => ?_)
      refine g_iload (pc := 79) C dX8_tiresOf_79 1 rfl ?_
      refine g_ineg (pc := 81) C dX8_tiresOf_81 (v := -(wi (sm rl 2 (en g p q)) (-9) 9)) rfl ?_
      refine g_iconst (pc := 82) C dX8_tiresOf_82 (v := (nI 3)) (by decide) ?_
      refine g_isub (pc := 83) C dX8_tiresOf_83 (v := ((-(wi (sm rl 2 (en g p q)) (-9) 9)) - (nI 3))) rfl ?_
      refine g_goto (pc := 84) C dX8_tiresOf_84 (tgt := 89) (by decide) ?_
      refine g_bipush (pc := 89) C dX8_tiresOf_89 (v := (-99)) (by decide) ?_
      refine g_bipush (pc := 91) C dX8_tiresOf_91 (v := (nI 99)) (by decide) ?_
      refine g_goi (pc := 93) C (g_runS C (As := [.int ((-(wi (sm rl 2 (en g p q)) (-9) 9)) - (nI 3)), .int (-99), .int (nI 99)]) (rest := []) (mX8_within ((-(wi (sm rl 2 (en g p q)) (-9) 9)) - (nI 3)) (-99) (nI 99)) gvX8_within_X8_243 rfl rfl rfl hdX8_within ⟨Nat.le_of_ble_eq_true rfl, Nat.le_of_ble_eq_true rfl⟩ rfl rfl (Nat.le_of_ble_eq_true rfl) dX8_tiresOf_93 ⟨Nat.le_of_ble_eq_true rfl, Nat.le_of_ble_eq_true rfl⟩) (fun r48 J48 h48 => ?_)
      obtain ⟨eah48, ebh48⟩ := h48
      subst r48
      subst J48
      exact g_iret (pc := 96) C hR dX8_tiresOf_96 ⟨vh42, by (try simp only [nI_lit0, nI_one, nI_2, nI_3, nI_4, nI_9, nI_10, nI_50, nI_99, nI_999] at hk c43); simp [ti, ti0, wi_0t, nI_lit0, nI_one, nI_2, nI_3, nI_4, nI_9, nI_10, nI_50, nI_99, nI_999, hk, c43]⟩
    · refine g_iconst (pc := 29) C dX8_tiresOf_29 (v := (nI 0)) (by decide) ?_
      refine g_goto (pc := 30) C dX8_tiresOf_30 (tgt := 35) (by decide) ?_
      refine g_istore (pc := 35) C dX8_tiresOf_35 (L' := [(6, .int (nI 0)), (5, .int (wi (sm rl 2 (en g p q)) (-9) 9)), (4, .int (nI 4)), (0, .ref (Z.1 0)), (1, .int (nI p)), (2, .int (nI q)), (3, .int (bI won))]) (by decide) rfl ?_
      refine g_iload (pc := 37) C dX8_tiresOf_37 2 rfl ?_
      refine g_iconst (pc := 39) C dX8_tiresOf_39 (v := (nI 1)) (by decide) ?_
      refine g_icmp_ne (pc := 40) C dX8_tiresOf_40 (tgt := 48) (by decide) (fun c49 => ?_) (fun c49 => absurd c49 (by decide))
      refine g_iload (pc := 48) C dX8_tiresOf_48 2 rfl ?_
      refine g_iconst (pc := 50) C dX8_tiresOf_50 (v := (nI 3)) (by decide) ?_
      refine g_icmp_ne (pc := 51) C dX8_tiresOf_51 (tgt := 61) (by decide) (fun c50 => ?_) (fun c50 => absurd c50 (by decide))
      refine g_iload (pc := 61) C dX8_tiresOf_61 2 rfl ?_
      refine g_iconst (pc := 63) C dX8_tiresOf_63 (v := (nI 2)) (by decide) ?_
      refine g_icmp_ne (pc := 64) C dX8_tiresOf_64 (tgt := 73) (by decide) (fun c51 => ?_) (fun c51 => absurd c51 (by decide))
      refine g_iload (pc := 73) C dX8_tiresOf_73 2 rfl ?_
      refine g_iconst (pc := 75) C dX8_tiresOf_75 (v := (nI 4)) (by decide) ?_
      refine g_icmp_ne (pc := 76) C dX8_tiresOf_76 (tgt := 87) (by decide) (fun c52 => absurd c52 (by decide)) (fun c52 => ?_)
      refine g_iload (pc := 79) C dX8_tiresOf_79 1 rfl ?_
      refine g_ineg (pc := 81) C dX8_tiresOf_81 (v := -(wi (sm rl 2 (en g p q)) (-9) 9)) rfl ?_
      refine g_iconst (pc := 82) C dX8_tiresOf_82 (v := (nI 3)) (by decide) ?_
      refine g_isub (pc := 83) C dX8_tiresOf_83 (v := ((-(wi (sm rl 2 (en g p q)) (-9) 9)) - (nI 3))) rfl ?_
      refine g_goto (pc := 84) C dX8_tiresOf_84 (tgt := 89) (by decide) ?_
      refine g_bipush (pc := 89) C dX8_tiresOf_89 (v := (-99)) (by decide) ?_
      refine g_bipush (pc := 91) C dX8_tiresOf_91 (v := (nI 99)) (by decide) ?_
      refine g_goi (pc := 93) C (g_runS C (As := [.int ((-(wi (sm rl 2 (en g p q)) (-9) 9)) - (nI 3)), .int (-99), .int (nI 99)]) (rest := []) (mX8_within ((-(wi (sm rl 2 (en g p q)) (-9) 9)) - (nI 3)) (-99) (nI 99)) gvX8_within_X8_243 rfl rfl rfl hdX8_within ⟨Nat.le_of_ble_eq_true rfl, Nat.le_of_ble_eq_true rfl⟩ rfl rfl (Nat.le_of_ble_eq_true rfl) dX8_tiresOf_93 ⟨Nat.le_of_ble_eq_true rfl, Nat.le_of_ble_eq_true rfl⟩) (fun r53 J53 h53 => ?_)
      obtain ⟨eah53, ebh53⟩ := h53
      subst r53
      subst J53
      exact g_iret (pc := 96) C hR dX8_tiresOf_96 ⟨vh42, by (try simp only [nI_lit0, nI_one, nI_2, nI_3, nI_4, nI_9, nI_10, nI_50, nI_99, nI_999] at hk c43); simp [ti, ti0, wi_0t, nI_lit0, nI_one, nI_2, nI_3, nI_4, nI_9, nI_10, nI_50, nI_99, nI_999, hk, c43]⟩
  · refine g_eqv (y := nI 5) (congrArg nI hk) ?_
    refine g_istore (pc := 6) C dX8_tiresOf_6 (L' := [(4, .int (nI 5)), (0, .ref (Z.1 0)), (1, .int (nI p)), (2, .int (nI q)), (3, .int (bI won))]) (by decide) rfl ?_
    refine g_iload (pc := 8) C dX8_tiresOf_8 0 rfl ?_
    refine g_iconst (pc := 10) C dX8_tiresOf_10 (v := (nI 5)) (by decide) ?_
    refine g_icmp_ne (pc := 11) C dX8_tiresOf_11 (tgt := 16) (by decide) (fun c54 => absurd c54 (by decide)) (fun c54 => ?_)
    refine g_iconst (pc := 14) C dX8_tiresOf_14 (v := (nI 0)) (by decide) ?_
    exact g_iret (pc := 15) C hR dX8_tiresOf_15 ⟨hV, by (try simp only [nI_lit0, nI_one, nI_2, nI_3, nI_4, nI_9, nI_10, nI_50, nI_99, nI_999] at hk); simp [ti, ti0, wi_0t, nI_lit0, nI_one, nI_2, nI_3, nI_4, nI_9, nI_10, nI_50, nI_99, nI_999, hk]⟩
