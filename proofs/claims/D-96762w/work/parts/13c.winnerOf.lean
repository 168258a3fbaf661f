theorem hdX8_powerOf : yX8_powerOf.cls = RX8 ∧ yX8_powerOf.cls ≠ "java/lang/invoke/MethodHandle" ∧ yX8_powerOf.cls ≠ "java/lang/invoke/VarHandle" ∧ (parseMethodDescriptor yX8_powerOf.desc).map (fun d => d.parameters.length) = some 2 := by decide +kernel
theorem gvX8_powerOf_X8_256 : GoodIn lw_all (wsV RX8 256 RX8 yX8_powerOf (ws_ yX8_powerOf cX8_powerOf 3 (some .int))) := lw_V q1545 q1547 qs82 q122 q1548
abbrev rmX8_winnerOf : Room := { frames := 124, cells := 0, slots := 0, locals := 12097 }
set_option maxHeartbeats 4000000 in
theorem mX8_winnerOf {E : gE} {Z : gS} {I : gI} {I0 : gI} {mn rl tn am : Nat} {kd : Nat → Nat} {sm : Nat → gSm} {fr : Nat → gG} {g : gG} (hT : tZ Z) (hV : tP I0 mn kd rl tn sm am fr g I) (a b : Nat) (ha : a < mn) (hb : b < mn) : gMet E yX8_winnerOf (ws_ yX8_winnerOf cX8_winnerOf 5 (some .int)) rmX8_winnerOf Z I [.ref (Z.1 0), .int (nI a), .int (nI b)] (cQi E Z (fun r J => tP I0 mn kd rl tn sm am fr g J ∧ r = wnI (wn kd (sm rl) g a b) a b)) 0 0 := by
  refine g_of (own := RX8) (cc := cX8_winnerOf) (nL := 5) (L0 := [(0, .ref (Z.1 0)), (1, .int (nI a)), (2, .int (nI b))]) (by decide) rfl rfl rfl (Nat.le_of_ble_eq_true rfl) rfl ?_
  intro K C hR _
  have hmn := hV.mn6
  refine g_aload_n (pc := 0) C dX8_winnerOf_0 rfl 0 rfl ?_
  refine g_iload_n (pc := 1) C dX8_winnerOf_1 rfl 1 rfl ?_
  refine g_iload_n (pc := 2) C dX8_winnerOf_2 rfl 2 rfl ?_
  refine g_goi (pc := 3) C (g_runV C 0 (As := [.int (nI a), .int (nI b)]) (rest := []) (mX8_powerOf hT hV a b (by omega) (by omega)) gvX8_powerOf_X8_256 rfl rfl rfl hdX8_powerOf ⟨Nat.le_of_ble_eq_true rfl, Nat.le_of_ble_eq_true rfl⟩ hT.s0 rfl rfl rfl (Nat.le_of_ble_eq_true rfl) dX8_winnerOf_3 ⟨Nat.le_of_ble_eq_true rfl, Nat.le_of_ble_eq_true rfl⟩) (fun r1 J1 h1 => ?_)
  obtain ⟨vh1, eh1⟩ := h1
  subst r1
  refine g_istore_n (pc := 6) C dX8_winnerOf_6 (L' := [(3, .int (pw kd (sm rl) g a b)), (0, .ref (Z.1 0)), (1, .int (nI a)), (2, .int (nI b))]) rfl (by decide) rfl ?_
  refine g_aload_n (pc := 7) C dX8_winnerOf_7 rfl 1 rfl ?_
  refine g_iload_n (pc := 8) C dX8_winnerOf_8 rfl 3 rfl ?_
  refine g_iload_n (pc := 9) C dX8_winnerOf_9 rfl 2 rfl ?_
  refine g_goi (pc := 10) C (g_runV C 0 (As := [.int (nI b), .int (nI a)]) (rest := []) (mX8_powerOf hT vh1 b a (by omega) (by omega)) gvX8_powerOf_X8_256 rfl rfl rfl hdX8_powerOf ⟨Nat.le_of_ble_eq_true rfl, Nat.le_of_ble_eq_true rfl⟩ hT.s0 rfl rfl rfl (Nat.le_of_ble_eq_true rfl) dX8_winnerOf_10 ⟨Nat.le_of_ble_eq_true rfl, Nat.le_of_ble_eq_true rfl⟩) (fun r2 J2 h2 => ?_)
  obtain ⟨vh2, eh2⟩ := h2
  subst r2
  refine g_istore (pc := 13) C dX8_winnerOf_13 (L' := [(4, .int (pw kd (sm rl) g b a)), (3, .int (pw kd (sm rl) g a b)), (0, .ref (Z.1 0)), (1, .int (nI a)), (2, .int (nI b))]) (by decide) rfl ?_
  refine g_iload_n (pc := 15) C dX8_winnerOf_15 rfl 1 rfl ?_
  refine g_iload (pc := 16) C dX8_winnerOf_16 0 rfl ?_
  refine g_icmp_le (pc := 18) C dX8_winnerOf_18 (tgt := 25) (by decide) (fun c3 => ?_) (fun c3 => ?_)
  · refine g_iload (pc := 25) C dX8_winnerOf_25 0 rfl ?_
    refine g_iload_n (pc := 27) C dX8_winnerOf_27 rfl 1 rfl ?_
    refine g_icmp_le (pc := 28) C dX8_winnerOf_28 (tgt := 35) (by decide) (fun c4 => ?_) (fun c4 => ?_)
    · refine g_iconst (pc := 35) C dX8_winnerOf_35 (v := (-1)) (by decide) ?_
      exact g_iret (pc := 36) C hR dX8_winnerOf_36 ⟨vh2, wn_2 c3 c4⟩
    · refine g_iload_n (pc := 31) C dX8_winnerOf_31 rfl 4 rfl ?_
      refine g_goto (pc := 32) C dX8_winnerOf_32 (tgt := 36) (by decide) ?_
      exact g_iret (pc := 36) C hR dX8_winnerOf_36 ⟨vh2, wn_1 c3 c4⟩
  · refine g_iload_n (pc := 21) C dX8_winnerOf_21 rfl 3 rfl ?_
    refine g_goto (pc := 22) C dX8_winnerOf_22 (tgt := 36) (by decide) ?_
    exact g_iret (pc := 36) C hR dX8_winnerOf_36 ⟨vh2, wn_0 c3⟩
