/-! LoserKeepsTheBoard -/
set_option maxRecDepth 100000
def RX0 : String := "LoserKeepsTheBoard"
def TX0 : u_T := fun k => match k with
  | 0 => ("LoserKeepsTheBoard", "folk", "[LLoserKeepsTheBoard$Player;", true)
  | 1 => ("LoserKeepsTheBoard", "many", "I", false)
  | 2 => ("LoserKeepsTheBoard", "round", "I", false)
  | 3 => ("LoserKeepsTheBoard", "hall", "I", false)
  | 4 => ("LoserKeepsTheBoard", "faulty", "LLoserKeepsTheBoard$Faulty;", true)
  | 5 => ("LoserKeepsTheBoard", "forOne", "I", false)
  | 6 => ("LoserKeepsTheBoard", "forOther", "I", false)
  | 7 => ("LoserKeepsTheBoard", "texts", "[[LLoserKeepsTheBoard$Node;", true)
  | 8 => ("LoserKeepsTheBoard", "textMany", "I", false)
  | 9 => ("LoserKeepsTheBoard", "keys", "[Ljava/lang/String;", true)
  | 10 => ("LoserKeepsTheBoard", "names", "[Ljava/lang/String;", true)
  | 11 => ("LoserKeepsTheBoard", "tape", "[B", true)
  | 12 => ("LoserKeepsTheBoard", "taped", "I", false)
  | 13 => ("LoserKeepsTheBoard", "length", "I", false)
  | 14 => ("LoserKeepsTheBoard", "at", "I", false)
  | 15 => ("LoserKeepsTheBoard", "begin", "I", false)
  | 16 => ("LoserKeepsTheBoard", "token", "I", false)
  | 17 => ("LoserKeepsTheBoard", "value", "I", false)
  | 18 => ("LoserKeepsTheBoard", "opens", "I", false)
  | 19 => ("LoserKeepsTheBoard", "rule", "I", false)
  | 20 => ("LoserKeepsTheBoard", "draws", "I", false)
  | 21 => ("LoserKeepsTheBoard", "keptHas", "[[I", true)
  | 22 => ("LoserKeepsTheBoard", "keptStrong", "[[I", true)
  | 23 => ("LoserKeepsTheBoard", "keptWon", "[[I", true)
  | 24 => ("LoserKeepsTheBoard", "keptHall", "[I", true)
  | 25 => ("LoserKeepsTheBoard", "keptRound", "[I", true)
  | 26 => ("LoserKeepsTheBoard", "bestMany", "I", false)
  | 27 => ("LoserKeepsTheBoard", "bestDigits", "I", false)
  | 28 => ("LoserKeepsTheBoard", "allSet", "I", false)
  | 29 => ("LoserKeepsTheBoard", "hasImage", "Z", false)
  | 30 => ("LoserKeepsTheBoard", "imageFolk", "[[I", true)
  | 31 => ("LoserKeepsTheBoard", "imageNumbers", "[I", true)
  | _ => ("LoserKeepsTheBoard", "sheets", "[LLoserKeepsTheBoard$Sheet;", true)
def tyX0 : Nat → FieldType := fun k => match k with
  | 0 => .array (.object "LoserKeepsTheBoard$Player")
  | 1 => .int
  | 2 => .int
  | 3 => .int
  | 4 => .object "LoserKeepsTheBoard$Faulty"
  | 5 => .int
  | 6 => .int
  | 7 => .array (.array (.object "LoserKeepsTheBoard$Node"))
  | 8 => .int
  | 9 => .array (.object "java/lang/String")
  | 10 => .array (.object "java/lang/String")
  | 11 => .array .byte
  | 12 => .int
  | 13 => .int
  | 14 => .int
  | 15 => .int
  | 16 => .int
  | 17 => .int
  | 18 => .int
  | 19 => .int
  | 20 => .int
  | 21 => .array (.array .int)
  | 22 => .array (.array .int)
  | 23 => .array (.array .int)
  | 24 => .array .int
  | 25 => .array .int
  | 26 => .int
  | 27 => .int
  | 28 => .int
  | 29 => .boolean
  | 30 => .array (.array .int)
  | 31 => .array .int
  | _ => .array (.object "LoserKeepsTheBoard$Sheet")
abbrev wsX00 : List Cond := u_ws RX0 TX0 33
set_option maxRecDepth 100000 in
theorem nmX0 : ∀ a, a < 33 → ∀ b, b < 33 → a ≠ b → (TX0 a).2.1 ≠ (TX0 b).2.1 := by decide +kernel
set_option maxRecDepth 100000 in
theorem tyX0_ok : ∀ k, k < 33 → parseFieldDescriptor (TX0 k).2.2.1 = some (tyX0 k) := by decide +kernel
abbrev cX0_player : ByteArray := prog_1_method_8_code
def yX0_player : MethodName := ⟨RX0, "player", "(II)I"⟩
def dkwX0_player_2 : List UInt8 := [28, 184, 0, 55, 83, 42, 89, 180, 0, 10, 4, 96, 181, 0, 10, 42, 180, 0, 10, 4, 100, 172]
abbrev dktX0_player_2 : List UInt8 := dkwX0_player_2 ++ []
def dkwX0_player_1 : List UInt8 := [16, 254, 172, 42, 180, 0, 10, 16, 6, 160, 0, 6, 16, 252, 172, 42, 180, 0, 51, 42, 180, 0, 10, 27]
abbrev dktX0_player_1 : List UInt8 := dkwX0_player_1 ++ dktX0_player_2
def dkwX0_player_0 : List UInt8 := [27, 133, 9, 20, 0, 47, 184, 0, 16, 153, 0, 15, 28, 133, 9, 20, 0, 49, 184, 0, 16, 154, 0, 6]
abbrev dktX0_player_0 : List UInt8 := dkwX0_player_0 ++ dktX0_player_1
theorem dksX0_player_0 : cX0_player.data.toList.drop 0 = dktX0_player_0 := by decide +kernel
theorem dksX0_player_1 : cX0_player.data.toList.drop 24 = dktX0_player_1 := dk_seg dksX0_player_0 24 rfl rfl
theorem dksX0_player_2 : cX0_player.data.toList.drop 48 = dktX0_player_2 := dk_seg dksX0_player_1 24 rfl rfl
theorem dX0_player_0 : decode cX0_player 0 = .ok (.iload_n 1, 1) := dk_27 (dk_at dksX0_player_0 0 rfl rfl)
theorem dX0_player_1 : decode cX0_player 1 = .ok (.i2l, 1) := dk_133 (dk_at dksX0_player_0 1 rfl rfl)
theorem dX0_player_2 : decode cX0_player 2 = .ok (.lconst 0, 1) := dk_9 (dk_at dksX0_player_0 2 rfl rfl)
theorem dX0_player_3 : decode cX0_player 3 = .ok (.ldc2_w 47, 3) := dk_20 0 47 (dk_at dksX0_player_0 3 rfl rfl)
theorem dX0_player_6 : decode cX0_player 6 = .ok (.invokestatic 16, 3) := dk_184 0 16 (dk_at dksX0_player_0 6 rfl rfl)
theorem dX0_player_9 : decode cX0_player 9 = .ok (.ifCond .eq 15, 3) := dk_153 0 15 (dk_at dksX0_player_0 9 rfl rfl)
theorem dX0_player_12 : decode cX0_player 12 = .ok (.iload_n 2, 1) := dk_28 (dk_at dksX0_player_0 12 rfl rfl)
theorem dX0_player_13 : decode cX0_player 13 = .ok (.i2l, 1) := dk_133 (dk_at dksX0_player_0 13 rfl rfl)
theorem dX0_player_14 : decode cX0_player 14 = .ok (.lconst 0, 1) := dk_9 (dk_at dksX0_player_0 14 rfl rfl)
theorem dX0_player_15 : decode cX0_player 15 = .ok (.ldc2_w 49, 3) := dk_20 0 49 (dk_at dksX0_player_0 15 rfl rfl)
theorem dX0_player_18 : decode cX0_player 18 = .ok (.invokestatic 16, 3) := dk_184 0 16 (dk_at dksX0_player_0 18 rfl rfl)
theorem dX0_player_21 : decode cX0_player 21 = .ok (.ifCond .ne 6, 3) := dk_154 0 6 (dk_at dksX0_player_0 21 rfl rfl)
theorem dX0_player_24 : decode cX0_player 24 = .ok (.bipush (-2), 2) := dk_16 254 (dk_at dksX0_player_1 0 rfl rfl)
theorem dX0_player_26 : decode cX0_player 26 = .ok (.ireturn, 1) := dk_172 (dk_at dksX0_player_1 2 rfl rfl)
theorem dX0_player_27 : decode cX0_player 27 = .ok (.aload_n 0, 1) := dk_42 (dk_at dksX0_player_1 3 rfl rfl)
theorem dX0_player_28 : decode cX0_player 28 = .ok (.getfield 10, 3) := dk_180 0 10 (dk_at dksX0_player_1 4 rfl rfl)
theorem dX0_player_31 : decode cX0_player 31 = .ok (.bipush 6, 2) := dk_16 6 (dk_at dksX0_player_1 7 rfl rfl)
theorem dX0_player_33 : decode cX0_player 33 = .ok (.if_icmp .ne 6, 3) := dk_160 0 6 (dk_at dksX0_player_1 9 rfl rfl)
theorem dX0_player_36 : decode cX0_player 36 = .ok (.bipush (-4), 2) := dk_16 252 (dk_at dksX0_player_1 12 rfl rfl)
theorem dX0_player_38 : decode cX0_player 38 = .ok (.ireturn, 1) := dk_172 (dk_at dksX0_player_1 14 rfl rfl)
theorem dX0_player_39 : decode cX0_player 39 = .ok (.aload_n 0, 1) := dk_42 (dk_at dksX0_player_1 15 rfl rfl)
theorem dX0_player_40 : decode cX0_player 40 = .ok (.getfield 51, 3) := dk_180 0 51 (dk_at dksX0_player_1 16 rfl rfl)
theorem dX0_player_43 : decode cX0_player 43 = .ok (.aload_n 0, 1) := dk_42 (dk_at dksX0_player_1 19 rfl rfl)
theorem dX0_player_44 : decode cX0_player 44 = .ok (.getfield 10, 3) := dk_180 0 10 (dk_at dksX0_player_1 20 rfl rfl)
theorem dX0_player_47 : decode cX0_player 47 = .ok (.iload_n 1, 1) := dk_27 (dk_at dksX0_player_1 23 rfl rfl)
theorem dX0_player_48 : decode cX0_player 48 = .ok (.iload_n 2, 1) := dk_28 (dk_at dksX0_player_2 0 rfl rfl)
theorem dX0_player_49 : decode cX0_player 49 = .ok (.invokestatic 55, 3) := dk_184 0 55 (dk_at dksX0_player_2 1 rfl rfl)
theorem dX0_player_52 : decode cX0_player 52 = .ok (.aastore, 1) := dk_83 (dk_at dksX0_player_2 4 rfl rfl)
theorem dX0_player_53 : decode cX0_player 53 = .ok (.aload_n 0, 1) := dk_42 (dk_at dksX0_player_2 5 rfl rfl)
theorem dX0_player_54 : decode cX0_player 54 = .ok (.dup, 1) := dk_89 (dk_at dksX0_player_2 6 rfl rfl)
theorem dX0_player_55 : decode cX0_player 55 = .ok (.getfield 10, 3) := dk_180 0 10 (dk_at dksX0_player_2 7 rfl rfl)
theorem dX0_player_58 : decode cX0_player 58 = .ok (.iconst 1, 1) := dk_4 (dk_at dksX0_player_2 10 rfl rfl)
theorem dX0_player_59 : decode cX0_player 59 = .ok (.iadd, 1) := dk_96 (dk_at dksX0_player_2 11 rfl rfl)
theorem dX0_player_60 : decode cX0_player 60 = .ok (.putfield 10, 3) := dk_181 0 10 (dk_at dksX0_player_2 12 rfl rfl)
theorem dX0_player_63 : decode cX0_player 63 = .ok (.aload_n 0, 1) := dk_42 (dk_at dksX0_player_2 15 rfl rfl)
theorem dX0_player_64 : decode cX0_player 64 = .ok (.getfield 10, 3) := dk_180 0 10 (dk_at dksX0_player_2 16 rfl rfl)
theorem dX0_player_67 : decode cX0_player 67 = .ok (.iconst 1, 1) := dk_4 (dk_at dksX0_player_2 19 rfl rfl)
theorem dX0_player_68 : decode cX0_player 68 = .ok (.isub, 1) := dk_100 (dk_at dksX0_player_2 20 rfl rfl)
theorem dX0_player_69 : decode cX0_player 69 = .ok (.ireturn, 1) := dk_172 (dk_at dksX0_player_2 21 rfl rfl)
abbrev cX0_in : ByteArray := prog_1_method_1_code
def yX0_in : MethodName := ⟨RX0, "in", "(JJJ)Z"⟩
def dkwX0_in_0 : List UInt8 := [30, 32, 148, 155, 0, 14, 30, 22, 4, 148, 157, 0, 7, 4, 167, 0, 4, 3, 172]
abbrev dktX0_in_0 : List UInt8 := dkwX0_in_0 ++ []
theorem dksX0_in_0 : cX0_in.data.toList.drop 0 = dktX0_in_0 := by decide +kernel
theorem dX0_in_0 : decode cX0_in 0 = .ok (.lload_n 0, 1) := dk_30 (dk_at dksX0_in_0 0 rfl rfl)
theorem dX0_in_1 : decode cX0_in 1 = .ok (.lload_n 2, 1) := dk_32 (dk_at dksX0_in_0 1 rfl rfl)
theorem dX0_in_2 : decode cX0_in 2 = .ok (.lcmp, 1) := dk_148 (dk_at dksX0_in_0 2 rfl rfl)
theorem dX0_in_3 : decode cX0_in 3 = .ok (.ifCond .lt 14, 3) := dk_155 0 14 (dk_at dksX0_in_0 3 rfl rfl)
theorem dX0_in_6 : decode cX0_in 6 = .ok (.lload_n 0, 1) := dk_30 (dk_at dksX0_in_0 6 rfl rfl)
theorem dX0_in_7 : decode cX0_in 7 = .ok (.lload 4, 2) := dk_22 4 (dk_at dksX0_in_0 7 rfl rfl)
theorem dX0_in_9 : decode cX0_in 9 = .ok (.lcmp, 1) := dk_148 (dk_at dksX0_in_0 9 rfl rfl)
theorem dX0_in_10 : decode cX0_in 10 = .ok (.ifCond .gt 7, 3) := dk_157 0 7 (dk_at dksX0_in_0 10 rfl rfl)
theorem dX0_in_13 : decode cX0_in 13 = .ok (.iconst 1, 1) := dk_4 (dk_at dksX0_in_0 13 rfl rfl)
theorem dX0_in_14 : decode cX0_in 14 = .ok (.goto 4, 3) := dk_167 0 4 (dk_at dksX0_in_0 14 rfl rfl)
theorem dX0_in_17 : decode cX0_in 17 = .ok (.iconst 0, 1) := dk_3 (dk_at dksX0_in_0 17 rfl rfl)
theorem dX0_in_18 : decode cX0_in 18 = .ok (.ireturn, 1) := dk_172 (dk_at dksX0_in_0 18 rfl rfl)
abbrev cX0_made : ByteArray := prog_1_method_7_code
def yX0_made : MethodName := ⟨RX0, "made", "(II)LLoserKeepsTheBoard$Player;"⟩
def dkwX0_made_4 : List UInt8 := [187, 0, 44, 89, 27, 183, 0, 46, 176]
abbrev dktX0_made_4 : List UInt8 := dkwX0_made_4 ++ []
def dkwX0_made_3 : List UInt8 := [183, 0, 37, 176, 187, 0, 38, 89, 27, 183, 0, 40, 176, 187, 0, 41, 89, 27, 183, 0, 43, 176]
abbrev dktX0_made_3 : List UInt8 := dkwX0_made_3 ++ dktX0_made_4
def dkwX0_made_2 : List UInt8 := [187, 0, 26, 89, 27, 183, 0, 28, 176, 187, 0, 32, 89, 27, 183, 0, 34, 176, 187, 0, 35, 89, 27]
abbrev dktX0_made_2 : List UInt8 := dkwX0_made_2 ++ dktX0_made_3
def dkwX0_made_1 : List UInt8 := [170, 0, 0, 0, 0, 0, 80, 0, 0, 0, 1, 0, 0, 0, 5, 0, 0, 0, 35, 0, 0, 0, 44, 0, 0, 0, 53, 0, 0, 0, 62, 0, 0, 0, 71]
abbrev dktX0_made_1 : List UInt8 := dkwX0_made_1 ++ dktX0_made_2
def dkwX0_made_0 : List UInt8 := [26]
abbrev dktX0_made_0 : List UInt8 := dkwX0_made_0 ++ dktX0_made_1
theorem dksX0_made_0 : cX0_made.data.toList.drop 0 = dktX0_made_0 := by decide +kernel
theorem dksX0_made_1 : cX0_made.data.toList.drop 1 = dktX0_made_1 := dk_seg dksX0_made_0 1 rfl rfl
theorem dksX0_made_2 : cX0_made.data.toList.drop 36 = dktX0_made_2 := dk_seg dksX0_made_1 35 rfl rfl
theorem dksX0_made_3 : cX0_made.data.toList.drop 59 = dktX0_made_3 := dk_seg dksX0_made_2 23 rfl rfl
theorem dksX0_made_4 : cX0_made.data.toList.drop 81 = dktX0_made_4 := dk_seg dksX0_made_3 22 rfl rfl
theorem dX0_made_0 : decode cX0_made 0 = .ok (.iload_n 0, 1) := dk_26 (dk_at dksX0_made_0 0 rfl rfl)
theorem dX0_made_1 : decode cX0_made 1 = .ok (.tableswitch 80 1 5 #[35, 44, 53, 62, 71], 35) := by decide +kernel
theorem dX0_made_36 : decode cX0_made 36 = .ok (.new 26, 3) := dk_187 0 26 (dk_at dksX0_made_2 0 rfl rfl)
theorem dX0_made_39 : decode cX0_made 39 = .ok (.dup, 1) := dk_89 (dk_at dksX0_made_2 3 rfl rfl)
theorem dX0_made_40 : decode cX0_made 40 = .ok (.iload_n 1, 1) := dk_27 (dk_at dksX0_made_2 4 rfl rfl)
theorem dX0_made_41 : decode cX0_made 41 = .ok (.invokespecial 28, 3) := dk_183 0 28 (dk_at dksX0_made_2 5 rfl rfl)
theorem dX0_made_44 : decode cX0_made 44 = .ok (.areturn, 1) := dk_176 (dk_at dksX0_made_2 8 rfl rfl)
theorem dX0_made_45 : decode cX0_made 45 = .ok (.new 32, 3) := dk_187 0 32 (dk_at dksX0_made_2 9 rfl rfl)
theorem dX0_made_48 : decode cX0_made 48 = .ok (.dup, 1) := dk_89 (dk_at dksX0_made_2 12 rfl rfl)
theorem dX0_made_49 : decode cX0_made 49 = .ok (.iload_n 1, 1) := dk_27 (dk_at dksX0_made_2 13 rfl rfl)
theorem dX0_made_50 : decode cX0_made 50 = .ok (.invokespecial 34, 3) := dk_183 0 34 (dk_at dksX0_made_2 14 rfl rfl)
theorem dX0_made_53 : decode cX0_made 53 = .ok (.areturn, 1) := dk_176 (dk_at dksX0_made_2 17 rfl rfl)
theorem dX0_made_54 : decode cX0_made 54 = .ok (.new 35, 3) := dk_187 0 35 (dk_at dksX0_made_2 18 rfl rfl)
theorem dX0_made_57 : decode cX0_made 57 = .ok (.dup, 1) := dk_89 (dk_at dksX0_made_2 21 rfl rfl)
theorem dX0_made_58 : decode cX0_made 58 = .ok (.iload_n 1, 1) := dk_27 (dk_at dksX0_made_2 22 rfl rfl)
theorem dX0_made_59 : decode cX0_made 59 = .ok (.invokespecial 37, 3) := dk_183 0 37 (dk_at dksX0_made_3 0 rfl rfl)
theorem dX0_made_62 : decode cX0_made 62 = .ok (.areturn, 1) := dk_176 (dk_at dksX0_made_3 3 rfl rfl)
theorem dX0_made_63 : decode cX0_made 63 = .ok (.new 38, 3) := dk_187 0 38 (dk_at dksX0_made_3 4 rfl rfl)
theorem dX0_made_66 : decode cX0_made 66 = .ok (.dup, 1) := dk_89 (dk_at dksX0_made_3 7 rfl rfl)
theorem dX0_made_67 : decode cX0_made 67 = .ok (.iload_n 1, 1) := dk_27 (dk_at dksX0_made_3 8 rfl rfl)
theorem dX0_made_68 : decode cX0_made 68 = .ok (.invokespecial 40, 3) := dk_183 0 40 (dk_at dksX0_made_3 9 rfl rfl)
theorem dX0_made_71 : decode cX0_made 71 = .ok (.areturn, 1) := dk_176 (dk_at dksX0_made_3 12 rfl rfl)
theorem dX0_made_72 : decode cX0_made 72 = .ok (.new 41, 3) := dk_187 0 41 (dk_at dksX0_made_3 13 rfl rfl)
theorem dX0_made_75 : decode cX0_made 75 = .ok (.dup, 1) := dk_89 (dk_at dksX0_made_3 16 rfl rfl)
theorem dX0_made_76 : decode cX0_made 76 = .ok (.iload_n 1, 1) := dk_27 (dk_at dksX0_made_3 17 rfl rfl)
theorem dX0_made_77 : decode cX0_made 77 = .ok (.invokespecial 43, 3) := dk_183 0 43 (dk_at dksX0_made_3 18 rfl rfl)
theorem dX0_made_80 : decode cX0_made 80 = .ok (.areturn, 1) := dk_176 (dk_at dksX0_made_3 21 rfl rfl)
theorem dX0_made_81 : decode cX0_made 81 = .ok (.new 44, 3) := dk_187 0 44 (dk_at dksX0_made_4 0 rfl rfl)
theorem dX0_made_84 : decode cX0_made 84 = .ok (.dup, 1) := dk_89 (dk_at dksX0_made_4 3 rfl rfl)
theorem dX0_made_85 : decode cX0_made 85 = .ok (.iload_n 1, 1) := dk_27 (dk_at dksX0_made_4 4 rfl rfl)
theorem dX0_made_86 : decode cX0_made 86 = .ok (.invokespecial 46, 3) := dk_183 0 46 (dk_at dksX0_made_4 5 rfl rfl)
theorem dX0_made_89 : decode cX0_made 89 = .ok (.areturn, 1) := dk_176 (dk_at dksX0_made_4 8 rfl rfl)
abbrev cX0_set : ByteArray := prog_1_method_13_code
def yX0_set : MethodName := ⟨RX0, "set", "(III)I"⟩
def dkwX0_set_1 : List UInt8 := [28, 29, 182, 0, 96, 21, 4, 172]
abbrev dktX0_set_1 : List UInt8 := dkwX0_set_1 ++ []
def dkwX0_set_0 : List UInt8 := [42, 27, 28, 29, 182, 0, 89, 154, 0, 7, 17, 252, 24, 172, 42, 28, 27, 182, 0, 93, 54, 4, 42, 27]
abbrev dktX0_set_0 : List UInt8 := dkwX0_set_0 ++ dktX0_set_1
theorem dksX0_set_0 : cX0_set.data.toList.drop 0 = dktX0_set_0 := by decide +kernel
theorem dksX0_set_1 : cX0_set.data.toList.drop 24 = dktX0_set_1 := dk_seg dksX0_set_0 24 rfl rfl
theorem dX0_set_0 : decode cX0_set 0 = .ok (.aload_n 0, 1) := dk_42 (dk_at dksX0_set_0 0 rfl rfl)
theorem dX0_set_1 : decode cX0_set 1 = .ok (.iload_n 1, 1) := dk_27 (dk_at dksX0_set_0 1 rfl rfl)
theorem dX0_set_2 : decode cX0_set 2 = .ok (.iload_n 2, 1) := dk_28 (dk_at dksX0_set_0 2 rfl rfl)
theorem dX0_set_3 : decode cX0_set 3 = .ok (.iload_n 3, 1) := dk_29 (dk_at dksX0_set_0 3 rfl rfl)
theorem dX0_set_4 : decode cX0_set 4 = .ok (.invokevirtual 89, 3) := dk_182 0 89 (dk_at dksX0_set_0 4 rfl rfl)
theorem dX0_set_7 : decode cX0_set 7 = .ok (.ifCond .ne 7, 3) := dk_154 0 7 (dk_at dksX0_set_0 7 rfl rfl)
theorem dX0_set_10 : decode cX0_set 10 = .ok (.sipush (-1000), 3) := dk_17 252 24 (dk_at dksX0_set_0 10 rfl rfl)
theorem dX0_set_13 : decode cX0_set 13 = .ok (.ireturn, 1) := dk_172 (dk_at dksX0_set_0 13 rfl rfl)
theorem dX0_set_14 : decode cX0_set 14 = .ok (.aload_n 0, 1) := dk_42 (dk_at dksX0_set_0 14 rfl rfl)
theorem dX0_set_15 : decode cX0_set 15 = .ok (.iload_n 2, 1) := dk_28 (dk_at dksX0_set_0 15 rfl rfl)
theorem dX0_set_16 : decode cX0_set 16 = .ok (.iload_n 1, 1) := dk_27 (dk_at dksX0_set_0 16 rfl rfl)
theorem dX0_set_17 : decode cX0_set 17 = .ok (.invokevirtual 93, 3) := dk_182 0 93 (dk_at dksX0_set_0 17 rfl rfl)
theorem dX0_set_20 : decode cX0_set 20 = .ok (.istore 4, 2) := dk_54 4 (dk_at dksX0_set_0 20 rfl rfl)
theorem dX0_set_22 : decode cX0_set 22 = .ok (.aload_n 0, 1) := dk_42 (dk_at dksX0_set_0 22 rfl rfl)
theorem dX0_set_23 : decode cX0_set 23 = .ok (.iload_n 1, 1) := dk_27 (dk_at dksX0_set_0 23 rfl rfl)
theorem dX0_set_24 : decode cX0_set 24 = .ok (.iload_n 2, 1) := dk_28 (dk_at dksX0_set_1 0 rfl rfl)
theorem dX0_set_25 : decode cX0_set 25 = .ok (.iload_n 3, 1) := dk_29 (dk_at dksX0_set_1 1 rfl rfl)
theorem dX0_set_26 : decode cX0_set 26 = .ok (.invokevirtual 96, 3) := dk_182 0 96 (dk_at dksX0_set_1 2 rfl rfl)
theorem dX0_set_29 : decode cX0_set 29 = .ok (.iload 4, 2) := dk_21 4 (dk_at dksX0_set_1 5 rfl rfl)
theorem dX0_set_31 : decode cX0_set 31 = .ok (.ireturn, 1) := dk_172 (dk_at dksX0_set_1 7 rfl rfl)
abbrev cX0_isSo : ByteArray := prog_1_method_9_code
def yX0_isSo : MethodName := ⟨RX0, "isSo", "(III)Z"⟩
def dkwX0_isSo_5 : List UInt8 := [182, 0, 20, 153, 0, 19, 29, 133, 9, 20, 0, 64, 184, 0, 16, 153, 0, 7, 4, 167, 0, 4, 3, 172]
abbrev dktX0_isSo_5 : List UInt8 := dkwX0_isSo_5 ++ []
def dkwX0_isSo_4 : List UInt8 := [20, 0, 49, 184, 0, 16, 153, 0, 7, 4, 167, 0, 4, 3, 172, 27, 6, 160, 0, 27, 42, 28]
abbrev dktX0_isSo_4 : List UInt8 := dkwX0_isSo_4 ++ dktX0_isSo_5
def dkwX0_isSo_3 : List UInt8 := [182, 0, 20, 153, 0, 7, 4, 167, 0, 4, 3, 172, 42, 28, 182, 0, 20, 153, 0, 19, 29, 133, 9]
abbrev dktX0_isSo_3 : List UInt8 := dkwX0_isSo_3 ++ dktX0_isSo_4
def dkwX0_isSo_2 : List UInt8 := [29, 133, 9, 20, 0, 59, 184, 0, 16, 172, 28, 184, 0, 61, 153, 0, 20, 29, 2, 159, 0, 11, 42, 29]
abbrev dktX0_isSo_2 : List UInt8 := dkwX0_isSo_2 ++ dktX0_isSo_3
def dkwX0_isSo_1 : List UInt8 := [170, 0, 0, 0, 0, 0, 89, 0, 0, 0, 0, 0, 0, 0, 2, 0, 0, 0, 27, 0, 0, 0, 37, 0, 0, 0, 63]
abbrev dktX0_isSo_1 : List UInt8 := dkwX0_isSo_1 ++ dktX0_isSo_2
def dkwX0_isSo_0 : List UInt8 := [27]
abbrev dktX0_isSo_0 : List UInt8 := dkwX0_isSo_0 ++ dktX0_isSo_1
theorem dksX0_isSo_0 : cX0_isSo.data.toList.drop 0 = dktX0_isSo_0 := by decide +kernel
theorem dksX0_isSo_1 : cX0_isSo.data.toList.drop 1 = dktX0_isSo_1 := dk_seg dksX0_isSo_0 1 rfl rfl
theorem dksX0_isSo_2 : cX0_isSo.data.toList.drop 28 = dktX0_isSo_2 := dk_seg dksX0_isSo_1 27 rfl rfl
theorem dksX0_isSo_3 : cX0_isSo.data.toList.drop 52 = dktX0_isSo_3 := dk_seg dksX0_isSo_2 24 rfl rfl
theorem dksX0_isSo_4 : cX0_isSo.data.toList.drop 75 = dktX0_isSo_4 := dk_seg dksX0_isSo_3 23 rfl rfl
theorem dksX0_isSo_5 : cX0_isSo.data.toList.drop 97 = dktX0_isSo_5 := dk_seg dksX0_isSo_4 22 rfl rfl
theorem dX0_isSo_0 : decode cX0_isSo 0 = .ok (.iload_n 1, 1) := dk_27 (dk_at dksX0_isSo_0 0 rfl rfl)
theorem dX0_isSo_1 : decode cX0_isSo 1 = .ok (.tableswitch 89 0 2 #[27, 37, 63], 27) := by decide +kernel
theorem dX0_isSo_28 : decode cX0_isSo 28 = .ok (.iload_n 3, 1) := dk_29 (dk_at dksX0_isSo_2 0 rfl rfl)
theorem dX0_isSo_29 : decode cX0_isSo 29 = .ok (.i2l, 1) := dk_133 (dk_at dksX0_isSo_2 1 rfl rfl)
theorem dX0_isSo_30 : decode cX0_isSo 30 = .ok (.lconst 0, 1) := dk_9 (dk_at dksX0_isSo_2 2 rfl rfl)
theorem dX0_isSo_31 : decode cX0_isSo 31 = .ok (.ldc2_w 59, 3) := dk_20 0 59 (dk_at dksX0_isSo_2 3 rfl rfl)
theorem dX0_isSo_34 : decode cX0_isSo 34 = .ok (.invokestatic 16, 3) := dk_184 0 16 (dk_at dksX0_isSo_2 6 rfl rfl)
theorem dX0_isSo_37 : decode cX0_isSo 37 = .ok (.ireturn, 1) := dk_172 (dk_at dksX0_isSo_2 9 rfl rfl)
theorem dX0_isSo_38 : decode cX0_isSo 38 = .ok (.iload_n 2, 1) := dk_28 (dk_at dksX0_isSo_2 10 rfl rfl)
theorem dX0_isSo_39 : decode cX0_isSo 39 = .ok (.invokestatic 61, 3) := dk_184 0 61 (dk_at dksX0_isSo_2 11 rfl rfl)
theorem dX0_isSo_42 : decode cX0_isSo 42 = .ok (.ifCond .eq 20, 3) := dk_153 0 20 (dk_at dksX0_isSo_2 14 rfl rfl)
theorem dX0_isSo_45 : decode cX0_isSo 45 = .ok (.iload_n 3, 1) := dk_29 (dk_at dksX0_isSo_2 17 rfl rfl)
theorem dX0_isSo_46 : decode cX0_isSo 46 = .ok (.iconst (-1), 1) := dk_2 (dk_at dksX0_isSo_2 18 rfl rfl)
theorem dX0_isSo_47 : decode cX0_isSo 47 = .ok (.if_icmp .eq 11, 3) := dk_159 0 11 (dk_at dksX0_isSo_2 19 rfl rfl)
theorem dX0_isSo_50 : decode cX0_isSo 50 = .ok (.aload_n 0, 1) := dk_42 (dk_at dksX0_isSo_2 22 rfl rfl)
theorem dX0_isSo_51 : decode cX0_isSo 51 = .ok (.iload_n 3, 1) := dk_29 (dk_at dksX0_isSo_2 23 rfl rfl)
theorem dX0_isSo_52 : decode cX0_isSo 52 = .ok (.invokevirtual 20, 3) := dk_182 0 20 (dk_at dksX0_isSo_3 0 rfl rfl)
theorem dX0_isSo_55 : decode cX0_isSo 55 = .ok (.ifCond .eq 7, 3) := dk_153 0 7 (dk_at dksX0_isSo_3 3 rfl rfl)
theorem dX0_isSo_58 : decode cX0_isSo 58 = .ok (.iconst 1, 1) := dk_4 (dk_at dksX0_isSo_3 6 rfl rfl)
theorem dX0_isSo_59 : decode cX0_isSo 59 = .ok (.goto 4, 3) := dk_167 0 4 (dk_at dksX0_isSo_3 7 rfl rfl)
theorem dX0_isSo_62 : decode cX0_isSo 62 = .ok (.iconst 0, 1) := dk_3 (dk_at dksX0_isSo_3 10 rfl rfl)
theorem dX0_isSo_63 : decode cX0_isSo 63 = .ok (.ireturn, 1) := dk_172 (dk_at dksX0_isSo_3 11 rfl rfl)
theorem dX0_isSo_64 : decode cX0_isSo 64 = .ok (.aload_n 0, 1) := dk_42 (dk_at dksX0_isSo_3 12 rfl rfl)
theorem dX0_isSo_65 : decode cX0_isSo 65 = .ok (.iload_n 2, 1) := dk_28 (dk_at dksX0_isSo_3 13 rfl rfl)
theorem dX0_isSo_66 : decode cX0_isSo 66 = .ok (.invokevirtual 20, 3) := dk_182 0 20 (dk_at dksX0_isSo_3 14 rfl rfl)
theorem dX0_isSo_69 : decode cX0_isSo 69 = .ok (.ifCond .eq 19, 3) := dk_153 0 19 (dk_at dksX0_isSo_3 17 rfl rfl)
theorem dX0_isSo_72 : decode cX0_isSo 72 = .ok (.iload_n 3, 1) := dk_29 (dk_at dksX0_isSo_3 20 rfl rfl)
theorem dX0_isSo_73 : decode cX0_isSo 73 = .ok (.i2l, 1) := dk_133 (dk_at dksX0_isSo_3 21 rfl rfl)
theorem dX0_isSo_74 : decode cX0_isSo 74 = .ok (.lconst 0, 1) := dk_9 (dk_at dksX0_isSo_3 22 rfl rfl)
theorem dX0_isSo_75 : decode cX0_isSo 75 = .ok (.ldc2_w 49, 3) := dk_20 0 49 (dk_at dksX0_isSo_4 0 rfl rfl)
theorem dX0_isSo_78 : decode cX0_isSo 78 = .ok (.invokestatic 16, 3) := dk_184 0 16 (dk_at dksX0_isSo_4 3 rfl rfl)
theorem dX0_isSo_81 : decode cX0_isSo 81 = .ok (.ifCond .eq 7, 3) := dk_153 0 7 (dk_at dksX0_isSo_4 6 rfl rfl)
theorem dX0_isSo_84 : decode cX0_isSo 84 = .ok (.iconst 1, 1) := dk_4 (dk_at dksX0_isSo_4 9 rfl rfl)
theorem dX0_isSo_85 : decode cX0_isSo 85 = .ok (.goto 4, 3) := dk_167 0 4 (dk_at dksX0_isSo_4 10 rfl rfl)
theorem dX0_isSo_88 : decode cX0_isSo 88 = .ok (.iconst 0, 1) := dk_3 (dk_at dksX0_isSo_4 13 rfl rfl)
theorem dX0_isSo_89 : decode cX0_isSo 89 = .ok (.ireturn, 1) := dk_172 (dk_at dksX0_isSo_4 14 rfl rfl)
theorem dX0_isSo_90 : decode cX0_isSo 90 = .ok (.iload_n 1, 1) := dk_27 (dk_at dksX0_isSo_4 15 rfl rfl)
theorem dX0_isSo_91 : decode cX0_isSo 91 = .ok (.iconst 3, 1) := dk_6 (dk_at dksX0_isSo_4 16 rfl rfl)
theorem dX0_isSo_92 : decode cX0_isSo 92 = .ok (.if_icmp .ne 27, 3) := dk_160 0 27 (dk_at dksX0_isSo_4 17 rfl rfl)
theorem dX0_isSo_95 : decode cX0_isSo 95 = .ok (.aload_n 0, 1) := dk_42 (dk_at dksX0_isSo_4 20 rfl rfl)
theorem dX0_isSo_96 : decode cX0_isSo 96 = .ok (.iload_n 2, 1) := dk_28 (dk_at dksX0_isSo_4 21 rfl rfl)
theorem dX0_isSo_97 : decode cX0_isSo 97 = .ok (.invokevirtual 20, 3) := dk_182 0 20 (dk_at dksX0_isSo_5 0 rfl rfl)
theorem dX0_isSo_100 : decode cX0_isSo 100 = .ok (.ifCond .eq 19, 3) := dk_153 0 19 (dk_at dksX0_isSo_5 3 rfl rfl)
theorem dX0_isSo_103 : decode cX0_isSo 103 = .ok (.iload_n 3, 1) := dk_29 (dk_at dksX0_isSo_5 6 rfl rfl)
theorem dX0_isSo_104 : decode cX0_isSo 104 = .ok (.i2l, 1) := dk_133 (dk_at dksX0_isSo_5 7 rfl rfl)
theorem dX0_isSo_105 : decode cX0_isSo 105 = .ok (.lconst 0, 1) := dk_9 (dk_at dksX0_isSo_5 8 rfl rfl)
theorem dX0_isSo_106 : decode cX0_isSo 106 = .ok (.ldc2_w 64, 3) := dk_20 0 64 (dk_at dksX0_isSo_5 9 rfl rfl)
theorem dX0_isSo_109 : decode cX0_isSo 109 = .ok (.invokestatic 16, 3) := dk_184 0 16 (dk_at dksX0_isSo_5 12 rfl rfl)
theorem dX0_isSo_112 : decode cX0_isSo 112 = .ok (.ifCond .eq 7, 3) := dk_153 0 7 (dk_at dksX0_isSo_5 15 rfl rfl)
theorem dX0_isSo_115 : decode cX0_isSo 115 = .ok (.iconst 1, 1) := dk_4 (dk_at dksX0_isSo_5 18 rfl rfl)
theorem dX0_isSo_116 : decode cX0_isSo 116 = .ok (.goto 4, 3) := dk_167 0 4 (dk_at dksX0_isSo_5 19 rfl rfl)
theorem dX0_isSo_119 : decode cX0_isSo 119 = .ok (.iconst 0, 1) := dk_3 (dk_at dksX0_isSo_5 22 rfl rfl)
theorem dX0_isSo_120 : decode cX0_isSo 120 = .ok (.ireturn, 1) := dk_172 (dk_at dksX0_isSo_5 23 rfl rfl)
abbrev cX0_isThing : ByteArray := prog_1_method_6_code
def yX0_isThing : MethodName := ⟨RX0, "isThing", "(I)Z"⟩
def dkwX0_isThing_0 : List UInt8 := [26, 133, 9, 20, 0, 24, 184, 0, 16, 172]
abbrev dktX0_isThing_0 : List UInt8 := dkwX0_isThing_0 ++ []
theorem dksX0_isThing_0 : cX0_isThing.data.toList.drop 0 = dktX0_isThing_0 := by decide +kernel
theorem dX0_isThing_0 : decode cX0_isThing 0 = .ok (.iload_n 0, 1) := dk_26 (dk_at dksX0_isThing_0 0 rfl rfl)
theorem dX0_isThing_1 : decode cX0_isThing 1 = .ok (.i2l, 1) := dk_133 (dk_at dksX0_isThing_0 1 rfl rfl)
theorem dX0_isThing_2 : decode cX0_isThing 2 = .ok (.lconst 0, 1) := dk_9 (dk_at dksX0_isThing_0 2 rfl rfl)
theorem dX0_isThing_3 : decode cX0_isThing 3 = .ok (.ldc2_w 24, 3) := dk_20 0 24 (dk_at dksX0_isThing_0 3 rfl rfl)
theorem dX0_isThing_6 : decode cX0_isThing 6 = .ok (.invokestatic 16, 3) := dk_184 0 16 (dk_at dksX0_isThing_0 6 rfl rfl)
theorem dX0_isThing_9 : decode cX0_isThing 9 = .ok (.ireturn, 1) := dk_172 (dk_at dksX0_isThing_0 9 rfl rfl)
abbrev cX0_isOne : ByteArray := prog_1_method_4_code
def yX0_isOne : MethodName := ⟨RX0, "isOne", "(I)Z"⟩
def dkwX0_isOne_0 : List UInt8 := [27, 133, 9, 42, 180, 0, 10, 4, 100, 133, 184, 0, 16, 172]
abbrev dktX0_isOne_0 : List UInt8 := dkwX0_isOne_0 ++ []
theorem dksX0_isOne_0 : cX0_isOne.data.toList.drop 0 = dktX0_isOne_0 := by decide +kernel
theorem dX0_isOne_0 : decode cX0_isOne 0 = .ok (.iload_n 1, 1) := dk_27 (dk_at dksX0_isOne_0 0 rfl rfl)
theorem dX0_isOne_1 : decode cX0_isOne 1 = .ok (.i2l, 1) := dk_133 (dk_at dksX0_isOne_0 1 rfl rfl)
theorem dX0_isOne_2 : decode cX0_isOne 2 = .ok (.lconst 0, 1) := dk_9 (dk_at dksX0_isOne_0 2 rfl rfl)
theorem dX0_isOne_3 : decode cX0_isOne 3 = .ok (.aload_n 0, 1) := dk_42 (dk_at dksX0_isOne_0 3 rfl rfl)
theorem dX0_isOne_4 : decode cX0_isOne 4 = .ok (.getfield 10, 3) := dk_180 0 10 (dk_at dksX0_isOne_0 4 rfl rfl)
theorem dX0_isOne_7 : decode cX0_isOne 7 = .ok (.iconst 1, 1) := dk_4 (dk_at dksX0_isOne_0 7 rfl rfl)
theorem dX0_isOne_8 : decode cX0_isOne 8 = .ok (.isub, 1) := dk_100 (dk_at dksX0_isOne_0 8 rfl rfl)
theorem dX0_isOne_9 : decode cX0_isOne 9 = .ok (.i2l, 1) := dk_133 (dk_at dksX0_isOne_0 9 rfl rfl)
theorem dX0_isOne_10 : decode cX0_isOne 10 = .ok (.invokestatic 16, 3) := dk_184 0 16 (dk_at dksX0_isOne_0 10 rfl rfl)
theorem dX0_isOne_13 : decode cX0_isOne 13 = .ok (.ireturn, 1) := dk_172 (dk_at dksX0_isOne_0 13 rfl rfl)
abbrev cX0_told : ByteArray := prog_1_method_15_code
def yX0_told : MethodName := ⟨RX0, "told", "(II)I"⟩
def dkwX0_told_2 : List UInt8 := [42, 27, 182, 0, 20, 153, 0, 12, 42, 27, 28, 182, 0, 116, 167, 0, 6, 17, 252, 24, 172]
abbrev dktX0_told_2 : List UInt8 := dkwX0_told_2 ++ []
def dkwX0_told_1 : List UInt8 := [182, 0, 110, 167, 0, 6, 17, 252, 24, 172, 28, 133, 20, 0, 114, 20, 0, 24, 184, 0, 16, 153, 0, 20]
abbrev dktX0_told_1 : List UInt8 := dkwX0_told_1 ++ dktX0_told_2
def dkwX0_told_0 : List UInt8 := [28, 154, 0, 8, 42, 180, 0, 76, 172, 28, 4, 160, 0, 22, 27, 184, 0, 61, 153, 0, 11, 42, 27]
abbrev dktX0_told_0 : List UInt8 := dkwX0_told_0 ++ dktX0_told_1
theorem dksX0_told_0 : cX0_told.data.toList.drop 0 = dktX0_told_0 := by decide +kernel
theorem dksX0_told_1 : cX0_told.data.toList.drop 23 = dktX0_told_1 := dk_seg dksX0_told_0 23 rfl rfl
theorem dksX0_told_2 : cX0_told.data.toList.drop 47 = dktX0_told_2 := dk_seg dksX0_told_1 24 rfl rfl
theorem dX0_told_0 : decode cX0_told 0 = .ok (.iload_n 2, 1) := dk_28 (dk_at dksX0_told_0 0 rfl rfl)
theorem dX0_told_1 : decode cX0_told 1 = .ok (.ifCond .ne 8, 3) := dk_154 0 8 (dk_at dksX0_told_0 1 rfl rfl)
theorem dX0_told_4 : decode cX0_told 4 = .ok (.aload_n 0, 1) := dk_42 (dk_at dksX0_told_0 4 rfl rfl)
theorem dX0_told_5 : decode cX0_told 5 = .ok (.getfield 76, 3) := dk_180 0 76 (dk_at dksX0_told_0 5 rfl rfl)
theorem dX0_told_8 : decode cX0_told 8 = .ok (.ireturn, 1) := dk_172 (dk_at dksX0_told_0 8 rfl rfl)
theorem dX0_told_9 : decode cX0_told 9 = .ok (.iload_n 2, 1) := dk_28 (dk_at dksX0_told_0 9 rfl rfl)
theorem dX0_told_10 : decode cX0_told 10 = .ok (.iconst 1, 1) := dk_4 (dk_at dksX0_told_0 10 rfl rfl)
theorem dX0_told_11 : decode cX0_told 11 = .ok (.if_icmp .ne 22, 3) := dk_160 0 22 (dk_at dksX0_told_0 11 rfl rfl)
theorem dX0_told_14 : decode cX0_told 14 = .ok (.iload_n 1, 1) := dk_27 (dk_at dksX0_told_0 14 rfl rfl)
theorem dX0_told_15 : decode cX0_told 15 = .ok (.invokestatic 61, 3) := dk_184 0 61 (dk_at dksX0_told_0 15 rfl rfl)
theorem dX0_told_18 : decode cX0_told 18 = .ok (.ifCond .eq 11, 3) := dk_153 0 11 (dk_at dksX0_told_0 18 rfl rfl)
theorem dX0_told_21 : decode cX0_told 21 = .ok (.aload_n 0, 1) := dk_42 (dk_at dksX0_told_0 21 rfl rfl)
theorem dX0_told_22 : decode cX0_told 22 = .ok (.iload_n 1, 1) := dk_27 (dk_at dksX0_told_0 22 rfl rfl)
theorem dX0_told_23 : decode cX0_told 23 = .ok (.invokevirtual 110, 3) := dk_182 0 110 (dk_at dksX0_told_1 0 rfl rfl)
theorem dX0_told_26 : decode cX0_told 26 = .ok (.goto 6, 3) := dk_167 0 6 (dk_at dksX0_told_1 3 rfl rfl)
theorem dX0_told_29 : decode cX0_told 29 = .ok (.sipush (-1000), 3) := dk_17 252 24 (dk_at dksX0_told_1 6 rfl rfl)
theorem dX0_told_32 : decode cX0_told 32 = .ok (.ireturn, 1) := dk_172 (dk_at dksX0_told_1 9 rfl rfl)
theorem dX0_told_33 : decode cX0_told 33 = .ok (.iload_n 2, 1) := dk_28 (dk_at dksX0_told_1 10 rfl rfl)
theorem dX0_told_34 : decode cX0_told 34 = .ok (.i2l, 1) := dk_133 (dk_at dksX0_told_1 11 rfl rfl)
theorem dX0_told_35 : decode cX0_told 35 = .ok (.ldc2_w 114, 3) := dk_20 0 114 (dk_at dksX0_told_1 12 rfl rfl)
theorem dX0_told_38 : decode cX0_told 38 = .ok (.ldc2_w 24, 3) := dk_20 0 24 (dk_at dksX0_told_1 15 rfl rfl)
theorem dX0_told_41 : decode cX0_told 41 = .ok (.invokestatic 16, 3) := dk_184 0 16 (dk_at dksX0_told_1 18 rfl rfl)
theorem dX0_told_44 : decode cX0_told 44 = .ok (.ifCond .eq 20, 3) := dk_153 0 20 (dk_at dksX0_told_1 21 rfl rfl)
theorem dX0_told_47 : decode cX0_told 47 = .ok (.aload_n 0, 1) := dk_42 (dk_at dksX0_told_2 0 rfl rfl)
theorem dX0_told_48 : decode cX0_told 48 = .ok (.iload_n 1, 1) := dk_27 (dk_at dksX0_told_2 1 rfl rfl)
theorem dX0_told_49 : decode cX0_told 49 = .ok (.invokevirtual 20, 3) := dk_182 0 20 (dk_at dksX0_told_2 2 rfl rfl)
theorem dX0_told_52 : decode cX0_told 52 = .ok (.ifCond .eq 12, 3) := dk_153 0 12 (dk_at dksX0_told_2 5 rfl rfl)
theorem dX0_told_55 : decode cX0_told 55 = .ok (.aload_n 0, 1) := dk_42 (dk_at dksX0_told_2 8 rfl rfl)
theorem dX0_told_56 : decode cX0_told 56 = .ok (.iload_n 1, 1) := dk_27 (dk_at dksX0_told_2 9 rfl rfl)
theorem dX0_told_57 : decode cX0_told 57 = .ok (.iload_n 2, 1) := dk_28 (dk_at dksX0_told_2 10 rfl rfl)
theorem dX0_told_58 : decode cX0_told 58 = .ok (.invokevirtual 116, 3) := dk_182 0 116 (dk_at dksX0_told_2 11 rfl rfl)
theorem dX0_told_61 : decode cX0_told 61 = .ok (.goto 6, 3) := dk_167 0 6 (dk_at dksX0_told_2 14 rfl rfl)
theorem dX0_told_64 : decode cX0_told 64 = .ok (.sipush (-1000), 3) := dk_17 252 24 (dk_at dksX0_told_2 17 rfl rfl)
theorem dX0_told_67 : decode cX0_told 67 = .ok (.ireturn, 1) := dk_172 (dk_at dksX0_told_2 20 rfl rfl)
abbrev cX0_whereIs : ByteArray := prog_1_method_10_code
def yX0_whereIs : MethodName := ⟨RX0, "whereIs", "(I)I"⟩
def dkwX0_whereIs_1 : List UInt8 := [153, 0, 5, 28, 172, 132, 2, 1, 167, 255, 227, 2, 172]
abbrev dktX0_whereIs_1 : List UInt8 := dkwX0_whereIs_1 ++ []
def dkwX0_whereIs_0 : List UInt8 := [3, 61, 28, 42, 180, 0, 10, 162, 0, 27, 42, 180, 0, 51, 28, 50, 180, 0, 66, 27, 184, 0, 69]
abbrev dktX0_whereIs_0 : List UInt8 := dkwX0_whereIs_0 ++ dktX0_whereIs_1
theorem dksX0_whereIs_0 : cX0_whereIs.data.toList.drop 0 = dktX0_whereIs_0 := by decide +kernel
theorem dksX0_whereIs_1 : cX0_whereIs.data.toList.drop 23 = dktX0_whereIs_1 := dk_seg dksX0_whereIs_0 23 rfl rfl
theorem dX0_whereIs_0 : decode cX0_whereIs 0 = .ok (.iconst 0, 1) := dk_3 (dk_at dksX0_whereIs_0 0 rfl rfl)
theorem dX0_whereIs_1 : decode cX0_whereIs 1 = .ok (.istore_n 2, 1) := dk_61 (dk_at dksX0_whereIs_0 1 rfl rfl)
theorem dX0_whereIs_2 : decode cX0_whereIs 2 = .ok (.iload_n 2, 1) := dk_28 (dk_at dksX0_whereIs_0 2 rfl rfl)
theorem dX0_whereIs_3 : decode cX0_whereIs 3 = .ok (.aload_n 0, 1) := dk_42 (dk_at dksX0_whereIs_0 3 rfl rfl)
theorem dX0_whereIs_4 : decode cX0_whereIs 4 = .ok (.getfield 10, 3) := dk_180 0 10 (dk_at dksX0_whereIs_0 4 rfl rfl)
theorem dX0_whereIs_7 : decode cX0_whereIs 7 = .ok (.if_icmp .ge 27, 3) := dk_162 0 27 (dk_at dksX0_whereIs_0 7 rfl rfl)
theorem dX0_whereIs_10 : decode cX0_whereIs 10 = .ok (.aload_n 0, 1) := dk_42 (dk_at dksX0_whereIs_0 10 rfl rfl)
theorem dX0_whereIs_11 : decode cX0_whereIs 11 = .ok (.getfield 51, 3) := dk_180 0 51 (dk_at dksX0_whereIs_0 11 rfl rfl)
theorem dX0_whereIs_14 : decode cX0_whereIs 14 = .ok (.iload_n 2, 1) := dk_28 (dk_at dksX0_whereIs_0 14 rfl rfl)
theorem dX0_whereIs_15 : decode cX0_whereIs 15 = .ok (.aaload, 1) := dk_50 (dk_at dksX0_whereIs_0 15 rfl rfl)
theorem dX0_whereIs_16 : decode cX0_whereIs 16 = .ok (.getfield 66, 3) := dk_180 0 66 (dk_at dksX0_whereIs_0 16 rfl rfl)
theorem dX0_whereIs_19 : decode cX0_whereIs 19 = .ok (.iload_n 1, 1) := dk_27 (dk_at dksX0_whereIs_0 19 rfl rfl)
theorem dX0_whereIs_20 : decode cX0_whereIs 20 = .ok (.invokestatic 69, 3) := dk_184 0 69 (dk_at dksX0_whereIs_0 20 rfl rfl)
theorem dX0_whereIs_23 : decode cX0_whereIs 23 = .ok (.ifCond .eq 5, 3) := dk_153 0 5 (dk_at dksX0_whereIs_1 0 rfl rfl)
theorem dX0_whereIs_26 : decode cX0_whereIs 26 = .ok (.iload_n 2, 1) := dk_28 (dk_at dksX0_whereIs_1 3 rfl rfl)
theorem dX0_whereIs_27 : decode cX0_whereIs 27 = .ok (.ireturn, 1) := dk_172 (dk_at dksX0_whereIs_1 4 rfl rfl)
theorem dX0_whereIs_28 : decode cX0_whereIs 28 = .ok (.iinc 2 1, 3) := dk_132 2 1 (dk_at dksX0_whereIs_1 5 rfl rfl)
theorem dX0_whereIs_31 : decode cX0_whereIs 31 = .ok (.goto (-29), 3) := dk_167 255 227 (dk_at dksX0_whereIs_1 8 rfl rfl)
theorem dX0_whereIs_34 : decode cX0_whereIs 34 = .ok (.iconst (-1), 1) := dk_2 (dk_at dksX0_whereIs_1 11 rfl rfl)
theorem dX0_whereIs_35 : decode cX0_whereIs 35 = .ok (.ireturn, 1) := dk_172 (dk_at dksX0_whereIs_1 12 rfl rfl)
abbrev cX0_isIn : ByteArray := prog_1_method_3_code
def yX0_isIn : MethodName := ⟨RX0, "isIn", "(II)Z"⟩
def dkwX0_isIn_0 : List UInt8 := [26, 27, 122, 4, 126, 4, 160, 0, 7, 4, 167, 0, 4, 3, 172]
abbrev dktX0_isIn_0 : List UInt8 := dkwX0_isIn_0 ++ []
theorem dksX0_isIn_0 : cX0_isIn.data.toList.drop 0 = dktX0_isIn_0 := by decide +kernel
theorem dX0_isIn_0 : decode cX0_isIn 0 = .ok (.iload_n 0, 1) := dk_26 (dk_at dksX0_isIn_0 0 rfl rfl)
theorem dX0_isIn_1 : decode cX0_isIn 1 = .ok (.iload_n 1, 1) := dk_27 (dk_at dksX0_isIn_0 1 rfl rfl)
theorem dX0_isIn_2 : decode cX0_isIn 2 = .ok (.ishr, 1) := dk_122 (dk_at dksX0_isIn_0 2 rfl rfl)
theorem dX0_isIn_3 : decode cX0_isIn 3 = .ok (.iconst 1, 1) := dk_4 (dk_at dksX0_isIn_0 3 rfl rfl)
theorem dX0_isIn_4 : decode cX0_isIn 4 = .ok (.iand, 1) := dk_126 (dk_at dksX0_isIn_0 4 rfl rfl)
theorem dX0_isIn_5 : decode cX0_isIn 5 = .ok (.iconst 1, 1) := dk_4 (dk_at dksX0_isIn_0 5 rfl rfl)
theorem dX0_isIn_6 : decode cX0_isIn 6 = .ok (.if_icmp .ne 7, 3) := dk_160 0 7 (dk_at dksX0_isIn_0 6 rfl rfl)
theorem dX0_isIn_9 : decode cX0_isIn 9 = .ok (.iconst 1, 1) := dk_4 (dk_at dksX0_isIn_0 9 rfl rfl)
theorem dX0_isIn_10 : decode cX0_isIn 10 = .ok (.goto 4, 3) := dk_167 0 4 (dk_at dksX0_isIn_0 10 rfl rfl)
theorem dX0_isIn_13 : decode cX0_isIn 13 = .ok (.iconst 0, 1) := dk_3 (dk_at dksX0_isIn_0 13 rfl rfl)
theorem dX0_isIn_14 : decode cX0_isIn 14 = .ok (.ireturn, 1) := dk_172 (dk_at dksX0_isIn_0 14 rfl rfl)
abbrev cX0_toldOf : ByteArray := prog_1_method_14_code
def yX0_toldOf : MethodName := ⟨RX0, "toldOf", "(II)I"⟩
def dkwX0_toldOf_4 : List UInt8 := [180, 0, 66, 172, 42, 180, 0, 51, 27, 50, 182, 0, 107, 172]
abbrev dktX0_toldOf_4 : List UInt8 := dkwX0_toldOf_4 ++ []
def dkwX0_toldOf_3 : List UInt8 := [27, 50, 182, 0, 100, 172, 42, 180, 0, 51, 27, 50, 180, 0, 104, 172, 42, 180, 0, 51, 27, 50]
abbrev dktX0_toldOf_3 : List UInt8 := dkwX0_toldOf_3 ++ dktX0_toldOf_4
def dkwX0_toldOf_2 : List UInt8 := [42, 180, 0, 51, 27, 50, 180, 0, 83, 172, 42, 180, 0, 51, 27, 50, 180, 0, 86, 172, 42, 180, 0, 51]
abbrev dktX0_toldOf_2 : List UInt8 := dkwX0_toldOf_2 ++ dktX0_toldOf_3
def dkwX0_toldOf_1 : List UInt8 := [170, 0, 0, 0, 0, 0, 85, 0, 0, 0, 2, 0, 0, 0, 6, 0, 0, 0, 35, 0, 0, 0, 45, 0, 0, 0, 55, 0, 0, 0, 65, 0, 0, 0, 75]
abbrev dktX0_toldOf_1 : List UInt8 := dkwX0_toldOf_1 ++ dktX0_toldOf_2
def dkwX0_toldOf_0 : List UInt8 := [28]
abbrev dktX0_toldOf_0 : List UInt8 := dkwX0_toldOf_0 ++ dktX0_toldOf_1
theorem dksX0_toldOf_0 : cX0_toldOf.data.toList.drop 0 = dktX0_toldOf_0 := by decide +kernel
theorem dksX0_toldOf_1 : cX0_toldOf.data.toList.drop 1 = dktX0_toldOf_1 := dk_seg dksX0_toldOf_0 1 rfl rfl
theorem dksX0_toldOf_2 : cX0_toldOf.data.toList.drop 36 = dktX0_toldOf_2 := dk_seg dksX0_toldOf_1 35 rfl rfl
theorem dksX0_toldOf_3 : cX0_toldOf.data.toList.drop 60 = dktX0_toldOf_3 := dk_seg dksX0_toldOf_2 24 rfl rfl
theorem dksX0_toldOf_4 : cX0_toldOf.data.toList.drop 82 = dktX0_toldOf_4 := dk_seg dksX0_toldOf_3 22 rfl rfl
theorem dX0_toldOf_0 : decode cX0_toldOf 0 = .ok (.iload_n 2, 1) := dk_28 (dk_at dksX0_toldOf_0 0 rfl rfl)
theorem dX0_toldOf_1 : decode cX0_toldOf 1 = .ok (.tableswitch 85 2 6 #[35, 45, 55, 65, 75], 35) := by decide +kernel
theorem dX0_toldOf_36 : decode cX0_toldOf 36 = .ok (.aload_n 0, 1) := dk_42 (dk_at dksX0_toldOf_2 0 rfl rfl)
theorem dX0_toldOf_37 : decode cX0_toldOf 37 = .ok (.getfield 51, 3) := dk_180 0 51 (dk_at dksX0_toldOf_2 1 rfl rfl)
theorem dX0_toldOf_40 : decode cX0_toldOf 40 = .ok (.iload_n 1, 1) := dk_27 (dk_at dksX0_toldOf_2 4 rfl rfl)
theorem dX0_toldOf_41 : decode cX0_toldOf 41 = .ok (.aaload, 1) := dk_50 (dk_at dksX0_toldOf_2 5 rfl rfl)
theorem dX0_toldOf_42 : decode cX0_toldOf 42 = .ok (.getfield 83, 3) := dk_180 0 83 (dk_at dksX0_toldOf_2 6 rfl rfl)
theorem dX0_toldOf_45 : decode cX0_toldOf 45 = .ok (.ireturn, 1) := dk_172 (dk_at dksX0_toldOf_2 9 rfl rfl)
theorem dX0_toldOf_46 : decode cX0_toldOf 46 = .ok (.aload_n 0, 1) := dk_42 (dk_at dksX0_toldOf_2 10 rfl rfl)
theorem dX0_toldOf_47 : decode cX0_toldOf 47 = .ok (.getfield 51, 3) := dk_180 0 51 (dk_at dksX0_toldOf_2 11 rfl rfl)
theorem dX0_toldOf_50 : decode cX0_toldOf 50 = .ok (.iload_n 1, 1) := dk_27 (dk_at dksX0_toldOf_2 14 rfl rfl)
theorem dX0_toldOf_51 : decode cX0_toldOf 51 = .ok (.aaload, 1) := dk_50 (dk_at dksX0_toldOf_2 15 rfl rfl)
theorem dX0_toldOf_52 : decode cX0_toldOf 52 = .ok (.getfield 86, 3) := dk_180 0 86 (dk_at dksX0_toldOf_2 16 rfl rfl)
theorem dX0_toldOf_55 : decode cX0_toldOf 55 = .ok (.ireturn, 1) := dk_172 (dk_at dksX0_toldOf_2 19 rfl rfl)
theorem dX0_toldOf_56 : decode cX0_toldOf 56 = .ok (.aload_n 0, 1) := dk_42 (dk_at dksX0_toldOf_2 20 rfl rfl)
theorem dX0_toldOf_57 : decode cX0_toldOf 57 = .ok (.getfield 51, 3) := dk_180 0 51 (dk_at dksX0_toldOf_2 21 rfl rfl)
theorem dX0_toldOf_60 : decode cX0_toldOf 60 = .ok (.iload_n 1, 1) := dk_27 (dk_at dksX0_toldOf_3 0 rfl rfl)
theorem dX0_toldOf_61 : decode cX0_toldOf 61 = .ok (.aaload, 1) := dk_50 (dk_at dksX0_toldOf_3 1 rfl rfl)
theorem dX0_toldOf_62 : decode cX0_toldOf 62 = .ok (.invokevirtual 100, 3) := dk_182 0 100 (dk_at dksX0_toldOf_3 2 rfl rfl)
theorem dX0_toldOf_65 : decode cX0_toldOf 65 = .ok (.ireturn, 1) := dk_172 (dk_at dksX0_toldOf_3 5 rfl rfl)
theorem dX0_toldOf_66 : decode cX0_toldOf 66 = .ok (.aload_n 0, 1) := dk_42 (dk_at dksX0_toldOf_3 6 rfl rfl)
theorem dX0_toldOf_67 : decode cX0_toldOf 67 = .ok (.getfield 51, 3) := dk_180 0 51 (dk_at dksX0_toldOf_3 7 rfl rfl)
theorem dX0_toldOf_70 : decode cX0_toldOf 70 = .ok (.iload_n 1, 1) := dk_27 (dk_at dksX0_toldOf_3 10 rfl rfl)
theorem dX0_toldOf_71 : decode cX0_toldOf 71 = .ok (.aaload, 1) := dk_50 (dk_at dksX0_toldOf_3 11 rfl rfl)
theorem dX0_toldOf_72 : decode cX0_toldOf 72 = .ok (.getfield 104, 3) := dk_180 0 104 (dk_at dksX0_toldOf_3 12 rfl rfl)
theorem dX0_toldOf_75 : decode cX0_toldOf 75 = .ok (.ireturn, 1) := dk_172 (dk_at dksX0_toldOf_3 15 rfl rfl)
theorem dX0_toldOf_76 : decode cX0_toldOf 76 = .ok (.aload_n 0, 1) := dk_42 (dk_at dksX0_toldOf_3 16 rfl rfl)
theorem dX0_toldOf_77 : decode cX0_toldOf 77 = .ok (.getfield 51, 3) := dk_180 0 51 (dk_at dksX0_toldOf_3 17 rfl rfl)
theorem dX0_toldOf_80 : decode cX0_toldOf 80 = .ok (.iload_n 1, 1) := dk_27 (dk_at dksX0_toldOf_3 20 rfl rfl)
theorem dX0_toldOf_81 : decode cX0_toldOf 81 = .ok (.aaload, 1) := dk_50 (dk_at dksX0_toldOf_3 21 rfl rfl)
theorem dX0_toldOf_82 : decode cX0_toldOf 82 = .ok (.getfield 66, 3) := dk_180 0 66 (dk_at dksX0_toldOf_4 0 rfl rfl)
theorem dX0_toldOf_85 : decode cX0_toldOf 85 = .ok (.ireturn, 1) := dk_172 (dk_at dksX0_toldOf_4 3 rfl rfl)
theorem dX0_toldOf_86 : decode cX0_toldOf 86 = .ok (.aload_n 0, 1) := dk_42 (dk_at dksX0_toldOf_4 4 rfl rfl)
theorem dX0_toldOf_87 : decode cX0_toldOf 87 = .ok (.getfield 51, 3) := dk_180 0 51 (dk_at dksX0_toldOf_4 5 rfl rfl)
theorem dX0_toldOf_90 : decode cX0_toldOf 90 = .ok (.iload_n 1, 1) := dk_27 (dk_at dksX0_toldOf_4 8 rfl rfl)
theorem dX0_toldOf_91 : decode cX0_toldOf 91 = .ok (.aaload, 1) := dk_50 (dk_at dksX0_toldOf_4 9 rfl rfl)
theorem dX0_toldOf_92 : decode cX0_toldOf 92 = .ok (.invokevirtual 107, 3) := dk_182 0 107 (dk_at dksX0_toldOf_4 10 rfl rfl)
theorem dX0_toldOf_95 : decode cX0_toldOf 95 = .ok (.ireturn, 1) := dk_172 (dk_at dksX0_toldOf_4 13 rfl rfl)
abbrev cX0_becomes : ByteArray := prog_1_method_12_code
def yX0_becomes : MethodName := ⟨RX0, "becomes", "(III)V"⟩
def dkwX0_becomes_3 : List UInt8 := [181, 0, 83, 167, 0, 13, 42, 180, 0, 51, 28, 50, 29, 181, 0, 86, 177]
abbrev dktX0_becomes_3 : List UInt8 := dkwX0_becomes_3 ++ []
def dkwX0_becomes_2 : List UInt8 := [42, 29, 181, 0, 76, 167, 0, 35, 42, 28, 29, 182, 0, 79, 167, 0, 26, 42, 180, 0, 51, 28, 50, 29]
abbrev dktX0_becomes_2 : List UInt8 := dkwX0_becomes_2 ++ dktX0_becomes_3
def dkwX0_becomes_1 : List UInt8 := [170, 0, 0, 0, 0, 0, 57, 0, 0, 0, 0, 0, 0, 0, 2, 0, 0, 0, 27, 0, 0, 0, 35, 0, 0, 0, 44]
abbrev dktX0_becomes_1 : List UInt8 := dkwX0_becomes_1 ++ dktX0_becomes_2
def dkwX0_becomes_0 : List UInt8 := [27]
abbrev dktX0_becomes_0 : List UInt8 := dkwX0_becomes_0 ++ dktX0_becomes_1
theorem dksX0_becomes_0 : cX0_becomes.data.toList.drop 0 = dktX0_becomes_0 := by decide +kernel
theorem dksX0_becomes_1 : cX0_becomes.data.toList.drop 1 = dktX0_becomes_1 := dk_seg dksX0_becomes_0 1 rfl rfl
theorem dksX0_becomes_2 : cX0_becomes.data.toList.drop 28 = dktX0_becomes_2 := dk_seg dksX0_becomes_1 27 rfl rfl
theorem dksX0_becomes_3 : cX0_becomes.data.toList.drop 52 = dktX0_becomes_3 := dk_seg dksX0_becomes_2 24 rfl rfl
theorem dX0_becomes_0 : decode cX0_becomes 0 = .ok (.iload_n 1, 1) := dk_27 (dk_at dksX0_becomes_0 0 rfl rfl)
theorem dX0_becomes_1 : decode cX0_becomes 1 = .ok (.tableswitch 57 0 2 #[27, 35, 44], 27) := by decide +kernel
theorem dX0_becomes_28 : decode cX0_becomes 28 = .ok (.aload_n 0, 1) := dk_42 (dk_at dksX0_becomes_2 0 rfl rfl)
theorem dX0_becomes_29 : decode cX0_becomes 29 = .ok (.iload_n 3, 1) := dk_29 (dk_at dksX0_becomes_2 1 rfl rfl)
theorem dX0_becomes_30 : decode cX0_becomes 30 = .ok (.putfield 76, 3) := dk_181 0 76 (dk_at dksX0_becomes_2 2 rfl rfl)
theorem dX0_becomes_33 : decode cX0_becomes 33 = .ok (.goto 35, 3) := dk_167 0 35 (dk_at dksX0_becomes_2 5 rfl rfl)
theorem dX0_becomes_36 : decode cX0_becomes 36 = .ok (.aload_n 0, 1) := dk_42 (dk_at dksX0_becomes_2 8 rfl rfl)
theorem dX0_becomes_37 : decode cX0_becomes 37 = .ok (.iload_n 2, 1) := dk_28 (dk_at dksX0_becomes_2 9 rfl rfl)
theorem dX0_becomes_38 : decode cX0_becomes 38 = .ok (.iload_n 3, 1) := dk_29 (dk_at dksX0_becomes_2 10 rfl rfl)
theorem dX0_becomes_39 : decode cX0_becomes 39 = .ok (.invokevirtual 79, 3) := dk_182 0 79 (dk_at dksX0_becomes_2 11 rfl rfl)
theorem dX0_becomes_42 : decode cX0_becomes 42 = .ok (.goto 26, 3) := dk_167 0 26 (dk_at dksX0_becomes_2 14 rfl rfl)
theorem dX0_becomes_45 : decode cX0_becomes 45 = .ok (.aload_n 0, 1) := dk_42 (dk_at dksX0_becomes_2 17 rfl rfl)
theorem dX0_becomes_46 : decode cX0_becomes 46 = .ok (.getfield 51, 3) := dk_180 0 51 (dk_at dksX0_becomes_2 18 rfl rfl)
theorem dX0_becomes_49 : decode cX0_becomes 49 = .ok (.iload_n 2, 1) := dk_28 (dk_at dksX0_becomes_2 21 rfl rfl)
theorem dX0_becomes_50 : decode cX0_becomes 50 = .ok (.aaload, 1) := dk_50 (dk_at dksX0_becomes_2 22 rfl rfl)
theorem dX0_becomes_51 : decode cX0_becomes 51 = .ok (.iload_n 3, 1) := dk_29 (dk_at dksX0_becomes_2 23 rfl rfl)
theorem dX0_becomes_52 : decode cX0_becomes 52 = .ok (.putfield 83, 3) := dk_181 0 83 (dk_at dksX0_becomes_3 0 rfl rfl)
theorem dX0_becomes_55 : decode cX0_becomes 55 = .ok (.goto 13, 3) := dk_167 0 13 (dk_at dksX0_becomes_3 3 rfl rfl)
theorem dX0_becomes_58 : decode cX0_becomes 58 = .ok (.aload_n 0, 1) := dk_42 (dk_at dksX0_becomes_3 6 rfl rfl)
theorem dX0_becomes_59 : decode cX0_becomes 59 = .ok (.getfield 51, 3) := dk_180 0 51 (dk_at dksX0_becomes_3 7 rfl rfl)
theorem dX0_becomes_62 : decode cX0_becomes 62 = .ok (.iload_n 2, 1) := dk_28 (dk_at dksX0_becomes_3 10 rfl rfl)
theorem dX0_becomes_63 : decode cX0_becomes 63 = .ok (.aaload, 1) := dk_50 (dk_at dksX0_becomes_3 11 rfl rfl)
theorem dX0_becomes_64 : decode cX0_becomes 64 = .ok (.iload_n 3, 1) := dk_29 (dk_at dksX0_becomes_3 12 rfl rfl)
theorem dX0_becomes_65 : decode cX0_becomes 65 = .ok (.putfield 86, 3) := dk_181 0 86 (dk_at dksX0_becomes_3 13 rfl rfl)
theorem dX0_becomes_68 : decode cX0_becomes 68 = .ok (.return_, 1) := dk_177 (dk_at dksX0_becomes_3 16 rfl rfl)
abbrev cX0_goesTo : ByteArray := prog_1_method_11_code
def yX0_goesTo : MethodName := ⟨RX0, "goesTo", "(II)V"⟩
def dkwX0_goesTo_3 : List UInt8 := [180, 0, 51, 28, 50, 89, 180, 0, 66, 4, 27, 120, 128, 181, 0, 66, 177]
abbrev dktX0_goesTo_3 : List UInt8 := dkwX0_goesTo_3 ++ []
def dkwX0_goesTo_2 : List UInt8 := [167, 255, 226, 28, 2, 160, 0, 18, 42, 89, 180, 0, 73, 4, 27, 120, 128, 181, 0, 73, 167, 0, 20, 42]
abbrev dktX0_goesTo_2 : List UInt8 := dkwX0_goesTo_2 ++ dktX0_goesTo_3
def dkwX0_goesTo_1 : List UInt8 := [42, 180, 0, 51, 29, 50, 89, 180, 0, 66, 4, 27, 120, 2, 130, 126, 181, 0, 66, 132, 3, 1]
abbrev dktX0_goesTo_1 : List UInt8 := dkwX0_goesTo_1 ++ dktX0_goesTo_2
def dkwX0_goesTo_0 : List UInt8 := [42, 89, 180, 0, 73, 4, 27, 120, 2, 130, 126, 181, 0, 73, 3, 62, 29, 42, 180, 0, 10, 162, 0, 28]
abbrev dktX0_goesTo_0 : List UInt8 := dkwX0_goesTo_0 ++ dktX0_goesTo_1
theorem dksX0_goesTo_0 : cX0_goesTo.data.toList.drop 0 = dktX0_goesTo_0 := by decide +kernel
theorem dksX0_goesTo_1 : cX0_goesTo.data.toList.drop 24 = dktX0_goesTo_1 := dk_seg dksX0_goesTo_0 24 rfl rfl
theorem dksX0_goesTo_2 : cX0_goesTo.data.toList.drop 46 = dktX0_goesTo_2 := dk_seg dksX0_goesTo_1 22 rfl rfl
theorem dksX0_goesTo_3 : cX0_goesTo.data.toList.drop 70 = dktX0_goesTo_3 := dk_seg dksX0_goesTo_2 24 rfl rfl
theorem dX0_goesTo_0 : decode cX0_goesTo 0 = .ok (.aload_n 0, 1) := dk_42 (dk_at dksX0_goesTo_0 0 rfl rfl)
theorem dX0_goesTo_1 : decode cX0_goesTo 1 = .ok (.dup, 1) := dk_89 (dk_at dksX0_goesTo_0 1 rfl rfl)
theorem dX0_goesTo_2 : decode cX0_goesTo 2 = .ok (.getfield 73, 3) := dk_180 0 73 (dk_at dksX0_goesTo_0 2 rfl rfl)
theorem dX0_goesTo_5 : decode cX0_goesTo 5 = .ok (.iconst 1, 1) := dk_4 (dk_at dksX0_goesTo_0 5 rfl rfl)
theorem dX0_goesTo_6 : decode cX0_goesTo 6 = .ok (.iload_n 1, 1) := dk_27 (dk_at dksX0_goesTo_0 6 rfl rfl)
theorem dX0_goesTo_7 : decode cX0_goesTo 7 = .ok (.ishl, 1) := dk_120 (dk_at dksX0_goesTo_0 7 rfl rfl)
theorem dX0_goesTo_8 : decode cX0_goesTo 8 = .ok (.iconst (-1), 1) := dk_2 (dk_at dksX0_goesTo_0 8 rfl rfl)
theorem dX0_goesTo_9 : decode cX0_goesTo 9 = .ok (.ixor, 1) := dk_130 (dk_at dksX0_goesTo_0 9 rfl rfl)
theorem dX0_goesTo_10 : decode cX0_goesTo 10 = .ok (.iand, 1) := dk_126 (dk_at dksX0_goesTo_0 10 rfl rfl)
theorem dX0_goesTo_11 : decode cX0_goesTo 11 = .ok (.putfield 73, 3) := dk_181 0 73 (dk_at dksX0_goesTo_0 11 rfl rfl)
theorem dX0_goesTo_14 : decode cX0_goesTo 14 = .ok (.iconst 0, 1) := dk_3 (dk_at dksX0_goesTo_0 14 rfl rfl)
theorem dX0_goesTo_15 : decode cX0_goesTo 15 = .ok (.istore_n 3, 1) := dk_62 (dk_at dksX0_goesTo_0 15 rfl rfl)
theorem dX0_goesTo_16 : decode cX0_goesTo 16 = .ok (.iload_n 3, 1) := dk_29 (dk_at dksX0_goesTo_0 16 rfl rfl)
theorem dX0_goesTo_17 : decode cX0_goesTo 17 = .ok (.aload_n 0, 1) := dk_42 (dk_at dksX0_goesTo_0 17 rfl rfl)
theorem dX0_goesTo_18 : decode cX0_goesTo 18 = .ok (.getfield 10, 3) := dk_180 0 10 (dk_at dksX0_goesTo_0 18 rfl rfl)
theorem dX0_goesTo_21 : decode cX0_goesTo 21 = .ok (.if_icmp .ge 28, 3) := dk_162 0 28 (dk_at dksX0_goesTo_0 21 rfl rfl)
theorem dX0_goesTo_24 : decode cX0_goesTo 24 = .ok (.aload_n 0, 1) := dk_42 (dk_at dksX0_goesTo_1 0 rfl rfl)
theorem dX0_goesTo_25 : decode cX0_goesTo 25 = .ok (.getfield 51, 3) := dk_180 0 51 (dk_at dksX0_goesTo_1 1 rfl rfl)
theorem dX0_goesTo_28 : decode cX0_goesTo 28 = .ok (.iload_n 3, 1) := dk_29 (dk_at dksX0_goesTo_1 4 rfl rfl)
theorem dX0_goesTo_29 : decode cX0_goesTo 29 = .ok (.aaload, 1) := dk_50 (dk_at dksX0_goesTo_1 5 rfl rfl)
theorem dX0_goesTo_30 : decode cX0_goesTo 30 = .ok (.dup, 1) := dk_89 (dk_at dksX0_goesTo_1 6 rfl rfl)
theorem dX0_goesTo_31 : decode cX0_goesTo 31 = .ok (.getfield 66, 3) := dk_180 0 66 (dk_at dksX0_goesTo_1 7 rfl rfl)
theorem dX0_goesTo_34 : decode cX0_goesTo 34 = .ok (.iconst 1, 1) := dk_4 (dk_at dksX0_goesTo_1 10 rfl rfl)
theorem dX0_goesTo_35 : decode cX0_goesTo 35 = .ok (.iload_n 1, 1) := dk_27 (dk_at dksX0_goesTo_1 11 rfl rfl)
theorem dX0_goesTo_36 : decode cX0_goesTo 36 = .ok (.ishl, 1) := dk_120 (dk_at dksX0_goesTo_1 12 rfl rfl)
theorem dX0_goesTo_37 : decode cX0_goesTo 37 = .ok (.iconst (-1), 1) := dk_2 (dk_at dksX0_goesTo_1 13 rfl rfl)
theorem dX0_goesTo_38 : decode cX0_goesTo 38 = .ok (.ixor, 1) := dk_130 (dk_at dksX0_goesTo_1 14 rfl rfl)
theorem dX0_goesTo_39 : decode cX0_goesTo 39 = .ok (.iand, 1) := dk_126 (dk_at dksX0_goesTo_1 15 rfl rfl)
theorem dX0_goesTo_40 : decode cX0_goesTo 40 = .ok (.putfield 66, 3) := dk_181 0 66 (dk_at dksX0_goesTo_1 16 rfl rfl)
theorem dX0_goesTo_43 : decode cX0_goesTo 43 = .ok (.iinc 3 1, 3) := dk_132 3 1 (dk_at dksX0_goesTo_1 19 rfl rfl)
theorem dX0_goesTo_46 : decode cX0_goesTo 46 = .ok (.goto (-30), 3) := dk_167 255 226 (dk_at dksX0_goesTo_2 0 rfl rfl)
theorem dX0_goesTo_49 : decode cX0_goesTo 49 = .ok (.iload_n 2, 1) := dk_28 (dk_at dksX0_goesTo_2 3 rfl rfl)
theorem dX0_goesTo_50 : decode cX0_goesTo 50 = .ok (.iconst (-1), 1) := dk_2 (dk_at dksX0_goesTo_2 4 rfl rfl)
theorem dX0_goesTo_51 : decode cX0_goesTo 51 = .ok (.if_icmp .ne 18, 3) := dk_160 0 18 (dk_at dksX0_goesTo_2 5 rfl rfl)
theorem dX0_goesTo_54 : decode cX0_goesTo 54 = .ok (.aload_n 0, 1) := dk_42 (dk_at dksX0_goesTo_2 8 rfl rfl)
theorem dX0_goesTo_55 : decode cX0_goesTo 55 = .ok (.dup, 1) := dk_89 (dk_at dksX0_goesTo_2 9 rfl rfl)
theorem dX0_goesTo_56 : decode cX0_goesTo 56 = .ok (.getfield 73, 3) := dk_180 0 73 (dk_at dksX0_goesTo_2 10 rfl rfl)
theorem dX0_goesTo_59 : decode cX0_goesTo 59 = .ok (.iconst 1, 1) := dk_4 (dk_at dksX0_goesTo_2 13 rfl rfl)
theorem dX0_goesTo_60 : decode cX0_goesTo 60 = .ok (.iload_n 1, 1) := dk_27 (dk_at dksX0_goesTo_2 14 rfl rfl)
theorem dX0_goesTo_61 : decode cX0_goesTo 61 = .ok (.ishl, 1) := dk_120 (dk_at dksX0_goesTo_2 15 rfl rfl)
theorem dX0_goesTo_62 : decode cX0_goesTo 62 = .ok (.ior, 1) := dk_128 (dk_at dksX0_goesTo_2 16 rfl rfl)
theorem dX0_goesTo_63 : decode cX0_goesTo 63 = .ok (.putfield 73, 3) := dk_181 0 73 (dk_at dksX0_goesTo_2 17 rfl rfl)
theorem dX0_goesTo_66 : decode cX0_goesTo 66 = .ok (.goto 20, 3) := dk_167 0 20 (dk_at dksX0_goesTo_2 20 rfl rfl)
theorem dX0_goesTo_69 : decode cX0_goesTo 69 = .ok (.aload_n 0, 1) := dk_42 (dk_at dksX0_goesTo_2 23 rfl rfl)
theorem dX0_goesTo_70 : decode cX0_goesTo 70 = .ok (.getfield 51, 3) := dk_180 0 51 (dk_at dksX0_goesTo_3 0 rfl rfl)
theorem dX0_goesTo_73 : decode cX0_goesTo 73 = .ok (.iload_n 2, 1) := dk_28 (dk_at dksX0_goesTo_3 3 rfl rfl)
theorem dX0_goesTo_74 : decode cX0_goesTo 74 = .ok (.aaload, 1) := dk_50 (dk_at dksX0_goesTo_3 4 rfl rfl)
theorem dX0_goesTo_75 : decode cX0_goesTo 75 = .ok (.dup, 1) := dk_89 (dk_at dksX0_goesTo_3 5 rfl rfl)
theorem dX0_goesTo_76 : decode cX0_goesTo 76 = .ok (.getfield 66, 3) := dk_180 0 66 (dk_at dksX0_goesTo_3 6 rfl rfl)
theorem dX0_goesTo_79 : decode cX0_goesTo 79 = .ok (.iconst 1, 1) := dk_4 (dk_at dksX0_goesTo_3 9 rfl rfl)
theorem dX0_goesTo_80 : decode cX0_goesTo 80 = .ok (.iload_n 1, 1) := dk_27 (dk_at dksX0_goesTo_3 10 rfl rfl)
theorem dX0_goesTo_81 : decode cX0_goesTo 81 = .ok (.ishl, 1) := dk_120 (dk_at dksX0_goesTo_3 11 rfl rfl)
theorem dX0_goesTo_82 : decode cX0_goesTo 82 = .ok (.ior, 1) := dk_128 (dk_at dksX0_goesTo_3 12 rfl rfl)
theorem dX0_goesTo_83 : decode cX0_goesTo 83 = .ok (.putfield 66, 3) := dk_181 0 66 (dk_at dksX0_goesTo_3 13 rfl rfl)
theorem dX0_goesTo_86 : decode cX0_goesTo 86 = .ok (.return_, 1) := dk_177 (dk_at dksX0_goesTo_3 16 rfl rfl)
abbrev cX0_feed : ByteArray := prog_1_method_35_code
def yX0_feed : MethodName := ⟨RX0, "feed", "(I)I"⟩
def dkwX0_feed_2 : List UInt8 := [181, 0, 246, 42, 180, 0, 246, 172]
abbrev dktX0_feed_2 : List UInt8 := dkwX0_feed_2 ++ []
def dkwX0_feed_1 : List UInt8 := [160, 0, 6, 16, 252, 172, 42, 180, 0, 122, 42, 180, 0, 246, 27, 145, 84, 42, 89, 180, 0, 246, 4, 96]
abbrev dktX0_feed_1 : List UInt8 := dkwX0_feed_1 ++ dktX0_feed_2
def dkwX0_feed_0 : List UInt8 := [27, 133, 9, 20, 1, 7, 184, 0, 16, 154, 0, 6, 16, 254, 172, 42, 180, 0, 246, 17, 0, 160]
abbrev dktX0_feed_0 : List UInt8 := dkwX0_feed_0 ++ dktX0_feed_1
theorem dksX0_feed_0 : cX0_feed.data.toList.drop 0 = dktX0_feed_0 := by decide +kernel
theorem dksX0_feed_1 : cX0_feed.data.toList.drop 22 = dktX0_feed_1 := dk_seg dksX0_feed_0 22 rfl rfl
theorem dksX0_feed_2 : cX0_feed.data.toList.drop 46 = dktX0_feed_2 := dk_seg dksX0_feed_1 24 rfl rfl
theorem dX0_feed_0 : decode cX0_feed 0 = .ok (.iload_n 1, 1) := dk_27 (dk_at dksX0_feed_0 0 rfl rfl)
theorem dX0_feed_1 : decode cX0_feed 1 = .ok (.i2l, 1) := dk_133 (dk_at dksX0_feed_0 1 rfl rfl)
theorem dX0_feed_2 : decode cX0_feed 2 = .ok (.lconst 0, 1) := dk_9 (dk_at dksX0_feed_0 2 rfl rfl)
theorem dX0_feed_3 : decode cX0_feed 3 = .ok (.ldc2_w 263, 3) := dk_20 1 7 (dk_at dksX0_feed_0 3 rfl rfl)
theorem dX0_feed_6 : decode cX0_feed 6 = .ok (.invokestatic 16, 3) := dk_184 0 16 (dk_at dksX0_feed_0 6 rfl rfl)
theorem dX0_feed_9 : decode cX0_feed 9 = .ok (.ifCond .ne 6, 3) := dk_154 0 6 (dk_at dksX0_feed_0 9 rfl rfl)
theorem dX0_feed_12 : decode cX0_feed 12 = .ok (.bipush (-2), 2) := dk_16 254 (dk_at dksX0_feed_0 12 rfl rfl)
theorem dX0_feed_14 : decode cX0_feed 14 = .ok (.ireturn, 1) := dk_172 (dk_at dksX0_feed_0 14 rfl rfl)
theorem dX0_feed_15 : decode cX0_feed 15 = .ok (.aload_n 0, 1) := dk_42 (dk_at dksX0_feed_0 15 rfl rfl)
theorem dX0_feed_16 : decode cX0_feed 16 = .ok (.getfield 246, 3) := dk_180 0 246 (dk_at dksX0_feed_0 16 rfl rfl)
theorem dX0_feed_19 : decode cX0_feed 19 = .ok (.sipush 160, 3) := dk_17 0 160 (dk_at dksX0_feed_0 19 rfl rfl)
theorem dX0_feed_22 : decode cX0_feed 22 = .ok (.if_icmp .ne 6, 3) := dk_160 0 6 (dk_at dksX0_feed_1 0 rfl rfl)
theorem dX0_feed_25 : decode cX0_feed 25 = .ok (.bipush (-4), 2) := dk_16 252 (dk_at dksX0_feed_1 3 rfl rfl)
theorem dX0_feed_27 : decode cX0_feed 27 = .ok (.ireturn, 1) := dk_172 (dk_at dksX0_feed_1 5 rfl rfl)
theorem dX0_feed_28 : decode cX0_feed 28 = .ok (.aload_n 0, 1) := dk_42 (dk_at dksX0_feed_1 6 rfl rfl)
theorem dX0_feed_29 : decode cX0_feed 29 = .ok (.getfield 122, 3) := dk_180 0 122 (dk_at dksX0_feed_1 7 rfl rfl)
theorem dX0_feed_32 : decode cX0_feed 32 = .ok (.aload_n 0, 1) := dk_42 (dk_at dksX0_feed_1 10 rfl rfl)
theorem dX0_feed_33 : decode cX0_feed 33 = .ok (.getfield 246, 3) := dk_180 0 246 (dk_at dksX0_feed_1 11 rfl rfl)
theorem dX0_feed_36 : decode cX0_feed 36 = .ok (.iload_n 1, 1) := dk_27 (dk_at dksX0_feed_1 14 rfl rfl)
theorem dX0_feed_37 : decode cX0_feed 37 = .ok (.i2b, 1) := dk_145 (dk_at dksX0_feed_1 15 rfl rfl)
theorem dX0_feed_38 : decode cX0_feed 38 = .ok (.bastore, 1) := dk_84 (dk_at dksX0_feed_1 16 rfl rfl)
theorem dX0_feed_39 : decode cX0_feed 39 = .ok (.aload_n 0, 1) := dk_42 (dk_at dksX0_feed_1 17 rfl rfl)
theorem dX0_feed_40 : decode cX0_feed 40 = .ok (.dup, 1) := dk_89 (dk_at dksX0_feed_1 18 rfl rfl)
theorem dX0_feed_41 : decode cX0_feed 41 = .ok (.getfield 246, 3) := dk_180 0 246 (dk_at dksX0_feed_1 19 rfl rfl)
theorem dX0_feed_44 : decode cX0_feed 44 = .ok (.iconst 1, 1) := dk_4 (dk_at dksX0_feed_1 22 rfl rfl)
theorem dX0_feed_45 : decode cX0_feed 45 = .ok (.iadd, 1) := dk_96 (dk_at dksX0_feed_1 23 rfl rfl)
theorem dX0_feed_46 : decode cX0_feed 46 = .ok (.putfield 246, 3) := dk_181 0 246 (dk_at dksX0_feed_2 0 rfl rfl)
theorem dX0_feed_49 : decode cX0_feed 49 = .ok (.aload_n 0, 1) := dk_42 (dk_at dksX0_feed_2 3 rfl rfl)
theorem dX0_feed_50 : decode cX0_feed 50 = .ok (.getfield 246, 3) := dk_180 0 246 (dk_at dksX0_feed_2 4 rfl rfl)
theorem dX0_feed_53 : decode cX0_feed 53 = .ok (.ireturn, 1) := dk_172 (dk_at dksX0_feed_2 7 rfl rfl)
abbrev cX0_text : ByteArray := prog_1_method_36_code
def yX0_text : MethodName := ⟨RX0, "text", "()I"⟩
def dkwX0_text_0 : List UInt8 := [42, 180, 1, 1, 16, 6, 160, 0, 8, 16, 252, 167, 0, 7, 42, 182, 1, 4, 172]
abbrev dktX0_text_0 : List UInt8 := dkwX0_text_0 ++ []
theorem dksX0_text_0 : cX0_text.data.toList.drop 0 = dktX0_text_0 := by decide +kernel
theorem dX0_text_0 : decode cX0_text 0 = .ok (.aload_n 0, 1) := dk_42 (dk_at dksX0_text_0 0 rfl rfl)
theorem dX0_text_1 : decode cX0_text 1 = .ok (.getfield 257, 3) := dk_180 1 1 (dk_at dksX0_text_0 1 rfl rfl)
theorem dX0_text_4 : decode cX0_text 4 = .ok (.bipush 6, 2) := dk_16 6 (dk_at dksX0_text_0 4 rfl rfl)
theorem dX0_text_6 : decode cX0_text 6 = .ok (.if_icmp .ne 8, 3) := dk_160 0 8 (dk_at dksX0_text_0 6 rfl rfl)
theorem dX0_text_9 : decode cX0_text 9 = .ok (.bipush (-4), 2) := dk_16 252 (dk_at dksX0_text_0 9 rfl rfl)
theorem dX0_text_11 : decode cX0_text 11 = .ok (.goto 7, 3) := dk_167 0 7 (dk_at dksX0_text_0 11 rfl rfl)
theorem dX0_text_14 : decode cX0_text 14 = .ok (.aload_n 0, 1) := dk_42 (dk_at dksX0_text_0 14 rfl rfl)
theorem dX0_text_15 : decode cX0_text 15 = .ok (.invokevirtual 260, 3) := dk_182 1 4 (dk_at dksX0_text_0 15 rfl rfl)
theorem dX0_text_18 : decode cX0_text 18 = .ok (.ireturn, 1) := dk_172 (dk_at dksX0_text_0 18 rfl rfl)
abbrev cX0_newText : ByteArray := prog_1_method_33_code
def yX0_newText : MethodName := ⟨RX0, "newText", "()I"⟩
def dkwX0_newText_5 : List UInt8 := [100, 172]
abbrev dktX0_newText_5 : List UInt8 := dkwX0_newText_5 ++ []
def dkwX0_newText_4 : List UInt8 := [180, 0, 253, 42, 180, 1, 1, 43, 83, 42, 89, 180, 1, 1, 4, 96, 181, 1, 1, 42, 180, 1, 1, 4]
abbrev dktX0_newText_4 : List UInt8 := dkwX0_newText_4 ++ dktX0_newText_5
def dkwX0_newText_3 : List UInt8 := [180, 0, 143, 153, 0, 8, 42, 180, 0, 169, 191, 167, 0, 12, 77, 16, 156, 42, 180, 0, 140, 100, 172, 42]
abbrev dktX0_newText_3 : List UInt8 := dkwX0_newText_3 ++ dktX0_newText_4
def dkwX0_newText_2 : List UInt8 := [43, 28, 42, 182, 0, 243, 83, 42, 42, 16, 59, 182, 0, 226, 182, 0, 196, 132, 2, 1, 167, 255, 222, 42]
abbrev dktX0_newText_2 : List UInt8 := dkwX0_newText_2 ++ dktX0_newText_3
def dkwX0_newText_1 : List UInt8 := [189, 0, 249, 76, 42, 182, 0, 190, 3, 61, 28, 6, 162, 0, 35, 42, 42, 28, 182, 0, 204, 182, 0, 196]
abbrev dktX0_newText_1 : List UInt8 := dkwX0_newText_1 ++ dktX0_newText_2
def dkwX0_newText_0 : List UInt8 := [42, 42, 180, 0, 246, 181, 0, 119, 42, 3, 181, 0, 246, 42, 3, 181, 0, 134, 42, 3, 181, 0, 193, 6]
abbrev dktX0_newText_0 : List UInt8 := dkwX0_newText_0 ++ dktX0_newText_1
theorem dksX0_newText_0 : cX0_newText.data.toList.drop 0 = dktX0_newText_0 := by decide +kernel
theorem dksX0_newText_1 : cX0_newText.data.toList.drop 24 = dktX0_newText_1 := dk_seg dksX0_newText_0 24 rfl rfl
theorem dksX0_newText_2 : cX0_newText.data.toList.drop 48 = dktX0_newText_2 := dk_seg dksX0_newText_1 24 rfl rfl
theorem dksX0_newText_3 : cX0_newText.data.toList.drop 72 = dktX0_newText_3 := dk_seg dksX0_newText_2 24 rfl rfl
theorem dksX0_newText_4 : cX0_newText.data.toList.drop 96 = dktX0_newText_4 := dk_seg dksX0_newText_3 24 rfl rfl
theorem dksX0_newText_5 : cX0_newText.data.toList.drop 120 = dktX0_newText_5 := dk_seg dksX0_newText_4 24 rfl rfl
theorem dX0_newText_0 : decode cX0_newText 0 = .ok (.aload_n 0, 1) := dk_42 (dk_at dksX0_newText_0 0 rfl rfl)
theorem dX0_newText_1 : decode cX0_newText 1 = .ok (.aload_n 0, 1) := dk_42 (dk_at dksX0_newText_0 1 rfl rfl)
theorem dX0_newText_2 : decode cX0_newText 2 = .ok (.getfield 246, 3) := dk_180 0 246 (dk_at dksX0_newText_0 2 rfl rfl)
theorem dX0_newText_5 : decode cX0_newText 5 = .ok (.putfield 119, 3) := dk_181 0 119 (dk_at dksX0_newText_0 5 rfl rfl)
theorem dX0_newText_8 : decode cX0_newText 8 = .ok (.aload_n 0, 1) := dk_42 (dk_at dksX0_newText_0 8 rfl rfl)
theorem dX0_newText_9 : decode cX0_newText 9 = .ok (.iconst 0, 1) := dk_3 (dk_at dksX0_newText_0 9 rfl rfl)
theorem dX0_newText_10 : decode cX0_newText 10 = .ok (.putfield 246, 3) := dk_181 0 246 (dk_at dksX0_newText_0 10 rfl rfl)
theorem dX0_newText_13 : decode cX0_newText 13 = .ok (.aload_n 0, 1) := dk_42 (dk_at dksX0_newText_0 13 rfl rfl)
theorem dX0_newText_14 : decode cX0_newText 14 = .ok (.iconst 0, 1) := dk_3 (dk_at dksX0_newText_0 14 rfl rfl)
theorem dX0_newText_15 : decode cX0_newText 15 = .ok (.putfield 134, 3) := dk_181 0 134 (dk_at dksX0_newText_0 15 rfl rfl)
theorem dX0_newText_18 : decode cX0_newText 18 = .ok (.aload_n 0, 1) := dk_42 (dk_at dksX0_newText_0 18 rfl rfl)
theorem dX0_newText_19 : decode cX0_newText 19 = .ok (.iconst 0, 1) := dk_3 (dk_at dksX0_newText_0 19 rfl rfl)
theorem dX0_newText_20 : decode cX0_newText 20 = .ok (.putfield 193, 3) := dk_181 0 193 (dk_at dksX0_newText_0 20 rfl rfl)
theorem dX0_newText_23 : decode cX0_newText 23 = .ok (.iconst 3, 1) := dk_6 (dk_at dksX0_newText_0 23 rfl rfl)
theorem dX0_newText_24 : decode cX0_newText 24 = .ok (.anewarray 249, 3) := dk_189 0 249 (dk_at dksX0_newText_1 0 rfl rfl)
theorem dX0_newText_27 : decode cX0_newText 27 = .ok (.astore_n 1, 1) := dk_76 (dk_at dksX0_newText_1 3 rfl rfl)
theorem dX0_newText_28 : decode cX0_newText 28 = .ok (.aload_n 0, 1) := dk_42 (dk_at dksX0_newText_1 4 rfl rfl)
theorem dX0_newText_29 : decode cX0_newText 29 = .ok (.invokevirtual 190, 3) := dk_182 0 190 (dk_at dksX0_newText_1 5 rfl rfl)
theorem dX0_newText_32 : decode cX0_newText 32 = .ok (.iconst 0, 1) := dk_3 (dk_at dksX0_newText_1 8 rfl rfl)
theorem dX0_newText_33 : decode cX0_newText 33 = .ok (.istore_n 2, 1) := dk_61 (dk_at dksX0_newText_1 9 rfl rfl)
theorem dX0_newText_34 : decode cX0_newText 34 = .ok (.iload_n 2, 1) := dk_28 (dk_at dksX0_newText_1 10 rfl rfl)
theorem dX0_newText_35 : decode cX0_newText 35 = .ok (.iconst 3, 1) := dk_6 (dk_at dksX0_newText_1 11 rfl rfl)
theorem dX0_newText_36 : decode cX0_newText 36 = .ok (.if_icmp .ge 35, 3) := dk_162 0 35 (dk_at dksX0_newText_1 12 rfl rfl)
theorem dX0_newText_39 : decode cX0_newText 39 = .ok (.aload_n 0, 1) := dk_42 (dk_at dksX0_newText_1 15 rfl rfl)
theorem dX0_newText_40 : decode cX0_newText 40 = .ok (.aload_n 0, 1) := dk_42 (dk_at dksX0_newText_1 16 rfl rfl)
theorem dX0_newText_41 : decode cX0_newText 41 = .ok (.iload_n 2, 1) := dk_28 (dk_at dksX0_newText_1 17 rfl rfl)
theorem dX0_newText_42 : decode cX0_newText 42 = .ok (.invokevirtual 204, 3) := dk_182 0 204 (dk_at dksX0_newText_1 18 rfl rfl)
theorem dX0_newText_45 : decode cX0_newText 45 = .ok (.invokevirtual 196, 3) := dk_182 0 196 (dk_at dksX0_newText_1 21 rfl rfl)
theorem dX0_newText_48 : decode cX0_newText 48 = .ok (.aload_n 1, 1) := dk_43 (dk_at dksX0_newText_2 0 rfl rfl)
theorem dX0_newText_49 : decode cX0_newText 49 = .ok (.iload_n 2, 1) := dk_28 (dk_at dksX0_newText_2 1 rfl rfl)
theorem dX0_newText_50 : decode cX0_newText 50 = .ok (.aload_n 0, 1) := dk_42 (dk_at dksX0_newText_2 2 rfl rfl)
theorem dX0_newText_51 : decode cX0_newText 51 = .ok (.invokevirtual 243, 3) := dk_182 0 243 (dk_at dksX0_newText_2 3 rfl rfl)
theorem dX0_newText_54 : decode cX0_newText 54 = .ok (.aastore, 1) := dk_83 (dk_at dksX0_newText_2 6 rfl rfl)
theorem dX0_newText_55 : decode cX0_newText 55 = .ok (.aload_n 0, 1) := dk_42 (dk_at dksX0_newText_2 7 rfl rfl)
theorem dX0_newText_56 : decode cX0_newText 56 = .ok (.aload_n 0, 1) := dk_42 (dk_at dksX0_newText_2 8 rfl rfl)
theorem dX0_newText_57 : decode cX0_newText 57 = .ok (.bipush 59, 2) := dk_16 59 (dk_at dksX0_newText_2 9 rfl rfl)
theorem dX0_newText_59 : decode cX0_newText 59 = .ok (.invokevirtual 226, 3) := dk_182 0 226 (dk_at dksX0_newText_2 11 rfl rfl)
theorem dX0_newText_62 : decode cX0_newText 62 = .ok (.invokevirtual 196, 3) := dk_182 0 196 (dk_at dksX0_newText_2 14 rfl rfl)
theorem dX0_newText_65 : decode cX0_newText 65 = .ok (.iinc 2 1, 3) := dk_132 2 1 (dk_at dksX0_newText_2 17 rfl rfl)
theorem dX0_newText_68 : decode cX0_newText 68 = .ok (.goto (-34), 3) := dk_167 255 222 (dk_at dksX0_newText_2 20 rfl rfl)
theorem dX0_newText_71 : decode cX0_newText 71 = .ok (.aload_n 0, 1) := dk_42 (dk_at dksX0_newText_2 23 rfl rfl)
theorem dX0_newText_72 : decode cX0_newText 72 = .ok (.getfield 143, 3) := dk_180 0 143 (dk_at dksX0_newText_3 0 rfl rfl)
theorem dX0_newText_75 : decode cX0_newText 75 = .ok (.ifCond .eq 8, 3) := dk_153 0 8 (dk_at dksX0_newText_3 3 rfl rfl)
theorem dX0_newText_78 : decode cX0_newText 78 = .ok (.aload_n 0, 1) := dk_42 (dk_at dksX0_newText_3 6 rfl rfl)
theorem dX0_newText_79 : decode cX0_newText 79 = .ok (.getfield 169, 3) := dk_180 0 169 (dk_at dksX0_newText_3 7 rfl rfl)
theorem dX0_newText_82 : decode cX0_newText 82 = .ok (.athrow, 1) := dk_191 (dk_at dksX0_newText_3 10 rfl rfl)
theorem dX0_newText_83 : decode cX0_newText 83 = .ok (.goto 12, 3) := dk_167 0 12 (dk_at dksX0_newText_3 11 rfl rfl)
theorem dX0_newText_86 : decode cX0_newText 86 = .ok (.astore_n 2, 1) := dk_77 (dk_at dksX0_newText_3 14 rfl rfl)
theorem dX0_newText_87 : decode cX0_newText 87 = .ok (.bipush (-100), 2) := dk_16 156 (dk_at dksX0_newText_3 15 rfl rfl)
theorem dX0_newText_89 : decode cX0_newText 89 = .ok (.aload_n 0, 1) := dk_42 (dk_at dksX0_newText_3 17 rfl rfl)
theorem dX0_newText_90 : decode cX0_newText 90 = .ok (.getfield 140, 3) := dk_180 0 140 (dk_at dksX0_newText_3 18 rfl rfl)
theorem dX0_newText_93 : decode cX0_newText 93 = .ok (.isub, 1) := dk_100 (dk_at dksX0_newText_3 21 rfl rfl)
theorem dX0_newText_94 : decode cX0_newText 94 = .ok (.ireturn, 1) := dk_172 (dk_at dksX0_newText_3 22 rfl rfl)
theorem dX0_newText_95 : decode cX0_newText 95 = .ok (.aload_n 0, 1) := dk_42 (dk_at dksX0_newText_3 23 rfl rfl)
theorem dX0_newText_96 : decode cX0_newText 96 = .ok (.getfield 253, 3) := dk_180 0 253 (dk_at dksX0_newText_4 0 rfl rfl)
theorem dX0_newText_99 : decode cX0_newText 99 = .ok (.aload_n 0, 1) := dk_42 (dk_at dksX0_newText_4 3 rfl rfl)
theorem dX0_newText_100 : decode cX0_newText 100 = .ok (.getfield 257, 3) := dk_180 1 1 (dk_at dksX0_newText_4 4 rfl rfl)
theorem dX0_newText_103 : decode cX0_newText 103 = .ok (.aload_n 1, 1) := dk_43 (dk_at dksX0_newText_4 7 rfl rfl)
theorem dX0_newText_104 : decode cX0_newText 104 = .ok (.aastore, 1) := dk_83 (dk_at dksX0_newText_4 8 rfl rfl)
theorem dX0_newText_105 : decode cX0_newText 105 = .ok (.aload_n 0, 1) := dk_42 (dk_at dksX0_newText_4 9 rfl rfl)
theorem dX0_newText_106 : decode cX0_newText 106 = .ok (.dup, 1) := dk_89 (dk_at dksX0_newText_4 10 rfl rfl)
theorem dX0_newText_107 : decode cX0_newText 107 = .ok (.getfield 257, 3) := dk_180 1 1 (dk_at dksX0_newText_4 11 rfl rfl)
theorem dX0_newText_110 : decode cX0_newText 110 = .ok (.iconst 1, 1) := dk_4 (dk_at dksX0_newText_4 14 rfl rfl)
theorem dX0_newText_111 : decode cX0_newText 111 = .ok (.iadd, 1) := dk_96 (dk_at dksX0_newText_4 15 rfl rfl)
theorem dX0_newText_112 : decode cX0_newText 112 = .ok (.putfield 257, 3) := dk_181 1 1 (dk_at dksX0_newText_4 16 rfl rfl)
theorem dX0_newText_115 : decode cX0_newText 115 = .ok (.aload_n 0, 1) := dk_42 (dk_at dksX0_newText_4 19 rfl rfl)
theorem dX0_newText_116 : decode cX0_newText 116 = .ok (.getfield 257, 3) := dk_180 1 1 (dk_at dksX0_newText_4 20 rfl rfl)
theorem dX0_newText_119 : decode cX0_newText 119 = .ok (.iconst 1, 1) := dk_4 (dk_at dksX0_newText_4 23 rfl rfl)
theorem dX0_newText_120 : decode cX0_newText 120 = .ok (.isub, 1) := dk_100 (dk_at dksX0_newText_5 0 rfl rfl)
theorem dX0_newText_121 : decode cX0_newText 121 = .ok (.ireturn, 1) := dk_172 (dk_at dksX0_newText_5 1 rfl rfl)
abbrev cX0_next : ByteArray := prog_1_method_19_code
def yX0_next : MethodName := ⟨RX0, "next", "()V"⟩
def dkwX0_next_5 : List UInt8 := [18, 162, 27, 182, 0, 164, 156, 0, 8, 42, 180, 0, 169, 191, 177]
abbrev dktX0_next_5 : List UInt8 := dkwX0_next_5 ++ []
def dkwX0_next_4 : List UInt8 := [167, 0, 37, 42, 7, 181, 0, 143, 42, 27, 181, 0, 159, 42, 89, 180, 0, 134, 4, 96, 181, 0, 134]
abbrev dktX0_next_4 : List UInt8 := dkwX0_next_4 ++ dktX0_next_5
def dkwX0_next_3 : List UInt8 := [184, 0, 146, 153, 0, 10, 42, 182, 0, 149, 167, 0, 51, 27, 184, 0, 153, 153, 0, 10, 42, 182, 0, 156]
abbrev dktX0_next_3 : List UInt8 := dkwX0_next_3 ++ dktX0_next_4
def dkwX0_next_2 : List UInt8 := [42, 42, 180, 0, 134, 182, 0, 137, 60, 27, 2, 160, 0, 11, 42, 3, 181, 0, 143, 167, 0, 65, 27]
abbrev dktX0_next_2 : List UInt8 := dkwX0_next_2 ++ dktX0_next_3
def dkwX0_next_1 : List UInt8 := [160, 0, 16, 42, 89, 180, 0, 134, 4, 96, 181, 0, 134, 167, 255, 220, 42, 42, 180, 0, 134, 181, 0, 140]
abbrev dktX0_next_1 : List UInt8 := dkwX0_next_1 ++ dktX0_next_2
def dkwX0_next_0 : List UInt8 := [42, 42, 180, 0, 134, 182, 0, 137, 16, 32, 159, 0, 16, 42, 42, 180, 0, 134, 182, 0, 137, 16, 10]
abbrev dktX0_next_0 : List UInt8 := dkwX0_next_0 ++ dktX0_next_1
theorem dksX0_next_0 : cX0_next.data.toList.drop 0 = dktX0_next_0 := by decide +kernel
theorem dksX0_next_1 : cX0_next.data.toList.drop 23 = dktX0_next_1 := dk_seg dksX0_next_0 23 rfl rfl
theorem dksX0_next_2 : cX0_next.data.toList.drop 47 = dktX0_next_2 := dk_seg dksX0_next_1 24 rfl rfl
theorem dksX0_next_3 : cX0_next.data.toList.drop 70 = dktX0_next_3 := dk_seg dksX0_next_2 23 rfl rfl
theorem dksX0_next_4 : cX0_next.data.toList.drop 94 = dktX0_next_4 := dk_seg dksX0_next_3 24 rfl rfl
theorem dksX0_next_5 : cX0_next.data.toList.drop 117 = dktX0_next_5 := dk_seg dksX0_next_4 23 rfl rfl
theorem dX0_next_0 : decode cX0_next 0 = .ok (.aload_n 0, 1) := dk_42 (dk_at dksX0_next_0 0 rfl rfl)
theorem dX0_next_1 : decode cX0_next 1 = .ok (.aload_n 0, 1) := dk_42 (dk_at dksX0_next_0 1 rfl rfl)
theorem dX0_next_2 : decode cX0_next 2 = .ok (.getfield 134, 3) := dk_180 0 134 (dk_at dksX0_next_0 2 rfl rfl)
theorem dX0_next_5 : decode cX0_next 5 = .ok (.invokevirtual 137, 3) := dk_182 0 137 (dk_at dksX0_next_0 5 rfl rfl)
theorem dX0_next_8 : decode cX0_next 8 = .ok (.bipush 32, 2) := dk_16 32 (dk_at dksX0_next_0 8 rfl rfl)
theorem dX0_next_10 : decode cX0_next 10 = .ok (.if_icmp .eq 16, 3) := dk_159 0 16 (dk_at dksX0_next_0 10 rfl rfl)
theorem dX0_next_13 : decode cX0_next 13 = .ok (.aload_n 0, 1) := dk_42 (dk_at dksX0_next_0 13 rfl rfl)
theorem dX0_next_14 : decode cX0_next 14 = .ok (.aload_n 0, 1) := dk_42 (dk_at dksX0_next_0 14 rfl rfl)
theorem dX0_next_15 : decode cX0_next 15 = .ok (.getfield 134, 3) := dk_180 0 134 (dk_at dksX0_next_0 15 rfl rfl)
theorem dX0_next_18 : decode cX0_next 18 = .ok (.invokevirtual 137, 3) := dk_182 0 137 (dk_at dksX0_next_0 18 rfl rfl)
theorem dX0_next_21 : decode cX0_next 21 = .ok (.bipush 10, 2) := dk_16 10 (dk_at dksX0_next_0 21 rfl rfl)
theorem dX0_next_23 : decode cX0_next 23 = .ok (.if_icmp .ne 16, 3) := dk_160 0 16 (dk_at dksX0_next_1 0 rfl rfl)
theorem dX0_next_26 : decode cX0_next 26 = .ok (.aload_n 0, 1) := dk_42 (dk_at dksX0_next_1 3 rfl rfl)
theorem dX0_next_27 : decode cX0_next 27 = .ok (.dup, 1) := dk_89 (dk_at dksX0_next_1 4 rfl rfl)
theorem dX0_next_28 : decode cX0_next 28 = .ok (.getfield 134, 3) := dk_180 0 134 (dk_at dksX0_next_1 5 rfl rfl)
theorem dX0_next_31 : decode cX0_next 31 = .ok (.iconst 1, 1) := dk_4 (dk_at dksX0_next_1 8 rfl rfl)
theorem dX0_next_32 : decode cX0_next 32 = .ok (.iadd, 1) := dk_96 (dk_at dksX0_next_1 9 rfl rfl)
theorem dX0_next_33 : decode cX0_next 33 = .ok (.putfield 134, 3) := dk_181 0 134 (dk_at dksX0_next_1 10 rfl rfl)
theorem dX0_next_36 : decode cX0_next 36 = .ok (.goto (-36), 3) := dk_167 255 220 (dk_at dksX0_next_1 13 rfl rfl)
theorem dX0_next_39 : decode cX0_next 39 = .ok (.aload_n 0, 1) := dk_42 (dk_at dksX0_next_1 16 rfl rfl)
theorem dX0_next_40 : decode cX0_next 40 = .ok (.aload_n 0, 1) := dk_42 (dk_at dksX0_next_1 17 rfl rfl)
theorem dX0_next_41 : decode cX0_next 41 = .ok (.getfield 134, 3) := dk_180 0 134 (dk_at dksX0_next_1 18 rfl rfl)
theorem dX0_next_44 : decode cX0_next 44 = .ok (.putfield 140, 3) := dk_181 0 140 (dk_at dksX0_next_1 21 rfl rfl)
theorem dX0_next_47 : decode cX0_next 47 = .ok (.aload_n 0, 1) := dk_42 (dk_at dksX0_next_2 0 rfl rfl)
theorem dX0_next_48 : decode cX0_next 48 = .ok (.aload_n 0, 1) := dk_42 (dk_at dksX0_next_2 1 rfl rfl)
theorem dX0_next_49 : decode cX0_next 49 = .ok (.getfield 134, 3) := dk_180 0 134 (dk_at dksX0_next_2 2 rfl rfl)
theorem dX0_next_52 : decode cX0_next 52 = .ok (.invokevirtual 137, 3) := dk_182 0 137 (dk_at dksX0_next_2 5 rfl rfl)
theorem dX0_next_55 : decode cX0_next 55 = .ok (.istore_n 1, 1) := dk_60 (dk_at dksX0_next_2 8 rfl rfl)
theorem dX0_next_56 : decode cX0_next 56 = .ok (.iload_n 1, 1) := dk_27 (dk_at dksX0_next_2 9 rfl rfl)
theorem dX0_next_57 : decode cX0_next 57 = .ok (.iconst (-1), 1) := dk_2 (dk_at dksX0_next_2 10 rfl rfl)
theorem dX0_next_58 : decode cX0_next 58 = .ok (.if_icmp .ne 11, 3) := dk_160 0 11 (dk_at dksX0_next_2 11 rfl rfl)
theorem dX0_next_61 : decode cX0_next 61 = .ok (.aload_n 0, 1) := dk_42 (dk_at dksX0_next_2 14 rfl rfl)
theorem dX0_next_62 : decode cX0_next 62 = .ok (.iconst 0, 1) := dk_3 (dk_at dksX0_next_2 15 rfl rfl)
theorem dX0_next_63 : decode cX0_next 63 = .ok (.putfield 143, 3) := dk_181 0 143 (dk_at dksX0_next_2 16 rfl rfl)
theorem dX0_next_66 : decode cX0_next 66 = .ok (.goto 65, 3) := dk_167 0 65 (dk_at dksX0_next_2 19 rfl rfl)
theorem dX0_next_69 : decode cX0_next 69 = .ok (.iload_n 1, 1) := dk_27 (dk_at dksX0_next_2 22 rfl rfl)
theorem dX0_next_70 : decode cX0_next 70 = .ok (.invokestatic 146, 3) := dk_184 0 146 (dk_at dksX0_next_3 0 rfl rfl)
theorem dX0_next_73 : decode cX0_next 73 = .ok (.ifCond .eq 10, 3) := dk_153 0 10 (dk_at dksX0_next_3 3 rfl rfl)
theorem dX0_next_76 : decode cX0_next 76 = .ok (.aload_n 0, 1) := dk_42 (dk_at dksX0_next_3 6 rfl rfl)
theorem dX0_next_77 : decode cX0_next 77 = .ok (.invokevirtual 149, 3) := dk_182 0 149 (dk_at dksX0_next_3 7 rfl rfl)
theorem dX0_next_80 : decode cX0_next 80 = .ok (.goto 51, 3) := dk_167 0 51 (dk_at dksX0_next_3 10 rfl rfl)
theorem dX0_next_83 : decode cX0_next 83 = .ok (.iload_n 1, 1) := dk_27 (dk_at dksX0_next_3 13 rfl rfl)
theorem dX0_next_84 : decode cX0_next 84 = .ok (.invokestatic 153, 3) := dk_184 0 153 (dk_at dksX0_next_3 14 rfl rfl)
theorem dX0_next_87 : decode cX0_next 87 = .ok (.ifCond .eq 10, 3) := dk_153 0 10 (dk_at dksX0_next_3 17 rfl rfl)
theorem dX0_next_90 : decode cX0_next 90 = .ok (.aload_n 0, 1) := dk_42 (dk_at dksX0_next_3 20 rfl rfl)
theorem dX0_next_91 : decode cX0_next 91 = .ok (.invokevirtual 156, 3) := dk_182 0 156 (dk_at dksX0_next_3 21 rfl rfl)
theorem dX0_next_94 : decode cX0_next 94 = .ok (.goto 37, 3) := dk_167 0 37 (dk_at dksX0_next_4 0 rfl rfl)
theorem dX0_next_97 : decode cX0_next 97 = .ok (.aload_n 0, 1) := dk_42 (dk_at dksX0_next_4 3 rfl rfl)
theorem dX0_next_98 : decode cX0_next 98 = .ok (.iconst 4, 1) := dk_7 (dk_at dksX0_next_4 4 rfl rfl)
theorem dX0_next_99 : decode cX0_next 99 = .ok (.putfield 143, 3) := dk_181 0 143 (dk_at dksX0_next_4 5 rfl rfl)
theorem dX0_next_102 : decode cX0_next 102 = .ok (.aload_n 0, 1) := dk_42 (dk_at dksX0_next_4 8 rfl rfl)
theorem dX0_next_103 : decode cX0_next 103 = .ok (.iload_n 1, 1) := dk_27 (dk_at dksX0_next_4 9 rfl rfl)
theorem dX0_next_104 : decode cX0_next 104 = .ok (.putfield 159, 3) := dk_181 0 159 (dk_at dksX0_next_4 10 rfl rfl)
theorem dX0_next_107 : decode cX0_next 107 = .ok (.aload_n 0, 1) := dk_42 (dk_at dksX0_next_4 13 rfl rfl)
theorem dX0_next_108 : decode cX0_next 108 = .ok (.dup, 1) := dk_89 (dk_at dksX0_next_4 14 rfl rfl)
theorem dX0_next_109 : decode cX0_next 109 = .ok (.getfield 134, 3) := dk_180 0 134 (dk_at dksX0_next_4 15 rfl rfl)
theorem dX0_next_112 : decode cX0_next 112 = .ok (.iconst 1, 1) := dk_4 (dk_at dksX0_next_4 18 rfl rfl)
theorem dX0_next_113 : decode cX0_next 113 = .ok (.iadd, 1) := dk_96 (dk_at dksX0_next_4 19 rfl rfl)
theorem dX0_next_114 : decode cX0_next 114 = .ok (.putfield 134, 3) := dk_181 0 134 (dk_at dksX0_next_4 20 rfl rfl)
theorem dX0_next_117 : decode cX0_next 117 = .ok (.ldc 162, 2) := dk_18 162 (dk_at dksX0_next_5 0 rfl rfl)
theorem dX0_next_119 : decode cX0_next 119 = .ok (.iload_n 1, 1) := dk_27 (dk_at dksX0_next_5 2 rfl rfl)
theorem dX0_next_120 : decode cX0_next 120 = .ok (.invokevirtual 164, 3) := dk_182 0 164 (dk_at dksX0_next_5 3 rfl rfl)
theorem dX0_next_123 : decode cX0_next 123 = .ok (.ifCond .ge 8, 3) := dk_156 0 8 (dk_at dksX0_next_5 6 rfl rfl)
theorem dX0_next_126 : decode cX0_next 126 = .ok (.aload_n 0, 1) := dk_42 (dk_at dksX0_next_5 9 rfl rfl)
theorem dX0_next_127 : decode cX0_next 127 = .ok (.getfield 169, 3) := dk_180 0 169 (dk_at dksX0_next_5 10 rfl rfl)
theorem dX0_next_130 : decode cX0_next 130 = .ok (.athrow, 1) := dk_191 (dk_at dksX0_next_5 13 rfl rfl)
theorem dX0_next_131 : decode cX0_next 131 = .ok (.return_, 1) := dk_177 (dk_at dksX0_next_5 14 rfl rfl)
abbrev cX0_byteAt : ByteArray := prog_1_method_16_code
def yX0_byteAt : MethodName := ⟨RX0, "byteAt", "(I)I"⟩
def dkwX0_byteAt_0 : List UInt8 := [27, 42, 180, 0, 119, 162, 0, 16, 42, 180, 0, 122, 27, 51, 17, 0, 255, 126, 167, 0, 4, 2, 172]
abbrev dktX0_byteAt_0 : List UInt8 := dkwX0_byteAt_0 ++ []
theorem dksX0_byteAt_0 : cX0_byteAt.data.toList.drop 0 = dktX0_byteAt_0 := by decide +kernel
theorem dX0_byteAt_0 : decode cX0_byteAt 0 = .ok (.iload_n 1, 1) := dk_27 (dk_at dksX0_byteAt_0 0 rfl rfl)
theorem dX0_byteAt_1 : decode cX0_byteAt 1 = .ok (.aload_n 0, 1) := dk_42 (dk_at dksX0_byteAt_0 1 rfl rfl)
theorem dX0_byteAt_2 : decode cX0_byteAt 2 = .ok (.getfield 119, 3) := dk_180 0 119 (dk_at dksX0_byteAt_0 2 rfl rfl)
theorem dX0_byteAt_5 : decode cX0_byteAt 5 = .ok (.if_icmp .ge 16, 3) := dk_162 0 16 (dk_at dksX0_byteAt_0 5 rfl rfl)
theorem dX0_byteAt_8 : decode cX0_byteAt 8 = .ok (.aload_n 0, 1) := dk_42 (dk_at dksX0_byteAt_0 8 rfl rfl)
theorem dX0_byteAt_9 : decode cX0_byteAt 9 = .ok (.getfield 122, 3) := dk_180 0 122 (dk_at dksX0_byteAt_0 9 rfl rfl)
theorem dX0_byteAt_12 : decode cX0_byteAt 12 = .ok (.iload_n 1, 1) := dk_27 (dk_at dksX0_byteAt_0 12 rfl rfl)
theorem dX0_byteAt_13 : decode cX0_byteAt 13 = .ok (.baload, 1) := dk_51 (dk_at dksX0_byteAt_0 13 rfl rfl)
theorem dX0_byteAt_14 : decode cX0_byteAt 14 = .ok (.sipush 255, 3) := dk_17 0 255 (dk_at dksX0_byteAt_0 14 rfl rfl)
theorem dX0_byteAt_17 : decode cX0_byteAt 17 = .ok (.iand, 1) := dk_126 (dk_at dksX0_byteAt_0 17 rfl rfl)
theorem dX0_byteAt_18 : decode cX0_byteAt 18 = .ok (.goto 4, 3) := dk_167 0 4 (dk_at dksX0_byteAt_0 18 rfl rfl)
theorem dX0_byteAt_21 : decode cX0_byteAt 21 = .ok (.iconst (-1), 1) := dk_2 (dk_at dksX0_byteAt_0 21 rfl rfl)
theorem dX0_byteAt_22 : decode cX0_byteAt 22 = .ok (.ireturn, 1) := dk_172 (dk_at dksX0_byteAt_0 22 rfl rfl)
abbrev cX0_isLetter : ByteArray := prog_1_method_17_code
def yX0_isLetter : MethodName := ⟨RX0, "isLetter", "(I)Z"⟩
def dkwX0_isLetter_0 : List UInt8 := [26, 133, 20, 0, 126, 20, 0, 128, 184, 0, 16, 172]
abbrev dktX0_isLetter_0 : List UInt8 := dkwX0_isLetter_0 ++ []
theorem dksX0_isLetter_0 : cX0_isLetter.data.toList.drop 0 = dktX0_isLetter_0 := by decide +kernel
theorem dX0_isLetter_0 : decode cX0_isLetter 0 = .ok (.iload_n 0, 1) := dk_26 (dk_at dksX0_isLetter_0 0 rfl rfl)
theorem dX0_isLetter_1 : decode cX0_isLetter 1 = .ok (.i2l, 1) := dk_133 (dk_at dksX0_isLetter_0 1 rfl rfl)
theorem dX0_isLetter_2 : decode cX0_isLetter 2 = .ok (.ldc2_w 126, 3) := dk_20 0 126 (dk_at dksX0_isLetter_0 2 rfl rfl)
theorem dX0_isLetter_5 : decode cX0_isLetter 5 = .ok (.ldc2_w 128, 3) := dk_20 0 128 (dk_at dksX0_isLetter_0 5 rfl rfl)
theorem dX0_isLetter_8 : decode cX0_isLetter 8 = .ok (.invokestatic 16, 3) := dk_184 0 16 (dk_at dksX0_isLetter_0 8 rfl rfl)
theorem dX0_isLetter_11 : decode cX0_isLetter 11 = .ok (.ireturn, 1) := dk_172 (dk_at dksX0_isLetter_0 11 rfl rfl)
abbrev cX0_word : ByteArray := prog_1_method_21_code
def yX0_word : MethodName := ⟨RX0, "word", "()V"⟩
def dkwX0_word_3 : List UInt8 := [42, 180, 0, 159, 2, 160, 0, 8, 42, 180, 0, 169, 191, 177]
abbrev dktX0_word_3 : List UInt8 := dkwX0_word_3 ++ []
def dkwX0_word_2 : List UInt8 := [181, 0, 143, 42, 27, 2, 160, 0, 14, 42, 42, 180, 0, 187, 182, 0, 183, 167, 0, 4, 27, 181, 0, 159]
abbrev dktX0_word_2 : List UInt8 := dkwX0_word_2 ++ dktX0_word_3
def dkwX0_word_1 : List UInt8 := [167, 255, 232, 42, 42, 180, 0, 179, 182, 0, 183, 60, 42, 27, 2, 160, 0, 7, 5, 167, 0, 4, 4]
abbrev dktX0_word_1 : List UInt8 := dkwX0_word_1 ++ dktX0_word_2
def dkwX0_word_0 : List UInt8 := [42, 42, 180, 0, 134, 182, 0, 137, 184, 0, 146, 153, 0, 16, 42, 89, 180, 0, 134, 4, 96, 181, 0, 134]
abbrev dktX0_word_0 : List UInt8 := dkwX0_word_0 ++ dktX0_word_1
theorem dksX0_word_0 : cX0_word.data.toList.drop 0 = dktX0_word_0 := by decide +kernel
theorem dksX0_word_1 : cX0_word.data.toList.drop 24 = dktX0_word_1 := dk_seg dksX0_word_0 24 rfl rfl
theorem dksX0_word_2 : cX0_word.data.toList.drop 47 = dktX0_word_2 := dk_seg dksX0_word_1 23 rfl rfl
theorem dksX0_word_3 : cX0_word.data.toList.drop 71 = dktX0_word_3 := dk_seg dksX0_word_2 24 rfl rfl
theorem dX0_word_0 : decode cX0_word 0 = .ok (.aload_n 0, 1) := dk_42 (dk_at dksX0_word_0 0 rfl rfl)
theorem dX0_word_1 : decode cX0_word 1 = .ok (.aload_n 0, 1) := dk_42 (dk_at dksX0_word_0 1 rfl rfl)
theorem dX0_word_2 : decode cX0_word 2 = .ok (.getfield 134, 3) := dk_180 0 134 (dk_at dksX0_word_0 2 rfl rfl)
theorem dX0_word_5 : decode cX0_word 5 = .ok (.invokevirtual 137, 3) := dk_182 0 137 (dk_at dksX0_word_0 5 rfl rfl)
theorem dX0_word_8 : decode cX0_word 8 = .ok (.invokestatic 146, 3) := dk_184 0 146 (dk_at dksX0_word_0 8 rfl rfl)
theorem dX0_word_11 : decode cX0_word 11 = .ok (.ifCond .eq 16, 3) := dk_153 0 16 (dk_at dksX0_word_0 11 rfl rfl)
theorem dX0_word_14 : decode cX0_word 14 = .ok (.aload_n 0, 1) := dk_42 (dk_at dksX0_word_0 14 rfl rfl)
theorem dX0_word_15 : decode cX0_word 15 = .ok (.dup, 1) := dk_89 (dk_at dksX0_word_0 15 rfl rfl)
theorem dX0_word_16 : decode cX0_word 16 = .ok (.getfield 134, 3) := dk_180 0 134 (dk_at dksX0_word_0 16 rfl rfl)
theorem dX0_word_19 : decode cX0_word 19 = .ok (.iconst 1, 1) := dk_4 (dk_at dksX0_word_0 19 rfl rfl)
theorem dX0_word_20 : decode cX0_word 20 = .ok (.iadd, 1) := dk_96 (dk_at dksX0_word_0 20 rfl rfl)
theorem dX0_word_21 : decode cX0_word 21 = .ok (.putfield 134, 3) := dk_181 0 134 (dk_at dksX0_word_0 21 rfl rfl)
theorem dX0_word_24 : decode cX0_word 24 = .ok (.goto (-24), 3) := dk_167 255 232 (dk_at dksX0_word_1 0 rfl rfl)
theorem dX0_word_27 : decode cX0_word 27 = .ok (.aload_n 0, 1) := dk_42 (dk_at dksX0_word_1 3 rfl rfl)
theorem dX0_word_28 : decode cX0_word 28 = .ok (.aload_n 0, 1) := dk_42 (dk_at dksX0_word_1 4 rfl rfl)
theorem dX0_word_29 : decode cX0_word 29 = .ok (.getfield 179, 3) := dk_180 0 179 (dk_at dksX0_word_1 5 rfl rfl)
theorem dX0_word_32 : decode cX0_word 32 = .ok (.invokevirtual 183, 3) := dk_182 0 183 (dk_at dksX0_word_1 8 rfl rfl)
theorem dX0_word_35 : decode cX0_word 35 = .ok (.istore_n 1, 1) := dk_60 (dk_at dksX0_word_1 11 rfl rfl)
theorem dX0_word_36 : decode cX0_word 36 = .ok (.aload_n 0, 1) := dk_42 (dk_at dksX0_word_1 12 rfl rfl)
theorem dX0_word_37 : decode cX0_word 37 = .ok (.iload_n 1, 1) := dk_27 (dk_at dksX0_word_1 13 rfl rfl)
theorem dX0_word_38 : decode cX0_word 38 = .ok (.iconst (-1), 1) := dk_2 (dk_at dksX0_word_1 14 rfl rfl)
theorem dX0_word_39 : decode cX0_word 39 = .ok (.if_icmp .ne 7, 3) := dk_160 0 7 (dk_at dksX0_word_1 15 rfl rfl)
theorem dX0_word_42 : decode cX0_word 42 = .ok (.iconst 2, 1) := dk_5 (dk_at dksX0_word_1 18 rfl rfl)
theorem dX0_word_43 : decode cX0_word 43 = .ok (.goto 4, 3) := dk_167 0 4 (dk_at dksX0_word_1 19 rfl rfl)
theorem dX0_word_46 : decode cX0_word 46 = .ok (.iconst 1, 1) := dk_4 (dk_at dksX0_word_1 22 rfl rfl)
theorem dX0_word_47 : decode cX0_word 47 = .ok (.putfield 143, 3) := dk_181 0 143 (dk_at dksX0_word_2 0 rfl rfl)
theorem dX0_word_50 : decode cX0_word 50 = .ok (.aload_n 0, 1) := dk_42 (dk_at dksX0_word_2 3 rfl rfl)
theorem dX0_word_51 : decode cX0_word 51 = .ok (.iload_n 1, 1) := dk_27 (dk_at dksX0_word_2 4 rfl rfl)
theorem dX0_word_52 : decode cX0_word 52 = .ok (.iconst (-1), 1) := dk_2 (dk_at dksX0_word_2 5 rfl rfl)
theorem dX0_word_53 : decode cX0_word 53 = .ok (.if_icmp .ne 14, 3) := dk_160 0 14 (dk_at dksX0_word_2 6 rfl rfl)
theorem dX0_word_56 : decode cX0_word 56 = .ok (.aload_n 0, 1) := dk_42 (dk_at dksX0_word_2 9 rfl rfl)
theorem dX0_word_57 : decode cX0_word 57 = .ok (.aload_n 0, 1) := dk_42 (dk_at dksX0_word_2 10 rfl rfl)
theorem dX0_word_58 : decode cX0_word 58 = .ok (.getfield 187, 3) := dk_180 0 187 (dk_at dksX0_word_2 11 rfl rfl)
theorem dX0_word_61 : decode cX0_word 61 = .ok (.invokevirtual 183, 3) := dk_182 0 183 (dk_at dksX0_word_2 14 rfl rfl)
theorem dX0_word_64 : decode cX0_word 64 = .ok (.goto 4, 3) := dk_167 0 4 (dk_at dksX0_word_2 17 rfl rfl)
theorem dX0_word_67 : decode cX0_word 67 = .ok (.iload_n 1, 1) := dk_27 (dk_at dksX0_word_2 20 rfl rfl)
theorem dX0_word_68 : decode cX0_word 68 = .ok (.putfield 159, 3) := dk_181 0 159 (dk_at dksX0_word_2 21 rfl rfl)
theorem dX0_word_71 : decode cX0_word 71 = .ok (.aload_n 0, 1) := dk_42 (dk_at dksX0_word_3 0 rfl rfl)
theorem dX0_word_72 : decode cX0_word 72 = .ok (.getfield 159, 3) := dk_180 0 159 (dk_at dksX0_word_3 1 rfl rfl)
theorem dX0_word_75 : decode cX0_word 75 = .ok (.iconst (-1), 1) := dk_2 (dk_at dksX0_word_3 4 rfl rfl)
theorem dX0_word_76 : decode cX0_word 76 = .ok (.if_icmp .ne 8, 3) := dk_160 0 8 (dk_at dksX0_word_3 5 rfl rfl)
theorem dX0_word_79 : decode cX0_word 79 = .ok (.aload_n 0, 1) := dk_42 (dk_at dksX0_word_3 8 rfl rfl)
theorem dX0_word_80 : decode cX0_word 80 = .ok (.getfield 169, 3) := dk_180 0 169 (dk_at dksX0_word_3 9 rfl rfl)
theorem dX0_word_83 : decode cX0_word 83 = .ok (.athrow, 1) := dk_191 (dk_at dksX0_word_3 12 rfl rfl)
theorem dX0_word_84 : decode cX0_word 84 = .ok (.return_, 1) := dk_177 (dk_at dksX0_word_3 13 rfl rfl)
abbrev cX0_placeIn : ByteArray := prog_1_method_20_code
def yX0_placeIn : MethodName := ⟨RX0, "placeIn", "([Ljava/lang/String;)I"⟩
def dkwX0_placeIn_4 : List UInt8 := [132, 2, 1, 167, 255, 162, 2, 172]
abbrev dktX0_placeIn_4 : List UInt8 := dkwX0_placeIn_4 ++ []
def dkwX0_placeIn_3 : List UInt8 := [182, 0, 137, 160, 0, 7, 4, 167, 0, 4, 3, 62, 132, 4, 1, 167, 255, 207, 29, 153, 0, 5, 28, 172]
abbrev dktX0_placeIn_3 : List UInt8 := dkwX0_placeIn_3 ++ dktX0_placeIn_4
def dkwX0_placeIn_2 : List UInt8 := [180, 0, 140, 100, 162, 0, 37, 43, 28, 50, 21, 4, 182, 0, 175, 42, 42, 180, 0, 140, 21, 4, 96]
abbrev dktX0_placeIn_2 : List UInt8 := dkwX0_placeIn_2 ++ dktX0_placeIn_3
def dkwX0_placeIn_1 : List UInt8 := [160, 0, 7, 4, 167, 0, 4, 3, 62, 3, 54, 4, 29, 153, 0, 51, 21, 4, 42, 180, 0, 134, 42]
abbrev dktX0_placeIn_1 : List UInt8 := dkwX0_placeIn_1 ++ dktX0_placeIn_2
def dkwX0_placeIn_0 : List UInt8 := [3, 61, 28, 43, 190, 162, 0, 94, 43, 28, 50, 182, 0, 173, 42, 180, 0, 134, 42, 180, 0, 140, 100]
abbrev dktX0_placeIn_0 : List UInt8 := dkwX0_placeIn_0 ++ dktX0_placeIn_1
theorem dksX0_placeIn_0 : cX0_placeIn.data.toList.drop 0 = dktX0_placeIn_0 := by decide +kernel
theorem dksX0_placeIn_1 : cX0_placeIn.data.toList.drop 23 = dktX0_placeIn_1 := dk_seg dksX0_placeIn_0 23 rfl rfl
theorem dksX0_placeIn_2 : cX0_placeIn.data.toList.drop 46 = dktX0_placeIn_2 := dk_seg dksX0_placeIn_1 23 rfl rfl
theorem dksX0_placeIn_3 : cX0_placeIn.data.toList.drop 69 = dktX0_placeIn_3 := dk_seg dksX0_placeIn_2 23 rfl rfl
theorem dksX0_placeIn_4 : cX0_placeIn.data.toList.drop 93 = dktX0_placeIn_4 := dk_seg dksX0_placeIn_3 24 rfl rfl
theorem dX0_placeIn_0 : decode cX0_placeIn 0 = .ok (.iconst 0, 1) := dk_3 (dk_at dksX0_placeIn_0 0 rfl rfl)
theorem dX0_placeIn_1 : decode cX0_placeIn 1 = .ok (.istore_n 2, 1) := dk_61 (dk_at dksX0_placeIn_0 1 rfl rfl)
theorem dX0_placeIn_2 : decode cX0_placeIn 2 = .ok (.iload_n 2, 1) := dk_28 (dk_at dksX0_placeIn_0 2 rfl rfl)
theorem dX0_placeIn_3 : decode cX0_placeIn 3 = .ok (.aload_n 1, 1) := dk_43 (dk_at dksX0_placeIn_0 3 rfl rfl)
theorem dX0_placeIn_4 : decode cX0_placeIn 4 = .ok (.arraylength, 1) := dk_190 (dk_at dksX0_placeIn_0 4 rfl rfl)
theorem dX0_placeIn_5 : decode cX0_placeIn 5 = .ok (.if_icmp .ge 94, 3) := dk_162 0 94 (dk_at dksX0_placeIn_0 5 rfl rfl)
theorem dX0_placeIn_8 : decode cX0_placeIn 8 = .ok (.aload_n 1, 1) := dk_43 (dk_at dksX0_placeIn_0 8 rfl rfl)
theorem dX0_placeIn_9 : decode cX0_placeIn 9 = .ok (.iload_n 2, 1) := dk_28 (dk_at dksX0_placeIn_0 9 rfl rfl)
theorem dX0_placeIn_10 : decode cX0_placeIn 10 = .ok (.aaload, 1) := dk_50 (dk_at dksX0_placeIn_0 10 rfl rfl)
theorem dX0_placeIn_11 : decode cX0_placeIn 11 = .ok (.invokevirtual 173, 3) := dk_182 0 173 (dk_at dksX0_placeIn_0 11 rfl rfl)
theorem dX0_placeIn_14 : decode cX0_placeIn 14 = .ok (.aload_n 0, 1) := dk_42 (dk_at dksX0_placeIn_0 14 rfl rfl)
theorem dX0_placeIn_15 : decode cX0_placeIn 15 = .ok (.getfield 134, 3) := dk_180 0 134 (dk_at dksX0_placeIn_0 15 rfl rfl)
theorem dX0_placeIn_18 : decode cX0_placeIn 18 = .ok (.aload_n 0, 1) := dk_42 (dk_at dksX0_placeIn_0 18 rfl rfl)
theorem dX0_placeIn_19 : decode cX0_placeIn 19 = .ok (.getfield 140, 3) := dk_180 0 140 (dk_at dksX0_placeIn_0 19 rfl rfl)
theorem dX0_placeIn_22 : decode cX0_placeIn 22 = .ok (.isub, 1) := dk_100 (dk_at dksX0_placeIn_0 22 rfl rfl)
theorem dX0_placeIn_23 : decode cX0_placeIn 23 = .ok (.if_icmp .ne 7, 3) := dk_160 0 7 (dk_at dksX0_placeIn_1 0 rfl rfl)
theorem dX0_placeIn_26 : decode cX0_placeIn 26 = .ok (.iconst 1, 1) := dk_4 (dk_at dksX0_placeIn_1 3 rfl rfl)
theorem dX0_placeIn_27 : decode cX0_placeIn 27 = .ok (.goto 4, 3) := dk_167 0 4 (dk_at dksX0_placeIn_1 4 rfl rfl)
theorem dX0_placeIn_30 : decode cX0_placeIn 30 = .ok (.iconst 0, 1) := dk_3 (dk_at dksX0_placeIn_1 7 rfl rfl)
theorem dX0_placeIn_31 : decode cX0_placeIn 31 = .ok (.istore_n 3, 1) := dk_62 (dk_at dksX0_placeIn_1 8 rfl rfl)
theorem dX0_placeIn_32 : decode cX0_placeIn 32 = .ok (.iconst 0, 1) := dk_3 (dk_at dksX0_placeIn_1 9 rfl rfl)
theorem dX0_placeIn_33 : decode cX0_placeIn 33 = .ok (.istore 4, 2) := dk_54 4 (dk_at dksX0_placeIn_1 10 rfl rfl)
theorem dX0_placeIn_35 : decode cX0_placeIn 35 = .ok (.iload_n 3, 1) := dk_29 (dk_at dksX0_placeIn_1 12 rfl rfl)
theorem dX0_placeIn_36 : decode cX0_placeIn 36 = .ok (.ifCond .eq 51, 3) := dk_153 0 51 (dk_at dksX0_placeIn_1 13 rfl rfl)
theorem dX0_placeIn_39 : decode cX0_placeIn 39 = .ok (.iload 4, 2) := dk_21 4 (dk_at dksX0_placeIn_1 16 rfl rfl)
theorem dX0_placeIn_41 : decode cX0_placeIn 41 = .ok (.aload_n 0, 1) := dk_42 (dk_at dksX0_placeIn_1 18 rfl rfl)
theorem dX0_placeIn_42 : decode cX0_placeIn 42 = .ok (.getfield 134, 3) := dk_180 0 134 (dk_at dksX0_placeIn_1 19 rfl rfl)
theorem dX0_placeIn_45 : decode cX0_placeIn 45 = .ok (.aload_n 0, 1) := dk_42 (dk_at dksX0_placeIn_1 22 rfl rfl)
theorem dX0_placeIn_46 : decode cX0_placeIn 46 = .ok (.getfield 140, 3) := dk_180 0 140 (dk_at dksX0_placeIn_2 0 rfl rfl)
theorem dX0_placeIn_49 : decode cX0_placeIn 49 = .ok (.isub, 1) := dk_100 (dk_at dksX0_placeIn_2 3 rfl rfl)
theorem dX0_placeIn_50 : decode cX0_placeIn 50 = .ok (.if_icmp .ge 37, 3) := dk_162 0 37 (dk_at dksX0_placeIn_2 4 rfl rfl)
theorem dX0_placeIn_53 : decode cX0_placeIn 53 = .ok (.aload_n 1, 1) := dk_43 (dk_at dksX0_placeIn_2 7 rfl rfl)
theorem dX0_placeIn_54 : decode cX0_placeIn 54 = .ok (.iload_n 2, 1) := dk_28 (dk_at dksX0_placeIn_2 8 rfl rfl)
theorem dX0_placeIn_55 : decode cX0_placeIn 55 = .ok (.aaload, 1) := dk_50 (dk_at dksX0_placeIn_2 9 rfl rfl)
theorem dX0_placeIn_56 : decode cX0_placeIn 56 = .ok (.iload 4, 2) := dk_21 4 (dk_at dksX0_placeIn_2 10 rfl rfl)
theorem dX0_placeIn_58 : decode cX0_placeIn 58 = .ok (.invokevirtual 175, 3) := dk_182 0 175 (dk_at dksX0_placeIn_2 12 rfl rfl)
theorem dX0_placeIn_61 : decode cX0_placeIn 61 = .ok (.aload_n 0, 1) := dk_42 (dk_at dksX0_placeIn_2 15 rfl rfl)
theorem dX0_placeIn_62 : decode cX0_placeIn 62 = .ok (.aload_n 0, 1) := dk_42 (dk_at dksX0_placeIn_2 16 rfl rfl)
theorem dX0_placeIn_63 : decode cX0_placeIn 63 = .ok (.getfield 140, 3) := dk_180 0 140 (dk_at dksX0_placeIn_2 17 rfl rfl)
theorem dX0_placeIn_66 : decode cX0_placeIn 66 = .ok (.iload 4, 2) := dk_21 4 (dk_at dksX0_placeIn_2 20 rfl rfl)
theorem dX0_placeIn_68 : decode cX0_placeIn 68 = .ok (.iadd, 1) := dk_96 (dk_at dksX0_placeIn_2 22 rfl rfl)
theorem dX0_placeIn_69 : decode cX0_placeIn 69 = .ok (.invokevirtual 137, 3) := dk_182 0 137 (dk_at dksX0_placeIn_3 0 rfl rfl)
theorem dX0_placeIn_72 : decode cX0_placeIn 72 = .ok (.if_icmp .ne 7, 3) := dk_160 0 7 (dk_at dksX0_placeIn_3 3 rfl rfl)
theorem dX0_placeIn_75 : decode cX0_placeIn 75 = .ok (.iconst 1, 1) := dk_4 (dk_at dksX0_placeIn_3 6 rfl rfl)
theorem dX0_placeIn_76 : decode cX0_placeIn 76 = .ok (.goto 4, 3) := dk_167 0 4 (dk_at dksX0_placeIn_3 7 rfl rfl)
theorem dX0_placeIn_79 : decode cX0_placeIn 79 = .ok (.iconst 0, 1) := dk_3 (dk_at dksX0_placeIn_3 10 rfl rfl)
theorem dX0_placeIn_80 : decode cX0_placeIn 80 = .ok (.istore_n 3, 1) := dk_62 (dk_at dksX0_placeIn_3 11 rfl rfl)
theorem dX0_placeIn_81 : decode cX0_placeIn 81 = .ok (.iinc 4 1, 3) := dk_132 4 1 (dk_at dksX0_placeIn_3 12 rfl rfl)
theorem dX0_placeIn_84 : decode cX0_placeIn 84 = .ok (.goto (-49), 3) := dk_167 255 207 (dk_at dksX0_placeIn_3 15 rfl rfl)
theorem dX0_placeIn_87 : decode cX0_placeIn 87 = .ok (.iload_n 3, 1) := dk_29 (dk_at dksX0_placeIn_3 18 rfl rfl)
theorem dX0_placeIn_88 : decode cX0_placeIn 88 = .ok (.ifCond .eq 5, 3) := dk_153 0 5 (dk_at dksX0_placeIn_3 19 rfl rfl)
theorem dX0_placeIn_91 : decode cX0_placeIn 91 = .ok (.iload_n 2, 1) := dk_28 (dk_at dksX0_placeIn_3 22 rfl rfl)
theorem dX0_placeIn_92 : decode cX0_placeIn 92 = .ok (.ireturn, 1) := dk_172 (dk_at dksX0_placeIn_3 23 rfl rfl)
theorem dX0_placeIn_93 : decode cX0_placeIn 93 = .ok (.iinc 2 1, 3) := dk_132 2 1 (dk_at dksX0_placeIn_4 0 rfl rfl)
theorem dX0_placeIn_96 : decode cX0_placeIn 96 = .ok (.goto (-94), 3) := dk_167 255 162 (dk_at dksX0_placeIn_4 3 rfl rfl)
theorem dX0_placeIn_99 : decode cX0_placeIn 99 = .ok (.iconst (-1), 1) := dk_2 (dk_at dksX0_placeIn_4 6 rfl rfl)
theorem dX0_placeIn_100 : decode cX0_placeIn 100 = .ok (.ireturn, 1) := dk_172 (dk_at dksX0_placeIn_4 7 rfl rfl)
abbrev cX0_isDigit : ByteArray := prog_1_method_18_code
def yX0_isDigit : MethodName := ⟨RX0, "isDigit", "(I)Z"⟩
def dkwX0_isDigit_0 : List UInt8 := [26, 133, 20, 0, 130, 20, 0, 132, 184, 0, 16, 172]
abbrev dktX0_isDigit_0 : List UInt8 := dkwX0_isDigit_0 ++ []
theorem dksX0_isDigit_0 : cX0_isDigit.data.toList.drop 0 = dktX0_isDigit_0 := by decide +kernel
theorem dX0_isDigit_0 : decode cX0_isDigit 0 = .ok (.iload_n 0, 1) := dk_26 (dk_at dksX0_isDigit_0 0 rfl rfl)
theorem dX0_isDigit_1 : decode cX0_isDigit 1 = .ok (.i2l, 1) := dk_133 (dk_at dksX0_isDigit_0 1 rfl rfl)
theorem dX0_isDigit_2 : decode cX0_isDigit 2 = .ok (.ldc2_w 130, 3) := dk_20 0 130 (dk_at dksX0_isDigit_0 2 rfl rfl)
theorem dX0_isDigit_5 : decode cX0_isDigit 5 = .ok (.ldc2_w 132, 3) := dk_20 0 132 (dk_at dksX0_isDigit_0 5 rfl rfl)
theorem dX0_isDigit_8 : decode cX0_isDigit 8 = .ok (.invokestatic 16, 3) := dk_184 0 16 (dk_at dksX0_isDigit_0 8 rfl rfl)
theorem dX0_isDigit_11 : decode cX0_isDigit 11 = .ok (.ireturn, 1) := dk_172 (dk_at dksX0_isDigit_0 11 rfl rfl)
abbrev cX0_digits : ByteArray := prog_1_method_22_code
def yX0_digits : MethodName := ⟨RX0, "digits", "()V"⟩
def dkwX0_digits_4 : List UInt8 := [180, 0, 169, 191, 177]
abbrev dktX0_digits_4 : List UInt8 := dkwX0_digits_4 ++ []
def dkwX0_digits_3 : List UInt8 := [167, 255, 189, 42, 6, 181, 0, 143, 42, 180, 0, 134, 42, 180, 0, 140, 100, 7, 164, 0, 8, 42]
abbrev dktX0_digits_3 : List UInt8 := dkwX0_digits_3 ++ dktX0_digits_4
def dkwX0_digits_2 : List UInt8 := [96, 16, 48, 100, 167, 0, 7, 42, 180, 0, 159, 181, 0, 159, 42, 89, 180, 0, 134, 4, 96, 181, 0, 134]
abbrev dktX0_digits_2 : List UInt8 := dkwX0_digits_2 ++ dktX0_digits_3
def dkwX0_digits_1 : List UInt8 := [42, 180, 0, 140, 100, 7, 162, 0, 25, 16, 10, 42, 180, 0, 159, 104, 42, 42, 180, 0, 134, 182, 0, 137]
abbrev dktX0_digits_1 : List UInt8 := dkwX0_digits_1 ++ dktX0_digits_2
def dkwX0_digits_0 : List UInt8 := [42, 3, 181, 0, 159, 42, 42, 180, 0, 134, 182, 0, 137, 184, 0, 153, 153, 0, 59, 42, 42, 180, 0, 134]
abbrev dktX0_digits_0 : List UInt8 := dkwX0_digits_0 ++ dktX0_digits_1
theorem dksX0_digits_0 : cX0_digits.data.toList.drop 0 = dktX0_digits_0 := by decide +kernel
theorem dksX0_digits_1 : cX0_digits.data.toList.drop 24 = dktX0_digits_1 := dk_seg dksX0_digits_0 24 rfl rfl
theorem dksX0_digits_2 : cX0_digits.data.toList.drop 48 = dktX0_digits_2 := dk_seg dksX0_digits_1 24 rfl rfl
theorem dksX0_digits_3 : cX0_digits.data.toList.drop 72 = dktX0_digits_3 := dk_seg dksX0_digits_2 24 rfl rfl
theorem dksX0_digits_4 : cX0_digits.data.toList.drop 94 = dktX0_digits_4 := dk_seg dksX0_digits_3 22 rfl rfl
theorem dX0_digits_0 : decode cX0_digits 0 = .ok (.aload_n 0, 1) := dk_42 (dk_at dksX0_digits_0 0 rfl rfl)
theorem dX0_digits_1 : decode cX0_digits 1 = .ok (.iconst 0, 1) := dk_3 (dk_at dksX0_digits_0 1 rfl rfl)
theorem dX0_digits_2 : decode cX0_digits 2 = .ok (.putfield 159, 3) := dk_181 0 159 (dk_at dksX0_digits_0 2 rfl rfl)
theorem dX0_digits_5 : decode cX0_digits 5 = .ok (.aload_n 0, 1) := dk_42 (dk_at dksX0_digits_0 5 rfl rfl)
theorem dX0_digits_6 : decode cX0_digits 6 = .ok (.aload_n 0, 1) := dk_42 (dk_at dksX0_digits_0 6 rfl rfl)
theorem dX0_digits_7 : decode cX0_digits 7 = .ok (.getfield 134, 3) := dk_180 0 134 (dk_at dksX0_digits_0 7 rfl rfl)
theorem dX0_digits_10 : decode cX0_digits 10 = .ok (.invokevirtual 137, 3) := dk_182 0 137 (dk_at dksX0_digits_0 10 rfl rfl)
theorem dX0_digits_13 : decode cX0_digits 13 = .ok (.invokestatic 153, 3) := dk_184 0 153 (dk_at dksX0_digits_0 13 rfl rfl)
theorem dX0_digits_16 : decode cX0_digits 16 = .ok (.ifCond .eq 59, 3) := dk_153 0 59 (dk_at dksX0_digits_0 16 rfl rfl)
theorem dX0_digits_19 : decode cX0_digits 19 = .ok (.aload_n 0, 1) := dk_42 (dk_at dksX0_digits_0 19 rfl rfl)
theorem dX0_digits_20 : decode cX0_digits 20 = .ok (.aload_n 0, 1) := dk_42 (dk_at dksX0_digits_0 20 rfl rfl)
theorem dX0_digits_21 : decode cX0_digits 21 = .ok (.getfield 134, 3) := dk_180 0 134 (dk_at dksX0_digits_0 21 rfl rfl)
theorem dX0_digits_24 : decode cX0_digits 24 = .ok (.aload_n 0, 1) := dk_42 (dk_at dksX0_digits_1 0 rfl rfl)
theorem dX0_digits_25 : decode cX0_digits 25 = .ok (.getfield 140, 3) := dk_180 0 140 (dk_at dksX0_digits_1 1 rfl rfl)
theorem dX0_digits_28 : decode cX0_digits 28 = .ok (.isub, 1) := dk_100 (dk_at dksX0_digits_1 4 rfl rfl)
theorem dX0_digits_29 : decode cX0_digits 29 = .ok (.iconst 4, 1) := dk_7 (dk_at dksX0_digits_1 5 rfl rfl)
theorem dX0_digits_30 : decode cX0_digits 30 = .ok (.if_icmp .ge 25, 3) := dk_162 0 25 (dk_at dksX0_digits_1 6 rfl rfl)
theorem dX0_digits_33 : decode cX0_digits 33 = .ok (.bipush 10, 2) := dk_16 10 (dk_at dksX0_digits_1 9 rfl rfl)
theorem dX0_digits_35 : decode cX0_digits 35 = .ok (.aload_n 0, 1) := dk_42 (dk_at dksX0_digits_1 11 rfl rfl)
theorem dX0_digits_36 : decode cX0_digits 36 = .ok (.getfield 159, 3) := dk_180 0 159 (dk_at dksX0_digits_1 12 rfl rfl)
theorem dX0_digits_39 : decode cX0_digits 39 = .ok (.imul, 1) := dk_104 (dk_at dksX0_digits_1 15 rfl rfl)
theorem dX0_digits_40 : decode cX0_digits 40 = .ok (.aload_n 0, 1) := dk_42 (dk_at dksX0_digits_1 16 rfl rfl)
theorem dX0_digits_41 : decode cX0_digits 41 = .ok (.aload_n 0, 1) := dk_42 (dk_at dksX0_digits_1 17 rfl rfl)
theorem dX0_digits_42 : decode cX0_digits 42 = .ok (.getfield 134, 3) := dk_180 0 134 (dk_at dksX0_digits_1 18 rfl rfl)
theorem dX0_digits_45 : decode cX0_digits 45 = .ok (.invokevirtual 137, 3) := dk_182 0 137 (dk_at dksX0_digits_1 21 rfl rfl)
theorem dX0_digits_48 : decode cX0_digits 48 = .ok (.iadd, 1) := dk_96 (dk_at dksX0_digits_2 0 rfl rfl)
theorem dX0_digits_49 : decode cX0_digits 49 = .ok (.bipush 48, 2) := dk_16 48 (dk_at dksX0_digits_2 1 rfl rfl)
theorem dX0_digits_51 : decode cX0_digits 51 = .ok (.isub, 1) := dk_100 (dk_at dksX0_digits_2 3 rfl rfl)
theorem dX0_digits_52 : decode cX0_digits 52 = .ok (.goto 7, 3) := dk_167 0 7 (dk_at dksX0_digits_2 4 rfl rfl)
theorem dX0_digits_55 : decode cX0_digits 55 = .ok (.aload_n 0, 1) := dk_42 (dk_at dksX0_digits_2 7 rfl rfl)
theorem dX0_digits_56 : decode cX0_digits 56 = .ok (.getfield 159, 3) := dk_180 0 159 (dk_at dksX0_digits_2 8 rfl rfl)
theorem dX0_digits_59 : decode cX0_digits 59 = .ok (.putfield 159, 3) := dk_181 0 159 (dk_at dksX0_digits_2 11 rfl rfl)
theorem dX0_digits_62 : decode cX0_digits 62 = .ok (.aload_n 0, 1) := dk_42 (dk_at dksX0_digits_2 14 rfl rfl)
theorem dX0_digits_63 : decode cX0_digits 63 = .ok (.dup, 1) := dk_89 (dk_at dksX0_digits_2 15 rfl rfl)
theorem dX0_digits_64 : decode cX0_digits 64 = .ok (.getfield 134, 3) := dk_180 0 134 (dk_at dksX0_digits_2 16 rfl rfl)
theorem dX0_digits_67 : decode cX0_digits 67 = .ok (.iconst 1, 1) := dk_4 (dk_at dksX0_digits_2 19 rfl rfl)
theorem dX0_digits_68 : decode cX0_digits 68 = .ok (.iadd, 1) := dk_96 (dk_at dksX0_digits_2 20 rfl rfl)
theorem dX0_digits_69 : decode cX0_digits 69 = .ok (.putfield 134, 3) := dk_181 0 134 (dk_at dksX0_digits_2 21 rfl rfl)
theorem dX0_digits_72 : decode cX0_digits 72 = .ok (.goto (-67), 3) := dk_167 255 189 (dk_at dksX0_digits_3 0 rfl rfl)
theorem dX0_digits_75 : decode cX0_digits 75 = .ok (.aload_n 0, 1) := dk_42 (dk_at dksX0_digits_3 3 rfl rfl)
theorem dX0_digits_76 : decode cX0_digits 76 = .ok (.iconst 3, 1) := dk_6 (dk_at dksX0_digits_3 4 rfl rfl)
theorem dX0_digits_77 : decode cX0_digits 77 = .ok (.putfield 143, 3) := dk_181 0 143 (dk_at dksX0_digits_3 5 rfl rfl)
theorem dX0_digits_80 : decode cX0_digits 80 = .ok (.aload_n 0, 1) := dk_42 (dk_at dksX0_digits_3 8 rfl rfl)
theorem dX0_digits_81 : decode cX0_digits 81 = .ok (.getfield 134, 3) := dk_180 0 134 (dk_at dksX0_digits_3 9 rfl rfl)
theorem dX0_digits_84 : decode cX0_digits 84 = .ok (.aload_n 0, 1) := dk_42 (dk_at dksX0_digits_3 12 rfl rfl)
theorem dX0_digits_85 : decode cX0_digits 85 = .ok (.getfield 140, 3) := dk_180 0 140 (dk_at dksX0_digits_3 13 rfl rfl)
theorem dX0_digits_88 : decode cX0_digits 88 = .ok (.isub, 1) := dk_100 (dk_at dksX0_digits_3 16 rfl rfl)
theorem dX0_digits_89 : decode cX0_digits 89 = .ok (.iconst 4, 1) := dk_7 (dk_at dksX0_digits_3 17 rfl rfl)
theorem dX0_digits_90 : decode cX0_digits 90 = .ok (.if_icmp .le 8, 3) := dk_164 0 8 (dk_at dksX0_digits_3 18 rfl rfl)
theorem dX0_digits_93 : decode cX0_digits 93 = .ok (.aload_n 0, 1) := dk_42 (dk_at dksX0_digits_3 21 rfl rfl)
theorem dX0_digits_94 : decode cX0_digits 94 = .ok (.getfield 169, 3) := dk_180 0 169 (dk_at dksX0_digits_4 0 rfl rfl)
theorem dX0_digits_97 : decode cX0_digits 97 = .ok (.athrow, 1) := dk_191 (dk_at dksX0_digits_4 3 rfl rfl)
theorem dX0_digits_98 : decode cX0_digits 98 = .ok (.return_, 1) := dk_177 (dk_at dksX0_digits_4 4 rfl rfl)
abbrev cX0_isKey : ByteArray := prog_1_method_24_code
def yX0_isKey : MethodName := ⟨RX0, "isKey", "(I)Z"⟩
def dkwX0_isKey_0 : List UInt8 := [42, 180, 0, 143, 4, 160, 0, 15, 42, 180, 0, 159, 27, 160, 0, 7, 4, 167, 0, 4, 3, 172]
abbrev dktX0_isKey_0 : List UInt8 := dkwX0_isKey_0 ++ []
theorem dksX0_isKey_0 : cX0_isKey.data.toList.drop 0 = dktX0_isKey_0 := by decide +kernel
theorem dX0_isKey_0 : decode cX0_isKey 0 = .ok (.aload_n 0, 1) := dk_42 (dk_at dksX0_isKey_0 0 rfl rfl)
theorem dX0_isKey_1 : decode cX0_isKey 1 = .ok (.getfield 143, 3) := dk_180 0 143 (dk_at dksX0_isKey_0 1 rfl rfl)
theorem dX0_isKey_4 : decode cX0_isKey 4 = .ok (.iconst 1, 1) := dk_4 (dk_at dksX0_isKey_0 4 rfl rfl)
theorem dX0_isKey_5 : decode cX0_isKey 5 = .ok (.if_icmp .ne 15, 3) := dk_160 0 15 (dk_at dksX0_isKey_0 5 rfl rfl)
theorem dX0_isKey_8 : decode cX0_isKey 8 = .ok (.aload_n 0, 1) := dk_42 (dk_at dksX0_isKey_0 8 rfl rfl)
theorem dX0_isKey_9 : decode cX0_isKey 9 = .ok (.getfield 159, 3) := dk_180 0 159 (dk_at dksX0_isKey_0 9 rfl rfl)
theorem dX0_isKey_12 : decode cX0_isKey 12 = .ok (.iload_n 1, 1) := dk_27 (dk_at dksX0_isKey_0 12 rfl rfl)
theorem dX0_isKey_13 : decode cX0_isKey 13 = .ok (.if_icmp .ne 7, 3) := dk_160 0 7 (dk_at dksX0_isKey_0 13 rfl rfl)
theorem dX0_isKey_16 : decode cX0_isKey 16 = .ok (.iconst 1, 1) := dk_4 (dk_at dksX0_isKey_0 16 rfl rfl)
theorem dX0_isKey_17 : decode cX0_isKey 17 = .ok (.goto 4, 3) := dk_167 0 4 (dk_at dksX0_isKey_0 17 rfl rfl)
theorem dX0_isKey_20 : decode cX0_isKey 20 = .ok (.iconst 0, 1) := dk_3 (dk_at dksX0_isKey_0 20 rfl rfl)
theorem dX0_isKey_21 : decode cX0_isKey 21 = .ok (.ireturn, 1) := dk_172 (dk_at dksX0_isKey_0 21 rfl rfl)
abbrev cX0_need : ByteArray := prog_1_method_25_code
def yX0_need : MethodName := ⟨RX0, "need", "(Z)V"⟩
def dkwX0_need_0 : List UInt8 := [27, 154, 0, 8, 42, 180, 0, 169, 191, 42, 182, 0, 190, 177]
abbrev dktX0_need_0 : List UInt8 := dkwX0_need_0 ++ []
theorem dksX0_need_0 : cX0_need.data.toList.drop 0 = dktX0_need_0 := by decide +kernel
theorem dX0_need_0 : decode cX0_need 0 = .ok (.iload_n 1, 1) := dk_27 (dk_at dksX0_need_0 0 rfl rfl)
theorem dX0_need_1 : decode cX0_need 1 = .ok (.ifCond .ne 8, 3) := dk_154 0 8 (dk_at dksX0_need_0 1 rfl rfl)
theorem dX0_need_4 : decode cX0_need 4 = .ok (.aload_n 0, 1) := dk_42 (dk_at dksX0_need_0 4 rfl rfl)
theorem dX0_need_5 : decode cX0_need 5 = .ok (.getfield 169, 3) := dk_180 0 169 (dk_at dksX0_need_0 5 rfl rfl)
theorem dX0_need_8 : decode cX0_need 8 = .ok (.athrow, 1) := dk_191 (dk_at dksX0_need_0 8 rfl rfl)
theorem dX0_need_9 : decode cX0_need 9 = .ok (.aload_n 0, 1) := dk_42 (dk_at dksX0_need_0 9 rfl rfl)
theorem dX0_need_10 : decode cX0_need 10 = .ok (.invokevirtual 190, 3) := dk_182 0 190 (dk_at dksX0_need_0 10 rfl rfl)
theorem dX0_need_13 : decode cX0_need 13 = .ok (.return_, 1) := dk_177 (dk_at dksX0_need_0 13 rfl rfl)
abbrev cX0_either : ByteArray := prog_1_method_27_code
def yX0_either : MethodName := ⟨RX0, "either", "()LLoserKeepsTheBoard$Node;"⟩
def dkwX0_either_1 : List UInt8 := [42, 182, 0, 200, 183, 0, 209, 76, 167, 255, 229, 43, 176]
abbrev dktX0_either_1 : List UInt8 := dkwX0_either_1 ++ []
def dkwX0_either_0 : List UInt8 := [42, 182, 0, 200, 76, 42, 6, 182, 0, 204, 153, 0, 25, 42, 182, 0, 190, 187, 0, 207, 89, 16, 124, 43]
abbrev dktX0_either_0 : List UInt8 := dkwX0_either_0 ++ dktX0_either_1
theorem dksX0_either_0 : cX0_either.data.toList.drop 0 = dktX0_either_0 := by decide +kernel
theorem dksX0_either_1 : cX0_either.data.toList.drop 24 = dktX0_either_1 := dk_seg dksX0_either_0 24 rfl rfl
theorem dX0_either_0 : decode cX0_either 0 = .ok (.aload_n 0, 1) := dk_42 (dk_at dksX0_either_0 0 rfl rfl)
theorem dX0_either_1 : decode cX0_either 1 = .ok (.invokevirtual 200, 3) := dk_182 0 200 (dk_at dksX0_either_0 1 rfl rfl)
theorem dX0_either_4 : decode cX0_either 4 = .ok (.astore_n 1, 1) := dk_76 (dk_at dksX0_either_0 4 rfl rfl)
theorem dX0_either_5 : decode cX0_either 5 = .ok (.aload_n 0, 1) := dk_42 (dk_at dksX0_either_0 5 rfl rfl)
theorem dX0_either_6 : decode cX0_either 6 = .ok (.iconst 3, 1) := dk_6 (dk_at dksX0_either_0 6 rfl rfl)
theorem dX0_either_7 : decode cX0_either 7 = .ok (.invokevirtual 204, 3) := dk_182 0 204 (dk_at dksX0_either_0 7 rfl rfl)
theorem dX0_either_10 : decode cX0_either 10 = .ok (.ifCond .eq 25, 3) := dk_153 0 25 (dk_at dksX0_either_0 10 rfl rfl)
theorem dX0_either_13 : decode cX0_either 13 = .ok (.aload_n 0, 1) := dk_42 (dk_at dksX0_either_0 13 rfl rfl)
theorem dX0_either_14 : decode cX0_either 14 = .ok (.invokevirtual 190, 3) := dk_182 0 190 (dk_at dksX0_either_0 14 rfl rfl)
theorem dX0_either_17 : decode cX0_either 17 = .ok (.new 207, 3) := dk_187 0 207 (dk_at dksX0_either_0 17 rfl rfl)
theorem dX0_either_20 : decode cX0_either 20 = .ok (.dup, 1) := dk_89 (dk_at dksX0_either_0 20 rfl rfl)
theorem dX0_either_21 : decode cX0_either 21 = .ok (.bipush 124, 2) := dk_16 124 (dk_at dksX0_either_0 21 rfl rfl)
theorem dX0_either_23 : decode cX0_either 23 = .ok (.aload_n 1, 1) := dk_43 (dk_at dksX0_either_0 23 rfl rfl)
theorem dX0_either_24 : decode cX0_either 24 = .ok (.aload_n 0, 1) := dk_42 (dk_at dksX0_either_1 0 rfl rfl)
theorem dX0_either_25 : decode cX0_either 25 = .ok (.invokevirtual 200, 3) := dk_182 0 200 (dk_at dksX0_either_1 1 rfl rfl)
theorem dX0_either_28 : decode cX0_either 28 = .ok (.invokespecial 209, 3) := dk_183 0 209 (dk_at dksX0_either_1 4 rfl rfl)
theorem dX0_either_31 : decode cX0_either 31 = .ok (.astore_n 1, 1) := dk_76 (dk_at dksX0_either_1 7 rfl rfl)
theorem dX0_either_32 : decode cX0_either 32 = .ok (.goto (-27), 3) := dk_167 255 229 (dk_at dksX0_either_1 8 rfl rfl)
theorem dX0_either_35 : decode cX0_either 35 = .ok (.aload_n 1, 1) := dk_43 (dk_at dksX0_either_1 11 rfl rfl)
theorem dX0_either_36 : decode cX0_either 36 = .ok (.areturn, 1) := dk_176 (dk_at dksX0_either_1 12 rfl rfl)
abbrev cX0_both : ByteArray := prog_1_method_28_code
def yX0_both : MethodName := ⟨RX0, "both", "()LLoserKeepsTheBoard$Node;"⟩
def dkwX0_both_1 : List UInt8 := [42, 182, 0, 212, 183, 0, 209, 76, 167, 255, 229, 43, 176]
abbrev dktX0_both_1 : List UInt8 := dkwX0_both_1 ++ []
def dkwX0_both_0 : List UInt8 := [42, 182, 0, 212, 76, 42, 7, 182, 0, 204, 153, 0, 25, 42, 182, 0, 190, 187, 0, 207, 89, 16, 38, 43]
abbrev dktX0_both_0 : List UInt8 := dkwX0_both_0 ++ dktX0_both_1
theorem dksX0_both_0 : cX0_both.data.toList.drop 0 = dktX0_both_0 := by decide +kernel
theorem dksX0_both_1 : cX0_both.data.toList.drop 24 = dktX0_both_1 := dk_seg dksX0_both_0 24 rfl rfl
theorem dX0_both_0 : decode cX0_both 0 = .ok (.aload_n 0, 1) := dk_42 (dk_at dksX0_both_0 0 rfl rfl)
theorem dX0_both_1 : decode cX0_both 1 = .ok (.invokevirtual 212, 3) := dk_182 0 212 (dk_at dksX0_both_0 1 rfl rfl)
theorem dX0_both_4 : decode cX0_both 4 = .ok (.astore_n 1, 1) := dk_76 (dk_at dksX0_both_0 4 rfl rfl)
theorem dX0_both_5 : decode cX0_both 5 = .ok (.aload_n 0, 1) := dk_42 (dk_at dksX0_both_0 5 rfl rfl)
theorem dX0_both_6 : decode cX0_both 6 = .ok (.iconst 4, 1) := dk_7 (dk_at dksX0_both_0 6 rfl rfl)
theorem dX0_both_7 : decode cX0_both 7 = .ok (.invokevirtual 204, 3) := dk_182 0 204 (dk_at dksX0_both_0 7 rfl rfl)
theorem dX0_both_10 : decode cX0_both 10 = .ok (.ifCond .eq 25, 3) := dk_153 0 25 (dk_at dksX0_both_0 10 rfl rfl)
theorem dX0_both_13 : decode cX0_both 13 = .ok (.aload_n 0, 1) := dk_42 (dk_at dksX0_both_0 13 rfl rfl)
theorem dX0_both_14 : decode cX0_both 14 = .ok (.invokevirtual 190, 3) := dk_182 0 190 (dk_at dksX0_both_0 14 rfl rfl)
theorem dX0_both_17 : decode cX0_both 17 = .ok (.new 207, 3) := dk_187 0 207 (dk_at dksX0_both_0 17 rfl rfl)
theorem dX0_both_20 : decode cX0_both 20 = .ok (.dup, 1) := dk_89 (dk_at dksX0_both_0 20 rfl rfl)
theorem dX0_both_21 : decode cX0_both 21 = .ok (.bipush 38, 2) := dk_16 38 (dk_at dksX0_both_0 21 rfl rfl)
theorem dX0_both_23 : decode cX0_both 23 = .ok (.aload_n 1, 1) := dk_43 (dk_at dksX0_both_0 23 rfl rfl)
theorem dX0_both_24 : decode cX0_both 24 = .ok (.aload_n 0, 1) := dk_42 (dk_at dksX0_both_1 0 rfl rfl)
theorem dX0_both_25 : decode cX0_both 25 = .ok (.invokevirtual 212, 3) := dk_182 0 212 (dk_at dksX0_both_1 1 rfl rfl)
theorem dX0_both_28 : decode cX0_both 28 = .ok (.invokespecial 209, 3) := dk_183 0 209 (dk_at dksX0_both_1 4 rfl rfl)
theorem dX0_both_31 : decode cX0_both 31 = .ok (.astore_n 1, 1) := dk_76 (dk_at dksX0_both_1 7 rfl rfl)
theorem dX0_both_32 : decode cX0_both 32 = .ok (.goto (-27), 3) := dk_167 255 229 (dk_at dksX0_both_1 8 rfl rfl)
theorem dX0_both_35 : decode cX0_both 35 = .ok (.aload_n 1, 1) := dk_43 (dk_at dksX0_both_1 11 rfl rfl)
theorem dX0_both_36 : decode cX0_both 36 = .ok (.areturn, 1) := dk_176 (dk_at dksX0_both_1 12 rfl rfl)
abbrev cX0_not : ByteArray := prog_1_method_29_code
def yX0_not : MethodName := ⟨RX0, "not", "()LLoserKeepsTheBoard$Node;"⟩
def dkwX0_not_3 : List UInt8 := [89, 28, 43, 42, 182, 0, 223, 183, 0, 209, 76, 43, 176]
abbrev dktX0_not_3 : List UInt8 := dkwX0_not_3 ++ []
def dkwX0_not_2 : List UInt8 := [154, 0, 12, 42, 16, 61, 182, 0, 226, 153, 0, 26, 42, 180, 0, 159, 61, 42, 182, 0, 190, 187, 0, 207]
abbrev dktX0_not_2 : List UInt8 := dkwX0_not_2 ++ dktX0_not_3
def dkwX0_not_1 : List UInt8 := [181, 0, 193, 187, 0, 218, 89, 43, 3, 183, 0, 220, 176, 42, 182, 0, 223, 76, 42, 16, 60, 182, 0, 226]
abbrev dktX0_not_1 : List UInt8 := dkwX0_not_1 ++ dktX0_not_2
def dkwX0_not_0 : List UInt8 := [42, 8, 182, 0, 204, 153, 0, 32, 42, 182, 0, 215, 42, 182, 0, 212, 76, 42, 89, 180, 0, 193, 4, 100]
abbrev dktX0_not_0 : List UInt8 := dkwX0_not_0 ++ dktX0_not_1
theorem dksX0_not_0 : cX0_not.data.toList.drop 0 = dktX0_not_0 := by decide +kernel
theorem dksX0_not_1 : cX0_not.data.toList.drop 24 = dktX0_not_1 := dk_seg dksX0_not_0 24 rfl rfl
theorem dksX0_not_2 : cX0_not.data.toList.drop 48 = dktX0_not_2 := dk_seg dksX0_not_1 24 rfl rfl
theorem dksX0_not_3 : cX0_not.data.toList.drop 72 = dktX0_not_3 := dk_seg dksX0_not_2 24 rfl rfl
theorem dX0_not_0 : decode cX0_not 0 = .ok (.aload_n 0, 1) := dk_42 (dk_at dksX0_not_0 0 rfl rfl)
theorem dX0_not_1 : decode cX0_not 1 = .ok (.iconst 5, 1) := dk_8 (dk_at dksX0_not_0 1 rfl rfl)
theorem dX0_not_2 : decode cX0_not 2 = .ok (.invokevirtual 204, 3) := dk_182 0 204 (dk_at dksX0_not_0 2 rfl rfl)
theorem dX0_not_5 : decode cX0_not 5 = .ok (.ifCond .eq 32, 3) := dk_153 0 32 (dk_at dksX0_not_0 5 rfl rfl)
theorem dX0_not_8 : decode cX0_not 8 = .ok (.aload_n 0, 1) := dk_42 (dk_at dksX0_not_0 8 rfl rfl)
theorem dX0_not_9 : decode cX0_not 9 = .ok (.invokevirtual 215, 3) := dk_182 0 215 (dk_at dksX0_not_0 9 rfl rfl)
theorem dX0_not_12 : decode cX0_not 12 = .ok (.aload_n 0, 1) := dk_42 (dk_at dksX0_not_0 12 rfl rfl)
theorem dX0_not_13 : decode cX0_not 13 = .ok (.invokevirtual 212, 3) := dk_182 0 212 (dk_at dksX0_not_0 13 rfl rfl)
theorem dX0_not_16 : decode cX0_not 16 = .ok (.astore_n 1, 1) := dk_76 (dk_at dksX0_not_0 16 rfl rfl)
theorem dX0_not_17 : decode cX0_not 17 = .ok (.aload_n 0, 1) := dk_42 (dk_at dksX0_not_0 17 rfl rfl)
theorem dX0_not_18 : decode cX0_not 18 = .ok (.dup, 1) := dk_89 (dk_at dksX0_not_0 18 rfl rfl)
theorem dX0_not_19 : decode cX0_not 19 = .ok (.getfield 193, 3) := dk_180 0 193 (dk_at dksX0_not_0 19 rfl rfl)
theorem dX0_not_22 : decode cX0_not 22 = .ok (.iconst 1, 1) := dk_4 (dk_at dksX0_not_0 22 rfl rfl)
theorem dX0_not_23 : decode cX0_not 23 = .ok (.isub, 1) := dk_100 (dk_at dksX0_not_0 23 rfl rfl)
theorem dX0_not_24 : decode cX0_not 24 = .ok (.putfield 193, 3) := dk_181 0 193 (dk_at dksX0_not_1 0 rfl rfl)
theorem dX0_not_27 : decode cX0_not 27 = .ok (.new 218, 3) := dk_187 0 218 (dk_at dksX0_not_1 3 rfl rfl)
theorem dX0_not_30 : decode cX0_not 30 = .ok (.dup, 1) := dk_89 (dk_at dksX0_not_1 6 rfl rfl)
theorem dX0_not_31 : decode cX0_not 31 = .ok (.aload_n 1, 1) := dk_43 (dk_at dksX0_not_1 7 rfl rfl)
theorem dX0_not_32 : decode cX0_not 32 = .ok (.iconst 0, 1) := dk_3 (dk_at dksX0_not_1 8 rfl rfl)
theorem dX0_not_33 : decode cX0_not 33 = .ok (.invokespecial 220, 3) := dk_183 0 220 (dk_at dksX0_not_1 9 rfl rfl)
theorem dX0_not_36 : decode cX0_not 36 = .ok (.areturn, 1) := dk_176 (dk_at dksX0_not_1 12 rfl rfl)
theorem dX0_not_37 : decode cX0_not 37 = .ok (.aload_n 0, 1) := dk_42 (dk_at dksX0_not_1 13 rfl rfl)
theorem dX0_not_38 : decode cX0_not 38 = .ok (.invokevirtual 223, 3) := dk_182 0 223 (dk_at dksX0_not_1 14 rfl rfl)
theorem dX0_not_41 : decode cX0_not 41 = .ok (.astore_n 1, 1) := dk_76 (dk_at dksX0_not_1 17 rfl rfl)
theorem dX0_not_42 : decode cX0_not 42 = .ok (.aload_n 0, 1) := dk_42 (dk_at dksX0_not_1 18 rfl rfl)
theorem dX0_not_43 : decode cX0_not 43 = .ok (.bipush 60, 2) := dk_16 60 (dk_at dksX0_not_1 19 rfl rfl)
theorem dX0_not_45 : decode cX0_not 45 = .ok (.invokevirtual 226, 3) := dk_182 0 226 (dk_at dksX0_not_1 21 rfl rfl)
theorem dX0_not_48 : decode cX0_not 48 = .ok (.ifCond .ne 12, 3) := dk_154 0 12 (dk_at dksX0_not_2 0 rfl rfl)
theorem dX0_not_51 : decode cX0_not 51 = .ok (.aload_n 0, 1) := dk_42 (dk_at dksX0_not_2 3 rfl rfl)
theorem dX0_not_52 : decode cX0_not 52 = .ok (.bipush 61, 2) := dk_16 61 (dk_at dksX0_not_2 4 rfl rfl)
theorem dX0_not_54 : decode cX0_not 54 = .ok (.invokevirtual 226, 3) := dk_182 0 226 (dk_at dksX0_not_2 6 rfl rfl)
theorem dX0_not_57 : decode cX0_not 57 = .ok (.ifCond .eq 26, 3) := dk_153 0 26 (dk_at dksX0_not_2 9 rfl rfl)
theorem dX0_not_60 : decode cX0_not 60 = .ok (.aload_n 0, 1) := dk_42 (dk_at dksX0_not_2 12 rfl rfl)
theorem dX0_not_61 : decode cX0_not 61 = .ok (.getfield 159, 3) := dk_180 0 159 (dk_at dksX0_not_2 13 rfl rfl)
theorem dX0_not_64 : decode cX0_not 64 = .ok (.istore_n 2, 1) := dk_61 (dk_at dksX0_not_2 16 rfl rfl)
theorem dX0_not_65 : decode cX0_not 65 = .ok (.aload_n 0, 1) := dk_42 (dk_at dksX0_not_2 17 rfl rfl)
theorem dX0_not_66 : decode cX0_not 66 = .ok (.invokevirtual 190, 3) := dk_182 0 190 (dk_at dksX0_not_2 18 rfl rfl)
theorem dX0_not_69 : decode cX0_not 69 = .ok (.new 207, 3) := dk_187 0 207 (dk_at dksX0_not_2 21 rfl rfl)
theorem dX0_not_72 : decode cX0_not 72 = .ok (.dup, 1) := dk_89 (dk_at dksX0_not_3 0 rfl rfl)
theorem dX0_not_73 : decode cX0_not 73 = .ok (.iload_n 2, 1) := dk_28 (dk_at dksX0_not_3 1 rfl rfl)
theorem dX0_not_74 : decode cX0_not 74 = .ok (.aload_n 1, 1) := dk_43 (dk_at dksX0_not_3 2 rfl rfl)
theorem dX0_not_75 : decode cX0_not 75 = .ok (.aload_n 0, 1) := dk_42 (dk_at dksX0_not_3 3 rfl rfl)
theorem dX0_not_76 : decode cX0_not 76 = .ok (.invokevirtual 223, 3) := dk_182 0 223 (dk_at dksX0_not_3 4 rfl rfl)
theorem dX0_not_79 : decode cX0_not 79 = .ok (.invokespecial 209, 3) := dk_183 0 209 (dk_at dksX0_not_3 7 rfl rfl)
theorem dX0_not_82 : decode cX0_not 82 = .ok (.astore_n 1, 1) := dk_76 (dk_at dksX0_not_3 10 rfl rfl)
theorem dX0_not_83 : decode cX0_not 83 = .ok (.aload_n 1, 1) := dk_43 (dk_at dksX0_not_3 11 rfl rfl)
theorem dX0_not_84 : decode cX0_not 84 = .ok (.areturn, 1) := dk_176 (dk_at dksX0_not_3 12 rfl rfl)
abbrev cX0_openOne : ByteArray := prog_1_method_26_code
def yX0_openOne : MethodName := ⟨RX0, "openOne", "()V"⟩
def dkwX0_openOne_1 : List UInt8 := [181, 0, 193, 177]
abbrev dktX0_openOne_1 : List UInt8 := dkwX0_openOne_1 ++ []
def dkwX0_openOne_0 : List UInt8 := [42, 42, 180, 0, 193, 8, 162, 0, 7, 4, 167, 0, 4, 3, 182, 0, 196, 42, 89, 180, 0, 193, 4, 96]
abbrev dktX0_openOne_0 : List UInt8 := dkwX0_openOne_0 ++ dktX0_openOne_1
theorem dksX0_openOne_0 : cX0_openOne.data.toList.drop 0 = dktX0_openOne_0 := by decide +kernel
theorem dksX0_openOne_1 : cX0_openOne.data.toList.drop 24 = dktX0_openOne_1 := dk_seg dksX0_openOne_0 24 rfl rfl
theorem dX0_openOne_0 : decode cX0_openOne 0 = .ok (.aload_n 0, 1) := dk_42 (dk_at dksX0_openOne_0 0 rfl rfl)
theorem dX0_openOne_1 : decode cX0_openOne 1 = .ok (.aload_n 0, 1) := dk_42 (dk_at dksX0_openOne_0 1 rfl rfl)
theorem dX0_openOne_2 : decode cX0_openOne 2 = .ok (.getfield 193, 3) := dk_180 0 193 (dk_at dksX0_openOne_0 2 rfl rfl)
theorem dX0_openOne_5 : decode cX0_openOne 5 = .ok (.iconst 5, 1) := dk_8 (dk_at dksX0_openOne_0 5 rfl rfl)
theorem dX0_openOne_6 : decode cX0_openOne 6 = .ok (.if_icmp .ge 7, 3) := dk_162 0 7 (dk_at dksX0_openOne_0 6 rfl rfl)
theorem dX0_openOne_9 : decode cX0_openOne 9 = .ok (.iconst 1, 1) := dk_4 (dk_at dksX0_openOne_0 9 rfl rfl)
theorem dX0_openOne_10 : decode cX0_openOne 10 = .ok (.goto 4, 3) := dk_167 0 4 (dk_at dksX0_openOne_0 10 rfl rfl)
theorem dX0_openOne_13 : decode cX0_openOne 13 = .ok (.iconst 0, 1) := dk_3 (dk_at dksX0_openOne_0 13 rfl rfl)
theorem dX0_openOne_14 : decode cX0_openOne 14 = .ok (.invokevirtual 196, 3) := dk_182 0 196 (dk_at dksX0_openOne_0 14 rfl rfl)
theorem dX0_openOne_17 : decode cX0_openOne 17 = .ok (.aload_n 0, 1) := dk_42 (dk_at dksX0_openOne_0 17 rfl rfl)
theorem dX0_openOne_18 : decode cX0_openOne 18 = .ok (.dup, 1) := dk_89 (dk_at dksX0_openOne_0 18 rfl rfl)
theorem dX0_openOne_19 : decode cX0_openOne 19 = .ok (.getfield 193, 3) := dk_180 0 193 (dk_at dksX0_openOne_0 19 rfl rfl)
theorem dX0_openOne_22 : decode cX0_openOne 22 = .ok (.iconst 1, 1) := dk_4 (dk_at dksX0_openOne_0 22 rfl rfl)
theorem dX0_openOne_23 : decode cX0_openOne 23 = .ok (.iadd, 1) := dk_96 (dk_at dksX0_openOne_0 23 rfl rfl)
theorem dX0_openOne_24 : decode cX0_openOne 24 = .ok (.putfield 193, 3) := dk_181 0 193 (dk_at dksX0_openOne_1 0 rfl rfl)
theorem dX0_openOne_27 : decode cX0_openOne 27 = .ok (.return_, 1) := dk_177 (dk_at dksX0_openOne_1 3 rfl rfl)
abbrev cX0_plus : ByteArray := prog_1_method_30_code
def yX0_plus : MethodName := ⟨RX0, "plus", "()LLoserKeepsTheBoard$Node;"⟩
def dkwX0_plus_2 : List UInt8 := [167, 255, 215, 43, 176]
abbrev dktX0_plus_2 : List UInt8 := dkwX0_plus_2 ++ []
def dkwX0_plus_1 : List UInt8 := [180, 0, 159, 61, 42, 182, 0, 190, 187, 0, 207, 89, 28, 43, 42, 182, 0, 229, 183, 0, 209, 76]
abbrev dktX0_plus_1 : List UInt8 := dkwX0_plus_1 ++ dktX0_plus_2
def dkwX0_plus_0 : List UInt8 := [42, 182, 0, 229, 76, 42, 16, 43, 182, 0, 226, 154, 0, 12, 42, 16, 45, 182, 0, 226, 153, 0, 29, 42]
abbrev dktX0_plus_0 : List UInt8 := dkwX0_plus_0 ++ dktX0_plus_1
theorem dksX0_plus_0 : cX0_plus.data.toList.drop 0 = dktX0_plus_0 := by decide +kernel
theorem dksX0_plus_1 : cX0_plus.data.toList.drop 24 = dktX0_plus_1 := dk_seg dksX0_plus_0 24 rfl rfl
theorem dksX0_plus_2 : cX0_plus.data.toList.drop 46 = dktX0_plus_2 := dk_seg dksX0_plus_1 22 rfl rfl
theorem dX0_plus_0 : decode cX0_plus 0 = .ok (.aload_n 0, 1) := dk_42 (dk_at dksX0_plus_0 0 rfl rfl)
theorem dX0_plus_1 : decode cX0_plus 1 = .ok (.invokevirtual 229, 3) := dk_182 0 229 (dk_at dksX0_plus_0 1 rfl rfl)
theorem dX0_plus_4 : decode cX0_plus 4 = .ok (.astore_n 1, 1) := dk_76 (dk_at dksX0_plus_0 4 rfl rfl)
theorem dX0_plus_5 : decode cX0_plus 5 = .ok (.aload_n 0, 1) := dk_42 (dk_at dksX0_plus_0 5 rfl rfl)
theorem dX0_plus_6 : decode cX0_plus 6 = .ok (.bipush 43, 2) := dk_16 43 (dk_at dksX0_plus_0 6 rfl rfl)
theorem dX0_plus_8 : decode cX0_plus 8 = .ok (.invokevirtual 226, 3) := dk_182 0 226 (dk_at dksX0_plus_0 8 rfl rfl)
theorem dX0_plus_11 : decode cX0_plus 11 = .ok (.ifCond .ne 12, 3) := dk_154 0 12 (dk_at dksX0_plus_0 11 rfl rfl)
theorem dX0_plus_14 : decode cX0_plus 14 = .ok (.aload_n 0, 1) := dk_42 (dk_at dksX0_plus_0 14 rfl rfl)
theorem dX0_plus_15 : decode cX0_plus 15 = .ok (.bipush 45, 2) := dk_16 45 (dk_at dksX0_plus_0 15 rfl rfl)
theorem dX0_plus_17 : decode cX0_plus 17 = .ok (.invokevirtual 226, 3) := dk_182 0 226 (dk_at dksX0_plus_0 17 rfl rfl)
theorem dX0_plus_20 : decode cX0_plus 20 = .ok (.ifCond .eq 29, 3) := dk_153 0 29 (dk_at dksX0_plus_0 20 rfl rfl)
theorem dX0_plus_23 : decode cX0_plus 23 = .ok (.aload_n 0, 1) := dk_42 (dk_at dksX0_plus_0 23 rfl rfl)
theorem dX0_plus_24 : decode cX0_plus 24 = .ok (.getfield 159, 3) := dk_180 0 159 (dk_at dksX0_plus_1 0 rfl rfl)
theorem dX0_plus_27 : decode cX0_plus 27 = .ok (.istore_n 2, 1) := dk_61 (dk_at dksX0_plus_1 3 rfl rfl)
theorem dX0_plus_28 : decode cX0_plus 28 = .ok (.aload_n 0, 1) := dk_42 (dk_at dksX0_plus_1 4 rfl rfl)
theorem dX0_plus_29 : decode cX0_plus 29 = .ok (.invokevirtual 190, 3) := dk_182 0 190 (dk_at dksX0_plus_1 5 rfl rfl)
theorem dX0_plus_32 : decode cX0_plus 32 = .ok (.new 207, 3) := dk_187 0 207 (dk_at dksX0_plus_1 8 rfl rfl)
theorem dX0_plus_35 : decode cX0_plus 35 = .ok (.dup, 1) := dk_89 (dk_at dksX0_plus_1 11 rfl rfl)
theorem dX0_plus_36 : decode cX0_plus 36 = .ok (.iload_n 2, 1) := dk_28 (dk_at dksX0_plus_1 12 rfl rfl)
theorem dX0_plus_37 : decode cX0_plus 37 = .ok (.aload_n 1, 1) := dk_43 (dk_at dksX0_plus_1 13 rfl rfl)
theorem dX0_plus_38 : decode cX0_plus 38 = .ok (.aload_n 0, 1) := dk_42 (dk_at dksX0_plus_1 14 rfl rfl)
theorem dX0_plus_39 : decode cX0_plus 39 = .ok (.invokevirtual 229, 3) := dk_182 0 229 (dk_at dksX0_plus_1 15 rfl rfl)
theorem dX0_plus_42 : decode cX0_plus 42 = .ok (.invokespecial 209, 3) := dk_183 0 209 (dk_at dksX0_plus_1 18 rfl rfl)
theorem dX0_plus_45 : decode cX0_plus 45 = .ok (.astore_n 1, 1) := dk_76 (dk_at dksX0_plus_1 21 rfl rfl)
theorem dX0_plus_46 : decode cX0_plus 46 = .ok (.goto (-41), 3) := dk_167 255 215 (dk_at dksX0_plus_2 0 rfl rfl)
theorem dX0_plus_49 : decode cX0_plus 49 = .ok (.aload_n 1, 1) := dk_43 (dk_at dksX0_plus_2 3 rfl rfl)
theorem dX0_plus_50 : decode cX0_plus 50 = .ok (.areturn, 1) := dk_176 (dk_at dksX0_plus_2 4 rfl rfl)
abbrev cX0_times : ByteArray := prog_1_method_31_code
def yX0_times : MethodName := ⟨RX0, "times", "()LLoserKeepsTheBoard$Node;"⟩
def dkwX0_times_1 : List UInt8 := [43, 42, 182, 0, 232, 183, 0, 209, 76, 167, 255, 228, 43, 176]
abbrev dktX0_times_1 : List UInt8 := dkwX0_times_1 ++ []
def dkwX0_times_0 : List UInt8 := [42, 182, 0, 232, 76, 42, 16, 42, 182, 0, 226, 153, 0, 25, 42, 182, 0, 190, 187, 0, 207, 89, 16, 42]
abbrev dktX0_times_0 : List UInt8 := dkwX0_times_0 ++ dktX0_times_1
theorem dksX0_times_0 : cX0_times.data.toList.drop 0 = dktX0_times_0 := by decide +kernel
theorem dksX0_times_1 : cX0_times.data.toList.drop 24 = dktX0_times_1 := dk_seg dksX0_times_0 24 rfl rfl
theorem dX0_times_0 : decode cX0_times 0 = .ok (.aload_n 0, 1) := dk_42 (dk_at dksX0_times_0 0 rfl rfl)
theorem dX0_times_1 : decode cX0_times 1 = .ok (.invokevirtual 232, 3) := dk_182 0 232 (dk_at dksX0_times_0 1 rfl rfl)
theorem dX0_times_4 : decode cX0_times 4 = .ok (.astore_n 1, 1) := dk_76 (dk_at dksX0_times_0 4 rfl rfl)
theorem dX0_times_5 : decode cX0_times 5 = .ok (.aload_n 0, 1) := dk_42 (dk_at dksX0_times_0 5 rfl rfl)
theorem dX0_times_6 : decode cX0_times 6 = .ok (.bipush 42, 2) := dk_16 42 (dk_at dksX0_times_0 6 rfl rfl)
theorem dX0_times_8 : decode cX0_times 8 = .ok (.invokevirtual 226, 3) := dk_182 0 226 (dk_at dksX0_times_0 8 rfl rfl)
theorem dX0_times_11 : decode cX0_times 11 = .ok (.ifCond .eq 25, 3) := dk_153 0 25 (dk_at dksX0_times_0 11 rfl rfl)
theorem dX0_times_14 : decode cX0_times 14 = .ok (.aload_n 0, 1) := dk_42 (dk_at dksX0_times_0 14 rfl rfl)
theorem dX0_times_15 : decode cX0_times 15 = .ok (.invokevirtual 190, 3) := dk_182 0 190 (dk_at dksX0_times_0 15 rfl rfl)
theorem dX0_times_18 : decode cX0_times 18 = .ok (.new 207, 3) := dk_187 0 207 (dk_at dksX0_times_0 18 rfl rfl)
theorem dX0_times_21 : decode cX0_times 21 = .ok (.dup, 1) := dk_89 (dk_at dksX0_times_0 21 rfl rfl)
theorem dX0_times_22 : decode cX0_times 22 = .ok (.bipush 42, 2) := dk_16 42 (dk_at dksX0_times_0 22 rfl rfl)
theorem dX0_times_24 : decode cX0_times 24 = .ok (.aload_n 1, 1) := dk_43 (dk_at dksX0_times_1 0 rfl rfl)
theorem dX0_times_25 : decode cX0_times 25 = .ok (.aload_n 0, 1) := dk_42 (dk_at dksX0_times_1 1 rfl rfl)
theorem dX0_times_26 : decode cX0_times 26 = .ok (.invokevirtual 232, 3) := dk_182 0 232 (dk_at dksX0_times_1 2 rfl rfl)
theorem dX0_times_29 : decode cX0_times 29 = .ok (.invokespecial 209, 3) := dk_183 0 209 (dk_at dksX0_times_1 5 rfl rfl)
theorem dX0_times_32 : decode cX0_times 32 = .ok (.astore_n 1, 1) := dk_76 (dk_at dksX0_times_1 8 rfl rfl)
theorem dX0_times_33 : decode cX0_times 33 = .ok (.goto (-28), 3) := dk_167 255 228 (dk_at dksX0_times_1 9 rfl rfl)
theorem dX0_times_36 : decode cX0_times 36 = .ok (.aload_n 1, 1) := dk_43 (dk_at dksX0_times_1 12 rfl rfl)
theorem dX0_times_37 : decode cX0_times 37 = .ok (.areturn, 1) := dk_176 (dk_at dksX0_times_1 13 rfl rfl)
abbrev cX0_one : ByteArray := prog_1_method_32_code
def yX0_one : MethodName := ⟨RX0, "one", "()LLoserKeepsTheBoard$Node;"⟩
def dkwX0_one_5 : List UInt8 := [154, 0, 8, 42, 180, 0, 169, 191, 42, 89, 180, 0, 193, 4, 100, 181, 0, 193, 42, 182, 0, 190, 44, 176]
abbrev dktX0_one_5 : List UInt8 := dkwX0_one_5 ++ []
def dkwX0_one_4 : List UInt8 := [154, 0, 8, 42, 180, 0, 169, 191, 42, 182, 0, 215, 42, 182, 0, 243, 77, 42, 16, 41, 182, 0, 226]
abbrev dktX0_one_4 : List UInt8 := dkwX0_one_4 ++ dktX0_one_5
def dkwX0_one_3 : List UInt8 := [180, 0, 193, 4, 100, 181, 0, 193, 187, 0, 218, 89, 44, 4, 183, 0, 220, 176, 42, 16, 40, 182, 0, 226]
abbrev dktX0_one_3 : List UInt8 := dkwX0_one_3 ++ dktX0_one_4
def dkwX0_one_2 : List UInt8 := [183, 0, 240, 176, 42, 16, 45, 182, 0, 226, 153, 0, 32, 42, 182, 0, 215, 42, 182, 0, 232, 77, 42, 89]
abbrev dktX0_one_2 : List UInt8 := dkwX0_one_2 ++ dktX0_one_3
def dkwX0_one_1 : List UInt8 := [183, 0, 237, 176, 42, 180, 0, 143, 5, 160, 0, 17, 42, 182, 0, 190, 187, 0, 238, 89, 42, 27]
abbrev dktX0_one_1 : List UInt8 := dkwX0_one_1 ++ dktX0_one_2
def dkwX0_one_0 : List UInt8 := [42, 180, 0, 159, 60, 42, 180, 0, 143, 6, 160, 0, 16, 42, 182, 0, 190, 187, 0, 235, 89, 27]
abbrev dktX0_one_0 : List UInt8 := dkwX0_one_0 ++ dktX0_one_1
theorem dksX0_one_0 : cX0_one.data.toList.drop 0 = dktX0_one_0 := by decide +kernel
theorem dksX0_one_1 : cX0_one.data.toList.drop 22 = dktX0_one_1 := dk_seg dksX0_one_0 22 rfl rfl
theorem dksX0_one_2 : cX0_one.data.toList.drop 44 = dktX0_one_2 := dk_seg dksX0_one_1 22 rfl rfl
theorem dksX0_one_3 : cX0_one.data.toList.drop 68 = dktX0_one_3 := dk_seg dksX0_one_2 24 rfl rfl
theorem dksX0_one_4 : cX0_one.data.toList.drop 92 = dktX0_one_4 := dk_seg dksX0_one_3 24 rfl rfl
theorem dksX0_one_5 : cX0_one.data.toList.drop 115 = dktX0_one_5 := dk_seg dksX0_one_4 23 rfl rfl
theorem dX0_one_0 : decode cX0_one 0 = .ok (.aload_n 0, 1) := dk_42 (dk_at dksX0_one_0 0 rfl rfl)
theorem dX0_one_1 : decode cX0_one 1 = .ok (.getfield 159, 3) := dk_180 0 159 (dk_at dksX0_one_0 1 rfl rfl)
theorem dX0_one_4 : decode cX0_one 4 = .ok (.istore_n 1, 1) := dk_60 (dk_at dksX0_one_0 4 rfl rfl)
theorem dX0_one_5 : decode cX0_one 5 = .ok (.aload_n 0, 1) := dk_42 (dk_at dksX0_one_0 5 rfl rfl)
theorem dX0_one_6 : decode cX0_one 6 = .ok (.getfield 143, 3) := dk_180 0 143 (dk_at dksX0_one_0 6 rfl rfl)
theorem dX0_one_9 : decode cX0_one 9 = .ok (.iconst 3, 1) := dk_6 (dk_at dksX0_one_0 9 rfl rfl)
theorem dX0_one_10 : decode cX0_one 10 = .ok (.if_icmp .ne 16, 3) := dk_160 0 16 (dk_at dksX0_one_0 10 rfl rfl)
theorem dX0_one_13 : decode cX0_one 13 = .ok (.aload_n 0, 1) := dk_42 (dk_at dksX0_one_0 13 rfl rfl)
theorem dX0_one_14 : decode cX0_one 14 = .ok (.invokevirtual 190, 3) := dk_182 0 190 (dk_at dksX0_one_0 14 rfl rfl)
theorem dX0_one_17 : decode cX0_one 17 = .ok (.new 235, 3) := dk_187 0 235 (dk_at dksX0_one_0 17 rfl rfl)
theorem dX0_one_20 : decode cX0_one 20 = .ok (.dup, 1) := dk_89 (dk_at dksX0_one_0 20 rfl rfl)
theorem dX0_one_21 : decode cX0_one 21 = .ok (.iload_n 1, 1) := dk_27 (dk_at dksX0_one_0 21 rfl rfl)
theorem dX0_one_22 : decode cX0_one 22 = .ok (.invokespecial 237, 3) := dk_183 0 237 (dk_at dksX0_one_1 0 rfl rfl)
theorem dX0_one_25 : decode cX0_one 25 = .ok (.areturn, 1) := dk_176 (dk_at dksX0_one_1 3 rfl rfl)
theorem dX0_one_26 : decode cX0_one 26 = .ok (.aload_n 0, 1) := dk_42 (dk_at dksX0_one_1 4 rfl rfl)
theorem dX0_one_27 : decode cX0_one 27 = .ok (.getfield 143, 3) := dk_180 0 143 (dk_at dksX0_one_1 5 rfl rfl)
theorem dX0_one_30 : decode cX0_one 30 = .ok (.iconst 2, 1) := dk_5 (dk_at dksX0_one_1 8 rfl rfl)
theorem dX0_one_31 : decode cX0_one 31 = .ok (.if_icmp .ne 17, 3) := dk_160 0 17 (dk_at dksX0_one_1 9 rfl rfl)
theorem dX0_one_34 : decode cX0_one 34 = .ok (.aload_n 0, 1) := dk_42 (dk_at dksX0_one_1 12 rfl rfl)
theorem dX0_one_35 : decode cX0_one 35 = .ok (.invokevirtual 190, 3) := dk_182 0 190 (dk_at dksX0_one_1 13 rfl rfl)
theorem dX0_one_38 : decode cX0_one 38 = .ok (.new 238, 3) := dk_187 0 238 (dk_at dksX0_one_1 16 rfl rfl)
theorem dX0_one_41 : decode cX0_one 41 = .ok (.dup, 1) := dk_89 (dk_at dksX0_one_1 19 rfl rfl)
theorem dX0_one_42 : decode cX0_one 42 = .ok (.aload_n 0, 1) := dk_42 (dk_at dksX0_one_1 20 rfl rfl)
theorem dX0_one_43 : decode cX0_one 43 = .ok (.iload_n 1, 1) := dk_27 (dk_at dksX0_one_1 21 rfl rfl)
theorem dX0_one_44 : decode cX0_one 44 = .ok (.invokespecial 240, 3) := dk_183 0 240 (dk_at dksX0_one_2 0 rfl rfl)
theorem dX0_one_47 : decode cX0_one 47 = .ok (.areturn, 1) := dk_176 (dk_at dksX0_one_2 3 rfl rfl)
theorem dX0_one_48 : decode cX0_one 48 = .ok (.aload_n 0, 1) := dk_42 (dk_at dksX0_one_2 4 rfl rfl)
theorem dX0_one_49 : decode cX0_one 49 = .ok (.bipush 45, 2) := dk_16 45 (dk_at dksX0_one_2 5 rfl rfl)
theorem dX0_one_51 : decode cX0_one 51 = .ok (.invokevirtual 226, 3) := dk_182 0 226 (dk_at dksX0_one_2 7 rfl rfl)
theorem dX0_one_54 : decode cX0_one 54 = .ok (.ifCond .eq 32, 3) := dk_153 0 32 (dk_at dksX0_one_2 10 rfl rfl)
theorem dX0_one_57 : decode cX0_one 57 = .ok (.aload_n 0, 1) := dk_42 (dk_at dksX0_one_2 13 rfl rfl)
theorem dX0_one_58 : decode cX0_one 58 = .ok (.invokevirtual 215, 3) := dk_182 0 215 (dk_at dksX0_one_2 14 rfl rfl)
theorem dX0_one_61 : decode cX0_one 61 = .ok (.aload_n 0, 1) := dk_42 (dk_at dksX0_one_2 17 rfl rfl)
theorem dX0_one_62 : decode cX0_one 62 = .ok (.invokevirtual 232, 3) := dk_182 0 232 (dk_at dksX0_one_2 18 rfl rfl)
theorem dX0_one_65 : decode cX0_one 65 = .ok (.astore_n 2, 1) := dk_77 (dk_at dksX0_one_2 21 rfl rfl)
theorem dX0_one_66 : decode cX0_one 66 = .ok (.aload_n 0, 1) := dk_42 (dk_at dksX0_one_2 22 rfl rfl)
theorem dX0_one_67 : decode cX0_one 67 = .ok (.dup, 1) := dk_89 (dk_at dksX0_one_2 23 rfl rfl)
theorem dX0_one_68 : decode cX0_one 68 = .ok (.getfield 193, 3) := dk_180 0 193 (dk_at dksX0_one_3 0 rfl rfl)
theorem dX0_one_71 : decode cX0_one 71 = .ok (.iconst 1, 1) := dk_4 (dk_at dksX0_one_3 3 rfl rfl)
theorem dX0_one_72 : decode cX0_one 72 = .ok (.isub, 1) := dk_100 (dk_at dksX0_one_3 4 rfl rfl)
theorem dX0_one_73 : decode cX0_one 73 = .ok (.putfield 193, 3) := dk_181 0 193 (dk_at dksX0_one_3 5 rfl rfl)
theorem dX0_one_76 : decode cX0_one 76 = .ok (.new 218, 3) := dk_187 0 218 (dk_at dksX0_one_3 8 rfl rfl)
theorem dX0_one_79 : decode cX0_one 79 = .ok (.dup, 1) := dk_89 (dk_at dksX0_one_3 11 rfl rfl)
theorem dX0_one_80 : decode cX0_one 80 = .ok (.aload_n 2, 1) := dk_44 (dk_at dksX0_one_3 12 rfl rfl)
theorem dX0_one_81 : decode cX0_one 81 = .ok (.iconst 1, 1) := dk_4 (dk_at dksX0_one_3 13 rfl rfl)
theorem dX0_one_82 : decode cX0_one 82 = .ok (.invokespecial 220, 3) := dk_183 0 220 (dk_at dksX0_one_3 14 rfl rfl)
theorem dX0_one_85 : decode cX0_one 85 = .ok (.areturn, 1) := dk_176 (dk_at dksX0_one_3 17 rfl rfl)
theorem dX0_one_86 : decode cX0_one 86 = .ok (.aload_n 0, 1) := dk_42 (dk_at dksX0_one_3 18 rfl rfl)
theorem dX0_one_87 : decode cX0_one 87 = .ok (.bipush 40, 2) := dk_16 40 (dk_at dksX0_one_3 19 rfl rfl)
theorem dX0_one_89 : decode cX0_one 89 = .ok (.invokevirtual 226, 3) := dk_182 0 226 (dk_at dksX0_one_3 21 rfl rfl)
theorem dX0_one_92 : decode cX0_one 92 = .ok (.ifCond .ne 8, 3) := dk_154 0 8 (dk_at dksX0_one_4 0 rfl rfl)
theorem dX0_one_95 : decode cX0_one 95 = .ok (.aload_n 0, 1) := dk_42 (dk_at dksX0_one_4 3 rfl rfl)
theorem dX0_one_96 : decode cX0_one 96 = .ok (.getfield 169, 3) := dk_180 0 169 (dk_at dksX0_one_4 4 rfl rfl)
theorem dX0_one_99 : decode cX0_one 99 = .ok (.athrow, 1) := dk_191 (dk_at dksX0_one_4 7 rfl rfl)
theorem dX0_one_100 : decode cX0_one 100 = .ok (.aload_n 0, 1) := dk_42 (dk_at dksX0_one_4 8 rfl rfl)
theorem dX0_one_101 : decode cX0_one 101 = .ok (.invokevirtual 215, 3) := dk_182 0 215 (dk_at dksX0_one_4 9 rfl rfl)
theorem dX0_one_104 : decode cX0_one 104 = .ok (.aload_n 0, 1) := dk_42 (dk_at dksX0_one_4 12 rfl rfl)
theorem dX0_one_105 : decode cX0_one 105 = .ok (.invokevirtual 243, 3) := dk_182 0 243 (dk_at dksX0_one_4 13 rfl rfl)
theorem dX0_one_108 : decode cX0_one 108 = .ok (.astore_n 2, 1) := dk_77 (dk_at dksX0_one_4 16 rfl rfl)
theorem dX0_one_109 : decode cX0_one 109 = .ok (.aload_n 0, 1) := dk_42 (dk_at dksX0_one_4 17 rfl rfl)
theorem dX0_one_110 : decode cX0_one 110 = .ok (.bipush 41, 2) := dk_16 41 (dk_at dksX0_one_4 18 rfl rfl)
theorem dX0_one_112 : decode cX0_one 112 = .ok (.invokevirtual 226, 3) := dk_182 0 226 (dk_at dksX0_one_4 20 rfl rfl)
theorem dX0_one_115 : decode cX0_one 115 = .ok (.ifCond .ne 8, 3) := dk_154 0 8 (dk_at dksX0_one_5 0 rfl rfl)
theorem dX0_one_118 : decode cX0_one 118 = .ok (.aload_n 0, 1) := dk_42 (dk_at dksX0_one_5 3 rfl rfl)
theorem dX0_one_119 : decode cX0_one 119 = .ok (.getfield 169, 3) := dk_180 0 169 (dk_at dksX0_one_5 4 rfl rfl)
theorem dX0_one_122 : decode cX0_one 122 = .ok (.athrow, 1) := dk_191 (dk_at dksX0_one_5 7 rfl rfl)
theorem dX0_one_123 : decode cX0_one 123 = .ok (.aload_n 0, 1) := dk_42 (dk_at dksX0_one_5 8 rfl rfl)
theorem dX0_one_124 : decode cX0_one 124 = .ok (.dup, 1) := dk_89 (dk_at dksX0_one_5 9 rfl rfl)
theorem dX0_one_125 : decode cX0_one 125 = .ok (.getfield 193, 3) := dk_180 0 193 (dk_at dksX0_one_5 10 rfl rfl)
theorem dX0_one_128 : decode cX0_one 128 = .ok (.iconst 1, 1) := dk_4 (dk_at dksX0_one_5 13 rfl rfl)
theorem dX0_one_129 : decode cX0_one 129 = .ok (.isub, 1) := dk_100 (dk_at dksX0_one_5 14 rfl rfl)
theorem dX0_one_130 : decode cX0_one 130 = .ok (.putfield 193, 3) := dk_181 0 193 (dk_at dksX0_one_5 15 rfl rfl)
theorem dX0_one_133 : decode cX0_one 133 = .ok (.aload_n 0, 1) := dk_42 (dk_at dksX0_one_5 18 rfl rfl)
theorem dX0_one_134 : decode cX0_one 134 = .ok (.invokevirtual 190, 3) := dk_182 0 190 (dk_at dksX0_one_5 19 rfl rfl)
theorem dX0_one_137 : decode cX0_one 137 = .ok (.aload_n 2, 1) := dk_44 (dk_at dksX0_one_5 22 rfl rfl)
theorem dX0_one_138 : decode cX0_one 138 = .ok (.areturn, 1) := dk_176 (dk_at dksX0_one_5 23 rfl rfl)
abbrev cX0_isSign : ByteArray := prog_1_method_23_code
def yX0_isSign : MethodName := ⟨RX0, "isSign", "(I)Z"⟩
def dkwX0_isSign_0 : List UInt8 := [42, 180, 0, 143, 7, 160, 0, 15, 42, 180, 0, 159, 27, 160, 0, 7, 4, 167, 0, 4, 3, 172]
abbrev dktX0_isSign_0 : List UInt8 := dkwX0_isSign_0 ++ []
theorem dksX0_isSign_0 : cX0_isSign.data.toList.drop 0 = dktX0_isSign_0 := by decide +kernel
theorem dX0_isSign_0 : decode cX0_isSign 0 = .ok (.aload_n 0, 1) := dk_42 (dk_at dksX0_isSign_0 0 rfl rfl)
theorem dX0_isSign_1 : decode cX0_isSign 1 = .ok (.getfield 143, 3) := dk_180 0 143 (dk_at dksX0_isSign_0 1 rfl rfl)
theorem dX0_isSign_4 : decode cX0_isSign 4 = .ok (.iconst 4, 1) := dk_7 (dk_at dksX0_isSign_0 4 rfl rfl)
theorem dX0_isSign_5 : decode cX0_isSign 5 = .ok (.if_icmp .ne 15, 3) := dk_160 0 15 (dk_at dksX0_isSign_0 5 rfl rfl)
theorem dX0_isSign_8 : decode cX0_isSign 8 = .ok (.aload_n 0, 1) := dk_42 (dk_at dksX0_isSign_0 8 rfl rfl)
theorem dX0_isSign_9 : decode cX0_isSign 9 = .ok (.getfield 159, 3) := dk_180 0 159 (dk_at dksX0_isSign_0 9 rfl rfl)
theorem dX0_isSign_12 : decode cX0_isSign 12 = .ok (.iload_n 1, 1) := dk_27 (dk_at dksX0_isSign_0 12 rfl rfl)
theorem dX0_isSign_13 : decode cX0_isSign 13 = .ok (.if_icmp .ne 7, 3) := dk_160 0 7 (dk_at dksX0_isSign_0 13 rfl rfl)
theorem dX0_isSign_16 : decode cX0_isSign 16 = .ok (.iconst 1, 1) := dk_4 (dk_at dksX0_isSign_0 16 rfl rfl)
theorem dX0_isSign_17 : decode cX0_isSign 17 = .ok (.goto 4, 3) := dk_167 0 4 (dk_at dksX0_isSign_0 17 rfl rfl)
theorem dX0_isSign_20 : decode cX0_isSign 20 = .ok (.iconst 0, 1) := dk_3 (dk_at dksX0_isSign_0 20 rfl rfl)
theorem dX0_isSign_21 : decode cX0_isSign 21 = .ok (.ireturn, 1) := dk_172 (dk_at dksX0_isSign_0 21 rfl rfl)
abbrev cX0_init : ByteArray := prog_1_method_38_code
def yX0_init : MethodName := ⟨RX0, "<init>", "()V"⟩
def dkwX0_init_11 : List UInt8 := [177]
abbrev dktX0_init_11 : List UInt8 := dkwX0_init_11 ++ []
def dkwX0_init_10 : List UInt8 := [183, 1, 61, 83, 89, 6, 187, 1, 59, 89, 183, 1, 61, 83, 181, 1, 62, 42, 19, 1, 66, 182, 1, 68]
abbrev dktX0_init_10 : List UInt8 := dkwX0_init_10 ++ dktX0_init_11
def dkwX0_init_9 : List UInt8 := [187, 1, 59, 89, 183, 1, 61, 83, 89, 4, 187, 1, 59, 89, 183, 1, 61, 83, 89, 5, 187, 1, 59, 89]
abbrev dktX0_init_9 : List UInt8 := dkwX0_init_9 ++ dktX0_init_10
def dkwX0_init_8 : List UInt8 := [7, 16, 6, 197, 1, 35, 2, 181, 1, 53, 42, 7, 188, 10, 181, 1, 56, 42, 7, 189, 1, 59, 89, 3]
abbrev dktX0_init_8 : List UInt8 := dkwX0_init_8 ++ dktX0_init_9
def dkwX0_init_7 : List UInt8 := [197, 1, 35, 2, 181, 1, 43, 42, 16, 8, 188, 10, 181, 1, 46, 42, 16, 8, 188, 10, 181, 1, 50, 42]
abbrev dktX0_init_7 : List UInt8 := dkwX0_init_7 ++ dktX0_init_8
def dkwX0_init_6 : List UInt8 := [197, 1, 35, 2, 181, 1, 37, 42, 16, 8, 16, 6, 197, 1, 35, 2, 181, 1, 40, 42, 16, 8, 16, 6]
abbrev dktX0_init_6 : List UInt8 := dkwX0_init_6 ++ dktX0_init_7
def dkwX0_init_5 : List UInt8 := [83, 89, 8, 19, 1, 33, 83, 181, 0, 187, 42, 17, 0, 160, 188, 8, 181, 0, 122, 42, 16, 8, 16, 6]
abbrev dktX0_init_5 : List UInt8 := dkwX0_init_5 ++ dktX0_init_6
def dkwX0_init_4 : List UInt8 := [83, 89, 4, 19, 1, 28, 83, 89, 5, 19, 1, 29, 83, 89, 6, 19, 1, 30, 83, 89, 7, 19, 1, 32]
abbrev dktX0_init_4 : List UInt8 := dkwX0_init_4 ++ dktX0_init_5
def dkwX0_init_3 : List UInt8 := [19, 1, 24, 83, 89, 8, 19, 1, 26, 83, 181, 0, 179, 42, 16, 6, 189, 0, 165, 89, 3, 19, 1, 27]
abbrev dktX0_init_3 : List UInt8 := dkwX0_init_3 ++ dktX0_init_4
def dkwX0_init_2 : List UInt8 := [19, 1, 16, 83, 89, 4, 19, 1, 18, 83, 89, 5, 19, 1, 20, 83, 89, 6, 19, 1, 22, 83, 89, 7]
abbrev dktX0_init_2 : List UInt8 := dkwX0_init_2 ++ dktX0_init_3
def dkwX0_init_1 : List UInt8 := [89, 183, 1, 13, 181, 0, 169, 42, 16, 6, 189, 1, 14, 181, 0, 253, 42, 16, 6, 189, 0, 165, 89, 3]
abbrev dktX0_init_1 : List UInt8 := dkwX0_init_1 ++ dktX0_init_2
def dkwX0_init_0 : List UInt8 := [42, 183, 1, 9, 42, 16, 6, 189, 0, 44, 181, 0, 51, 42, 17, 0, 255, 181, 0, 73, 42, 187, 0, 251]
abbrev dktX0_init_0 : List UInt8 := dkwX0_init_0 ++ dktX0_init_1
theorem dksX0_init_0 : cX0_init.data.toList.drop 0 = dktX0_init_0 := by decide +kernel
theorem dksX0_init_1 : cX0_init.data.toList.drop 24 = dktX0_init_1 := dk_seg dksX0_init_0 24 rfl rfl
theorem dksX0_init_2 : cX0_init.data.toList.drop 48 = dktX0_init_2 := dk_seg dksX0_init_1 24 rfl rfl
theorem dksX0_init_3 : cX0_init.data.toList.drop 72 = dktX0_init_3 := dk_seg dksX0_init_2 24 rfl rfl
theorem dksX0_init_4 : cX0_init.data.toList.drop 96 = dktX0_init_4 := dk_seg dksX0_init_3 24 rfl rfl
theorem dksX0_init_5 : cX0_init.data.toList.drop 120 = dktX0_init_5 := dk_seg dksX0_init_4 24 rfl rfl
theorem dksX0_init_6 : cX0_init.data.toList.drop 144 = dktX0_init_6 := dk_seg dksX0_init_5 24 rfl rfl
theorem dksX0_init_7 : cX0_init.data.toList.drop 168 = dktX0_init_7 := dk_seg dksX0_init_6 24 rfl rfl
theorem dksX0_init_8 : cX0_init.data.toList.drop 192 = dktX0_init_8 := dk_seg dksX0_init_7 24 rfl rfl
theorem dksX0_init_9 : cX0_init.data.toList.drop 216 = dktX0_init_9 := dk_seg dksX0_init_8 24 rfl rfl
theorem dksX0_init_10 : cX0_init.data.toList.drop 240 = dktX0_init_10 := dk_seg dksX0_init_9 24 rfl rfl
theorem dksX0_init_11 : cX0_init.data.toList.drop 264 = dktX0_init_11 := dk_seg dksX0_init_10 24 rfl rfl
theorem dX0_init_0 : decode cX0_init 0 = .ok (.aload_n 0, 1) := dk_42 (dk_at dksX0_init_0 0 rfl rfl)
theorem dX0_init_1 : decode cX0_init 1 = .ok (.invokespecial 265, 3) := dk_183 1 9 (dk_at dksX0_init_0 1 rfl rfl)
theorem dX0_init_4 : decode cX0_init 4 = .ok (.aload_n 0, 1) := dk_42 (dk_at dksX0_init_0 4 rfl rfl)
theorem dX0_init_5 : decode cX0_init 5 = .ok (.bipush 6, 2) := dk_16 6 (dk_at dksX0_init_0 5 rfl rfl)
theorem dX0_init_7 : decode cX0_init 7 = .ok (.anewarray 44, 3) := dk_189 0 44 (dk_at dksX0_init_0 7 rfl rfl)
theorem dX0_init_10 : decode cX0_init 10 = .ok (.putfield 51, 3) := dk_181 0 51 (dk_at dksX0_init_0 10 rfl rfl)
theorem dX0_init_13 : decode cX0_init 13 = .ok (.aload_n 0, 1) := dk_42 (dk_at dksX0_init_0 13 rfl rfl)
theorem dX0_init_14 : decode cX0_init 14 = .ok (.sipush 255, 3) := dk_17 0 255 (dk_at dksX0_init_0 14 rfl rfl)
theorem dX0_init_17 : decode cX0_init 17 = .ok (.putfield 73, 3) := dk_181 0 73 (dk_at dksX0_init_0 17 rfl rfl)
theorem dX0_init_20 : decode cX0_init 20 = .ok (.aload_n 0, 1) := dk_42 (dk_at dksX0_init_0 20 rfl rfl)
theorem dX0_init_21 : decode cX0_init 21 = .ok (.new 251, 3) := dk_187 0 251 (dk_at dksX0_init_0 21 rfl rfl)
theorem dX0_init_24 : decode cX0_init 24 = .ok (.dup, 1) := dk_89 (dk_at dksX0_init_1 0 rfl rfl)
theorem dX0_init_25 : decode cX0_init 25 = .ok (.invokespecial 269, 3) := dk_183 1 13 (dk_at dksX0_init_1 1 rfl rfl)
theorem dX0_init_28 : decode cX0_init 28 = .ok (.putfield 169, 3) := dk_181 0 169 (dk_at dksX0_init_1 4 rfl rfl)
theorem dX0_init_31 : decode cX0_init 31 = .ok (.aload_n 0, 1) := dk_42 (dk_at dksX0_init_1 7 rfl rfl)
theorem dX0_init_32 : decode cX0_init 32 = .ok (.bipush 6, 2) := dk_16 6 (dk_at dksX0_init_1 8 rfl rfl)
theorem dX0_init_34 : decode cX0_init 34 = .ok (.anewarray 270, 3) := dk_189 1 14 (dk_at dksX0_init_1 10 rfl rfl)
theorem dX0_init_37 : decode cX0_init 37 = .ok (.putfield 253, 3) := dk_181 0 253 (dk_at dksX0_init_1 13 rfl rfl)
theorem dX0_init_40 : decode cX0_init 40 = .ok (.aload_n 0, 1) := dk_42 (dk_at dksX0_init_1 16 rfl rfl)
theorem dX0_init_41 : decode cX0_init 41 = .ok (.bipush 6, 2) := dk_16 6 (dk_at dksX0_init_1 17 rfl rfl)
theorem dX0_init_43 : decode cX0_init 43 = .ok (.anewarray 165, 3) := dk_189 0 165 (dk_at dksX0_init_1 19 rfl rfl)
theorem dX0_init_46 : decode cX0_init 46 = .ok (.dup, 1) := dk_89 (dk_at dksX0_init_1 22 rfl rfl)
theorem dX0_init_47 : decode cX0_init 47 = .ok (.iconst 0, 1) := dk_3 (dk_at dksX0_init_1 23 rfl rfl)
theorem dX0_init_48 : decode cX0_init 48 = .ok (.ldc_w 272, 3) := dk_19 1 16 (dk_at dksX0_init_2 0 rfl rfl)
theorem dX0_init_51 : decode cX0_init 51 = .ok (.aastore, 1) := dk_83 (dk_at dksX0_init_2 3 rfl rfl)
theorem dX0_init_52 : decode cX0_init 52 = .ok (.dup, 1) := dk_89 (dk_at dksX0_init_2 4 rfl rfl)
theorem dX0_init_53 : decode cX0_init 53 = .ok (.iconst 1, 1) := dk_4 (dk_at dksX0_init_2 5 rfl rfl)
theorem dX0_init_54 : decode cX0_init 54 = .ok (.ldc_w 274, 3) := dk_19 1 18 (dk_at dksX0_init_2 6 rfl rfl)
theorem dX0_init_57 : decode cX0_init 57 = .ok (.aastore, 1) := dk_83 (dk_at dksX0_init_2 9 rfl rfl)
theorem dX0_init_58 : decode cX0_init 58 = .ok (.dup, 1) := dk_89 (dk_at dksX0_init_2 10 rfl rfl)
theorem dX0_init_59 : decode cX0_init 59 = .ok (.iconst 2, 1) := dk_5 (dk_at dksX0_init_2 11 rfl rfl)
theorem dX0_init_60 : decode cX0_init 60 = .ok (.ldc_w 276, 3) := dk_19 1 20 (dk_at dksX0_init_2 12 rfl rfl)
theorem dX0_init_63 : decode cX0_init 63 = .ok (.aastore, 1) := dk_83 (dk_at dksX0_init_2 15 rfl rfl)
theorem dX0_init_64 : decode cX0_init 64 = .ok (.dup, 1) := dk_89 (dk_at dksX0_init_2 16 rfl rfl)
theorem dX0_init_65 : decode cX0_init 65 = .ok (.iconst 3, 1) := dk_6 (dk_at dksX0_init_2 17 rfl rfl)
theorem dX0_init_66 : decode cX0_init 66 = .ok (.ldc_w 278, 3) := dk_19 1 22 (dk_at dksX0_init_2 18 rfl rfl)
theorem dX0_init_69 : decode cX0_init 69 = .ok (.aastore, 1) := dk_83 (dk_at dksX0_init_2 21 rfl rfl)
theorem dX0_init_70 : decode cX0_init 70 = .ok (.dup, 1) := dk_89 (dk_at dksX0_init_2 22 rfl rfl)
theorem dX0_init_71 : decode cX0_init 71 = .ok (.iconst 4, 1) := dk_7 (dk_at dksX0_init_2 23 rfl rfl)
theorem dX0_init_72 : decode cX0_init 72 = .ok (.ldc_w 280, 3) := dk_19 1 24 (dk_at dksX0_init_3 0 rfl rfl)
theorem dX0_init_75 : decode cX0_init 75 = .ok (.aastore, 1) := dk_83 (dk_at dksX0_init_3 3 rfl rfl)
theorem dX0_init_76 : decode cX0_init 76 = .ok (.dup, 1) := dk_89 (dk_at dksX0_init_3 4 rfl rfl)
theorem dX0_init_77 : decode cX0_init 77 = .ok (.iconst 5, 1) := dk_8 (dk_at dksX0_init_3 5 rfl rfl)
theorem dX0_init_78 : decode cX0_init 78 = .ok (.ldc_w 282, 3) := dk_19 1 26 (dk_at dksX0_init_3 6 rfl rfl)
theorem dX0_init_81 : decode cX0_init 81 = .ok (.aastore, 1) := dk_83 (dk_at dksX0_init_3 9 rfl rfl)
theorem dX0_init_82 : decode cX0_init 82 = .ok (.putfield 179, 3) := dk_181 0 179 (dk_at dksX0_init_3 10 rfl rfl)
theorem dX0_init_85 : decode cX0_init 85 = .ok (.aload_n 0, 1) := dk_42 (dk_at dksX0_init_3 13 rfl rfl)
theorem dX0_init_86 : decode cX0_init 86 = .ok (.bipush 6, 2) := dk_16 6 (dk_at dksX0_init_3 14 rfl rfl)
theorem dX0_init_88 : decode cX0_init 88 = .ok (.anewarray 165, 3) := dk_189 0 165 (dk_at dksX0_init_3 16 rfl rfl)
theorem dX0_init_91 : decode cX0_init 91 = .ok (.dup, 1) := dk_89 (dk_at dksX0_init_3 19 rfl rfl)
theorem dX0_init_92 : decode cX0_init 92 = .ok (.iconst 0, 1) := dk_3 (dk_at dksX0_init_3 20 rfl rfl)
theorem dX0_init_93 : decode cX0_init 93 = .ok (.ldc_w 283, 3) := dk_19 1 27 (dk_at dksX0_init_3 21 rfl rfl)
theorem dX0_init_96 : decode cX0_init 96 = .ok (.aastore, 1) := dk_83 (dk_at dksX0_init_4 0 rfl rfl)
theorem dX0_init_97 : decode cX0_init 97 = .ok (.dup, 1) := dk_89 (dk_at dksX0_init_4 1 rfl rfl)
theorem dX0_init_98 : decode cX0_init 98 = .ok (.iconst 1, 1) := dk_4 (dk_at dksX0_init_4 2 rfl rfl)
theorem dX0_init_99 : decode cX0_init 99 = .ok (.ldc_w 284, 3) := dk_19 1 28 (dk_at dksX0_init_4 3 rfl rfl)
theorem dX0_init_102 : decode cX0_init 102 = .ok (.aastore, 1) := dk_83 (dk_at dksX0_init_4 6 rfl rfl)
theorem dX0_init_103 : decode cX0_init 103 = .ok (.dup, 1) := dk_89 (dk_at dksX0_init_4 7 rfl rfl)
theorem dX0_init_104 : decode cX0_init 104 = .ok (.iconst 2, 1) := dk_5 (dk_at dksX0_init_4 8 rfl rfl)
theorem dX0_init_105 : decode cX0_init 105 = .ok (.ldc_w 285, 3) := dk_19 1 29 (dk_at dksX0_init_4 9 rfl rfl)
theorem dX0_init_108 : decode cX0_init 108 = .ok (.aastore, 1) := dk_83 (dk_at dksX0_init_4 12 rfl rfl)
theorem dX0_init_109 : decode cX0_init 109 = .ok (.dup, 1) := dk_89 (dk_at dksX0_init_4 13 rfl rfl)
theorem dX0_init_110 : decode cX0_init 110 = .ok (.iconst 3, 1) := dk_6 (dk_at dksX0_init_4 14 rfl rfl)
theorem dX0_init_111 : decode cX0_init 111 = .ok (.ldc_w 286, 3) := dk_19 1 30 (dk_at dksX0_init_4 15 rfl rfl)
theorem dX0_init_114 : decode cX0_init 114 = .ok (.aastore, 1) := dk_83 (dk_at dksX0_init_4 18 rfl rfl)
theorem dX0_init_115 : decode cX0_init 115 = .ok (.dup, 1) := dk_89 (dk_at dksX0_init_4 19 rfl rfl)
theorem dX0_init_116 : decode cX0_init 116 = .ok (.iconst 4, 1) := dk_7 (dk_at dksX0_init_4 20 rfl rfl)
theorem dX0_init_117 : decode cX0_init 117 = .ok (.ldc_w 288, 3) := dk_19 1 32 (dk_at dksX0_init_4 21 rfl rfl)
theorem dX0_init_120 : decode cX0_init 120 = .ok (.aastore, 1) := dk_83 (dk_at dksX0_init_5 0 rfl rfl)
theorem dX0_init_121 : decode cX0_init 121 = .ok (.dup, 1) := dk_89 (dk_at dksX0_init_5 1 rfl rfl)
theorem dX0_init_122 : decode cX0_init 122 = .ok (.iconst 5, 1) := dk_8 (dk_at dksX0_init_5 2 rfl rfl)
theorem dX0_init_123 : decode cX0_init 123 = .ok (.ldc_w 289, 3) := dk_19 1 33 (dk_at dksX0_init_5 3 rfl rfl)
theorem dX0_init_126 : decode cX0_init 126 = .ok (.aastore, 1) := dk_83 (dk_at dksX0_init_5 6 rfl rfl)
theorem dX0_init_127 : decode cX0_init 127 = .ok (.putfield 187, 3) := dk_181 0 187 (dk_at dksX0_init_5 7 rfl rfl)
theorem dX0_init_130 : decode cX0_init 130 = .ok (.aload_n 0, 1) := dk_42 (dk_at dksX0_init_5 10 rfl rfl)
theorem dX0_init_131 : decode cX0_init 131 = .ok (.sipush 160, 3) := dk_17 0 160 (dk_at dksX0_init_5 11 rfl rfl)
theorem dX0_init_134 : decode cX0_init 134 = .ok (.newarray .byte, 2) := dk_188_8 (dk_at dksX0_init_5 14 rfl rfl)
theorem dX0_init_136 : decode cX0_init 136 = .ok (.putfield 122, 3) := dk_181 0 122 (dk_at dksX0_init_5 16 rfl rfl)
theorem dX0_init_139 : decode cX0_init 139 = .ok (.aload_n 0, 1) := dk_42 (dk_at dksX0_init_5 19 rfl rfl)
theorem dX0_init_140 : decode cX0_init 140 = .ok (.bipush 8, 2) := dk_16 8 (dk_at dksX0_init_5 20 rfl rfl)
theorem dX0_init_142 : decode cX0_init 142 = .ok (.bipush 6, 2) := dk_16 6 (dk_at dksX0_init_5 22 rfl rfl)
theorem dX0_init_144 : decode cX0_init 144 = .ok (.multianewarray 291 2, 4) := by decide +kernel
theorem dX0_init_148 : decode cX0_init 148 = .ok (.putfield 293, 3) := dk_181 1 37 (dk_at dksX0_init_6 4 rfl rfl)
theorem dX0_init_151 : decode cX0_init 151 = .ok (.aload_n 0, 1) := dk_42 (dk_at dksX0_init_6 7 rfl rfl)
theorem dX0_init_152 : decode cX0_init 152 = .ok (.bipush 8, 2) := dk_16 8 (dk_at dksX0_init_6 8 rfl rfl)
theorem dX0_init_154 : decode cX0_init 154 = .ok (.bipush 6, 2) := dk_16 6 (dk_at dksX0_init_6 10 rfl rfl)
theorem dX0_init_156 : decode cX0_init 156 = .ok (.multianewarray 291 2, 4) := by decide +kernel
theorem dX0_init_160 : decode cX0_init 160 = .ok (.putfield 296, 3) := dk_181 1 40 (dk_at dksX0_init_6 16 rfl rfl)
theorem dX0_init_163 : decode cX0_init 163 = .ok (.aload_n 0, 1) := dk_42 (dk_at dksX0_init_6 19 rfl rfl)
theorem dX0_init_164 : decode cX0_init 164 = .ok (.bipush 8, 2) := dk_16 8 (dk_at dksX0_init_6 20 rfl rfl)
theorem dX0_init_166 : decode cX0_init 166 = .ok (.bipush 6, 2) := dk_16 6 (dk_at dksX0_init_6 22 rfl rfl)
theorem dX0_init_168 : decode cX0_init 168 = .ok (.multianewarray 291 2, 4) := by decide +kernel
theorem dX0_init_172 : decode cX0_init 172 = .ok (.putfield 299, 3) := dk_181 1 43 (dk_at dksX0_init_7 4 rfl rfl)
theorem dX0_init_175 : decode cX0_init 175 = .ok (.aload_n 0, 1) := dk_42 (dk_at dksX0_init_7 7 rfl rfl)
theorem dX0_init_176 : decode cX0_init 176 = .ok (.bipush 8, 2) := dk_16 8 (dk_at dksX0_init_7 8 rfl rfl)
theorem dX0_init_178 : decode cX0_init 178 = .ok (.newarray .int, 2) := dk_188_10 (dk_at dksX0_init_7 10 rfl rfl)
theorem dX0_init_180 : decode cX0_init 180 = .ok (.putfield 302, 3) := dk_181 1 46 (dk_at dksX0_init_7 12 rfl rfl)
theorem dX0_init_183 : decode cX0_init 183 = .ok (.aload_n 0, 1) := dk_42 (dk_at dksX0_init_7 15 rfl rfl)
theorem dX0_init_184 : decode cX0_init 184 = .ok (.bipush 8, 2) := dk_16 8 (dk_at dksX0_init_7 16 rfl rfl)
theorem dX0_init_186 : decode cX0_init 186 = .ok (.newarray .int, 2) := dk_188_10 (dk_at dksX0_init_7 18 rfl rfl)
theorem dX0_init_188 : decode cX0_init 188 = .ok (.putfield 306, 3) := dk_181 1 50 (dk_at dksX0_init_7 20 rfl rfl)
theorem dX0_init_191 : decode cX0_init 191 = .ok (.aload_n 0, 1) := dk_42 (dk_at dksX0_init_7 23 rfl rfl)
theorem dX0_init_192 : decode cX0_init 192 = .ok (.iconst 4, 1) := dk_7 (dk_at dksX0_init_8 0 rfl rfl)
theorem dX0_init_193 : decode cX0_init 193 = .ok (.bipush 6, 2) := dk_16 6 (dk_at dksX0_init_8 1 rfl rfl)
theorem dX0_init_195 : decode cX0_init 195 = .ok (.multianewarray 291 2, 4) := by decide +kernel
theorem dX0_init_199 : decode cX0_init 199 = .ok (.putfield 309, 3) := dk_181 1 53 (dk_at dksX0_init_8 7 rfl rfl)
theorem dX0_init_202 : decode cX0_init 202 = .ok (.aload_n 0, 1) := dk_42 (dk_at dksX0_init_8 10 rfl rfl)
theorem dX0_init_203 : decode cX0_init 203 = .ok (.iconst 4, 1) := dk_7 (dk_at dksX0_init_8 11 rfl rfl)
theorem dX0_init_204 : decode cX0_init 204 = .ok (.newarray .int, 2) := dk_188_10 (dk_at dksX0_init_8 12 rfl rfl)
theorem dX0_init_206 : decode cX0_init 206 = .ok (.putfield 312, 3) := dk_181 1 56 (dk_at dksX0_init_8 14 rfl rfl)
theorem dX0_init_209 : decode cX0_init 209 = .ok (.aload_n 0, 1) := dk_42 (dk_at dksX0_init_8 17 rfl rfl)
theorem dX0_init_210 : decode cX0_init 210 = .ok (.iconst 4, 1) := dk_7 (dk_at dksX0_init_8 18 rfl rfl)
theorem dX0_init_211 : decode cX0_init 211 = .ok (.anewarray 315, 3) := dk_189 1 59 (dk_at dksX0_init_8 19 rfl rfl)
theorem dX0_init_214 : decode cX0_init 214 = .ok (.dup, 1) := dk_89 (dk_at dksX0_init_8 22 rfl rfl)
theorem dX0_init_215 : decode cX0_init 215 = .ok (.iconst 0, 1) := dk_3 (dk_at dksX0_init_8 23 rfl rfl)
theorem dX0_init_216 : decode cX0_init 216 = .ok (.new 315, 3) := dk_187 1 59 (dk_at dksX0_init_9 0 rfl rfl)
theorem dX0_init_219 : decode cX0_init 219 = .ok (.dup, 1) := dk_89 (dk_at dksX0_init_9 3 rfl rfl)
theorem dX0_init_220 : decode cX0_init 220 = .ok (.invokespecial 317, 3) := dk_183 1 61 (dk_at dksX0_init_9 4 rfl rfl)
theorem dX0_init_223 : decode cX0_init 223 = .ok (.aastore, 1) := dk_83 (dk_at dksX0_init_9 7 rfl rfl)
theorem dX0_init_224 : decode cX0_init 224 = .ok (.dup, 1) := dk_89 (dk_at dksX0_init_9 8 rfl rfl)
theorem dX0_init_225 : decode cX0_init 225 = .ok (.iconst 1, 1) := dk_4 (dk_at dksX0_init_9 9 rfl rfl)
theorem dX0_init_226 : decode cX0_init 226 = .ok (.new 315, 3) := dk_187 1 59 (dk_at dksX0_init_9 10 rfl rfl)
theorem dX0_init_229 : decode cX0_init 229 = .ok (.dup, 1) := dk_89 (dk_at dksX0_init_9 13 rfl rfl)
theorem dX0_init_230 : decode cX0_init 230 = .ok (.invokespecial 317, 3) := dk_183 1 61 (dk_at dksX0_init_9 14 rfl rfl)
theorem dX0_init_233 : decode cX0_init 233 = .ok (.aastore, 1) := dk_83 (dk_at dksX0_init_9 17 rfl rfl)
theorem dX0_init_234 : decode cX0_init 234 = .ok (.dup, 1) := dk_89 (dk_at dksX0_init_9 18 rfl rfl)
theorem dX0_init_235 : decode cX0_init 235 = .ok (.iconst 2, 1) := dk_5 (dk_at dksX0_init_9 19 rfl rfl)
theorem dX0_init_236 : decode cX0_init 236 = .ok (.new 315, 3) := dk_187 1 59 (dk_at dksX0_init_9 20 rfl rfl)
theorem dX0_init_239 : decode cX0_init 239 = .ok (.dup, 1) := dk_89 (dk_at dksX0_init_9 23 rfl rfl)
theorem dX0_init_240 : decode cX0_init 240 = .ok (.invokespecial 317, 3) := dk_183 1 61 (dk_at dksX0_init_10 0 rfl rfl)
theorem dX0_init_243 : decode cX0_init 243 = .ok (.aastore, 1) := dk_83 (dk_at dksX0_init_10 3 rfl rfl)
theorem dX0_init_244 : decode cX0_init 244 = .ok (.dup, 1) := dk_89 (dk_at dksX0_init_10 4 rfl rfl)
theorem dX0_init_245 : decode cX0_init 245 = .ok (.iconst 3, 1) := dk_6 (dk_at dksX0_init_10 5 rfl rfl)
theorem dX0_init_246 : decode cX0_init 246 = .ok (.new 315, 3) := dk_187 1 59 (dk_at dksX0_init_10 6 rfl rfl)
theorem dX0_init_249 : decode cX0_init 249 = .ok (.dup, 1) := dk_89 (dk_at dksX0_init_10 9 rfl rfl)
theorem dX0_init_250 : decode cX0_init 250 = .ok (.invokespecial 317, 3) := dk_183 1 61 (dk_at dksX0_init_10 10 rfl rfl)
theorem dX0_init_253 : decode cX0_init 253 = .ok (.aastore, 1) := dk_83 (dk_at dksX0_init_10 13 rfl rfl)
theorem dX0_init_254 : decode cX0_init 254 = .ok (.putfield 318, 3) := dk_181 1 62 (dk_at dksX0_init_10 14 rfl rfl)
theorem dX0_init_257 : decode cX0_init 257 = .ok (.aload_n 0, 1) := dk_42 (dk_at dksX0_init_10 17 rfl rfl)
theorem dX0_init_258 : decode cX0_init 258 = .ok (.ldc_w 322, 3) := dk_19 1 66 (dk_at dksX0_init_10 18 rfl rfl)
theorem dX0_init_261 : decode cX0_init 261 = .ok (.invokevirtual 324, 3) := dk_182 1 68 (dk_at dksX0_init_10 21 rfl rfl)
theorem dX0_init_264 : decode cX0_init 264 = .ok (.return_, 1) := dk_177 (dk_at dksX0_init_11 0 rfl rfl)
abbrev cX0_firstText : ByteArray := prog_1_method_34_code
def yX0_firstText : MethodName := ⟨RX0, "firstText", "(Ljava/lang/String;)V"⟩
def dkwX0_firstText_1 : List UInt8 := [132, 2, 1, 167, 255, 233, 42, 43, 182, 0, 173, 181, 0, 246, 42, 182, 1, 4, 61, 177]
abbrev dktX0_firstText_1 : List UInt8 := dkwX0_firstText_1 ++ []
def dkwX0_firstText_0 : List UInt8 := [3, 61, 28, 43, 182, 0, 173, 162, 0, 21, 42, 180, 0, 122, 28, 43, 28, 182, 0, 175, 145, 84]
abbrev dktX0_firstText_0 : List UInt8 := dkwX0_firstText_0 ++ dktX0_firstText_1
theorem dksX0_firstText_0 : cX0_firstText.data.toList.drop 0 = dktX0_firstText_0 := by decide +kernel
theorem dksX0_firstText_1 : cX0_firstText.data.toList.drop 22 = dktX0_firstText_1 := dk_seg dksX0_firstText_0 22 rfl rfl
theorem dX0_firstText_0 : decode cX0_firstText 0 = .ok (.iconst 0, 1) := dk_3 (dk_at dksX0_firstText_0 0 rfl rfl)
theorem dX0_firstText_1 : decode cX0_firstText 1 = .ok (.istore_n 2, 1) := dk_61 (dk_at dksX0_firstText_0 1 rfl rfl)
theorem dX0_firstText_2 : decode cX0_firstText 2 = .ok (.iload_n 2, 1) := dk_28 (dk_at dksX0_firstText_0 2 rfl rfl)
theorem dX0_firstText_3 : decode cX0_firstText 3 = .ok (.aload_n 1, 1) := dk_43 (dk_at dksX0_firstText_0 3 rfl rfl)
theorem dX0_firstText_4 : decode cX0_firstText 4 = .ok (.invokevirtual 173, 3) := dk_182 0 173 (dk_at dksX0_firstText_0 4 rfl rfl)
theorem dX0_firstText_7 : decode cX0_firstText 7 = .ok (.if_icmp .ge 21, 3) := dk_162 0 21 (dk_at dksX0_firstText_0 7 rfl rfl)
theorem dX0_firstText_10 : decode cX0_firstText 10 = .ok (.aload_n 0, 1) := dk_42 (dk_at dksX0_firstText_0 10 rfl rfl)
theorem dX0_firstText_11 : decode cX0_firstText 11 = .ok (.getfield 122, 3) := dk_180 0 122 (dk_at dksX0_firstText_0 11 rfl rfl)
theorem dX0_firstText_14 : decode cX0_firstText 14 = .ok (.iload_n 2, 1) := dk_28 (dk_at dksX0_firstText_0 14 rfl rfl)
theorem dX0_firstText_15 : decode cX0_firstText 15 = .ok (.aload_n 1, 1) := dk_43 (dk_at dksX0_firstText_0 15 rfl rfl)
theorem dX0_firstText_16 : decode cX0_firstText 16 = .ok (.iload_n 2, 1) := dk_28 (dk_at dksX0_firstText_0 16 rfl rfl)
theorem dX0_firstText_17 : decode cX0_firstText 17 = .ok (.invokevirtual 175, 3) := dk_182 0 175 (dk_at dksX0_firstText_0 17 rfl rfl)
theorem dX0_firstText_20 : decode cX0_firstText 20 = .ok (.i2b, 1) := dk_145 (dk_at dksX0_firstText_0 20 rfl rfl)
theorem dX0_firstText_21 : decode cX0_firstText 21 = .ok (.bastore, 1) := dk_84 (dk_at dksX0_firstText_0 21 rfl rfl)
theorem dX0_firstText_22 : decode cX0_firstText 22 = .ok (.iinc 2 1, 3) := dk_132 2 1 (dk_at dksX0_firstText_1 0 rfl rfl)
theorem dX0_firstText_25 : decode cX0_firstText 25 = .ok (.goto (-23), 3) := dk_167 255 233 (dk_at dksX0_firstText_1 3 rfl rfl)
theorem dX0_firstText_28 : decode cX0_firstText 28 = .ok (.aload_n 0, 1) := dk_42 (dk_at dksX0_firstText_1 6 rfl rfl)
theorem dX0_firstText_29 : decode cX0_firstText 29 = .ok (.aload_n 1, 1) := dk_43 (dk_at dksX0_firstText_1 7 rfl rfl)
theorem dX0_firstText_30 : decode cX0_firstText 30 = .ok (.invokevirtual 173, 3) := dk_182 0 173 (dk_at dksX0_firstText_1 8 rfl rfl)
theorem dX0_firstText_33 : decode cX0_firstText 33 = .ok (.putfield 246, 3) := dk_181 0 246 (dk_at dksX0_firstText_1 11 rfl rfl)
theorem dX0_firstText_36 : decode cX0_firstText 36 = .ok (.aload_n 0, 1) := dk_42 (dk_at dksX0_firstText_1 14 rfl rfl)
theorem dX0_firstText_37 : decode cX0_firstText 37 = .ok (.invokevirtual 260, 3) := dk_182 1 4 (dk_at dksX0_firstText_1 15 rfl rfl)
theorem dX0_firstText_40 : decode cX0_firstText 40 = .ok (.istore_n 2, 1) := dk_61 (dk_at dksX0_firstText_1 18 rfl rfl)
theorem dX0_firstText_41 : decode cX0_firstText 41 = .ok (.return_, 1) := dk_177 (dk_at dksX0_firstText_1 19 rfl rfl)
abbrev cX0_force : ByteArray := prog_1_method_39_code
def yX0_force : MethodName := ⟨RX0, "force", "(I)I"⟩
def dkwX0_force_0 : List UInt8 := [42, 27, 182, 1, 72, 154, 0, 6, 16, 254, 172, 42, 180, 1, 75, 61, 42, 27, 181, 1, 75, 28, 172]
abbrev dktX0_force_0 : List UInt8 := dkwX0_force_0 ++ []
theorem dksX0_force_0 : cX0_force.data.toList.drop 0 = dktX0_force_0 := by decide +kernel
theorem dX0_force_0 : decode cX0_force 0 = .ok (.aload_n 0, 1) := dk_42 (dk_at dksX0_force_0 0 rfl rfl)
theorem dX0_force_1 : decode cX0_force 1 = .ok (.iload_n 1, 1) := dk_27 (dk_at dksX0_force_0 1 rfl rfl)
theorem dX0_force_2 : decode cX0_force 2 = .ok (.invokevirtual 328, 3) := dk_182 1 72 (dk_at dksX0_force_0 2 rfl rfl)
theorem dX0_force_5 : decode cX0_force 5 = .ok (.ifCond .ne 6, 3) := dk_154 0 6 (dk_at dksX0_force_0 5 rfl rfl)
theorem dX0_force_8 : decode cX0_force 8 = .ok (.bipush (-2), 2) := dk_16 254 (dk_at dksX0_force_0 8 rfl rfl)
theorem dX0_force_10 : decode cX0_force 10 = .ok (.ireturn, 1) := dk_172 (dk_at dksX0_force_0 10 rfl rfl)
theorem dX0_force_11 : decode cX0_force 11 = .ok (.aload_n 0, 1) := dk_42 (dk_at dksX0_force_0 11 rfl rfl)
theorem dX0_force_12 : decode cX0_force 12 = .ok (.getfield 331, 3) := dk_180 1 75 (dk_at dksX0_force_0 12 rfl rfl)
theorem dX0_force_15 : decode cX0_force 15 = .ok (.istore_n 2, 1) := dk_61 (dk_at dksX0_force_0 15 rfl rfl)
theorem dX0_force_16 : decode cX0_force 16 = .ok (.aload_n 0, 1) := dk_42 (dk_at dksX0_force_0 16 rfl rfl)
theorem dX0_force_17 : decode cX0_force 17 = .ok (.iload_n 1, 1) := dk_27 (dk_at dksX0_force_0 17 rfl rfl)
theorem dX0_force_18 : decode cX0_force 18 = .ok (.putfield 331, 3) := dk_181 1 75 (dk_at dksX0_force_0 18 rfl rfl)
theorem dX0_force_21 : decode cX0_force 21 = .ok (.iload_n 2, 1) := dk_28 (dk_at dksX0_force_0 21 rfl rfl)
theorem dX0_force_22 : decode cX0_force 22 = .ok (.ireturn, 1) := dk_172 (dk_at dksX0_force_0 22 rfl rfl)
abbrev cX0_isText : ByteArray := prog_1_method_37_code
def yX0_isText : MethodName := ⟨RX0, "isText", "(I)Z"⟩
def dkwX0_isText_0 : List UInt8 := [27, 133, 9, 42, 180, 1, 1, 4, 100, 133, 184, 0, 16, 172]
abbrev dktX0_isText_0 : List UInt8 := dkwX0_isText_0 ++ []
theorem dksX0_isText_0 : cX0_isText.data.toList.drop 0 = dktX0_isText_0 := by decide +kernel
theorem dX0_isText_0 : decode cX0_isText 0 = .ok (.iload_n 1, 1) := dk_27 (dk_at dksX0_isText_0 0 rfl rfl)
theorem dX0_isText_1 : decode cX0_isText 1 = .ok (.i2l, 1) := dk_133 (dk_at dksX0_isText_0 1 rfl rfl)
theorem dX0_isText_2 : decode cX0_isText 2 = .ok (.lconst 0, 1) := dk_9 (dk_at dksX0_isText_0 2 rfl rfl)
theorem dX0_isText_3 : decode cX0_isText 3 = .ok (.aload_n 0, 1) := dk_42 (dk_at dksX0_isText_0 3 rfl rfl)
theorem dX0_isText_4 : decode cX0_isText 4 = .ok (.getfield 257, 3) := dk_180 1 1 (dk_at dksX0_isText_0 4 rfl rfl)
theorem dX0_isText_7 : decode cX0_isText 7 = .ok (.iconst 1, 1) := dk_4 (dk_at dksX0_isText_0 7 rfl rfl)
theorem dX0_isText_8 : decode cX0_isText 8 = .ok (.isub, 1) := dk_100 (dk_at dksX0_isText_0 8 rfl rfl)
theorem dX0_isText_9 : decode cX0_isText 9 = .ok (.i2l, 1) := dk_133 (dk_at dksX0_isText_0 9 rfl rfl)
theorem dX0_isText_10 : decode cX0_isText 10 = .ok (.invokestatic 16, 3) := dk_184 0 16 (dk_at dksX0_isText_0 10 rfl rfl)
theorem dX0_isText_13 : decode cX0_isText 13 = .ok (.ireturn, 1) := dk_172 (dk_at dksX0_isText_0 13 rfl rfl)
abbrev cX0_asks : ByteArray := prog_1_method_48_code
def yX0_asks : MethodName := ⟨RX0, "asks", "(III)I"⟩
def dkwX0_asks_4 : List UInt8 := [167, 0, 4, 3, 182, 1, 109, 172, 42, 27, 28, 182, 1, 106, 172, 42, 27, 28, 182, 1, 126, 172]
abbrev dktX0_asks_4 : List UInt8 := dkwX0_asks_4 ++ []
def dkwX0_asks_3 : List UInt8 := [42, 27, 28, 182, 1, 103, 172, 42, 28, 27, 182, 1, 103, 172, 42, 27, 28, 29, 5, 160, 0, 7, 4]
abbrev dktX0_asks_3 : List UInt8 := dkwX0_asks_3 ++ dktX0_asks_4
def dkwX0_asks_2 : List UInt8 := [170, 0, 0, 0, 0, 72, 0, 0, 0, 0, 0, 0, 0, 4, 0, 0, 0, 34, 0, 0, 0, 41, 0, 0, 0, 48, 0, 0, 0, 48, 0, 0, 0, 65]
abbrev dktX0_asks_2 : List UInt8 := dkwX0_asks_2 ++ dktX0_asks_3
def dkwX0_asks_1 : List UInt8 := [172, 29]
abbrev dktX0_asks_1 : List UInt8 := dkwX0_asks_1 ++ dktX0_asks_2
def dkwX0_asks_0 : List UInt8 := [42, 27, 28, 182, 1, 123, 153, 0, 15, 29, 133, 9, 20, 0, 47, 184, 0, 16, 154, 0, 7, 17, 252, 24]
abbrev dktX0_asks_0 : List UInt8 := dkwX0_asks_0 ++ dktX0_asks_1
theorem dksX0_asks_0 : cX0_asks.data.toList.drop 0 = dktX0_asks_0 := by decide +kernel
theorem dksX0_asks_1 : cX0_asks.data.toList.drop 24 = dktX0_asks_1 := dk_seg dksX0_asks_0 24 rfl rfl
theorem dksX0_asks_2 : cX0_asks.data.toList.drop 26 = dktX0_asks_2 := dk_seg dksX0_asks_1 2 rfl rfl
theorem dksX0_asks_3 : cX0_asks.data.toList.drop 60 = dktX0_asks_3 := dk_seg dksX0_asks_2 34 rfl rfl
theorem dksX0_asks_4 : cX0_asks.data.toList.drop 83 = dktX0_asks_4 := dk_seg dksX0_asks_3 23 rfl rfl
theorem dX0_asks_0 : decode cX0_asks 0 = .ok (.aload_n 0, 1) := dk_42 (dk_at dksX0_asks_0 0 rfl rfl)
theorem dX0_asks_1 : decode cX0_asks 1 = .ok (.iload_n 1, 1) := dk_27 (dk_at dksX0_asks_0 1 rfl rfl)
theorem dX0_asks_2 : decode cX0_asks 2 = .ok (.iload_n 2, 1) := dk_28 (dk_at dksX0_asks_0 2 rfl rfl)
theorem dX0_asks_3 : decode cX0_asks 3 = .ok (.invokevirtual 379, 3) := dk_182 1 123 (dk_at dksX0_asks_0 3 rfl rfl)
theorem dX0_asks_6 : decode cX0_asks 6 = .ok (.ifCond .eq 15, 3) := dk_153 0 15 (dk_at dksX0_asks_0 6 rfl rfl)
theorem dX0_asks_9 : decode cX0_asks 9 = .ok (.iload_n 3, 1) := dk_29 (dk_at dksX0_asks_0 9 rfl rfl)
theorem dX0_asks_10 : decode cX0_asks 10 = .ok (.i2l, 1) := dk_133 (dk_at dksX0_asks_0 10 rfl rfl)
theorem dX0_asks_11 : decode cX0_asks 11 = .ok (.lconst 0, 1) := dk_9 (dk_at dksX0_asks_0 11 rfl rfl)
theorem dX0_asks_12 : decode cX0_asks 12 = .ok (.ldc2_w 47, 3) := dk_20 0 47 (dk_at dksX0_asks_0 12 rfl rfl)
theorem dX0_asks_15 : decode cX0_asks 15 = .ok (.invokestatic 16, 3) := dk_184 0 16 (dk_at dksX0_asks_0 15 rfl rfl)
theorem dX0_asks_18 : decode cX0_asks 18 = .ok (.ifCond .ne 7, 3) := dk_154 0 7 (dk_at dksX0_asks_0 18 rfl rfl)
theorem dX0_asks_21 : decode cX0_asks 21 = .ok (.sipush (-1000), 3) := dk_17 252 24 (dk_at dksX0_asks_0 21 rfl rfl)
theorem dX0_asks_24 : decode cX0_asks 24 = .ok (.ireturn, 1) := dk_172 (dk_at dksX0_asks_1 0 rfl rfl)
theorem dX0_asks_25 : decode cX0_asks 25 = .ok (.iload_n 3, 1) := dk_29 (dk_at dksX0_asks_1 1 rfl rfl)
theorem dX0_asks_26 : decode cX0_asks 26 = .ok (.tableswitch 72 0 4 #[34, 41, 48, 48, 65], 34) := by decide +kernel
theorem dX0_asks_60 : decode cX0_asks 60 = .ok (.aload_n 0, 1) := dk_42 (dk_at dksX0_asks_3 0 rfl rfl)
theorem dX0_asks_61 : decode cX0_asks 61 = .ok (.iload_n 1, 1) := dk_27 (dk_at dksX0_asks_3 1 rfl rfl)
theorem dX0_asks_62 : decode cX0_asks 62 = .ok (.iload_n 2, 1) := dk_28 (dk_at dksX0_asks_3 2 rfl rfl)
theorem dX0_asks_63 : decode cX0_asks 63 = .ok (.invokevirtual 359, 3) := dk_182 1 103 (dk_at dksX0_asks_3 3 rfl rfl)
theorem dX0_asks_66 : decode cX0_asks 66 = .ok (.ireturn, 1) := dk_172 (dk_at dksX0_asks_3 6 rfl rfl)
theorem dX0_asks_67 : decode cX0_asks 67 = .ok (.aload_n 0, 1) := dk_42 (dk_at dksX0_asks_3 7 rfl rfl)
theorem dX0_asks_68 : decode cX0_asks 68 = .ok (.iload_n 2, 1) := dk_28 (dk_at dksX0_asks_3 8 rfl rfl)
theorem dX0_asks_69 : decode cX0_asks 69 = .ok (.iload_n 1, 1) := dk_27 (dk_at dksX0_asks_3 9 rfl rfl)
theorem dX0_asks_70 : decode cX0_asks 70 = .ok (.invokevirtual 359, 3) := dk_182 1 103 (dk_at dksX0_asks_3 10 rfl rfl)
theorem dX0_asks_73 : decode cX0_asks 73 = .ok (.ireturn, 1) := dk_172 (dk_at dksX0_asks_3 13 rfl rfl)
theorem dX0_asks_74 : decode cX0_asks 74 = .ok (.aload_n 0, 1) := dk_42 (dk_at dksX0_asks_3 14 rfl rfl)
theorem dX0_asks_75 : decode cX0_asks 75 = .ok (.iload_n 1, 1) := dk_27 (dk_at dksX0_asks_3 15 rfl rfl)
theorem dX0_asks_76 : decode cX0_asks 76 = .ok (.iload_n 2, 1) := dk_28 (dk_at dksX0_asks_3 16 rfl rfl)
theorem dX0_asks_77 : decode cX0_asks 77 = .ok (.iload_n 3, 1) := dk_29 (dk_at dksX0_asks_3 17 rfl rfl)
theorem dX0_asks_78 : decode cX0_asks 78 = .ok (.iconst 2, 1) := dk_5 (dk_at dksX0_asks_3 18 rfl rfl)
theorem dX0_asks_79 : decode cX0_asks 79 = .ok (.if_icmp .ne 7, 3) := dk_160 0 7 (dk_at dksX0_asks_3 19 rfl rfl)
theorem dX0_asks_82 : decode cX0_asks 82 = .ok (.iconst 1, 1) := dk_4 (dk_at dksX0_asks_3 22 rfl rfl)
theorem dX0_asks_83 : decode cX0_asks 83 = .ok (.goto 4, 3) := dk_167 0 4 (dk_at dksX0_asks_4 0 rfl rfl)
theorem dX0_asks_86 : decode cX0_asks 86 = .ok (.iconst 0, 1) := dk_3 (dk_at dksX0_asks_4 3 rfl rfl)
theorem dX0_asks_87 : decode cX0_asks 87 = .ok (.invokevirtual 365, 3) := dk_182 1 109 (dk_at dksX0_asks_4 4 rfl rfl)
theorem dX0_asks_90 : decode cX0_asks 90 = .ok (.ireturn, 1) := dk_172 (dk_at dksX0_asks_4 7 rfl rfl)
theorem dX0_asks_91 : decode cX0_asks 91 = .ok (.aload_n 0, 1) := dk_42 (dk_at dksX0_asks_4 8 rfl rfl)
theorem dX0_asks_92 : decode cX0_asks 92 = .ok (.iload_n 1, 1) := dk_27 (dk_at dksX0_asks_4 9 rfl rfl)
theorem dX0_asks_93 : decode cX0_asks 93 = .ok (.iload_n 2, 1) := dk_28 (dk_at dksX0_asks_4 10 rfl rfl)
theorem dX0_asks_94 : decode cX0_asks 94 = .ok (.invokevirtual 362, 3) := dk_182 1 106 (dk_at dksX0_asks_4 11 rfl rfl)
theorem dX0_asks_97 : decode cX0_asks 97 = .ok (.ireturn, 1) := dk_172 (dk_at dksX0_asks_4 14 rfl rfl)
theorem dX0_asks_98 : decode cX0_asks 98 = .ok (.aload_n 0, 1) := dk_42 (dk_at dksX0_asks_4 15 rfl rfl)
theorem dX0_asks_99 : decode cX0_asks 99 = .ok (.iload_n 1, 1) := dk_27 (dk_at dksX0_asks_4 16 rfl rfl)
theorem dX0_asks_100 : decode cX0_asks 100 = .ok (.iload_n 2, 1) := dk_28 (dk_at dksX0_asks_4 17 rfl rfl)
theorem dX0_asks_101 : decode cX0_asks 101 = .ok (.invokevirtual 382, 3) := dk_182 1 126 (dk_at dksX0_asks_4 18 rfl rfl)
theorem dX0_asks_104 : decode cX0_asks 104 = .ok (.ireturn, 1) := dk_172 (dk_at dksX0_asks_4 21 rfl rfl)
abbrev cX0_areTwo : ByteArray := prog_1_method_5_code
def yX0_areTwo : MethodName := ⟨RX0, "areTwo", "(II)Z"⟩
def dkwX0_areTwo_1 : List UInt8 := [167, 0, 4, 3, 172]
abbrev dktX0_areTwo_1 : List UInt8 := dkwX0_areTwo_1 ++ []
def dkwX0_areTwo_0 : List UInt8 := [42, 27, 182, 0, 20, 153, 0, 20, 42, 28, 182, 0, 20, 153, 0, 12, 27, 28, 159, 0, 7, 4]
abbrev dktX0_areTwo_0 : List UInt8 := dkwX0_areTwo_0 ++ dktX0_areTwo_1
theorem dksX0_areTwo_0 : cX0_areTwo.data.toList.drop 0 = dktX0_areTwo_0 := by decide +kernel
theorem dksX0_areTwo_1 : cX0_areTwo.data.toList.drop 22 = dktX0_areTwo_1 := dk_seg dksX0_areTwo_0 22 rfl rfl
theorem dX0_areTwo_0 : decode cX0_areTwo 0 = .ok (.aload_n 0, 1) := dk_42 (dk_at dksX0_areTwo_0 0 rfl rfl)
theorem dX0_areTwo_1 : decode cX0_areTwo 1 = .ok (.iload_n 1, 1) := dk_27 (dk_at dksX0_areTwo_0 1 rfl rfl)
theorem dX0_areTwo_2 : decode cX0_areTwo 2 = .ok (.invokevirtual 20, 3) := dk_182 0 20 (dk_at dksX0_areTwo_0 2 rfl rfl)
theorem dX0_areTwo_5 : decode cX0_areTwo 5 = .ok (.ifCond .eq 20, 3) := dk_153 0 20 (dk_at dksX0_areTwo_0 5 rfl rfl)
theorem dX0_areTwo_8 : decode cX0_areTwo 8 = .ok (.aload_n 0, 1) := dk_42 (dk_at dksX0_areTwo_0 8 rfl rfl)
theorem dX0_areTwo_9 : decode cX0_areTwo 9 = .ok (.iload_n 2, 1) := dk_28 (dk_at dksX0_areTwo_0 9 rfl rfl)
theorem dX0_areTwo_10 : decode cX0_areTwo 10 = .ok (.invokevirtual 20, 3) := dk_182 0 20 (dk_at dksX0_areTwo_0 10 rfl rfl)
theorem dX0_areTwo_13 : decode cX0_areTwo 13 = .ok (.ifCond .eq 12, 3) := dk_153 0 12 (dk_at dksX0_areTwo_0 13 rfl rfl)
theorem dX0_areTwo_16 : decode cX0_areTwo 16 = .ok (.iload_n 1, 1) := dk_27 (dk_at dksX0_areTwo_0 16 rfl rfl)
theorem dX0_areTwo_17 : decode cX0_areTwo 17 = .ok (.iload_n 2, 1) := dk_28 (dk_at dksX0_areTwo_0 17 rfl rfl)
theorem dX0_areTwo_18 : decode cX0_areTwo 18 = .ok (.if_icmp .eq 7, 3) := dk_159 0 7 (dk_at dksX0_areTwo_0 18 rfl rfl)
theorem dX0_areTwo_21 : decode cX0_areTwo 21 = .ok (.iconst 1, 1) := dk_4 (dk_at dksX0_areTwo_0 21 rfl rfl)
theorem dX0_areTwo_22 : decode cX0_areTwo 22 = .ok (.goto 4, 3) := dk_167 0 4 (dk_at dksX0_areTwo_1 0 rfl rfl)
theorem dX0_areTwo_25 : decode cX0_areTwo 25 = .ok (.iconst 0, 1) := dk_3 (dk_at dksX0_areTwo_1 3 rfl rfl)
theorem dX0_areTwo_26 : decode cX0_areTwo 26 = .ok (.ireturn, 1) := dk_172 (dk_at dksX0_areTwo_1 4 rfl rfl)
abbrev cX0_powerOf : ByteArray := prog_1_method_41_code
def yX0_powerOf : MethodName := ⟨RX0, "powerOf", "(II)I"⟩
def dkwX0_powerOf_2 : List UInt8 := [182, 1, 87, 3, 16, 99, 184, 1, 95, 42, 180, 0, 76, 182, 1, 98, 3, 17, 3, 231, 184, 1, 95, 172]
abbrev dktX0_powerOf_2 : List UInt8 := dkwX0_powerOf_2 ++ []
def dkwX0_powerOf_1 : List UInt8 := [180, 0, 51, 28, 50, 182, 1, 91, 153, 0, 5, 2, 172, 42, 180, 0, 51, 27, 50, 42, 3, 27, 28]
abbrev dktX0_powerOf_1 : List UInt8 := dkwX0_powerOf_1 ++ dktX0_powerOf_2
def dkwX0_powerOf_0 : List UInt8 := [42, 180, 0, 51, 27, 50, 42, 4, 27, 28, 182, 1, 87, 153, 0, 7, 4, 167, 0, 4, 3, 42]
abbrev dktX0_powerOf_0 : List UInt8 := dkwX0_powerOf_0 ++ dktX0_powerOf_1
theorem dksX0_powerOf_0 : cX0_powerOf.data.toList.drop 0 = dktX0_powerOf_0 := by decide +kernel
theorem dksX0_powerOf_1 : cX0_powerOf.data.toList.drop 22 = dktX0_powerOf_1 := dk_seg dksX0_powerOf_0 22 rfl rfl
theorem dksX0_powerOf_2 : cX0_powerOf.data.toList.drop 45 = dktX0_powerOf_2 := dk_seg dksX0_powerOf_1 23 rfl rfl
theorem dX0_powerOf_0 : decode cX0_powerOf 0 = .ok (.aload_n 0, 1) := dk_42 (dk_at dksX0_powerOf_0 0 rfl rfl)
theorem dX0_powerOf_1 : decode cX0_powerOf 1 = .ok (.getfield 51, 3) := dk_180 0 51 (dk_at dksX0_powerOf_0 1 rfl rfl)
theorem dX0_powerOf_4 : decode cX0_powerOf 4 = .ok (.iload_n 1, 1) := dk_27 (dk_at dksX0_powerOf_0 4 rfl rfl)
theorem dX0_powerOf_5 : decode cX0_powerOf 5 = .ok (.aaload, 1) := dk_50 (dk_at dksX0_powerOf_0 5 rfl rfl)
theorem dX0_powerOf_6 : decode cX0_powerOf 6 = .ok (.aload_n 0, 1) := dk_42 (dk_at dksX0_powerOf_0 6 rfl rfl)
theorem dX0_powerOf_7 : decode cX0_powerOf 7 = .ok (.iconst 1, 1) := dk_4 (dk_at dksX0_powerOf_0 7 rfl rfl)
theorem dX0_powerOf_8 : decode cX0_powerOf 8 = .ok (.iload_n 1, 1) := dk_27 (dk_at dksX0_powerOf_0 8 rfl rfl)
theorem dX0_powerOf_9 : decode cX0_powerOf 9 = .ok (.iload_n 2, 1) := dk_28 (dk_at dksX0_powerOf_0 9 rfl rfl)
theorem dX0_powerOf_10 : decode cX0_powerOf 10 = .ok (.invokevirtual 343, 3) := dk_182 1 87 (dk_at dksX0_powerOf_0 10 rfl rfl)
theorem dX0_powerOf_13 : decode cX0_powerOf 13 = .ok (.ifCond .eq 7, 3) := dk_153 0 7 (dk_at dksX0_powerOf_0 13 rfl rfl)
theorem dX0_powerOf_16 : decode cX0_powerOf 16 = .ok (.iconst 1, 1) := dk_4 (dk_at dksX0_powerOf_0 16 rfl rfl)
theorem dX0_powerOf_17 : decode cX0_powerOf 17 = .ok (.goto 4, 3) := dk_167 0 4 (dk_at dksX0_powerOf_0 17 rfl rfl)
theorem dX0_powerOf_20 : decode cX0_powerOf 20 = .ok (.iconst 0, 1) := dk_3 (dk_at dksX0_powerOf_0 20 rfl rfl)
theorem dX0_powerOf_21 : decode cX0_powerOf 21 = .ok (.aload_n 0, 1) := dk_42 (dk_at dksX0_powerOf_0 21 rfl rfl)
theorem dX0_powerOf_22 : decode cX0_powerOf 22 = .ok (.getfield 51, 3) := dk_180 0 51 (dk_at dksX0_powerOf_1 0 rfl rfl)
theorem dX0_powerOf_25 : decode cX0_powerOf 25 = .ok (.iload_n 2, 1) := dk_28 (dk_at dksX0_powerOf_1 3 rfl rfl)
theorem dX0_powerOf_26 : decode cX0_powerOf 26 = .ok (.aaload, 1) := dk_50 (dk_at dksX0_powerOf_1 4 rfl rfl)
theorem dX0_powerOf_27 : decode cX0_powerOf 27 = .ok (.invokevirtual 347, 3) := dk_182 1 91 (dk_at dksX0_powerOf_1 5 rfl rfl)
theorem dX0_powerOf_30 : decode cX0_powerOf 30 = .ok (.ifCond .eq 5, 3) := dk_153 0 5 (dk_at dksX0_powerOf_1 8 rfl rfl)
theorem dX0_powerOf_33 : decode cX0_powerOf 33 = .ok (.iconst (-1), 1) := dk_2 (dk_at dksX0_powerOf_1 11 rfl rfl)
theorem dX0_powerOf_34 : decode cX0_powerOf 34 = .ok (.ireturn, 1) := dk_172 (dk_at dksX0_powerOf_1 12 rfl rfl)
theorem dX0_powerOf_35 : decode cX0_powerOf 35 = .ok (.aload_n 0, 1) := dk_42 (dk_at dksX0_powerOf_1 13 rfl rfl)
theorem dX0_powerOf_36 : decode cX0_powerOf 36 = .ok (.getfield 51, 3) := dk_180 0 51 (dk_at dksX0_powerOf_1 14 rfl rfl)
theorem dX0_powerOf_39 : decode cX0_powerOf 39 = .ok (.iload_n 1, 1) := dk_27 (dk_at dksX0_powerOf_1 17 rfl rfl)
theorem dX0_powerOf_40 : decode cX0_powerOf 40 = .ok (.aaload, 1) := dk_50 (dk_at dksX0_powerOf_1 18 rfl rfl)
theorem dX0_powerOf_41 : decode cX0_powerOf 41 = .ok (.aload_n 0, 1) := dk_42 (dk_at dksX0_powerOf_1 19 rfl rfl)
theorem dX0_powerOf_42 : decode cX0_powerOf 42 = .ok (.iconst 0, 1) := dk_3 (dk_at dksX0_powerOf_1 20 rfl rfl)
theorem dX0_powerOf_43 : decode cX0_powerOf 43 = .ok (.iload_n 1, 1) := dk_27 (dk_at dksX0_powerOf_1 21 rfl rfl)
theorem dX0_powerOf_44 : decode cX0_powerOf 44 = .ok (.iload_n 2, 1) := dk_28 (dk_at dksX0_powerOf_1 22 rfl rfl)
theorem dX0_powerOf_45 : decode cX0_powerOf 45 = .ok (.invokevirtual 343, 3) := dk_182 1 87 (dk_at dksX0_powerOf_2 0 rfl rfl)
theorem dX0_powerOf_48 : decode cX0_powerOf 48 = .ok (.iconst 0, 1) := dk_3 (dk_at dksX0_powerOf_2 3 rfl rfl)
theorem dX0_powerOf_49 : decode cX0_powerOf 49 = .ok (.bipush 99, 2) := dk_16 99 (dk_at dksX0_powerOf_2 4 rfl rfl)
theorem dX0_powerOf_51 : decode cX0_powerOf 51 = .ok (.invokestatic 351, 3) := dk_184 1 95 (dk_at dksX0_powerOf_2 6 rfl rfl)
theorem dX0_powerOf_54 : decode cX0_powerOf 54 = .ok (.aload_n 0, 1) := dk_42 (dk_at dksX0_powerOf_2 9 rfl rfl)
theorem dX0_powerOf_55 : decode cX0_powerOf 55 = .ok (.getfield 76, 3) := dk_180 0 76 (dk_at dksX0_powerOf_2 10 rfl rfl)
theorem dX0_powerOf_58 : decode cX0_powerOf 58 = .ok (.invokevirtual 354, 3) := dk_182 1 98 (dk_at dksX0_powerOf_2 13 rfl rfl)
theorem dX0_powerOf_61 : decode cX0_powerOf 61 = .ok (.iconst 0, 1) := dk_3 (dk_at dksX0_powerOf_2 16 rfl rfl)
theorem dX0_powerOf_62 : decode cX0_powerOf 62 = .ok (.sipush 999, 3) := dk_17 3 231 (dk_at dksX0_powerOf_2 17 rfl rfl)
theorem dX0_powerOf_65 : decode cX0_powerOf 65 = .ok (.invokestatic 351, 3) := dk_184 1 95 (dk_at dksX0_powerOf_2 20 rfl rfl)
theorem dX0_powerOf_68 : decode cX0_powerOf 68 = .ok (.ireturn, 1) := dk_172 (dk_at dksX0_powerOf_2 23 rfl rfl)
abbrev cX0_says : ByteArray := prog_1_method_40_code
def yX0_says : MethodName := ⟨RX0, "says", "(III)I"⟩
def dkwX0_says_1 : List UInt8 := [172]
abbrev dktX0_says_1 : List UInt8 := dkwX0_says_1 ++ []
def dkwX0_says_0 : List UInt8 := [42, 28, 181, 1, 78, 42, 29, 181, 1, 81, 42, 180, 0, 253, 42, 180, 1, 75, 50, 27, 50, 182, 1, 84]
abbrev dktX0_says_0 : List UInt8 := dkwX0_says_0 ++ dktX0_says_1
theorem dksX0_says_0 : cX0_says.data.toList.drop 0 = dktX0_says_0 := by decide +kernel
theorem dksX0_says_1 : cX0_says.data.toList.drop 24 = dktX0_says_1 := dk_seg dksX0_says_0 24 rfl rfl
theorem dX0_says_0 : decode cX0_says 0 = .ok (.aload_n 0, 1) := dk_42 (dk_at dksX0_says_0 0 rfl rfl)
theorem dX0_says_1 : decode cX0_says 1 = .ok (.iload_n 2, 1) := dk_28 (dk_at dksX0_says_0 1 rfl rfl)
theorem dX0_says_2 : decode cX0_says 2 = .ok (.putfield 334, 3) := dk_181 1 78 (dk_at dksX0_says_0 2 rfl rfl)
theorem dX0_says_5 : decode cX0_says 5 = .ok (.aload_n 0, 1) := dk_42 (dk_at dksX0_says_0 5 rfl rfl)
theorem dX0_says_6 : decode cX0_says 6 = .ok (.iload_n 3, 1) := dk_29 (dk_at dksX0_says_0 6 rfl rfl)
theorem dX0_says_7 : decode cX0_says 7 = .ok (.putfield 337, 3) := dk_181 1 81 (dk_at dksX0_says_0 7 rfl rfl)
theorem dX0_says_10 : decode cX0_says 10 = .ok (.aload_n 0, 1) := dk_42 (dk_at dksX0_says_0 10 rfl rfl)
theorem dX0_says_11 : decode cX0_says 11 = .ok (.getfield 253, 3) := dk_180 0 253 (dk_at dksX0_says_0 11 rfl rfl)
theorem dX0_says_14 : decode cX0_says 14 = .ok (.aload_n 0, 1) := dk_42 (dk_at dksX0_says_0 14 rfl rfl)
theorem dX0_says_15 : decode cX0_says 15 = .ok (.getfield 331, 3) := dk_180 1 75 (dk_at dksX0_says_0 15 rfl rfl)
theorem dX0_says_18 : decode cX0_says 18 = .ok (.aaload, 1) := dk_50 (dk_at dksX0_says_0 18 rfl rfl)
theorem dX0_says_19 : decode cX0_says 19 = .ok (.iload_n 1, 1) := dk_27 (dk_at dksX0_says_0 19 rfl rfl)
theorem dX0_says_20 : decode cX0_says 20 = .ok (.aaload, 1) := dk_50 (dk_at dksX0_says_0 20 rfl rfl)
theorem dX0_says_21 : decode cX0_says 21 = .ok (.invokevirtual 340, 3) := dk_182 1 84 (dk_at dksX0_says_0 21 rfl rfl)
theorem dX0_says_24 : decode cX0_says 24 = .ok (.ireturn, 1) := dk_172 (dk_at dksX0_says_1 0 rfl rfl)
abbrev cX0_held : ByteArray := prog_1_method_2_code
def yX0_held : MethodName := ⟨RX0, "held", "(III)I"⟩
def dkwX0_held_0 : List UInt8 := [27, 28, 26, 184, 0, 1, 184, 0, 7, 172]
abbrev dktX0_held_0 : List UInt8 := dkwX0_held_0 ++ []
theorem dksX0_held_0 : cX0_held.data.toList.drop 0 = dktX0_held_0 := by decide +kernel
theorem dX0_held_0 : decode cX0_held 0 = .ok (.iload_n 1, 1) := dk_27 (dk_at dksX0_held_0 0 rfl rfl)
theorem dX0_held_1 : decode cX0_held 1 = .ok (.iload_n 2, 1) := dk_28 (dk_at dksX0_held_0 1 rfl rfl)
theorem dX0_held_2 : decode cX0_held 2 = .ok (.iload_n 0, 1) := dk_26 (dk_at dksX0_held_0 2 rfl rfl)
theorem dX0_held_3 : decode cX0_held 3 = .ok (.invokestatic 1, 3) := dk_184 0 1 (dk_at dksX0_held_0 3 rfl rfl)
theorem dX0_held_6 : decode cX0_held 6 = .ok (.invokestatic 7, 3) := dk_184 0 7 (dk_at dksX0_held_0 6 rfl rfl)
theorem dX0_held_9 : decode cX0_held 9 = .ok (.ireturn, 1) := dk_172 (dk_at dksX0_held_0 9 rfl rfl)
abbrev cX0_tiresOf : ByteArray := prog_1_method_42_code
def yX0_tiresOf : MethodName := ⟨RX0, "tiresOf", "(IIZ)I"⟩
def dkwX0_tiresOf_1 : List UInt8 := [16, 157, 16, 99, 184, 1, 95, 172]
abbrev dktX0_tiresOf_1 : List UInt8 := dkwX0_tiresOf_1 ++ []
def dkwX0_tiresOf_0 : List UInt8 := [42, 180, 0, 51, 27, 50, 42, 5, 27, 28, 182, 1, 87, 16, 247, 16, 9, 184, 1, 95, 29, 182, 1, 100]
abbrev dktX0_tiresOf_0 : List UInt8 := dkwX0_tiresOf_0 ++ dktX0_tiresOf_1
theorem dksX0_tiresOf_0 : cX0_tiresOf.data.toList.drop 0 = dktX0_tiresOf_0 := by decide +kernel
theorem dksX0_tiresOf_1 : cX0_tiresOf.data.toList.drop 24 = dktX0_tiresOf_1 := dk_seg dksX0_tiresOf_0 24 rfl rfl
theorem dX0_tiresOf_0 : decode cX0_tiresOf 0 = .ok (.aload_n 0, 1) := dk_42 (dk_at dksX0_tiresOf_0 0 rfl rfl)
theorem dX0_tiresOf_1 : decode cX0_tiresOf 1 = .ok (.getfield 51, 3) := dk_180 0 51 (dk_at dksX0_tiresOf_0 1 rfl rfl)
theorem dX0_tiresOf_4 : decode cX0_tiresOf 4 = .ok (.iload_n 1, 1) := dk_27 (dk_at dksX0_tiresOf_0 4 rfl rfl)
theorem dX0_tiresOf_5 : decode cX0_tiresOf 5 = .ok (.aaload, 1) := dk_50 (dk_at dksX0_tiresOf_0 5 rfl rfl)
theorem dX0_tiresOf_6 : decode cX0_tiresOf 6 = .ok (.aload_n 0, 1) := dk_42 (dk_at dksX0_tiresOf_0 6 rfl rfl)
theorem dX0_tiresOf_7 : decode cX0_tiresOf 7 = .ok (.iconst 2, 1) := dk_5 (dk_at dksX0_tiresOf_0 7 rfl rfl)
theorem dX0_tiresOf_8 : decode cX0_tiresOf 8 = .ok (.iload_n 1, 1) := dk_27 (dk_at dksX0_tiresOf_0 8 rfl rfl)
theorem dX0_tiresOf_9 : decode cX0_tiresOf 9 = .ok (.iload_n 2, 1) := dk_28 (dk_at dksX0_tiresOf_0 9 rfl rfl)
theorem dX0_tiresOf_10 : decode cX0_tiresOf 10 = .ok (.invokevirtual 343, 3) := dk_182 1 87 (dk_at dksX0_tiresOf_0 10 rfl rfl)
theorem dX0_tiresOf_13 : decode cX0_tiresOf 13 = .ok (.bipush (-9), 2) := dk_16 247 (dk_at dksX0_tiresOf_0 13 rfl rfl)
theorem dX0_tiresOf_15 : decode cX0_tiresOf 15 = .ok (.bipush 9, 2) := dk_16 9 (dk_at dksX0_tiresOf_0 15 rfl rfl)
theorem dX0_tiresOf_17 : decode cX0_tiresOf 17 = .ok (.invokestatic 351, 3) := dk_184 1 95 (dk_at dksX0_tiresOf_0 17 rfl rfl)
theorem dX0_tiresOf_20 : decode cX0_tiresOf 20 = .ok (.iload_n 3, 1) := dk_29 (dk_at dksX0_tiresOf_0 20 rfl rfl)
theorem dX0_tiresOf_21 : decode cX0_tiresOf 21 = .ok (.invokevirtual 356, 3) := dk_182 1 100 (dk_at dksX0_tiresOf_0 21 rfl rfl)
theorem dX0_tiresOf_24 : decode cX0_tiresOf 24 = .ok (.bipush (-99), 2) := dk_16 157 (dk_at dksX0_tiresOf_1 0 rfl rfl)
theorem dX0_tiresOf_26 : decode cX0_tiresOf 26 = .ok (.bipush 99, 2) := dk_16 99 (dk_at dksX0_tiresOf_1 2 rfl rfl)
theorem dX0_tiresOf_28 : decode cX0_tiresOf 28 = .ok (.invokestatic 351, 3) := dk_184 1 95 (dk_at dksX0_tiresOf_1 4 rfl rfl)
theorem dX0_tiresOf_31 : decode cX0_tiresOf 31 = .ok (.ireturn, 1) := dk_172 (dk_at dksX0_tiresOf_1 7 rfl rfl)
abbrev cX0_winnerOf : ByteArray := prog_1_method_43_code
def yX0_winnerOf : MethodName := ⟨RX0, "winnerOf", "(II)I"⟩
def dkwX0_winnerOf_1 : List UInt8 := [167, 0, 14, 21, 4, 29, 164, 0, 7, 28, 167, 0, 4, 2, 172]
abbrev dktX0_winnerOf_1 : List UInt8 := dkwX0_winnerOf_1 ++ []
def dkwX0_winnerOf_0 : List UInt8 := [42, 27, 28, 182, 1, 103, 62, 42, 28, 27, 182, 1, 103, 54, 4, 29, 21, 4, 164, 0, 7, 27]
abbrev dktX0_winnerOf_0 : List UInt8 := dkwX0_winnerOf_0 ++ dktX0_winnerOf_1
theorem dksX0_winnerOf_0 : cX0_winnerOf.data.toList.drop 0 = dktX0_winnerOf_0 := by decide +kernel
theorem dksX0_winnerOf_1 : cX0_winnerOf.data.toList.drop 22 = dktX0_winnerOf_1 := dk_seg dksX0_winnerOf_0 22 rfl rfl
theorem dX0_winnerOf_0 : decode cX0_winnerOf 0 = .ok (.aload_n 0, 1) := dk_42 (dk_at dksX0_winnerOf_0 0 rfl rfl)
theorem dX0_winnerOf_1 : decode cX0_winnerOf 1 = .ok (.iload_n 1, 1) := dk_27 (dk_at dksX0_winnerOf_0 1 rfl rfl)
theorem dX0_winnerOf_2 : decode cX0_winnerOf 2 = .ok (.iload_n 2, 1) := dk_28 (dk_at dksX0_winnerOf_0 2 rfl rfl)
theorem dX0_winnerOf_3 : decode cX0_winnerOf 3 = .ok (.invokevirtual 359, 3) := dk_182 1 103 (dk_at dksX0_winnerOf_0 3 rfl rfl)
theorem dX0_winnerOf_6 : decode cX0_winnerOf 6 = .ok (.istore_n 3, 1) := dk_62 (dk_at dksX0_winnerOf_0 6 rfl rfl)
theorem dX0_winnerOf_7 : decode cX0_winnerOf 7 = .ok (.aload_n 0, 1) := dk_42 (dk_at dksX0_winnerOf_0 7 rfl rfl)
theorem dX0_winnerOf_8 : decode cX0_winnerOf 8 = .ok (.iload_n 2, 1) := dk_28 (dk_at dksX0_winnerOf_0 8 rfl rfl)
theorem dX0_winnerOf_9 : decode cX0_winnerOf 9 = .ok (.iload_n 1, 1) := dk_27 (dk_at dksX0_winnerOf_0 9 rfl rfl)
theorem dX0_winnerOf_10 : decode cX0_winnerOf 10 = .ok (.invokevirtual 359, 3) := dk_182 1 103 (dk_at dksX0_winnerOf_0 10 rfl rfl)
theorem dX0_winnerOf_13 : decode cX0_winnerOf 13 = .ok (.istore 4, 2) := dk_54 4 (dk_at dksX0_winnerOf_0 13 rfl rfl)
theorem dX0_winnerOf_15 : decode cX0_winnerOf 15 = .ok (.iload_n 3, 1) := dk_29 (dk_at dksX0_winnerOf_0 15 rfl rfl)
theorem dX0_winnerOf_16 : decode cX0_winnerOf 16 = .ok (.iload 4, 2) := dk_21 4 (dk_at dksX0_winnerOf_0 16 rfl rfl)
theorem dX0_winnerOf_18 : decode cX0_winnerOf 18 = .ok (.if_icmp .le 7, 3) := dk_164 0 7 (dk_at dksX0_winnerOf_0 18 rfl rfl)
theorem dX0_winnerOf_21 : decode cX0_winnerOf 21 = .ok (.iload_n 1, 1) := dk_27 (dk_at dksX0_winnerOf_0 21 rfl rfl)
theorem dX0_winnerOf_22 : decode cX0_winnerOf 22 = .ok (.goto 14, 3) := dk_167 0 14 (dk_at dksX0_winnerOf_1 0 rfl rfl)
theorem dX0_winnerOf_25 : decode cX0_winnerOf 25 = .ok (.iload 4, 2) := dk_21 4 (dk_at dksX0_winnerOf_1 3 rfl rfl)
theorem dX0_winnerOf_27 : decode cX0_winnerOf 27 = .ok (.iload_n 3, 1) := dk_29 (dk_at dksX0_winnerOf_1 5 rfl rfl)
theorem dX0_winnerOf_28 : decode cX0_winnerOf 28 = .ok (.if_icmp .le 7, 3) := dk_164 0 7 (dk_at dksX0_winnerOf_1 6 rfl rfl)
theorem dX0_winnerOf_31 : decode cX0_winnerOf 31 = .ok (.iload_n 2, 1) := dk_28 (dk_at dksX0_winnerOf_1 9 rfl rfl)
theorem dX0_winnerOf_32 : decode cX0_winnerOf 32 = .ok (.goto 4, 3) := dk_167 0 4 (dk_at dksX0_winnerOf_1 10 rfl rfl)
theorem dX0_winnerOf_35 : decode cX0_winnerOf 35 = .ok (.iconst (-1), 1) := dk_2 (dk_at dksX0_winnerOf_1 13 rfl rfl)
theorem dX0_winnerOf_36 : decode cX0_winnerOf 36 = .ok (.ireturn, 1) := dk_172 (dk_at dksX0_winnerOf_1 14 rfl rfl)
abbrev cX0_hasPlayed : ByteArray := prog_1_method_47_code
def yX0_hasPlayed : MethodName := ⟨RX0, "hasPlayed", "(II)I"⟩
def dkwX0_hasPlayed_1 : List UInt8 := [182, 1, 120, 29, 172, 58, 4, 42, 3, 182, 1, 120, 25, 4, 191]
abbrev dktX0_hasPlayed_1 : List UInt8 := dkwX0_hasPlayed_1 ++ []
def dkwX0_hasPlayed_0 : List UInt8 := [42, 3, 182, 1, 116, 42, 27, 28, 182, 1, 119, 87, 42, 180, 0, 51, 27, 50, 182, 0, 107, 62, 42, 3]
abbrev dktX0_hasPlayed_0 : List UInt8 := dkwX0_hasPlayed_0 ++ dktX0_hasPlayed_1
theorem dksX0_hasPlayed_0 : cX0_hasPlayed.data.toList.drop 0 = dktX0_hasPlayed_0 := by decide +kernel
theorem dksX0_hasPlayed_1 : cX0_hasPlayed.data.toList.drop 24 = dktX0_hasPlayed_1 := dk_seg dksX0_hasPlayed_0 24 rfl rfl
theorem dX0_hasPlayed_0 : decode cX0_hasPlayed 0 = .ok (.aload_n 0, 1) := dk_42 (dk_at dksX0_hasPlayed_0 0 rfl rfl)
theorem dX0_hasPlayed_1 : decode cX0_hasPlayed 1 = .ok (.iconst 0, 1) := dk_3 (dk_at dksX0_hasPlayed_0 1 rfl rfl)
theorem dX0_hasPlayed_2 : decode cX0_hasPlayed 2 = .ok (.invokevirtual 372, 3) := dk_182 1 116 (dk_at dksX0_hasPlayed_0 2 rfl rfl)
theorem dX0_hasPlayed_5 : decode cX0_hasPlayed 5 = .ok (.aload_n 0, 1) := dk_42 (dk_at dksX0_hasPlayed_0 5 rfl rfl)
theorem dX0_hasPlayed_6 : decode cX0_hasPlayed 6 = .ok (.iload_n 1, 1) := dk_27 (dk_at dksX0_hasPlayed_0 6 rfl rfl)
theorem dX0_hasPlayed_7 : decode cX0_hasPlayed 7 = .ok (.iload_n 2, 1) := dk_28 (dk_at dksX0_hasPlayed_0 7 rfl rfl)
theorem dX0_hasPlayed_8 : decode cX0_hasPlayed 8 = .ok (.invokevirtual 375, 3) := dk_182 1 119 (dk_at dksX0_hasPlayed_0 8 rfl rfl)
theorem dX0_hasPlayed_11 : decode cX0_hasPlayed 11 = .ok (.pop, 1) := dk_87 (dk_at dksX0_hasPlayed_0 11 rfl rfl)
theorem dX0_hasPlayed_12 : decode cX0_hasPlayed 12 = .ok (.aload_n 0, 1) := dk_42 (dk_at dksX0_hasPlayed_0 12 rfl rfl)
theorem dX0_hasPlayed_13 : decode cX0_hasPlayed 13 = .ok (.getfield 51, 3) := dk_180 0 51 (dk_at dksX0_hasPlayed_0 13 rfl rfl)
theorem dX0_hasPlayed_16 : decode cX0_hasPlayed 16 = .ok (.iload_n 1, 1) := dk_27 (dk_at dksX0_hasPlayed_0 16 rfl rfl)
theorem dX0_hasPlayed_17 : decode cX0_hasPlayed 17 = .ok (.aaload, 1) := dk_50 (dk_at dksX0_hasPlayed_0 17 rfl rfl)
theorem dX0_hasPlayed_18 : decode cX0_hasPlayed 18 = .ok (.invokevirtual 107, 3) := dk_182 0 107 (dk_at dksX0_hasPlayed_0 18 rfl rfl)
theorem dX0_hasPlayed_21 : decode cX0_hasPlayed 21 = .ok (.istore_n 3, 1) := dk_62 (dk_at dksX0_hasPlayed_0 21 rfl rfl)
theorem dX0_hasPlayed_22 : decode cX0_hasPlayed 22 = .ok (.aload_n 0, 1) := dk_42 (dk_at dksX0_hasPlayed_0 22 rfl rfl)
theorem dX0_hasPlayed_23 : decode cX0_hasPlayed 23 = .ok (.iconst 0, 1) := dk_3 (dk_at dksX0_hasPlayed_0 23 rfl rfl)
theorem dX0_hasPlayed_24 : decode cX0_hasPlayed 24 = .ok (.invokevirtual 376, 3) := dk_182 1 120 (dk_at dksX0_hasPlayed_1 0 rfl rfl)
theorem dX0_hasPlayed_27 : decode cX0_hasPlayed 27 = .ok (.iload_n 3, 1) := dk_29 (dk_at dksX0_hasPlayed_1 3 rfl rfl)
theorem dX0_hasPlayed_28 : decode cX0_hasPlayed 28 = .ok (.ireturn, 1) := dk_172 (dk_at dksX0_hasPlayed_1 4 rfl rfl)
theorem dX0_hasPlayed_29 : decode cX0_hasPlayed 29 = .ok (.astore 4, 2) := dk_58 4 (dk_at dksX0_hasPlayed_1 5 rfl rfl)
theorem dX0_hasPlayed_31 : decode cX0_hasPlayed 31 = .ok (.aload_n 0, 1) := dk_42 (dk_at dksX0_hasPlayed_1 7 rfl rfl)
theorem dX0_hasPlayed_32 : decode cX0_hasPlayed 32 = .ok (.iconst 0, 1) := dk_3 (dk_at dksX0_hasPlayed_1 8 rfl rfl)
theorem dX0_hasPlayed_33 : decode cX0_hasPlayed 33 = .ok (.invokevirtual 376, 3) := dk_182 1 120 (dk_at dksX0_hasPlayed_1 9 rfl rfl)
theorem dX0_hasPlayed_36 : decode cX0_hasPlayed 36 = .ok (.aload 4, 2) := dk_25 4 (dk_at dksX0_hasPlayed_1 12 rfl rfl)
theorem dX0_hasPlayed_38 : decode cX0_hasPlayed 38 = .ok (.athrow, 1) := dk_191 (dk_at dksX0_hasPlayed_1 14 rfl rfl)
abbrev cX0_keeps : ByteArray := prog_1_method_45_code
def yX0_keeps : MethodName := ⟨RX0, "keeps", "(I)V"⟩
def dkwX0_keeps_3 : List UInt8 := [180, 1, 46, 27, 42, 180, 0, 73, 79, 42, 180, 1, 50, 27, 42, 180, 0, 76, 79, 177]
abbrev dktX0_keeps_3 : List UInt8 := dkwX0_keeps_3 ++ []
def dkwX0_keeps_2 : List UInt8 := [180, 1, 43, 27, 50, 28, 42, 180, 0, 51, 28, 50, 180, 0, 104, 79, 132, 2, 1, 167, 255, 194, 42]
abbrev dktX0_keeps_2 : List UInt8 := dkwX0_keeps_2 ++ dktX0_keeps_3
def dkwX0_keeps_1 : List UInt8 := [180, 0, 66, 79, 42, 180, 1, 40, 27, 50, 28, 42, 180, 0, 51, 28, 50, 180, 0, 86, 79, 42]
abbrev dktX0_keeps_1 : List UInt8 := dkwX0_keeps_1 ++ dktX0_keeps_2
def dkwX0_keeps_0 : List UInt8 := [3, 61, 28, 42, 180, 0, 10, 162, 0, 60, 42, 180, 1, 37, 27, 50, 28, 42, 180, 0, 51, 28, 50]
abbrev dktX0_keeps_0 : List UInt8 := dkwX0_keeps_0 ++ dktX0_keeps_1
theorem dksX0_keeps_0 : cX0_keeps.data.toList.drop 0 = dktX0_keeps_0 := by decide +kernel
theorem dksX0_keeps_1 : cX0_keeps.data.toList.drop 23 = dktX0_keeps_1 := dk_seg dksX0_keeps_0 23 rfl rfl
theorem dksX0_keeps_2 : cX0_keeps.data.toList.drop 45 = dktX0_keeps_2 := dk_seg dksX0_keeps_1 22 rfl rfl
theorem dksX0_keeps_3 : cX0_keeps.data.toList.drop 68 = dktX0_keeps_3 := dk_seg dksX0_keeps_2 23 rfl rfl
theorem dX0_keeps_0 : decode cX0_keeps 0 = .ok (.iconst 0, 1) := dk_3 (dk_at dksX0_keeps_0 0 rfl rfl)
theorem dX0_keeps_1 : decode cX0_keeps 1 = .ok (.istore_n 2, 1) := dk_61 (dk_at dksX0_keeps_0 1 rfl rfl)
theorem dX0_keeps_2 : decode cX0_keeps 2 = .ok (.iload_n 2, 1) := dk_28 (dk_at dksX0_keeps_0 2 rfl rfl)
theorem dX0_keeps_3 : decode cX0_keeps 3 = .ok (.aload_n 0, 1) := dk_42 (dk_at dksX0_keeps_0 3 rfl rfl)
theorem dX0_keeps_4 : decode cX0_keeps 4 = .ok (.getfield 10, 3) := dk_180 0 10 (dk_at dksX0_keeps_0 4 rfl rfl)
theorem dX0_keeps_7 : decode cX0_keeps 7 = .ok (.if_icmp .ge 60, 3) := dk_162 0 60 (dk_at dksX0_keeps_0 7 rfl rfl)
theorem dX0_keeps_10 : decode cX0_keeps 10 = .ok (.aload_n 0, 1) := dk_42 (dk_at dksX0_keeps_0 10 rfl rfl)
theorem dX0_keeps_11 : decode cX0_keeps 11 = .ok (.getfield 293, 3) := dk_180 1 37 (dk_at dksX0_keeps_0 11 rfl rfl)
theorem dX0_keeps_14 : decode cX0_keeps 14 = .ok (.iload_n 1, 1) := dk_27 (dk_at dksX0_keeps_0 14 rfl rfl)
theorem dX0_keeps_15 : decode cX0_keeps 15 = .ok (.aaload, 1) := dk_50 (dk_at dksX0_keeps_0 15 rfl rfl)
theorem dX0_keeps_16 : decode cX0_keeps 16 = .ok (.iload_n 2, 1) := dk_28 (dk_at dksX0_keeps_0 16 rfl rfl)
theorem dX0_keeps_17 : decode cX0_keeps 17 = .ok (.aload_n 0, 1) := dk_42 (dk_at dksX0_keeps_0 17 rfl rfl)
theorem dX0_keeps_18 : decode cX0_keeps 18 = .ok (.getfield 51, 3) := dk_180 0 51 (dk_at dksX0_keeps_0 18 rfl rfl)
theorem dX0_keeps_21 : decode cX0_keeps 21 = .ok (.iload_n 2, 1) := dk_28 (dk_at dksX0_keeps_0 21 rfl rfl)
theorem dX0_keeps_22 : decode cX0_keeps 22 = .ok (.aaload, 1) := dk_50 (dk_at dksX0_keeps_0 22 rfl rfl)
theorem dX0_keeps_23 : decode cX0_keeps 23 = .ok (.getfield 66, 3) := dk_180 0 66 (dk_at dksX0_keeps_1 0 rfl rfl)
theorem dX0_keeps_26 : decode cX0_keeps 26 = .ok (.iastore, 1) := dk_79 (dk_at dksX0_keeps_1 3 rfl rfl)
theorem dX0_keeps_27 : decode cX0_keeps 27 = .ok (.aload_n 0, 1) := dk_42 (dk_at dksX0_keeps_1 4 rfl rfl)
theorem dX0_keeps_28 : decode cX0_keeps 28 = .ok (.getfield 296, 3) := dk_180 1 40 (dk_at dksX0_keeps_1 5 rfl rfl)
theorem dX0_keeps_31 : decode cX0_keeps 31 = .ok (.iload_n 1, 1) := dk_27 (dk_at dksX0_keeps_1 8 rfl rfl)
theorem dX0_keeps_32 : decode cX0_keeps 32 = .ok (.aaload, 1) := dk_50 (dk_at dksX0_keeps_1 9 rfl rfl)
theorem dX0_keeps_33 : decode cX0_keeps 33 = .ok (.iload_n 2, 1) := dk_28 (dk_at dksX0_keeps_1 10 rfl rfl)
theorem dX0_keeps_34 : decode cX0_keeps 34 = .ok (.aload_n 0, 1) := dk_42 (dk_at dksX0_keeps_1 11 rfl rfl)
theorem dX0_keeps_35 : decode cX0_keeps 35 = .ok (.getfield 51, 3) := dk_180 0 51 (dk_at dksX0_keeps_1 12 rfl rfl)
theorem dX0_keeps_38 : decode cX0_keeps 38 = .ok (.iload_n 2, 1) := dk_28 (dk_at dksX0_keeps_1 15 rfl rfl)
theorem dX0_keeps_39 : decode cX0_keeps 39 = .ok (.aaload, 1) := dk_50 (dk_at dksX0_keeps_1 16 rfl rfl)
theorem dX0_keeps_40 : decode cX0_keeps 40 = .ok (.getfield 86, 3) := dk_180 0 86 (dk_at dksX0_keeps_1 17 rfl rfl)
theorem dX0_keeps_43 : decode cX0_keeps 43 = .ok (.iastore, 1) := dk_79 (dk_at dksX0_keeps_1 20 rfl rfl)
theorem dX0_keeps_44 : decode cX0_keeps 44 = .ok (.aload_n 0, 1) := dk_42 (dk_at dksX0_keeps_1 21 rfl rfl)
theorem dX0_keeps_45 : decode cX0_keeps 45 = .ok (.getfield 299, 3) := dk_180 1 43 (dk_at dksX0_keeps_2 0 rfl rfl)
theorem dX0_keeps_48 : decode cX0_keeps 48 = .ok (.iload_n 1, 1) := dk_27 (dk_at dksX0_keeps_2 3 rfl rfl)
theorem dX0_keeps_49 : decode cX0_keeps 49 = .ok (.aaload, 1) := dk_50 (dk_at dksX0_keeps_2 4 rfl rfl)
theorem dX0_keeps_50 : decode cX0_keeps 50 = .ok (.iload_n 2, 1) := dk_28 (dk_at dksX0_keeps_2 5 rfl rfl)
theorem dX0_keeps_51 : decode cX0_keeps 51 = .ok (.aload_n 0, 1) := dk_42 (dk_at dksX0_keeps_2 6 rfl rfl)
theorem dX0_keeps_52 : decode cX0_keeps 52 = .ok (.getfield 51, 3) := dk_180 0 51 (dk_at dksX0_keeps_2 7 rfl rfl)
theorem dX0_keeps_55 : decode cX0_keeps 55 = .ok (.iload_n 2, 1) := dk_28 (dk_at dksX0_keeps_2 10 rfl rfl)
theorem dX0_keeps_56 : decode cX0_keeps 56 = .ok (.aaload, 1) := dk_50 (dk_at dksX0_keeps_2 11 rfl rfl)
theorem dX0_keeps_57 : decode cX0_keeps 57 = .ok (.getfield 104, 3) := dk_180 0 104 (dk_at dksX0_keeps_2 12 rfl rfl)
theorem dX0_keeps_60 : decode cX0_keeps 60 = .ok (.iastore, 1) := dk_79 (dk_at dksX0_keeps_2 15 rfl rfl)
theorem dX0_keeps_61 : decode cX0_keeps 61 = .ok (.iinc 2 1, 3) := dk_132 2 1 (dk_at dksX0_keeps_2 16 rfl rfl)
theorem dX0_keeps_64 : decode cX0_keeps 64 = .ok (.goto (-62), 3) := dk_167 255 194 (dk_at dksX0_keeps_2 19 rfl rfl)
theorem dX0_keeps_67 : decode cX0_keeps 67 = .ok (.aload_n 0, 1) := dk_42 (dk_at dksX0_keeps_2 22 rfl rfl)
theorem dX0_keeps_68 : decode cX0_keeps 68 = .ok (.getfield 302, 3) := dk_180 1 46 (dk_at dksX0_keeps_3 0 rfl rfl)
theorem dX0_keeps_71 : decode cX0_keeps 71 = .ok (.iload_n 1, 1) := dk_27 (dk_at dksX0_keeps_3 3 rfl rfl)
theorem dX0_keeps_72 : decode cX0_keeps 72 = .ok (.aload_n 0, 1) := dk_42 (dk_at dksX0_keeps_3 4 rfl rfl)
theorem dX0_keeps_73 : decode cX0_keeps 73 = .ok (.getfield 73, 3) := dk_180 0 73 (dk_at dksX0_keeps_3 5 rfl rfl)
theorem dX0_keeps_76 : decode cX0_keeps 76 = .ok (.iastore, 1) := dk_79 (dk_at dksX0_keeps_3 8 rfl rfl)
theorem dX0_keeps_77 : decode cX0_keeps 77 = .ok (.aload_n 0, 1) := dk_42 (dk_at dksX0_keeps_3 9 rfl rfl)
theorem dX0_keeps_78 : decode cX0_keeps 78 = .ok (.getfield 306, 3) := dk_180 1 50 (dk_at dksX0_keeps_3 10 rfl rfl)
theorem dX0_keeps_81 : decode cX0_keeps 81 = .ok (.iload_n 1, 1) := dk_27 (dk_at dksX0_keeps_3 13 rfl rfl)
theorem dX0_keeps_82 : decode cX0_keeps 82 = .ok (.aload_n 0, 1) := dk_42 (dk_at dksX0_keeps_3 14 rfl rfl)
theorem dX0_keeps_83 : decode cX0_keeps 83 = .ok (.getfield 76, 3) := dk_180 0 76 (dk_at dksX0_keeps_3 15 rfl rfl)
theorem dX0_keeps_86 : decode cX0_keeps 86 = .ok (.iastore, 1) := dk_79 (dk_at dksX0_keeps_3 18 rfl rfl)
theorem dX0_keeps_87 : decode cX0_keeps 87 = .ok (.return_, 1) := dk_177 (dk_at dksX0_keeps_3 19 rfl rfl)
abbrev cX0_plays : ByteArray := prog_1_method_44_code
def yX0_plays : MethodName := ⟨RX0, "plays", "(II)I"⟩
def dkwX0_plays_9 : List UInt8 := [21, 5, 100, 3, 16, 99, 184, 1, 95, 181, 0, 86, 42, 89, 180, 0, 76, 4, 96, 181, 0, 76, 29, 172]
abbrev dktX0_plays_9 : List UInt8 := dkwX0_plays_9 ++ []
def dkwX0_plays_8 : List UInt8 := [3, 16, 99, 184, 1, 95, 181, 0, 86, 42, 180, 0, 51, 28, 50, 42, 180, 0, 51, 28, 50, 180, 0, 86]
abbrev dktX0_plays_8 : List UInt8 := dkwX0_plays_8 ++ dktX0_plays_9
def dkwX0_plays_7 : List UInt8 := [184, 0, 1, 181, 0, 104, 42, 180, 0, 51, 27, 50, 42, 180, 0, 51, 27, 50, 180, 0, 86, 21, 4, 100]
abbrev dktX0_plays_7 : List UInt8 := dkwX0_plays_7 ++ dktX0_plays_8
def dkwX0_plays_6 : List UInt8 := [181, 0, 73, 42, 180, 0, 51, 29, 50, 17, 3, 231, 42, 180, 0, 51, 29, 50, 180, 0, 104, 4, 96]
abbrev dktX0_plays_6 : List UInt8 := dkwX0_plays_6 ++ dktX0_plays_7
def dkwX0_plays_5 : List UInt8 := [27, 160, 0, 7, 28, 167, 0, 4, 27, 50, 21, 6, 42, 180, 0, 73, 128, 181, 0, 66, 42, 3]
abbrev dktX0_plays_5 : List UInt8 := dkwX0_plays_5 ++ dktX0_plays_6
def dkwX0_plays_4 : List UInt8 := [21, 6, 128, 181, 0, 73, 42, 89, 180, 1, 113, 4, 96, 181, 1, 113, 167, 0, 59, 42, 180, 0, 51, 29]
abbrev dktX0_plays_4 : List UInt8 := dkwX0_plays_4 ++ dktX0_plays_5
def dkwX0_plays_3 : List UInt8 := [181, 0, 66, 42, 180, 0, 51, 28, 50, 3, 181, 0, 66, 29, 2, 160, 0, 27, 42, 89, 180, 0, 73]
abbrev dktX0_plays_3 : List UInt8 := dkwX0_plays_3 ++ dktX0_plays_4
def dkwX0_plays_2 : List UInt8 := [27, 50, 180, 0, 66, 42, 180, 0, 51, 28, 50, 180, 0, 66, 128, 54, 6, 42, 180, 0, 51, 27, 50, 3]
abbrev dktX0_plays_2 : List UInt8 := dkwX0_plays_2 ++ dktX0_plays_3
def dkwX0_plays_1 : List UInt8 := [54, 4, 42, 28, 27, 29, 28, 160, 0, 7, 4, 167, 0, 4, 3, 182, 1, 109, 54, 5, 42, 180, 0, 51]
abbrev dktX0_plays_1 : List UInt8 := dkwX0_plays_1 ++ dktX0_plays_2
def dkwX0_plays_0 : List UInt8 := [42, 27, 28, 182, 1, 106, 62, 42, 27, 28, 29, 27, 160, 0, 7, 4, 167, 0, 4, 3, 182, 1, 109]
abbrev dktX0_plays_0 : List UInt8 := dkwX0_plays_0 ++ dktX0_plays_1
theorem dksX0_plays_0 : cX0_plays.data.toList.drop 0 = dktX0_plays_0 := by decide +kernel
theorem dksX0_plays_1 : cX0_plays.data.toList.drop 23 = dktX0_plays_1 := dk_seg dksX0_plays_0 23 rfl rfl
theorem dksX0_plays_2 : cX0_plays.data.toList.drop 47 = dktX0_plays_2 := dk_seg dksX0_plays_1 24 rfl rfl
theorem dksX0_plays_3 : cX0_plays.data.toList.drop 71 = dktX0_plays_3 := dk_seg dksX0_plays_2 24 rfl rfl
theorem dksX0_plays_4 : cX0_plays.data.toList.drop 94 = dktX0_plays_4 := dk_seg dksX0_plays_3 23 rfl rfl
theorem dksX0_plays_5 : cX0_plays.data.toList.drop 118 = dktX0_plays_5 := dk_seg dksX0_plays_4 24 rfl rfl
theorem dksX0_plays_6 : cX0_plays.data.toList.drop 140 = dktX0_plays_6 := dk_seg dksX0_plays_5 22 rfl rfl
theorem dksX0_plays_7 : cX0_plays.data.toList.drop 163 = dktX0_plays_7 := dk_seg dksX0_plays_6 23 rfl rfl
theorem dksX0_plays_8 : cX0_plays.data.toList.drop 187 = dktX0_plays_8 := dk_seg dksX0_plays_7 24 rfl rfl
theorem dksX0_plays_9 : cX0_plays.data.toList.drop 211 = dktX0_plays_9 := dk_seg dksX0_plays_8 24 rfl rfl
theorem dX0_plays_0 : decode cX0_plays 0 = .ok (.aload_n 0, 1) := dk_42 (dk_at dksX0_plays_0 0 rfl rfl)
theorem dX0_plays_1 : decode cX0_plays 1 = .ok (.iload_n 1, 1) := dk_27 (dk_at dksX0_plays_0 1 rfl rfl)
theorem dX0_plays_2 : decode cX0_plays 2 = .ok (.iload_n 2, 1) := dk_28 (dk_at dksX0_plays_0 2 rfl rfl)
theorem dX0_plays_3 : decode cX0_plays 3 = .ok (.invokevirtual 362, 3) := dk_182 1 106 (dk_at dksX0_plays_0 3 rfl rfl)
theorem dX0_plays_6 : decode cX0_plays 6 = .ok (.istore_n 3, 1) := dk_62 (dk_at dksX0_plays_0 6 rfl rfl)
theorem dX0_plays_7 : decode cX0_plays 7 = .ok (.aload_n 0, 1) := dk_42 (dk_at dksX0_plays_0 7 rfl rfl)
theorem dX0_plays_8 : decode cX0_plays 8 = .ok (.iload_n 1, 1) := dk_27 (dk_at dksX0_plays_0 8 rfl rfl)
theorem dX0_plays_9 : decode cX0_plays 9 = .ok (.iload_n 2, 1) := dk_28 (dk_at dksX0_plays_0 9 rfl rfl)
theorem dX0_plays_10 : decode cX0_plays 10 = .ok (.iload_n 3, 1) := dk_29 (dk_at dksX0_plays_0 10 rfl rfl)
theorem dX0_plays_11 : decode cX0_plays 11 = .ok (.iload_n 1, 1) := dk_27 (dk_at dksX0_plays_0 11 rfl rfl)
theorem dX0_plays_12 : decode cX0_plays 12 = .ok (.if_icmp .ne 7, 3) := dk_160 0 7 (dk_at dksX0_plays_0 12 rfl rfl)
theorem dX0_plays_15 : decode cX0_plays 15 = .ok (.iconst 1, 1) := dk_4 (dk_at dksX0_plays_0 15 rfl rfl)
theorem dX0_plays_16 : decode cX0_plays 16 = .ok (.goto 4, 3) := dk_167 0 4 (dk_at dksX0_plays_0 16 rfl rfl)
theorem dX0_plays_19 : decode cX0_plays 19 = .ok (.iconst 0, 1) := dk_3 (dk_at dksX0_plays_0 19 rfl rfl)
theorem dX0_plays_20 : decode cX0_plays 20 = .ok (.invokevirtual 365, 3) := dk_182 1 109 (dk_at dksX0_plays_0 20 rfl rfl)
theorem dX0_plays_23 : decode cX0_plays 23 = .ok (.istore 4, 2) := dk_54 4 (dk_at dksX0_plays_1 0 rfl rfl)
theorem dX0_plays_25 : decode cX0_plays 25 = .ok (.aload_n 0, 1) := dk_42 (dk_at dksX0_plays_1 2 rfl rfl)
theorem dX0_plays_26 : decode cX0_plays 26 = .ok (.iload_n 2, 1) := dk_28 (dk_at dksX0_plays_1 3 rfl rfl)
theorem dX0_plays_27 : decode cX0_plays 27 = .ok (.iload_n 1, 1) := dk_27 (dk_at dksX0_plays_1 4 rfl rfl)
theorem dX0_plays_28 : decode cX0_plays 28 = .ok (.iload_n 3, 1) := dk_29 (dk_at dksX0_plays_1 5 rfl rfl)
theorem dX0_plays_29 : decode cX0_plays 29 = .ok (.iload_n 2, 1) := dk_28 (dk_at dksX0_plays_1 6 rfl rfl)
theorem dX0_plays_30 : decode cX0_plays 30 = .ok (.if_icmp .ne 7, 3) := dk_160 0 7 (dk_at dksX0_plays_1 7 rfl rfl)
theorem dX0_plays_33 : decode cX0_plays 33 = .ok (.iconst 1, 1) := dk_4 (dk_at dksX0_plays_1 10 rfl rfl)
theorem dX0_plays_34 : decode cX0_plays 34 = .ok (.goto 4, 3) := dk_167 0 4 (dk_at dksX0_plays_1 11 rfl rfl)
theorem dX0_plays_37 : decode cX0_plays 37 = .ok (.iconst 0, 1) := dk_3 (dk_at dksX0_plays_1 14 rfl rfl)
theorem dX0_plays_38 : decode cX0_plays 38 = .ok (.invokevirtual 365, 3) := dk_182 1 109 (dk_at dksX0_plays_1 15 rfl rfl)
theorem dX0_plays_41 : decode cX0_plays 41 = .ok (.istore 5, 2) := dk_54 5 (dk_at dksX0_plays_1 18 rfl rfl)
theorem dX0_plays_43 : decode cX0_plays 43 = .ok (.aload_n 0, 1) := dk_42 (dk_at dksX0_plays_1 20 rfl rfl)
theorem dX0_plays_44 : decode cX0_plays 44 = .ok (.getfield 51, 3) := dk_180 0 51 (dk_at dksX0_plays_1 21 rfl rfl)
theorem dX0_plays_47 : decode cX0_plays 47 = .ok (.iload_n 1, 1) := dk_27 (dk_at dksX0_plays_2 0 rfl rfl)
theorem dX0_plays_48 : decode cX0_plays 48 = .ok (.aaload, 1) := dk_50 (dk_at dksX0_plays_2 1 rfl rfl)
theorem dX0_plays_49 : decode cX0_plays 49 = .ok (.getfield 66, 3) := dk_180 0 66 (dk_at dksX0_plays_2 2 rfl rfl)
theorem dX0_plays_52 : decode cX0_plays 52 = .ok (.aload_n 0, 1) := dk_42 (dk_at dksX0_plays_2 5 rfl rfl)
theorem dX0_plays_53 : decode cX0_plays 53 = .ok (.getfield 51, 3) := dk_180 0 51 (dk_at dksX0_plays_2 6 rfl rfl)
theorem dX0_plays_56 : decode cX0_plays 56 = .ok (.iload_n 2, 1) := dk_28 (dk_at dksX0_plays_2 9 rfl rfl)
theorem dX0_plays_57 : decode cX0_plays 57 = .ok (.aaload, 1) := dk_50 (dk_at dksX0_plays_2 10 rfl rfl)
theorem dX0_plays_58 : decode cX0_plays 58 = .ok (.getfield 66, 3) := dk_180 0 66 (dk_at dksX0_plays_2 11 rfl rfl)
theorem dX0_plays_61 : decode cX0_plays 61 = .ok (.ior, 1) := dk_128 (dk_at dksX0_plays_2 14 rfl rfl)
theorem dX0_plays_62 : decode cX0_plays 62 = .ok (.istore 6, 2) := dk_54 6 (dk_at dksX0_plays_2 15 rfl rfl)
theorem dX0_plays_64 : decode cX0_plays 64 = .ok (.aload_n 0, 1) := dk_42 (dk_at dksX0_plays_2 17 rfl rfl)
theorem dX0_plays_65 : decode cX0_plays 65 = .ok (.getfield 51, 3) := dk_180 0 51 (dk_at dksX0_plays_2 18 rfl rfl)
theorem dX0_plays_68 : decode cX0_plays 68 = .ok (.iload_n 1, 1) := dk_27 (dk_at dksX0_plays_2 21 rfl rfl)
theorem dX0_plays_69 : decode cX0_plays 69 = .ok (.aaload, 1) := dk_50 (dk_at dksX0_plays_2 22 rfl rfl)
theorem dX0_plays_70 : decode cX0_plays 70 = .ok (.iconst 0, 1) := dk_3 (dk_at dksX0_plays_2 23 rfl rfl)
theorem dX0_plays_71 : decode cX0_plays 71 = .ok (.putfield 66, 3) := dk_181 0 66 (dk_at dksX0_plays_3 0 rfl rfl)
theorem dX0_plays_74 : decode cX0_plays 74 = .ok (.aload_n 0, 1) := dk_42 (dk_at dksX0_plays_3 3 rfl rfl)
theorem dX0_plays_75 : decode cX0_plays 75 = .ok (.getfield 51, 3) := dk_180 0 51 (dk_at dksX0_plays_3 4 rfl rfl)
theorem dX0_plays_78 : decode cX0_plays 78 = .ok (.iload_n 2, 1) := dk_28 (dk_at dksX0_plays_3 7 rfl rfl)
theorem dX0_plays_79 : decode cX0_plays 79 = .ok (.aaload, 1) := dk_50 (dk_at dksX0_plays_3 8 rfl rfl)
theorem dX0_plays_80 : decode cX0_plays 80 = .ok (.iconst 0, 1) := dk_3 (dk_at dksX0_plays_3 9 rfl rfl)
theorem dX0_plays_81 : decode cX0_plays 81 = .ok (.putfield 66, 3) := dk_181 0 66 (dk_at dksX0_plays_3 10 rfl rfl)
theorem dX0_plays_84 : decode cX0_plays 84 = .ok (.iload_n 3, 1) := dk_29 (dk_at dksX0_plays_3 13 rfl rfl)
theorem dX0_plays_85 : decode cX0_plays 85 = .ok (.iconst (-1), 1) := dk_2 (dk_at dksX0_plays_3 14 rfl rfl)
theorem dX0_plays_86 : decode cX0_plays 86 = .ok (.if_icmp .ne 27, 3) := dk_160 0 27 (dk_at dksX0_plays_3 15 rfl rfl)
theorem dX0_plays_89 : decode cX0_plays 89 = .ok (.aload_n 0, 1) := dk_42 (dk_at dksX0_plays_3 18 rfl rfl)
theorem dX0_plays_90 : decode cX0_plays 90 = .ok (.dup, 1) := dk_89 (dk_at dksX0_plays_3 19 rfl rfl)
theorem dX0_plays_91 : decode cX0_plays 91 = .ok (.getfield 73, 3) := dk_180 0 73 (dk_at dksX0_plays_3 20 rfl rfl)
theorem dX0_plays_94 : decode cX0_plays 94 = .ok (.iload 6, 2) := dk_21 6 (dk_at dksX0_plays_4 0 rfl rfl)
theorem dX0_plays_96 : decode cX0_plays 96 = .ok (.ior, 1) := dk_128 (dk_at dksX0_plays_4 2 rfl rfl)
theorem dX0_plays_97 : decode cX0_plays 97 = .ok (.putfield 73, 3) := dk_181 0 73 (dk_at dksX0_plays_4 3 rfl rfl)
theorem dX0_plays_100 : decode cX0_plays 100 = .ok (.aload_n 0, 1) := dk_42 (dk_at dksX0_plays_4 6 rfl rfl)
theorem dX0_plays_101 : decode cX0_plays 101 = .ok (.dup, 1) := dk_89 (dk_at dksX0_plays_4 7 rfl rfl)
theorem dX0_plays_102 : decode cX0_plays 102 = .ok (.getfield 369, 3) := dk_180 1 113 (dk_at dksX0_plays_4 8 rfl rfl)
theorem dX0_plays_105 : decode cX0_plays 105 = .ok (.iconst 1, 1) := dk_4 (dk_at dksX0_plays_4 11 rfl rfl)
theorem dX0_plays_106 : decode cX0_plays 106 = .ok (.iadd, 1) := dk_96 (dk_at dksX0_plays_4 12 rfl rfl)
theorem dX0_plays_107 : decode cX0_plays 107 = .ok (.putfield 369, 3) := dk_181 1 113 (dk_at dksX0_plays_4 13 rfl rfl)
theorem dX0_plays_110 : decode cX0_plays 110 = .ok (.goto 59, 3) := dk_167 0 59 (dk_at dksX0_plays_4 16 rfl rfl)
theorem dX0_plays_113 : decode cX0_plays 113 = .ok (.aload_n 0, 1) := dk_42 (dk_at dksX0_plays_4 19 rfl rfl)
theorem dX0_plays_114 : decode cX0_plays 114 = .ok (.getfield 51, 3) := dk_180 0 51 (dk_at dksX0_plays_4 20 rfl rfl)
theorem dX0_plays_117 : decode cX0_plays 117 = .ok (.iload_n 3, 1) := dk_29 (dk_at dksX0_plays_4 23 rfl rfl)
theorem dX0_plays_118 : decode cX0_plays 118 = .ok (.iload_n 1, 1) := dk_27 (dk_at dksX0_plays_5 0 rfl rfl)
theorem dX0_plays_119 : decode cX0_plays 119 = .ok (.if_icmp .ne 7, 3) := dk_160 0 7 (dk_at dksX0_plays_5 1 rfl rfl)
theorem dX0_plays_122 : decode cX0_plays 122 = .ok (.iload_n 2, 1) := dk_28 (dk_at dksX0_plays_5 4 rfl rfl)
theorem dX0_plays_123 : decode cX0_plays 123 = .ok (.goto 4, 3) := dk_167 0 4 (dk_at dksX0_plays_5 5 rfl rfl)
theorem dX0_plays_126 : decode cX0_plays 126 = .ok (.iload_n 1, 1) := dk_27 (dk_at dksX0_plays_5 8 rfl rfl)
theorem dX0_plays_127 : decode cX0_plays 127 = .ok (.aaload, 1) := dk_50 (dk_at dksX0_plays_5 9 rfl rfl)
theorem dX0_plays_128 : decode cX0_plays 128 = .ok (.iload 6, 2) := dk_21 6 (dk_at dksX0_plays_5 10 rfl rfl)
theorem dX0_plays_130 : decode cX0_plays 130 = .ok (.aload_n 0, 1) := dk_42 (dk_at dksX0_plays_5 12 rfl rfl)
theorem dX0_plays_131 : decode cX0_plays 131 = .ok (.getfield 73, 3) := dk_180 0 73 (dk_at dksX0_plays_5 13 rfl rfl)
theorem dX0_plays_134 : decode cX0_plays 134 = .ok (.ior, 1) := dk_128 (dk_at dksX0_plays_5 16 rfl rfl)
theorem dX0_plays_135 : decode cX0_plays 135 = .ok (.putfield 66, 3) := dk_181 0 66 (dk_at dksX0_plays_5 17 rfl rfl)
theorem dX0_plays_138 : decode cX0_plays 138 = .ok (.aload_n 0, 1) := dk_42 (dk_at dksX0_plays_5 20 rfl rfl)
theorem dX0_plays_139 : decode cX0_plays 139 = .ok (.iconst 0, 1) := dk_3 (dk_at dksX0_plays_5 21 rfl rfl)
theorem dX0_plays_140 : decode cX0_plays 140 = .ok (.putfield 73, 3) := dk_181 0 73 (dk_at dksX0_plays_6 0 rfl rfl)
theorem dX0_plays_143 : decode cX0_plays 143 = .ok (.aload_n 0, 1) := dk_42 (dk_at dksX0_plays_6 3 rfl rfl)
theorem dX0_plays_144 : decode cX0_plays 144 = .ok (.getfield 51, 3) := dk_180 0 51 (dk_at dksX0_plays_6 4 rfl rfl)
theorem dX0_plays_147 : decode cX0_plays 147 = .ok (.iload_n 3, 1) := dk_29 (dk_at dksX0_plays_6 7 rfl rfl)
theorem dX0_plays_148 : decode cX0_plays 148 = .ok (.aaload, 1) := dk_50 (dk_at dksX0_plays_6 8 rfl rfl)
theorem dX0_plays_149 : decode cX0_plays 149 = .ok (.sipush 999, 3) := dk_17 3 231 (dk_at dksX0_plays_6 9 rfl rfl)
theorem dX0_plays_152 : decode cX0_plays 152 = .ok (.aload_n 0, 1) := dk_42 (dk_at dksX0_plays_6 12 rfl rfl)
theorem dX0_plays_153 : decode cX0_plays 153 = .ok (.getfield 51, 3) := dk_180 0 51 (dk_at dksX0_plays_6 13 rfl rfl)
theorem dX0_plays_156 : decode cX0_plays 156 = .ok (.iload_n 3, 1) := dk_29 (dk_at dksX0_plays_6 16 rfl rfl)
theorem dX0_plays_157 : decode cX0_plays 157 = .ok (.aaload, 1) := dk_50 (dk_at dksX0_plays_6 17 rfl rfl)
theorem dX0_plays_158 : decode cX0_plays 158 = .ok (.getfield 104, 3) := dk_180 0 104 (dk_at dksX0_plays_6 18 rfl rfl)
theorem dX0_plays_161 : decode cX0_plays 161 = .ok (.iconst 1, 1) := dk_4 (dk_at dksX0_plays_6 21 rfl rfl)
theorem dX0_plays_162 : decode cX0_plays 162 = .ok (.iadd, 1) := dk_96 (dk_at dksX0_plays_6 22 rfl rfl)
theorem dX0_plays_163 : decode cX0_plays 163 = .ok (.invokestatic 1, 3) := dk_184 0 1 (dk_at dksX0_plays_7 0 rfl rfl)
theorem dX0_plays_166 : decode cX0_plays 166 = .ok (.putfield 104, 3) := dk_181 0 104 (dk_at dksX0_plays_7 3 rfl rfl)
theorem dX0_plays_169 : decode cX0_plays 169 = .ok (.aload_n 0, 1) := dk_42 (dk_at dksX0_plays_7 6 rfl rfl)
theorem dX0_plays_170 : decode cX0_plays 170 = .ok (.getfield 51, 3) := dk_180 0 51 (dk_at dksX0_plays_7 7 rfl rfl)
theorem dX0_plays_173 : decode cX0_plays 173 = .ok (.iload_n 1, 1) := dk_27 (dk_at dksX0_plays_7 10 rfl rfl)
theorem dX0_plays_174 : decode cX0_plays 174 = .ok (.aaload, 1) := dk_50 (dk_at dksX0_plays_7 11 rfl rfl)
theorem dX0_plays_175 : decode cX0_plays 175 = .ok (.aload_n 0, 1) := dk_42 (dk_at dksX0_plays_7 12 rfl rfl)
theorem dX0_plays_176 : decode cX0_plays 176 = .ok (.getfield 51, 3) := dk_180 0 51 (dk_at dksX0_plays_7 13 rfl rfl)
theorem dX0_plays_179 : decode cX0_plays 179 = .ok (.iload_n 1, 1) := dk_27 (dk_at dksX0_plays_7 16 rfl rfl)
theorem dX0_plays_180 : decode cX0_plays 180 = .ok (.aaload, 1) := dk_50 (dk_at dksX0_plays_7 17 rfl rfl)
theorem dX0_plays_181 : decode cX0_plays 181 = .ok (.getfield 86, 3) := dk_180 0 86 (dk_at dksX0_plays_7 18 rfl rfl)
theorem dX0_plays_184 : decode cX0_plays 184 = .ok (.iload 4, 2) := dk_21 4 (dk_at dksX0_plays_7 21 rfl rfl)
theorem dX0_plays_186 : decode cX0_plays 186 = .ok (.isub, 1) := dk_100 (dk_at dksX0_plays_7 23 rfl rfl)
theorem dX0_plays_187 : decode cX0_plays 187 = .ok (.iconst 0, 1) := dk_3 (dk_at dksX0_plays_8 0 rfl rfl)
theorem dX0_plays_188 : decode cX0_plays 188 = .ok (.bipush 99, 2) := dk_16 99 (dk_at dksX0_plays_8 1 rfl rfl)
theorem dX0_plays_190 : decode cX0_plays 190 = .ok (.invokestatic 351, 3) := dk_184 1 95 (dk_at dksX0_plays_8 3 rfl rfl)
theorem dX0_plays_193 : decode cX0_plays 193 = .ok (.putfield 86, 3) := dk_181 0 86 (dk_at dksX0_plays_8 6 rfl rfl)
theorem dX0_plays_196 : decode cX0_plays 196 = .ok (.aload_n 0, 1) := dk_42 (dk_at dksX0_plays_8 9 rfl rfl)
theorem dX0_plays_197 : decode cX0_plays 197 = .ok (.getfield 51, 3) := dk_180 0 51 (dk_at dksX0_plays_8 10 rfl rfl)
theorem dX0_plays_200 : decode cX0_plays 200 = .ok (.iload_n 2, 1) := dk_28 (dk_at dksX0_plays_8 13 rfl rfl)
theorem dX0_plays_201 : decode cX0_plays 201 = .ok (.aaload, 1) := dk_50 (dk_at dksX0_plays_8 14 rfl rfl)
theorem dX0_plays_202 : decode cX0_plays 202 = .ok (.aload_n 0, 1) := dk_42 (dk_at dksX0_plays_8 15 rfl rfl)
theorem dX0_plays_203 : decode cX0_plays 203 = .ok (.getfield 51, 3) := dk_180 0 51 (dk_at dksX0_plays_8 16 rfl rfl)
theorem dX0_plays_206 : decode cX0_plays 206 = .ok (.iload_n 2, 1) := dk_28 (dk_at dksX0_plays_8 19 rfl rfl)
theorem dX0_plays_207 : decode cX0_plays 207 = .ok (.aaload, 1) := dk_50 (dk_at dksX0_plays_8 20 rfl rfl)
theorem dX0_plays_208 : decode cX0_plays 208 = .ok (.getfield 86, 3) := dk_180 0 86 (dk_at dksX0_plays_8 21 rfl rfl)
theorem dX0_plays_211 : decode cX0_plays 211 = .ok (.iload 5, 2) := dk_21 5 (dk_at dksX0_plays_9 0 rfl rfl)
theorem dX0_plays_213 : decode cX0_plays 213 = .ok (.isub, 1) := dk_100 (dk_at dksX0_plays_9 2 rfl rfl)
theorem dX0_plays_214 : decode cX0_plays 214 = .ok (.iconst 0, 1) := dk_3 (dk_at dksX0_plays_9 3 rfl rfl)
theorem dX0_plays_215 : decode cX0_plays 215 = .ok (.bipush 99, 2) := dk_16 99 (dk_at dksX0_plays_9 4 rfl rfl)
theorem dX0_plays_217 : decode cX0_plays 217 = .ok (.invokestatic 351, 3) := dk_184 1 95 (dk_at dksX0_plays_9 6 rfl rfl)
theorem dX0_plays_220 : decode cX0_plays 220 = .ok (.putfield 86, 3) := dk_181 0 86 (dk_at dksX0_plays_9 9 rfl rfl)
theorem dX0_plays_223 : decode cX0_plays 223 = .ok (.aload_n 0, 1) := dk_42 (dk_at dksX0_plays_9 12 rfl rfl)
theorem dX0_plays_224 : decode cX0_plays 224 = .ok (.dup, 1) := dk_89 (dk_at dksX0_plays_9 13 rfl rfl)
theorem dX0_plays_225 : decode cX0_plays 225 = .ok (.getfield 76, 3) := dk_180 0 76 (dk_at dksX0_plays_9 14 rfl rfl)
theorem dX0_plays_228 : decode cX0_plays 228 = .ok (.iconst 1, 1) := dk_4 (dk_at dksX0_plays_9 17 rfl rfl)
theorem dX0_plays_229 : decode cX0_plays 229 = .ok (.iadd, 1) := dk_96 (dk_at dksX0_plays_9 18 rfl rfl)
theorem dX0_plays_230 : decode cX0_plays 230 = .ok (.putfield 76, 3) := dk_181 0 76 (dk_at dksX0_plays_9 19 rfl rfl)
theorem dX0_plays_233 : decode cX0_plays 233 = .ok (.iload_n 3, 1) := dk_29 (dk_at dksX0_plays_9 22 rfl rfl)
theorem dX0_plays_234 : decode cX0_plays 234 = .ok (.ireturn, 1) := dk_172 (dk_at dksX0_plays_9 23 rfl rfl)
abbrev cX0_laysBack : ByteArray := prog_1_method_46_code
def yX0_laysBack : MethodName := ⟨RX0, "laysBack", "(I)V"⟩
def dkwX0_laysBack_3 : List UInt8 := [27, 46, 181, 0, 73, 42, 42, 180, 1, 50, 27, 46, 181, 0, 76, 177]
abbrev dktX0_laysBack_3 : List UInt8 := dkwX0_laysBack_3 ++ []
def dkwX0_laysBack_2 : List UInt8 := [28, 50, 42, 180, 1, 43, 27, 50, 28, 46, 181, 0, 104, 132, 2, 1, 167, 255, 194, 42, 42, 180, 1, 46]
abbrev dktX0_laysBack_2 : List UInt8 := dkwX0_laysBack_2 ++ dktX0_laysBack_3
def dkwX0_laysBack_1 : List UInt8 := [181, 0, 66, 42, 180, 0, 51, 28, 50, 42, 180, 1, 40, 27, 50, 28, 46, 181, 0, 86, 42, 180, 0, 51]
abbrev dktX0_laysBack_1 : List UInt8 := dkwX0_laysBack_1 ++ dktX0_laysBack_2
def dkwX0_laysBack_0 : List UInt8 := [3, 61, 28, 42, 180, 0, 10, 162, 0, 60, 42, 180, 0, 51, 28, 50, 42, 180, 1, 37, 27, 50, 28, 46]
abbrev dktX0_laysBack_0 : List UInt8 := dkwX0_laysBack_0 ++ dktX0_laysBack_1
theorem dksX0_laysBack_0 : cX0_laysBack.data.toList.drop 0 = dktX0_laysBack_0 := by decide +kernel
theorem dksX0_laysBack_1 : cX0_laysBack.data.toList.drop 24 = dktX0_laysBack_1 := dk_seg dksX0_laysBack_0 24 rfl rfl
theorem dksX0_laysBack_2 : cX0_laysBack.data.toList.drop 48 = dktX0_laysBack_2 := dk_seg dksX0_laysBack_1 24 rfl rfl
theorem dksX0_laysBack_3 : cX0_laysBack.data.toList.drop 72 = dktX0_laysBack_3 := dk_seg dksX0_laysBack_2 24 rfl rfl
theorem dX0_laysBack_0 : decode cX0_laysBack 0 = .ok (.iconst 0, 1) := dk_3 (dk_at dksX0_laysBack_0 0 rfl rfl)
theorem dX0_laysBack_1 : decode cX0_laysBack 1 = .ok (.istore_n 2, 1) := dk_61 (dk_at dksX0_laysBack_0 1 rfl rfl)
theorem dX0_laysBack_2 : decode cX0_laysBack 2 = .ok (.iload_n 2, 1) := dk_28 (dk_at dksX0_laysBack_0 2 rfl rfl)
theorem dX0_laysBack_3 : decode cX0_laysBack 3 = .ok (.aload_n 0, 1) := dk_42 (dk_at dksX0_laysBack_0 3 rfl rfl)
theorem dX0_laysBack_4 : decode cX0_laysBack 4 = .ok (.getfield 10, 3) := dk_180 0 10 (dk_at dksX0_laysBack_0 4 rfl rfl)
theorem dX0_laysBack_7 : decode cX0_laysBack 7 = .ok (.if_icmp .ge 60, 3) := dk_162 0 60 (dk_at dksX0_laysBack_0 7 rfl rfl)
theorem dX0_laysBack_10 : decode cX0_laysBack 10 = .ok (.aload_n 0, 1) := dk_42 (dk_at dksX0_laysBack_0 10 rfl rfl)
theorem dX0_laysBack_11 : decode cX0_laysBack 11 = .ok (.getfield 51, 3) := dk_180 0 51 (dk_at dksX0_laysBack_0 11 rfl rfl)
theorem dX0_laysBack_14 : decode cX0_laysBack 14 = .ok (.iload_n 2, 1) := dk_28 (dk_at dksX0_laysBack_0 14 rfl rfl)
theorem dX0_laysBack_15 : decode cX0_laysBack 15 = .ok (.aaload, 1) := dk_50 (dk_at dksX0_laysBack_0 15 rfl rfl)
theorem dX0_laysBack_16 : decode cX0_laysBack 16 = .ok (.aload_n 0, 1) := dk_42 (dk_at dksX0_laysBack_0 16 rfl rfl)
theorem dX0_laysBack_17 : decode cX0_laysBack 17 = .ok (.getfield 293, 3) := dk_180 1 37 (dk_at dksX0_laysBack_0 17 rfl rfl)
theorem dX0_laysBack_20 : decode cX0_laysBack 20 = .ok (.iload_n 1, 1) := dk_27 (dk_at dksX0_laysBack_0 20 rfl rfl)
theorem dX0_laysBack_21 : decode cX0_laysBack 21 = .ok (.aaload, 1) := dk_50 (dk_at dksX0_laysBack_0 21 rfl rfl)
theorem dX0_laysBack_22 : decode cX0_laysBack 22 = .ok (.iload_n 2, 1) := dk_28 (dk_at dksX0_laysBack_0 22 rfl rfl)
theorem dX0_laysBack_23 : decode cX0_laysBack 23 = .ok (.iaload, 1) := dk_46 (dk_at dksX0_laysBack_0 23 rfl rfl)
theorem dX0_laysBack_24 : decode cX0_laysBack 24 = .ok (.putfield 66, 3) := dk_181 0 66 (dk_at dksX0_laysBack_1 0 rfl rfl)
theorem dX0_laysBack_27 : decode cX0_laysBack 27 = .ok (.aload_n 0, 1) := dk_42 (dk_at dksX0_laysBack_1 3 rfl rfl)
theorem dX0_laysBack_28 : decode cX0_laysBack 28 = .ok (.getfield 51, 3) := dk_180 0 51 (dk_at dksX0_laysBack_1 4 rfl rfl)
theorem dX0_laysBack_31 : decode cX0_laysBack 31 = .ok (.iload_n 2, 1) := dk_28 (dk_at dksX0_laysBack_1 7 rfl rfl)
theorem dX0_laysBack_32 : decode cX0_laysBack 32 = .ok (.aaload, 1) := dk_50 (dk_at dksX0_laysBack_1 8 rfl rfl)
theorem dX0_laysBack_33 : decode cX0_laysBack 33 = .ok (.aload_n 0, 1) := dk_42 (dk_at dksX0_laysBack_1 9 rfl rfl)
theorem dX0_laysBack_34 : decode cX0_laysBack 34 = .ok (.getfield 296, 3) := dk_180 1 40 (dk_at dksX0_laysBack_1 10 rfl rfl)
theorem dX0_laysBack_37 : decode cX0_laysBack 37 = .ok (.iload_n 1, 1) := dk_27 (dk_at dksX0_laysBack_1 13 rfl rfl)
theorem dX0_laysBack_38 : decode cX0_laysBack 38 = .ok (.aaload, 1) := dk_50 (dk_at dksX0_laysBack_1 14 rfl rfl)
theorem dX0_laysBack_39 : decode cX0_laysBack 39 = .ok (.iload_n 2, 1) := dk_28 (dk_at dksX0_laysBack_1 15 rfl rfl)
theorem dX0_laysBack_40 : decode cX0_laysBack 40 = .ok (.iaload, 1) := dk_46 (dk_at dksX0_laysBack_1 16 rfl rfl)
theorem dX0_laysBack_41 : decode cX0_laysBack 41 = .ok (.putfield 86, 3) := dk_181 0 86 (dk_at dksX0_laysBack_1 17 rfl rfl)
theorem dX0_laysBack_44 : decode cX0_laysBack 44 = .ok (.aload_n 0, 1) := dk_42 (dk_at dksX0_laysBack_1 20 rfl rfl)
theorem dX0_laysBack_45 : decode cX0_laysBack 45 = .ok (.getfield 51, 3) := dk_180 0 51 (dk_at dksX0_laysBack_1 21 rfl rfl)
theorem dX0_laysBack_48 : decode cX0_laysBack 48 = .ok (.iload_n 2, 1) := dk_28 (dk_at dksX0_laysBack_2 0 rfl rfl)
theorem dX0_laysBack_49 : decode cX0_laysBack 49 = .ok (.aaload, 1) := dk_50 (dk_at dksX0_laysBack_2 1 rfl rfl)
theorem dX0_laysBack_50 : decode cX0_laysBack 50 = .ok (.aload_n 0, 1) := dk_42 (dk_at dksX0_laysBack_2 2 rfl rfl)
theorem dX0_laysBack_51 : decode cX0_laysBack 51 = .ok (.getfield 299, 3) := dk_180 1 43 (dk_at dksX0_laysBack_2 3 rfl rfl)
theorem dX0_laysBack_54 : decode cX0_laysBack 54 = .ok (.iload_n 1, 1) := dk_27 (dk_at dksX0_laysBack_2 6 rfl rfl)
theorem dX0_laysBack_55 : decode cX0_laysBack 55 = .ok (.aaload, 1) := dk_50 (dk_at dksX0_laysBack_2 7 rfl rfl)
theorem dX0_laysBack_56 : decode cX0_laysBack 56 = .ok (.iload_n 2, 1) := dk_28 (dk_at dksX0_laysBack_2 8 rfl rfl)
theorem dX0_laysBack_57 : decode cX0_laysBack 57 = .ok (.iaload, 1) := dk_46 (dk_at dksX0_laysBack_2 9 rfl rfl)
theorem dX0_laysBack_58 : decode cX0_laysBack 58 = .ok (.putfield 104, 3) := dk_181 0 104 (dk_at dksX0_laysBack_2 10 rfl rfl)
theorem dX0_laysBack_61 : decode cX0_laysBack 61 = .ok (.iinc 2 1, 3) := dk_132 2 1 (dk_at dksX0_laysBack_2 13 rfl rfl)
theorem dX0_laysBack_64 : decode cX0_laysBack 64 = .ok (.goto (-62), 3) := dk_167 255 194 (dk_at dksX0_laysBack_2 16 rfl rfl)
theorem dX0_laysBack_67 : decode cX0_laysBack 67 = .ok (.aload_n 0, 1) := dk_42 (dk_at dksX0_laysBack_2 19 rfl rfl)
theorem dX0_laysBack_68 : decode cX0_laysBack 68 = .ok (.aload_n 0, 1) := dk_42 (dk_at dksX0_laysBack_2 20 rfl rfl)
theorem dX0_laysBack_69 : decode cX0_laysBack 69 = .ok (.getfield 302, 3) := dk_180 1 46 (dk_at dksX0_laysBack_2 21 rfl rfl)
theorem dX0_laysBack_72 : decode cX0_laysBack 72 = .ok (.iload_n 1, 1) := dk_27 (dk_at dksX0_laysBack_3 0 rfl rfl)
theorem dX0_laysBack_73 : decode cX0_laysBack 73 = .ok (.iaload, 1) := dk_46 (dk_at dksX0_laysBack_3 1 rfl rfl)
theorem dX0_laysBack_74 : decode cX0_laysBack 74 = .ok (.putfield 73, 3) := dk_181 0 73 (dk_at dksX0_laysBack_3 2 rfl rfl)
theorem dX0_laysBack_77 : decode cX0_laysBack 77 = .ok (.aload_n 0, 1) := dk_42 (dk_at dksX0_laysBack_3 5 rfl rfl)
theorem dX0_laysBack_78 : decode cX0_laysBack 78 = .ok (.aload_n 0, 1) := dk_42 (dk_at dksX0_laysBack_3 6 rfl rfl)
theorem dX0_laysBack_79 : decode cX0_laysBack 79 = .ok (.getfield 306, 3) := dk_180 1 50 (dk_at dksX0_laysBack_3 7 rfl rfl)
theorem dX0_laysBack_82 : decode cX0_laysBack 82 = .ok (.iload_n 1, 1) := dk_27 (dk_at dksX0_laysBack_3 10 rfl rfl)
theorem dX0_laysBack_83 : decode cX0_laysBack 83 = .ok (.iaload, 1) := dk_46 (dk_at dksX0_laysBack_3 11 rfl rfl)
theorem dX0_laysBack_84 : decode cX0_laysBack 84 = .ok (.putfield 76, 3) := dk_181 0 76 (dk_at dksX0_laysBack_3 12 rfl rfl)
theorem dX0_laysBack_87 : decode cX0_laysBack 87 = .ok (.return_, 1) := dk_177 (dk_at dksX0_laysBack_3 15 rfl rfl)
abbrev cX0_game : ByteArray := prog_1_method_49_code
def yX0_game : MethodName := ⟨RX0, "game", "(II)I"⟩
def dkwX0_game_1 : List UInt8 := [167, 0, 9, 42, 27, 28, 182, 1, 119, 172]
abbrev dktX0_game_1 : List UInt8 := dkwX0_game_1 ++ []
def dkwX0_game_0 : List UInt8 := [42, 27, 28, 182, 1, 123, 154, 0, 6, 16, 254, 172, 42, 180, 0, 76, 17, 3, 231, 160, 0, 8, 16, 253]
abbrev dktX0_game_0 : List UInt8 := dkwX0_game_0 ++ dktX0_game_1
theorem dksX0_game_0 : cX0_game.data.toList.drop 0 = dktX0_game_0 := by decide +kernel
theorem dksX0_game_1 : cX0_game.data.toList.drop 24 = dktX0_game_1 := dk_seg dksX0_game_0 24 rfl rfl
theorem dX0_game_0 : decode cX0_game 0 = .ok (.aload_n 0, 1) := dk_42 (dk_at dksX0_game_0 0 rfl rfl)
theorem dX0_game_1 : decode cX0_game 1 = .ok (.iload_n 1, 1) := dk_27 (dk_at dksX0_game_0 1 rfl rfl)
theorem dX0_game_2 : decode cX0_game 2 = .ok (.iload_n 2, 1) := dk_28 (dk_at dksX0_game_0 2 rfl rfl)
theorem dX0_game_3 : decode cX0_game 3 = .ok (.invokevirtual 379, 3) := dk_182 1 123 (dk_at dksX0_game_0 3 rfl rfl)
theorem dX0_game_6 : decode cX0_game 6 = .ok (.ifCond .ne 6, 3) := dk_154 0 6 (dk_at dksX0_game_0 6 rfl rfl)
theorem dX0_game_9 : decode cX0_game 9 = .ok (.bipush (-2), 2) := dk_16 254 (dk_at dksX0_game_0 9 rfl rfl)
theorem dX0_game_11 : decode cX0_game 11 = .ok (.ireturn, 1) := dk_172 (dk_at dksX0_game_0 11 rfl rfl)
theorem dX0_game_12 : decode cX0_game 12 = .ok (.aload_n 0, 1) := dk_42 (dk_at dksX0_game_0 12 rfl rfl)
theorem dX0_game_13 : decode cX0_game 13 = .ok (.getfield 76, 3) := dk_180 0 76 (dk_at dksX0_game_0 13 rfl rfl)
theorem dX0_game_16 : decode cX0_game 16 = .ok (.sipush 999, 3) := dk_17 3 231 (dk_at dksX0_game_0 16 rfl rfl)
theorem dX0_game_19 : decode cX0_game 19 = .ok (.if_icmp .ne 8, 3) := dk_160 0 8 (dk_at dksX0_game_0 19 rfl rfl)
theorem dX0_game_22 : decode cX0_game 22 = .ok (.bipush (-3), 2) := dk_16 253 (dk_at dksX0_game_0 22 rfl rfl)
theorem dX0_game_24 : decode cX0_game 24 = .ok (.goto 9, 3) := dk_167 0 9 (dk_at dksX0_game_1 0 rfl rfl)
theorem dX0_game_27 : decode cX0_game 27 = .ok (.aload_n 0, 1) := dk_42 (dk_at dksX0_game_1 3 rfl rfl)
theorem dX0_game_28 : decode cX0_game 28 = .ok (.iload_n 1, 1) := dk_27 (dk_at dksX0_game_1 4 rfl rfl)
theorem dX0_game_29 : decode cX0_game 29 = .ok (.iload_n 2, 1) := dk_28 (dk_at dksX0_game_1 5 rfl rfl)
theorem dX0_game_30 : decode cX0_game 30 = .ok (.invokevirtual 375, 3) := dk_182 1 119 (dk_at dksX0_game_1 6 rfl rfl)
theorem dX0_game_33 : decode cX0_game 33 = .ok (.ireturn, 1) := dk_172 (dk_at dksX0_game_1 9 rfl rfl)
abbrev cX0_evening : ByteArray := prog_1_method_54_code
def yX0_evening : MethodName := ⟨RX0, "evening", "(II)I"⟩
def dkwX0_evening_4 : List UInt8 := [191]
abbrev dktX0_evening_4 : List UInt8 := dkwX0_evening_4 ++ []
def dkwX0_evening_3 : List UInt8 := [42, 28, 182, 1, 170, 54, 4, 42, 3, 182, 1, 120, 21, 4, 172, 58, 5, 42, 3, 182, 1, 120, 25, 5]
abbrev dktX0_evening_3 : List UInt8 := dkwX0_evening_3 ++ dktX0_evening_4
def dkwX0_evening_2 : List UInt8 := [16, 245, 172, 42, 45, 182, 1, 162, 154, 0, 6, 16, 254, 172, 42, 3, 182, 1, 116, 42, 45, 182, 1, 166]
abbrev dktX0_evening_2 : List UInt8 := dkwX0_evening_2 ++ dktX0_evening_3
def dkwX0_evening_1 : List UInt8 := [182, 0, 20, 154, 0, 6, 16, 254, 172, 42, 180, 1, 62, 27, 50, 180, 1, 158, 78, 45, 199, 0, 6]
abbrev dktX0_evening_1 : List UInt8 := dkwX0_evening_1 ++ dktX0_evening_2
def dkwX0_evening_0 : List UInt8 := [27, 184, 1, 151, 153, 0, 25, 28, 133, 20, 1, 154, 20, 1, 156, 184, 0, 16, 154, 0, 14, 42, 28]
abbrev dktX0_evening_0 : List UInt8 := dkwX0_evening_0 ++ dktX0_evening_1
theorem dksX0_evening_0 : cX0_evening.data.toList.drop 0 = dktX0_evening_0 := by decide +kernel
theorem dksX0_evening_1 : cX0_evening.data.toList.drop 23 = dktX0_evening_1 := dk_seg dksX0_evening_0 23 rfl rfl
theorem dksX0_evening_2 : cX0_evening.data.toList.drop 46 = dktX0_evening_2 := dk_seg dksX0_evening_1 23 rfl rfl
theorem dksX0_evening_3 : cX0_evening.data.toList.drop 70 = dktX0_evening_3 := dk_seg dksX0_evening_2 24 rfl rfl
theorem dksX0_evening_4 : cX0_evening.data.toList.drop 94 = dktX0_evening_4 := dk_seg dksX0_evening_3 24 rfl rfl
theorem dX0_evening_0 : decode cX0_evening 0 = .ok (.iload_n 1, 1) := dk_27 (dk_at dksX0_evening_0 0 rfl rfl)
theorem dX0_evening_1 : decode cX0_evening 1 = .ok (.invokestatic 407, 3) := dk_184 1 151 (dk_at dksX0_evening_0 1 rfl rfl)
theorem dX0_evening_4 : decode cX0_evening 4 = .ok (.ifCond .eq 25, 3) := dk_153 0 25 (dk_at dksX0_evening_0 4 rfl rfl)
theorem dX0_evening_7 : decode cX0_evening 7 = .ok (.iload_n 2, 1) := dk_28 (dk_at dksX0_evening_0 7 rfl rfl)
theorem dX0_evening_8 : decode cX0_evening 8 = .ok (.i2l, 1) := dk_133 (dk_at dksX0_evening_0 8 rfl rfl)
theorem dX0_evening_9 : decode cX0_evening 9 = .ok (.ldc2_w 410, 3) := dk_20 1 154 (dk_at dksX0_evening_0 9 rfl rfl)
theorem dX0_evening_12 : decode cX0_evening 12 = .ok (.ldc2_w 412, 3) := dk_20 1 156 (dk_at dksX0_evening_0 12 rfl rfl)
theorem dX0_evening_15 : decode cX0_evening 15 = .ok (.invokestatic 16, 3) := dk_184 0 16 (dk_at dksX0_evening_0 15 rfl rfl)
theorem dX0_evening_18 : decode cX0_evening 18 = .ok (.ifCond .ne 14, 3) := dk_154 0 14 (dk_at dksX0_evening_0 18 rfl rfl)
theorem dX0_evening_21 : decode cX0_evening 21 = .ok (.aload_n 0, 1) := dk_42 (dk_at dksX0_evening_0 21 rfl rfl)
theorem dX0_evening_22 : decode cX0_evening 22 = .ok (.iload_n 2, 1) := dk_28 (dk_at dksX0_evening_0 22 rfl rfl)
theorem dX0_evening_23 : decode cX0_evening 23 = .ok (.invokevirtual 20, 3) := dk_182 0 20 (dk_at dksX0_evening_1 0 rfl rfl)
theorem dX0_evening_26 : decode cX0_evening 26 = .ok (.ifCond .ne 6, 3) := dk_154 0 6 (dk_at dksX0_evening_1 3 rfl rfl)
theorem dX0_evening_29 : decode cX0_evening 29 = .ok (.bipush (-2), 2) := dk_16 254 (dk_at dksX0_evening_1 6 rfl rfl)
theorem dX0_evening_31 : decode cX0_evening 31 = .ok (.ireturn, 1) := dk_172 (dk_at dksX0_evening_1 8 rfl rfl)
theorem dX0_evening_32 : decode cX0_evening 32 = .ok (.aload_n 0, 1) := dk_42 (dk_at dksX0_evening_1 9 rfl rfl)
theorem dX0_evening_33 : decode cX0_evening 33 = .ok (.getfield 318, 3) := dk_180 1 62 (dk_at dksX0_evening_1 10 rfl rfl)
theorem dX0_evening_36 : decode cX0_evening 36 = .ok (.iload_n 1, 1) := dk_27 (dk_at dksX0_evening_1 13 rfl rfl)
theorem dX0_evening_37 : decode cX0_evening 37 = .ok (.aaload, 1) := dk_50 (dk_at dksX0_evening_1 14 rfl rfl)
theorem dX0_evening_38 : decode cX0_evening 38 = .ok (.getfield 414, 3) := dk_180 1 158 (dk_at dksX0_evening_1 15 rfl rfl)
theorem dX0_evening_41 : decode cX0_evening 41 = .ok (.astore_n 3, 1) := dk_78 (dk_at dksX0_evening_1 18 rfl rfl)
theorem dX0_evening_42 : decode cX0_evening 42 = .ok (.aload_n 3, 1) := dk_45 (dk_at dksX0_evening_1 19 rfl rfl)
theorem dX0_evening_43 : decode cX0_evening 43 = .ok (.ifnonnull 6, 3) := dk_199 0 6 (dk_at dksX0_evening_1 20 rfl rfl)
theorem dX0_evening_46 : decode cX0_evening 46 = .ok (.bipush (-11), 2) := dk_16 245 (dk_at dksX0_evening_2 0 rfl rfl)
theorem dX0_evening_48 : decode cX0_evening 48 = .ok (.ireturn, 1) := dk_172 (dk_at dksX0_evening_2 2 rfl rfl)
theorem dX0_evening_49 : decode cX0_evening 49 = .ok (.aload_n 0, 1) := dk_42 (dk_at dksX0_evening_2 3 rfl rfl)
theorem dX0_evening_50 : decode cX0_evening 50 = .ok (.aload_n 3, 1) := dk_45 (dk_at dksX0_evening_2 4 rfl rfl)
theorem dX0_evening_51 : decode cX0_evening 51 = .ok (.invokevirtual 418, 3) := dk_182 1 162 (dk_at dksX0_evening_2 5 rfl rfl)
theorem dX0_evening_54 : decode cX0_evening 54 = .ok (.ifCond .ne 6, 3) := dk_154 0 6 (dk_at dksX0_evening_2 8 rfl rfl)
theorem dX0_evening_57 : decode cX0_evening 57 = .ok (.bipush (-2), 2) := dk_16 254 (dk_at dksX0_evening_2 11 rfl rfl)
theorem dX0_evening_59 : decode cX0_evening 59 = .ok (.ireturn, 1) := dk_172 (dk_at dksX0_evening_2 13 rfl rfl)
theorem dX0_evening_60 : decode cX0_evening 60 = .ok (.aload_n 0, 1) := dk_42 (dk_at dksX0_evening_2 14 rfl rfl)
theorem dX0_evening_61 : decode cX0_evening 61 = .ok (.iconst 0, 1) := dk_3 (dk_at dksX0_evening_2 15 rfl rfl)
theorem dX0_evening_62 : decode cX0_evening 62 = .ok (.invokevirtual 372, 3) := dk_182 1 116 (dk_at dksX0_evening_2 16 rfl rfl)
theorem dX0_evening_65 : decode cX0_evening 65 = .ok (.aload_n 0, 1) := dk_42 (dk_at dksX0_evening_2 19 rfl rfl)
theorem dX0_evening_66 : decode cX0_evening 66 = .ok (.aload_n 3, 1) := dk_45 (dk_at dksX0_evening_2 20 rfl rfl)
theorem dX0_evening_67 : decode cX0_evening 67 = .ok (.invokevirtual 422, 3) := dk_182 1 166 (dk_at dksX0_evening_2 21 rfl rfl)
theorem dX0_evening_70 : decode cX0_evening 70 = .ok (.aload_n 0, 1) := dk_42 (dk_at dksX0_evening_3 0 rfl rfl)
theorem dX0_evening_71 : decode cX0_evening 71 = .ok (.iload_n 2, 1) := dk_28 (dk_at dksX0_evening_3 1 rfl rfl)
theorem dX0_evening_72 : decode cX0_evening 72 = .ok (.invokevirtual 426, 3) := dk_182 1 170 (dk_at dksX0_evening_3 2 rfl rfl)
theorem dX0_evening_75 : decode cX0_evening 75 = .ok (.istore 4, 2) := dk_54 4 (dk_at dksX0_evening_3 5 rfl rfl)
theorem dX0_evening_77 : decode cX0_evening 77 = .ok (.aload_n 0, 1) := dk_42 (dk_at dksX0_evening_3 7 rfl rfl)
theorem dX0_evening_78 : decode cX0_evening 78 = .ok (.iconst 0, 1) := dk_3 (dk_at dksX0_evening_3 8 rfl rfl)
theorem dX0_evening_79 : decode cX0_evening 79 = .ok (.invokevirtual 376, 3) := dk_182 1 120 (dk_at dksX0_evening_3 9 rfl rfl)
theorem dX0_evening_82 : decode cX0_evening 82 = .ok (.iload 4, 2) := dk_21 4 (dk_at dksX0_evening_3 12 rfl rfl)
theorem dX0_evening_84 : decode cX0_evening 84 = .ok (.ireturn, 1) := dk_172 (dk_at dksX0_evening_3 14 rfl rfl)
theorem dX0_evening_85 : decode cX0_evening 85 = .ok (.astore 5, 2) := dk_58 5 (dk_at dksX0_evening_3 15 rfl rfl)
theorem dX0_evening_87 : decode cX0_evening 87 = .ok (.aload_n 0, 1) := dk_42 (dk_at dksX0_evening_3 17 rfl rfl)
theorem dX0_evening_88 : decode cX0_evening 88 = .ok (.iconst 0, 1) := dk_3 (dk_at dksX0_evening_3 18 rfl rfl)
theorem dX0_evening_89 : decode cX0_evening 89 = .ok (.invokevirtual 376, 3) := dk_182 1 120 (dk_at dksX0_evening_3 19 rfl rfl)
theorem dX0_evening_92 : decode cX0_evening 92 = .ok (.aload 5, 2) := dk_25 5 (dk_at dksX0_evening_3 22 rfl rfl)
theorem dX0_evening_94 : decode cX0_evening 94 = .ok (.athrow, 1) := dk_191 (dk_at dksX0_evening_4 0 rfl rfl)
abbrev cX0_isSheet : ByteArray := prog_1_method_84_code
def yX0_isSheet : MethodName := ⟨RX0, "isSheet", "(I)Z"⟩
def dkwX0_isSheet_0 : List UInt8 := [26, 133, 9, 20, 1, 204, 184, 0, 16, 172]
abbrev dktX0_isSheet_0 : List UInt8 := dkwX0_isSheet_0 ++ []
theorem dksX0_isSheet_0 : cX0_isSheet.data.toList.drop 0 = dktX0_isSheet_0 := by decide +kernel
theorem dX0_isSheet_0 : decode cX0_isSheet 0 = .ok (.iload_n 0, 1) := dk_26 (dk_at dksX0_isSheet_0 0 rfl rfl)
theorem dX0_isSheet_1 : decode cX0_isSheet 1 = .ok (.i2l, 1) := dk_133 (dk_at dksX0_isSheet_0 1 rfl rfl)
theorem dX0_isSheet_2 : decode cX0_isSheet 2 = .ok (.lconst 0, 1) := dk_9 (dk_at dksX0_isSheet_0 2 rfl rfl)
theorem dX0_isSheet_3 : decode cX0_isSheet 3 = .ok (.ldc2_w 460, 3) := dk_20 1 204 (dk_at dksX0_isSheet_0 3 rfl rfl)
theorem dX0_isSheet_6 : decode cX0_isSheet 6 = .ok (.invokestatic 16, 3) := dk_184 0 16 (dk_at dksX0_isSheet_0 6 rfl rfl)
theorem dX0_isSheet_9 : decode cX0_isSheet 9 = .ok (.ireturn, 1) := dk_172 (dk_at dksX0_isSheet_0 9 rfl rfl)
abbrev cX0_areGames : ByteArray := prog_1_method_50_code
def yX0_areGames : MethodName := ⟨RX0, "areGames", "(Ljava/lang/Object;)Z"⟩
def dkwX0_areGames_2 : List UInt8 := [154, 0, 5, 3, 172, 132, 2, 1, 167, 255, 202, 4, 172]
abbrev dktX0_areGames_2 : List UInt8 := dkwX0_areGames_2 ++ []
def dkwX0_areGames_1 : List UInt8 := [29, 133, 9, 20, 1, 141, 184, 0, 16, 153, 0, 18, 42, 29, 16, 10, 108, 29, 16, 10, 112, 182, 1, 123]
abbrev dktX0_areGames_1 : List UInt8 := dkwX0_areGames_1 ++ dktX0_areGames_2
def dkwX0_areGames_0 : List UInt8 := [3, 61, 28, 43, 43, 184, 1, 129, 184, 1, 133, 162, 0, 48, 43, 43, 184, 1, 129, 28, 184, 1, 137, 62]
abbrev dktX0_areGames_0 : List UInt8 := dkwX0_areGames_0 ++ dktX0_areGames_1
theorem dksX0_areGames_0 : cX0_areGames.data.toList.drop 0 = dktX0_areGames_0 := by decide +kernel
theorem dksX0_areGames_1 : cX0_areGames.data.toList.drop 24 = dktX0_areGames_1 := dk_seg dksX0_areGames_0 24 rfl rfl
theorem dksX0_areGames_2 : cX0_areGames.data.toList.drop 48 = dktX0_areGames_2 := dk_seg dksX0_areGames_1 24 rfl rfl
theorem dX0_areGames_0 : decode cX0_areGames 0 = .ok (.iconst 0, 1) := dk_3 (dk_at dksX0_areGames_0 0 rfl rfl)
theorem dX0_areGames_1 : decode cX0_areGames 1 = .ok (.istore_n 2, 1) := dk_61 (dk_at dksX0_areGames_0 1 rfl rfl)
theorem dX0_areGames_2 : decode cX0_areGames 2 = .ok (.iload_n 2, 1) := dk_28 (dk_at dksX0_areGames_0 2 rfl rfl)
theorem dX0_areGames_3 : decode cX0_areGames 3 = .ok (.aload_n 1, 1) := dk_43 (dk_at dksX0_areGames_0 3 rfl rfl)
theorem dX0_areGames_4 : decode cX0_areGames 4 = .ok (.aload_n 1, 1) := dk_43 (dk_at dksX0_areGames_0 4 rfl rfl)
theorem dX0_areGames_5 : decode cX0_areGames 5 = .ok (.invokestatic 385, 3) := dk_184 1 129 (dk_at dksX0_areGames_0 5 rfl rfl)
theorem dX0_areGames_8 : decode cX0_areGames 8 = .ok (.invokestatic 389, 3) := dk_184 1 133 (dk_at dksX0_areGames_0 8 rfl rfl)
theorem dX0_areGames_11 : decode cX0_areGames 11 = .ok (.if_icmp .ge 48, 3) := dk_162 0 48 (dk_at dksX0_areGames_0 11 rfl rfl)
theorem dX0_areGames_14 : decode cX0_areGames 14 = .ok (.aload_n 1, 1) := dk_43 (dk_at dksX0_areGames_0 14 rfl rfl)
theorem dX0_areGames_15 : decode cX0_areGames 15 = .ok (.aload_n 1, 1) := dk_43 (dk_at dksX0_areGames_0 15 rfl rfl)
theorem dX0_areGames_16 : decode cX0_areGames 16 = .ok (.invokestatic 385, 3) := dk_184 1 129 (dk_at dksX0_areGames_0 16 rfl rfl)
theorem dX0_areGames_19 : decode cX0_areGames 19 = .ok (.iload_n 2, 1) := dk_28 (dk_at dksX0_areGames_0 19 rfl rfl)
theorem dX0_areGames_20 : decode cX0_areGames 20 = .ok (.invokestatic 393, 3) := dk_184 1 137 (dk_at dksX0_areGames_0 20 rfl rfl)
theorem dX0_areGames_23 : decode cX0_areGames 23 = .ok (.istore_n 3, 1) := dk_62 (dk_at dksX0_areGames_0 23 rfl rfl)
theorem dX0_areGames_24 : decode cX0_areGames 24 = .ok (.iload_n 3, 1) := dk_29 (dk_at dksX0_areGames_1 0 rfl rfl)
theorem dX0_areGames_25 : decode cX0_areGames 25 = .ok (.i2l, 1) := dk_133 (dk_at dksX0_areGames_1 1 rfl rfl)
theorem dX0_areGames_26 : decode cX0_areGames 26 = .ok (.lconst 0, 1) := dk_9 (dk_at dksX0_areGames_1 2 rfl rfl)
theorem dX0_areGames_27 : decode cX0_areGames 27 = .ok (.ldc2_w 397, 3) := dk_20 1 141 (dk_at dksX0_areGames_1 3 rfl rfl)
theorem dX0_areGames_30 : decode cX0_areGames 30 = .ok (.invokestatic 16, 3) := dk_184 0 16 (dk_at dksX0_areGames_1 6 rfl rfl)
theorem dX0_areGames_33 : decode cX0_areGames 33 = .ok (.ifCond .eq 18, 3) := dk_153 0 18 (dk_at dksX0_areGames_1 9 rfl rfl)
theorem dX0_areGames_36 : decode cX0_areGames 36 = .ok (.aload_n 0, 1) := dk_42 (dk_at dksX0_areGames_1 12 rfl rfl)
theorem dX0_areGames_37 : decode cX0_areGames 37 = .ok (.iload_n 3, 1) := dk_29 (dk_at dksX0_areGames_1 13 rfl rfl)
theorem dX0_areGames_38 : decode cX0_areGames 38 = .ok (.bipush 10, 2) := dk_16 10 (dk_at dksX0_areGames_1 14 rfl rfl)
theorem dX0_areGames_40 : decode cX0_areGames 40 = .ok (.idiv, 1) := dk_108 (dk_at dksX0_areGames_1 16 rfl rfl)
theorem dX0_areGames_41 : decode cX0_areGames 41 = .ok (.iload_n 3, 1) := dk_29 (dk_at dksX0_areGames_1 17 rfl rfl)
theorem dX0_areGames_42 : decode cX0_areGames 42 = .ok (.bipush 10, 2) := dk_16 10 (dk_at dksX0_areGames_1 18 rfl rfl)
theorem dX0_areGames_44 : decode cX0_areGames 44 = .ok (.irem, 1) := dk_112 (dk_at dksX0_areGames_1 20 rfl rfl)
theorem dX0_areGames_45 : decode cX0_areGames 45 = .ok (.invokevirtual 379, 3) := dk_182 1 123 (dk_at dksX0_areGames_1 21 rfl rfl)
theorem dX0_areGames_48 : decode cX0_areGames 48 = .ok (.ifCond .ne 5, 3) := dk_154 0 5 (dk_at dksX0_areGames_2 0 rfl rfl)
theorem dX0_areGames_51 : decode cX0_areGames 51 = .ok (.iconst 0, 1) := dk_3 (dk_at dksX0_areGames_2 3 rfl rfl)
theorem dX0_areGames_52 : decode cX0_areGames 52 = .ok (.ireturn, 1) := dk_172 (dk_at dksX0_areGames_2 4 rfl rfl)
theorem dX0_areGames_53 : decode cX0_areGames 53 = .ok (.iinc 2 1, 3) := dk_132 2 1 (dk_at dksX0_areGames_2 5 rfl rfl)
theorem dX0_areGames_56 : decode cX0_areGames 56 = .ok (.goto (-54), 3) := dk_167 255 202 (dk_at dksX0_areGames_2 8 rfl rfl)
theorem dX0_areGames_59 : decode cX0_areGames 59 = .ok (.iconst 1, 1) := dk_4 (dk_at dksX0_areGames_2 11 rfl rfl)
theorem dX0_areGames_60 : decode cX0_areGames 60 = .ok (.ireturn, 1) := dk_172 (dk_at dksX0_areGames_2 12 rfl rfl)
abbrev cX0_sortOf : ByteArray := prog_1_method_92_code
def yX0_sortOf : MethodName := ⟨RX0, "sortOf", "(Ljava/lang/Object;)I"⟩
def dkwX0_sortOf_0 : List UInt8 := [42, 193, 2, 9, 153, 0, 7, 3, 167, 0, 15, 42, 193, 2, 13, 153, 0, 7, 4, 167, 0, 4, 5, 172]
abbrev dktX0_sortOf_0 : List UInt8 := dkwX0_sortOf_0 ++ []
theorem dksX0_sortOf_0 : cX0_sortOf.data.toList.drop 0 = dktX0_sortOf_0 := by decide +kernel
theorem dX0_sortOf_0 : decode cX0_sortOf 0 = .ok (.aload_n 0, 1) := dk_42 (dk_at dksX0_sortOf_0 0 rfl rfl)
theorem dX0_sortOf_1 : decode cX0_sortOf 1 = .ok (.instanceof 521, 3) := dk_193 2 9 (dk_at dksX0_sortOf_0 1 rfl rfl)
theorem dX0_sortOf_4 : decode cX0_sortOf 4 = .ok (.ifCond .eq 7, 3) := dk_153 0 7 (dk_at dksX0_sortOf_0 4 rfl rfl)
theorem dX0_sortOf_7 : decode cX0_sortOf 7 = .ok (.iconst 0, 1) := dk_3 (dk_at dksX0_sortOf_0 7 rfl rfl)
theorem dX0_sortOf_8 : decode cX0_sortOf 8 = .ok (.goto 15, 3) := dk_167 0 15 (dk_at dksX0_sortOf_0 8 rfl rfl)
theorem dX0_sortOf_11 : decode cX0_sortOf 11 = .ok (.aload_n 0, 1) := dk_42 (dk_at dksX0_sortOf_0 11 rfl rfl)
theorem dX0_sortOf_12 : decode cX0_sortOf 12 = .ok (.instanceof 525, 3) := dk_193 2 13 (dk_at dksX0_sortOf_0 12 rfl rfl)
theorem dX0_sortOf_15 : decode cX0_sortOf 15 = .ok (.ifCond .eq 7, 3) := dk_153 0 7 (dk_at dksX0_sortOf_0 15 rfl rfl)
theorem dX0_sortOf_18 : decode cX0_sortOf 18 = .ok (.iconst 1, 1) := dk_4 (dk_at dksX0_sortOf_0 18 rfl rfl)
theorem dX0_sortOf_19 : decode cX0_sortOf 19 = .ok (.goto 4, 3) := dk_167 0 4 (dk_at dksX0_sortOf_0 19 rfl rfl)
theorem dX0_sortOf_22 : decode cX0_sortOf 22 = .ok (.iconst 2, 1) := dk_5 (dk_at dksX0_sortOf_0 22 rfl rfl)
theorem dX0_sortOf_23 : decode cX0_sortOf 23 = .ok (.ireturn, 1) := dk_172 (dk_at dksX0_sortOf_0 23 rfl rfl)
abbrev cX0_lengthOf : ByteArray := prog_1_method_90_code
def yX0_lengthOf : MethodName := ⟨RX0, "lengthOf", "(Ljava/lang/Object;I)I"⟩
def dkwX0_lengthOf_2 : List UInt8 := [42, 192, 2, 9, 190, 172, 42, 192, 2, 13, 190, 172, 42, 192, 2, 15, 190, 172]
abbrev dktX0_lengthOf_2 : List UInt8 := dkwX0_lengthOf_2 ++ []
def dkwX0_lengthOf_1 : List UInt8 := [171, 0, 0, 0, 0, 0, 39, 0, 0, 0, 2, 0, 0, 0, 0, 0, 0, 0, 27, 0, 0, 0, 1, 0, 0, 0, 33]
abbrev dktX0_lengthOf_1 : List UInt8 := dkwX0_lengthOf_1 ++ dktX0_lengthOf_2
def dkwX0_lengthOf_0 : List UInt8 := [27]
abbrev dktX0_lengthOf_0 : List UInt8 := dkwX0_lengthOf_0 ++ dktX0_lengthOf_1
theorem dksX0_lengthOf_0 : cX0_lengthOf.data.toList.drop 0 = dktX0_lengthOf_0 := by decide +kernel
theorem dksX0_lengthOf_1 : cX0_lengthOf.data.toList.drop 1 = dktX0_lengthOf_1 := dk_seg dksX0_lengthOf_0 1 rfl rfl
theorem dksX0_lengthOf_2 : cX0_lengthOf.data.toList.drop 28 = dktX0_lengthOf_2 := dk_seg dksX0_lengthOf_1 27 rfl rfl
theorem dX0_lengthOf_0 : decode cX0_lengthOf 0 = .ok (.iload_n 1, 1) := dk_27 (dk_at dksX0_lengthOf_0 0 rfl rfl)
theorem dX0_lengthOf_1 : decode cX0_lengthOf 1 = .ok (.lookupswitch 39 #[(0, 27), (1, 33)], 27) := by decide +kernel
theorem dX0_lengthOf_28 : decode cX0_lengthOf 28 = .ok (.aload_n 0, 1) := dk_42 (dk_at dksX0_lengthOf_2 0 rfl rfl)
theorem dX0_lengthOf_29 : decode cX0_lengthOf 29 = .ok (.checkcast 521, 3) := dk_192 2 9 (dk_at dksX0_lengthOf_2 1 rfl rfl)
theorem dX0_lengthOf_32 : decode cX0_lengthOf 32 = .ok (.arraylength, 1) := dk_190 (dk_at dksX0_lengthOf_2 4 rfl rfl)
theorem dX0_lengthOf_33 : decode cX0_lengthOf 33 = .ok (.ireturn, 1) := dk_172 (dk_at dksX0_lengthOf_2 5 rfl rfl)
theorem dX0_lengthOf_34 : decode cX0_lengthOf 34 = .ok (.aload_n 0, 1) := dk_42 (dk_at dksX0_lengthOf_2 6 rfl rfl)
theorem dX0_lengthOf_35 : decode cX0_lengthOf 35 = .ok (.checkcast 525, 3) := dk_192 2 13 (dk_at dksX0_lengthOf_2 7 rfl rfl)
theorem dX0_lengthOf_38 : decode cX0_lengthOf 38 = .ok (.arraylength, 1) := dk_190 (dk_at dksX0_lengthOf_2 10 rfl rfl)
theorem dX0_lengthOf_39 : decode cX0_lengthOf 39 = .ok (.ireturn, 1) := dk_172 (dk_at dksX0_lengthOf_2 11 rfl rfl)
theorem dX0_lengthOf_40 : decode cX0_lengthOf 40 = .ok (.aload_n 0, 1) := dk_42 (dk_at dksX0_lengthOf_2 12 rfl rfl)
theorem dX0_lengthOf_41 : decode cX0_lengthOf 41 = .ok (.checkcast 527, 3) := dk_192 2 15 (dk_at dksX0_lengthOf_2 13 rfl rfl)
theorem dX0_lengthOf_44 : decode cX0_lengthOf 44 = .ok (.arraylength, 1) := dk_190 (dk_at dksX0_lengthOf_2 16 rfl rfl)
theorem dX0_lengthOf_45 : decode cX0_lengthOf 45 = .ok (.ireturn, 1) := dk_172 (dk_at dksX0_lengthOf_2 17 rfl rfl)
abbrev cX0_item : ByteArray := prog_1_method_89_code
def yX0_item : MethodName := ⟨RX0, "item", "(Ljava/lang/Object;II)I"⟩
def dkwX0_item_4 : List UInt8 := [46, 172]
abbrev dktX0_item_4 : List UInt8 := dkwX0_item_4 ++ []
def dkwX0_item_3 : List UInt8 := [184, 2, 10, 42, 192, 2, 13, 28, 53, 172, 28, 42, 192, 2, 15, 190, 184, 2, 10, 42, 192, 2, 15, 28]
abbrev dktX0_item_3 : List UInt8 := dkwX0_item_3 ++ dktX0_item_4
def dkwX0_item_2 : List UInt8 := [28, 42, 192, 2, 9, 190, 184, 2, 10, 42, 192, 2, 9, 28, 51, 172, 28, 42, 192, 2, 13, 190]
abbrev dktX0_item_2 : List UInt8 := dkwX0_item_2 ++ dktX0_item_3
def dkwX0_item_1 : List UInt8 := [171, 0, 0, 0, 0, 0, 59, 0, 0, 0, 2, 0, 0, 0, 0, 0, 0, 0, 27, 0, 0, 0, 1, 0, 0, 0, 43]
abbrev dktX0_item_1 : List UInt8 := dkwX0_item_1 ++ dktX0_item_2
def dkwX0_item_0 : List UInt8 := [27]
abbrev dktX0_item_0 : List UInt8 := dkwX0_item_0 ++ dktX0_item_1
theorem dksX0_item_0 : cX0_item.data.toList.drop 0 = dktX0_item_0 := by decide +kernel
theorem dksX0_item_1 : cX0_item.data.toList.drop 1 = dktX0_item_1 := dk_seg dksX0_item_0 1 rfl rfl
theorem dksX0_item_2 : cX0_item.data.toList.drop 28 = dktX0_item_2 := dk_seg dksX0_item_1 27 rfl rfl
theorem dksX0_item_3 : cX0_item.data.toList.drop 50 = dktX0_item_3 := dk_seg dksX0_item_2 22 rfl rfl
theorem dksX0_item_4 : cX0_item.data.toList.drop 74 = dktX0_item_4 := dk_seg dksX0_item_3 24 rfl rfl
theorem dX0_item_0 : decode cX0_item 0 = .ok (.iload_n 1, 1) := dk_27 (dk_at dksX0_item_0 0 rfl rfl)
theorem dX0_item_1 : decode cX0_item 1 = .ok (.lookupswitch 59 #[(0, 27), (1, 43)], 27) := by decide +kernel
theorem dX0_item_28 : decode cX0_item 28 = .ok (.iload_n 2, 1) := dk_28 (dk_at dksX0_item_2 0 rfl rfl)
theorem dX0_item_29 : decode cX0_item 29 = .ok (.aload_n 0, 1) := dk_42 (dk_at dksX0_item_2 1 rfl rfl)
theorem dX0_item_30 : decode cX0_item 30 = .ok (.checkcast 521, 3) := dk_192 2 9 (dk_at dksX0_item_2 2 rfl rfl)
theorem dX0_item_33 : decode cX0_item 33 = .ok (.arraylength, 1) := dk_190 (dk_at dksX0_item_2 5 rfl rfl)
theorem dX0_item_34 : decode cX0_item 34 = .ok (.invokestatic 522, 3) := dk_184 2 10 (dk_at dksX0_item_2 6 rfl rfl)
theorem dX0_item_37 : decode cX0_item 37 = .ok (.aload_n 0, 1) := dk_42 (dk_at dksX0_item_2 9 rfl rfl)
theorem dX0_item_38 : decode cX0_item 38 = .ok (.checkcast 521, 3) := dk_192 2 9 (dk_at dksX0_item_2 10 rfl rfl)
theorem dX0_item_41 : decode cX0_item 41 = .ok (.iload_n 2, 1) := dk_28 (dk_at dksX0_item_2 13 rfl rfl)
theorem dX0_item_42 : decode cX0_item 42 = .ok (.baload, 1) := dk_51 (dk_at dksX0_item_2 14 rfl rfl)
theorem dX0_item_43 : decode cX0_item 43 = .ok (.ireturn, 1) := dk_172 (dk_at dksX0_item_2 15 rfl rfl)
theorem dX0_item_44 : decode cX0_item 44 = .ok (.iload_n 2, 1) := dk_28 (dk_at dksX0_item_2 16 rfl rfl)
theorem dX0_item_45 : decode cX0_item 45 = .ok (.aload_n 0, 1) := dk_42 (dk_at dksX0_item_2 17 rfl rfl)
theorem dX0_item_46 : decode cX0_item 46 = .ok (.checkcast 525, 3) := dk_192 2 13 (dk_at dksX0_item_2 18 rfl rfl)
theorem dX0_item_49 : decode cX0_item 49 = .ok (.arraylength, 1) := dk_190 (dk_at dksX0_item_2 21 rfl rfl)
theorem dX0_item_50 : decode cX0_item 50 = .ok (.invokestatic 522, 3) := dk_184 2 10 (dk_at dksX0_item_3 0 rfl rfl)
theorem dX0_item_53 : decode cX0_item 53 = .ok (.aload_n 0, 1) := dk_42 (dk_at dksX0_item_3 3 rfl rfl)
theorem dX0_item_54 : decode cX0_item 54 = .ok (.checkcast 525, 3) := dk_192 2 13 (dk_at dksX0_item_3 4 rfl rfl)
theorem dX0_item_57 : decode cX0_item 57 = .ok (.iload_n 2, 1) := dk_28 (dk_at dksX0_item_3 7 rfl rfl)
theorem dX0_item_58 : decode cX0_item 58 = .ok (.saload, 1) := dk_53 (dk_at dksX0_item_3 8 rfl rfl)
theorem dX0_item_59 : decode cX0_item 59 = .ok (.ireturn, 1) := dk_172 (dk_at dksX0_item_3 9 rfl rfl)
theorem dX0_item_60 : decode cX0_item 60 = .ok (.iload_n 2, 1) := dk_28 (dk_at dksX0_item_3 10 rfl rfl)
theorem dX0_item_61 : decode cX0_item 61 = .ok (.aload_n 0, 1) := dk_42 (dk_at dksX0_item_3 11 rfl rfl)
theorem dX0_item_62 : decode cX0_item 62 = .ok (.checkcast 527, 3) := dk_192 2 15 (dk_at dksX0_item_3 12 rfl rfl)
theorem dX0_item_65 : decode cX0_item 65 = .ok (.arraylength, 1) := dk_190 (dk_at dksX0_item_3 15 rfl rfl)
theorem dX0_item_66 : decode cX0_item 66 = .ok (.invokestatic 522, 3) := dk_184 2 10 (dk_at dksX0_item_3 16 rfl rfl)
theorem dX0_item_69 : decode cX0_item 69 = .ok (.aload_n 0, 1) := dk_42 (dk_at dksX0_item_3 19 rfl rfl)
theorem dX0_item_70 : decode cX0_item 70 = .ok (.checkcast 527, 3) := dk_192 2 15 (dk_at dksX0_item_3 20 rfl rfl)
theorem dX0_item_73 : decode cX0_item 73 = .ok (.iload_n 2, 1) := dk_28 (dk_at dksX0_item_3 23 rfl rfl)
theorem dX0_item_74 : decode cX0_item 74 = .ok (.iaload, 1) := dk_46 (dk_at dksX0_item_4 0 rfl rfl)
theorem dX0_item_75 : decode cX0_item 75 = .ok (.ireturn, 1) := dk_172 (dk_at dksX0_item_4 1 rfl rfl)
abbrev cX0_asksPlace : ByteArray := prog_1_method_91_code
def yX0_asksPlace : MethodName := ⟨RX0, "asksPlace", "(II)V"⟩
def dkwX0_asksPlace_0 : List UInt8 := [26, 155, 0, 8, 26, 27, 161, 0, 11, 187, 2, 21, 89, 183, 2, 23, 191, 177]
abbrev dktX0_asksPlace_0 : List UInt8 := dkwX0_asksPlace_0 ++ []
theorem dksX0_asksPlace_0 : cX0_asksPlace.data.toList.drop 0 = dktX0_asksPlace_0 := by decide +kernel
theorem dX0_asksPlace_0 : decode cX0_asksPlace 0 = .ok (.iload_n 0, 1) := dk_26 (dk_at dksX0_asksPlace_0 0 rfl rfl)
theorem dX0_asksPlace_1 : decode cX0_asksPlace 1 = .ok (.ifCond .lt 8, 3) := dk_155 0 8 (dk_at dksX0_asksPlace_0 1 rfl rfl)
theorem dX0_asksPlace_4 : decode cX0_asksPlace 4 = .ok (.iload_n 0, 1) := dk_26 (dk_at dksX0_asksPlace_0 4 rfl rfl)
theorem dX0_asksPlace_5 : decode cX0_asksPlace 5 = .ok (.iload_n 1, 1) := dk_27 (dk_at dksX0_asksPlace_0 5 rfl rfl)
theorem dX0_asksPlace_6 : decode cX0_asksPlace 6 = .ok (.if_icmp .lt 11, 3) := dk_161 0 11 (dk_at dksX0_asksPlace_0 6 rfl rfl)
theorem dX0_asksPlace_9 : decode cX0_asksPlace 9 = .ok (.new 533, 3) := dk_187 2 21 (dk_at dksX0_asksPlace_0 9 rfl rfl)
theorem dX0_asksPlace_12 : decode cX0_asksPlace 12 = .ok (.dup, 1) := dk_89 (dk_at dksX0_asksPlace_0 12 rfl rfl)
theorem dX0_asksPlace_13 : decode cX0_asksPlace 13 = .ok (.invokespecial 535, 3) := dk_183 2 23 (dk_at dksX0_asksPlace_0 13 rfl rfl)
theorem dX0_asksPlace_16 : decode cX0_asksPlace 16 = .ok (.athrow, 1) := dk_191 (dk_at dksX0_asksPlace_0 16 rfl rfl)
theorem dX0_asksPlace_17 : decode cX0_asksPlace 17 = .ok (.return_, 1) := dk_177 (dk_at dksX0_asksPlace_0 17 rfl rfl)
abbrev cX0_playsAll : ByteArray := prog_1_method_51_code
def yX0_playsAll : MethodName := ⟨RX0, "playsAll", "(Ljava/lang/Object;)V"⟩
def dkwX0_playsAll_2 : List UInt8 := [177]
abbrev dktX0_playsAll_2 : List UInt8 := dkwX0_playsAll_2 ++ []
def dkwX0_playsAll_1 : List UInt8 := [28, 184, 1, 137, 62, 42, 29, 16, 10, 108, 29, 16, 10, 112, 182, 1, 119, 87, 132, 2, 1, 167, 255, 218]
abbrev dktX0_playsAll_1 : List UInt8 := dkwX0_playsAll_1 ++ dktX0_playsAll_2
def dkwX0_playsAll_0 : List UInt8 := [42, 3, 181, 1, 113, 3, 61, 28, 43, 43, 184, 1, 129, 184, 1, 133, 162, 0, 32, 43, 43, 184, 1, 129]
abbrev dktX0_playsAll_0 : List UInt8 := dkwX0_playsAll_0 ++ dktX0_playsAll_1
theorem dksX0_playsAll_0 : cX0_playsAll.data.toList.drop 0 = dktX0_playsAll_0 := by decide +kernel
theorem dksX0_playsAll_1 : cX0_playsAll.data.toList.drop 24 = dktX0_playsAll_1 := dk_seg dksX0_playsAll_0 24 rfl rfl
theorem dksX0_playsAll_2 : cX0_playsAll.data.toList.drop 48 = dktX0_playsAll_2 := dk_seg dksX0_playsAll_1 24 rfl rfl
theorem dX0_playsAll_0 : decode cX0_playsAll 0 = .ok (.aload_n 0, 1) := dk_42 (dk_at dksX0_playsAll_0 0 rfl rfl)
theorem dX0_playsAll_1 : decode cX0_playsAll 1 = .ok (.iconst 0, 1) := dk_3 (dk_at dksX0_playsAll_0 1 rfl rfl)
theorem dX0_playsAll_2 : decode cX0_playsAll 2 = .ok (.putfield 369, 3) := dk_181 1 113 (dk_at dksX0_playsAll_0 2 rfl rfl)
theorem dX0_playsAll_5 : decode cX0_playsAll 5 = .ok (.iconst 0, 1) := dk_3 (dk_at dksX0_playsAll_0 5 rfl rfl)
theorem dX0_playsAll_6 : decode cX0_playsAll 6 = .ok (.istore_n 2, 1) := dk_61 (dk_at dksX0_playsAll_0 6 rfl rfl)
theorem dX0_playsAll_7 : decode cX0_playsAll 7 = .ok (.iload_n 2, 1) := dk_28 (dk_at dksX0_playsAll_0 7 rfl rfl)
theorem dX0_playsAll_8 : decode cX0_playsAll 8 = .ok (.aload_n 1, 1) := dk_43 (dk_at dksX0_playsAll_0 8 rfl rfl)
theorem dX0_playsAll_9 : decode cX0_playsAll 9 = .ok (.aload_n 1, 1) := dk_43 (dk_at dksX0_playsAll_0 9 rfl rfl)
theorem dX0_playsAll_10 : decode cX0_playsAll 10 = .ok (.invokestatic 385, 3) := dk_184 1 129 (dk_at dksX0_playsAll_0 10 rfl rfl)
theorem dX0_playsAll_13 : decode cX0_playsAll 13 = .ok (.invokestatic 389, 3) := dk_184 1 133 (dk_at dksX0_playsAll_0 13 rfl rfl)
theorem dX0_playsAll_16 : decode cX0_playsAll 16 = .ok (.if_icmp .ge 32, 3) := dk_162 0 32 (dk_at dksX0_playsAll_0 16 rfl rfl)
theorem dX0_playsAll_19 : decode cX0_playsAll 19 = .ok (.aload_n 1, 1) := dk_43 (dk_at dksX0_playsAll_0 19 rfl rfl)
theorem dX0_playsAll_20 : decode cX0_playsAll 20 = .ok (.aload_n 1, 1) := dk_43 (dk_at dksX0_playsAll_0 20 rfl rfl)
theorem dX0_playsAll_21 : decode cX0_playsAll 21 = .ok (.invokestatic 385, 3) := dk_184 1 129 (dk_at dksX0_playsAll_0 21 rfl rfl)
theorem dX0_playsAll_24 : decode cX0_playsAll 24 = .ok (.iload_n 2, 1) := dk_28 (dk_at dksX0_playsAll_1 0 rfl rfl)
theorem dX0_playsAll_25 : decode cX0_playsAll 25 = .ok (.invokestatic 393, 3) := dk_184 1 137 (dk_at dksX0_playsAll_1 1 rfl rfl)
theorem dX0_playsAll_28 : decode cX0_playsAll 28 = .ok (.istore_n 3, 1) := dk_62 (dk_at dksX0_playsAll_1 4 rfl rfl)
theorem dX0_playsAll_29 : decode cX0_playsAll 29 = .ok (.aload_n 0, 1) := dk_42 (dk_at dksX0_playsAll_1 5 rfl rfl)
theorem dX0_playsAll_30 : decode cX0_playsAll 30 = .ok (.iload_n 3, 1) := dk_29 (dk_at dksX0_playsAll_1 6 rfl rfl)
theorem dX0_playsAll_31 : decode cX0_playsAll 31 = .ok (.bipush 10, 2) := dk_16 10 (dk_at dksX0_playsAll_1 7 rfl rfl)
theorem dX0_playsAll_33 : decode cX0_playsAll 33 = .ok (.idiv, 1) := dk_108 (dk_at dksX0_playsAll_1 9 rfl rfl)
theorem dX0_playsAll_34 : decode cX0_playsAll 34 = .ok (.iload_n 3, 1) := dk_29 (dk_at dksX0_playsAll_1 10 rfl rfl)
theorem dX0_playsAll_35 : decode cX0_playsAll 35 = .ok (.bipush 10, 2) := dk_16 10 (dk_at dksX0_playsAll_1 11 rfl rfl)
theorem dX0_playsAll_37 : decode cX0_playsAll 37 = .ok (.irem, 1) := dk_112 (dk_at dksX0_playsAll_1 13 rfl rfl)
theorem dX0_playsAll_38 : decode cX0_playsAll 38 = .ok (.invokevirtual 375, 3) := dk_182 1 119 (dk_at dksX0_playsAll_1 14 rfl rfl)
theorem dX0_playsAll_41 : decode cX0_playsAll 41 = .ok (.pop, 1) := dk_87 (dk_at dksX0_playsAll_1 17 rfl rfl)
theorem dX0_playsAll_42 : decode cX0_playsAll 42 = .ok (.iinc 2 1, 3) := dk_132 2 1 (dk_at dksX0_playsAll_1 18 rfl rfl)
theorem dX0_playsAll_45 : decode cX0_playsAll 45 = .ok (.goto (-38), 3) := dk_167 255 218 (dk_at dksX0_playsAll_1 21 rfl rfl)
theorem dX0_playsAll_48 : decode cX0_playsAll 48 = .ok (.return_, 1) := dk_177 (dk_at dksX0_playsAll_2 0 rfl rfl)
abbrev cX0_toldEvening : ByteArray := prog_1_method_53_code
def yX0_toldEvening : MethodName := ⟨RX0, "toldEvening", "(I)I"⟩
def dkwX0_toldEvening_3 : List UInt8 := [182, 0, 107, 172]
abbrev dktX0_toldEvening_3 : List UInt8 := dkwX0_toldEvening_3 ++ []
def dkwX0_toldEvening_2 : List UInt8 := [42, 180, 0, 73, 184, 1, 143, 172, 42, 180, 1, 113, 172, 42, 182, 1, 148, 172, 42, 180, 0, 51, 27, 50]
abbrev dktX0_toldEvening_2 : List UInt8 := dkwX0_toldEvening_2 ++ dktX0_toldEvening_3
def dkwX0_toldEvening_1 : List UInt8 := [170, 0, 0, 0, 0, 0, 45, 0, 0, 0, 6, 0, 0, 0, 8, 0, 0, 0, 27, 0, 0, 0, 35, 0, 0, 0, 40]
abbrev dktX0_toldEvening_1 : List UInt8 := dkwX0_toldEvening_1 ++ dktX0_toldEvening_2
def dkwX0_toldEvening_0 : List UInt8 := [27]
abbrev dktX0_toldEvening_0 : List UInt8 := dkwX0_toldEvening_0 ++ dktX0_toldEvening_1
theorem dksX0_toldEvening_0 : cX0_toldEvening.data.toList.drop 0 = dktX0_toldEvening_0 := by decide +kernel
theorem dksX0_toldEvening_1 : cX0_toldEvening.data.toList.drop 1 = dktX0_toldEvening_1 := dk_seg dksX0_toldEvening_0 1 rfl rfl
theorem dksX0_toldEvening_2 : cX0_toldEvening.data.toList.drop 28 = dktX0_toldEvening_2 := dk_seg dksX0_toldEvening_1 27 rfl rfl
theorem dksX0_toldEvening_3 : cX0_toldEvening.data.toList.drop 52 = dktX0_toldEvening_3 := dk_seg dksX0_toldEvening_2 24 rfl rfl
theorem dX0_toldEvening_0 : decode cX0_toldEvening 0 = .ok (.iload_n 1, 1) := dk_27 (dk_at dksX0_toldEvening_0 0 rfl rfl)
theorem dX0_toldEvening_1 : decode cX0_toldEvening 1 = .ok (.tableswitch 45 6 8 #[27, 35, 40], 27) := by decide +kernel
theorem dX0_toldEvening_28 : decode cX0_toldEvening 28 = .ok (.aload_n 0, 1) := dk_42 (dk_at dksX0_toldEvening_2 0 rfl rfl)
theorem dX0_toldEvening_29 : decode cX0_toldEvening 29 = .ok (.getfield 73, 3) := dk_180 0 73 (dk_at dksX0_toldEvening_2 1 rfl rfl)
theorem dX0_toldEvening_32 : decode cX0_toldEvening 32 = .ok (.invokestatic 399, 3) := dk_184 1 143 (dk_at dksX0_toldEvening_2 4 rfl rfl)
theorem dX0_toldEvening_35 : decode cX0_toldEvening 35 = .ok (.ireturn, 1) := dk_172 (dk_at dksX0_toldEvening_2 7 rfl rfl)
theorem dX0_toldEvening_36 : decode cX0_toldEvening 36 = .ok (.aload_n 0, 1) := dk_42 (dk_at dksX0_toldEvening_2 8 rfl rfl)
theorem dX0_toldEvening_37 : decode cX0_toldEvening 37 = .ok (.getfield 369, 3) := dk_180 1 113 (dk_at dksX0_toldEvening_2 9 rfl rfl)
theorem dX0_toldEvening_40 : decode cX0_toldEvening 40 = .ok (.ireturn, 1) := dk_172 (dk_at dksX0_toldEvening_2 12 rfl rfl)
theorem dX0_toldEvening_41 : decode cX0_toldEvening 41 = .ok (.aload_n 0, 1) := dk_42 (dk_at dksX0_toldEvening_2 13 rfl rfl)
theorem dX0_toldEvening_42 : decode cX0_toldEvening 42 = .ok (.invokevirtual 404, 3) := dk_182 1 148 (dk_at dksX0_toldEvening_2 14 rfl rfl)
theorem dX0_toldEvening_45 : decode cX0_toldEvening 45 = .ok (.ireturn, 1) := dk_172 (dk_at dksX0_toldEvening_2 17 rfl rfl)
theorem dX0_toldEvening_46 : decode cX0_toldEvening 46 = .ok (.aload_n 0, 1) := dk_42 (dk_at dksX0_toldEvening_2 18 rfl rfl)
theorem dX0_toldEvening_47 : decode cX0_toldEvening 47 = .ok (.getfield 51, 3) := dk_180 0 51 (dk_at dksX0_toldEvening_2 19 rfl rfl)
theorem dX0_toldEvening_50 : decode cX0_toldEvening 50 = .ok (.iload_n 1, 1) := dk_27 (dk_at dksX0_toldEvening_2 22 rfl rfl)
theorem dX0_toldEvening_51 : decode cX0_toldEvening 51 = .ok (.aaload, 1) := dk_50 (dk_at dksX0_toldEvening_2 23 rfl rfl)
theorem dX0_toldEvening_52 : decode cX0_toldEvening 52 = .ok (.invokevirtual 107, 3) := dk_182 0 107 (dk_at dksX0_toldEvening_3 0 rfl rfl)
theorem dX0_toldEvening_55 : decode cX0_toldEvening 55 = .ok (.ireturn, 1) := dk_172 (dk_at dksX0_toldEvening_3 3 rfl rfl)
abbrev cX0_hasMost : ByteArray := prog_1_method_52_code
def yX0_hasMost : MethodName := ⟨RX0, "hasMost", "()I"⟩
def dkwX0_hasMost_2 : List UInt8 := [132, 3, 1, 167, 255, 212, 27, 172]
abbrev dktX0_hasMost_2 : List UInt8 := dkwX0_hasMost_2 ++ []
def dkwX0_hasMost_1 : List UInt8 := [164, 0, 7, 29, 167, 0, 4, 27, 60, 28, 42, 180, 0, 51, 29, 50, 182, 0, 107, 184, 0, 7, 61]
abbrev dktX0_hasMost_1 : List UInt8 := dkwX0_hasMost_1 ++ dktX0_hasMost_2
def dkwX0_hasMost_0 : List UInt8 := [2, 60, 3, 61, 3, 62, 29, 42, 180, 0, 10, 162, 0, 42, 42, 180, 0, 51, 29, 50, 182, 0, 107, 28]
abbrev dktX0_hasMost_0 : List UInt8 := dkwX0_hasMost_0 ++ dktX0_hasMost_1
theorem dksX0_hasMost_0 : cX0_hasMost.data.toList.drop 0 = dktX0_hasMost_0 := by decide +kernel
theorem dksX0_hasMost_1 : cX0_hasMost.data.toList.drop 24 = dktX0_hasMost_1 := dk_seg dksX0_hasMost_0 24 rfl rfl
theorem dksX0_hasMost_2 : cX0_hasMost.data.toList.drop 47 = dktX0_hasMost_2 := dk_seg dksX0_hasMost_1 23 rfl rfl
theorem dX0_hasMost_0 : decode cX0_hasMost 0 = .ok (.iconst (-1), 1) := dk_2 (dk_at dksX0_hasMost_0 0 rfl rfl)
theorem dX0_hasMost_1 : decode cX0_hasMost 1 = .ok (.istore_n 1, 1) := dk_60 (dk_at dksX0_hasMost_0 1 rfl rfl)
theorem dX0_hasMost_2 : decode cX0_hasMost 2 = .ok (.iconst 0, 1) := dk_3 (dk_at dksX0_hasMost_0 2 rfl rfl)
theorem dX0_hasMost_3 : decode cX0_hasMost 3 = .ok (.istore_n 2, 1) := dk_61 (dk_at dksX0_hasMost_0 3 rfl rfl)
theorem dX0_hasMost_4 : decode cX0_hasMost 4 = .ok (.iconst 0, 1) := dk_3 (dk_at dksX0_hasMost_0 4 rfl rfl)
theorem dX0_hasMost_5 : decode cX0_hasMost 5 = .ok (.istore_n 3, 1) := dk_62 (dk_at dksX0_hasMost_0 5 rfl rfl)
theorem dX0_hasMost_6 : decode cX0_hasMost 6 = .ok (.iload_n 3, 1) := dk_29 (dk_at dksX0_hasMost_0 6 rfl rfl)
theorem dX0_hasMost_7 : decode cX0_hasMost 7 = .ok (.aload_n 0, 1) := dk_42 (dk_at dksX0_hasMost_0 7 rfl rfl)
theorem dX0_hasMost_8 : decode cX0_hasMost 8 = .ok (.getfield 10, 3) := dk_180 0 10 (dk_at dksX0_hasMost_0 8 rfl rfl)
theorem dX0_hasMost_11 : decode cX0_hasMost 11 = .ok (.if_icmp .ge 42, 3) := dk_162 0 42 (dk_at dksX0_hasMost_0 11 rfl rfl)
theorem dX0_hasMost_14 : decode cX0_hasMost 14 = .ok (.aload_n 0, 1) := dk_42 (dk_at dksX0_hasMost_0 14 rfl rfl)
theorem dX0_hasMost_15 : decode cX0_hasMost 15 = .ok (.getfield 51, 3) := dk_180 0 51 (dk_at dksX0_hasMost_0 15 rfl rfl)
theorem dX0_hasMost_18 : decode cX0_hasMost 18 = .ok (.iload_n 3, 1) := dk_29 (dk_at dksX0_hasMost_0 18 rfl rfl)
theorem dX0_hasMost_19 : decode cX0_hasMost 19 = .ok (.aaload, 1) := dk_50 (dk_at dksX0_hasMost_0 19 rfl rfl)
theorem dX0_hasMost_20 : decode cX0_hasMost 20 = .ok (.invokevirtual 107, 3) := dk_182 0 107 (dk_at dksX0_hasMost_0 20 rfl rfl)
theorem dX0_hasMost_23 : decode cX0_hasMost 23 = .ok (.iload_n 2, 1) := dk_28 (dk_at dksX0_hasMost_0 23 rfl rfl)
theorem dX0_hasMost_24 : decode cX0_hasMost 24 = .ok (.if_icmp .le 7, 3) := dk_164 0 7 (dk_at dksX0_hasMost_1 0 rfl rfl)
theorem dX0_hasMost_27 : decode cX0_hasMost 27 = .ok (.iload_n 3, 1) := dk_29 (dk_at dksX0_hasMost_1 3 rfl rfl)
theorem dX0_hasMost_28 : decode cX0_hasMost 28 = .ok (.goto 4, 3) := dk_167 0 4 (dk_at dksX0_hasMost_1 4 rfl rfl)
theorem dX0_hasMost_31 : decode cX0_hasMost 31 = .ok (.iload_n 1, 1) := dk_27 (dk_at dksX0_hasMost_1 7 rfl rfl)
theorem dX0_hasMost_32 : decode cX0_hasMost 32 = .ok (.istore_n 1, 1) := dk_60 (dk_at dksX0_hasMost_1 8 rfl rfl)
theorem dX0_hasMost_33 : decode cX0_hasMost 33 = .ok (.iload_n 2, 1) := dk_28 (dk_at dksX0_hasMost_1 9 rfl rfl)
theorem dX0_hasMost_34 : decode cX0_hasMost 34 = .ok (.aload_n 0, 1) := dk_42 (dk_at dksX0_hasMost_1 10 rfl rfl)
theorem dX0_hasMost_35 : decode cX0_hasMost 35 = .ok (.getfield 51, 3) := dk_180 0 51 (dk_at dksX0_hasMost_1 11 rfl rfl)
theorem dX0_hasMost_38 : decode cX0_hasMost 38 = .ok (.iload_n 3, 1) := dk_29 (dk_at dksX0_hasMost_1 14 rfl rfl)
theorem dX0_hasMost_39 : decode cX0_hasMost 39 = .ok (.aaload, 1) := dk_50 (dk_at dksX0_hasMost_1 15 rfl rfl)
theorem dX0_hasMost_40 : decode cX0_hasMost 40 = .ok (.invokevirtual 107, 3) := dk_182 0 107 (dk_at dksX0_hasMost_1 16 rfl rfl)
theorem dX0_hasMost_43 : decode cX0_hasMost 43 = .ok (.invokestatic 7, 3) := dk_184 0 7 (dk_at dksX0_hasMost_1 19 rfl rfl)
theorem dX0_hasMost_46 : decode cX0_hasMost 46 = .ok (.istore_n 2, 1) := dk_61 (dk_at dksX0_hasMost_1 22 rfl rfl)
theorem dX0_hasMost_47 : decode cX0_hasMost 47 = .ok (.iinc 3 1, 3) := dk_132 3 1 (dk_at dksX0_hasMost_2 0 rfl rfl)
theorem dX0_hasMost_50 : decode cX0_hasMost 50 = .ok (.goto (-44), 3) := dk_167 255 212 (dk_at dksX0_hasMost_2 3 rfl rfl)
theorem dX0_hasMost_53 : decode cX0_hasMost 53 = .ok (.iload_n 1, 1) := dk_27 (dk_at dksX0_hasMost_2 6 rfl rfl)
theorem dX0_hasMost_54 : decode cX0_hasMost 54 = .ok (.ireturn, 1) := dk_172 (dk_at dksX0_hasMost_2 7 rfl rfl)
abbrev cX0_play : ByteArray := prog_1_method_55_code
def yX0_play : MethodName := ⟨RX0, "play", "(I)I"⟩
def dkwX0_play_2 : List UInt8 := [184, 1, 133, 96, 17, 3, 231, 164, 0, 6, 16, 253, 172, 42, 44, 182, 1, 166, 42, 180, 1, 113, 172]
abbrev dktX0_play_2 : List UInt8 := dkwX0_play_2 ++ []
def dkwX0_play_1 : List UInt8 := [16, 245, 172, 42, 44, 182, 1, 162, 154, 0, 6, 16, 254, 172, 42, 180, 0, 76, 44, 44, 184, 1, 129]
abbrev dktX0_play_1 : List UInt8 := dkwX0_play_1 ++ dktX0_play_2
def dkwX0_play_0 : List UInt8 := [27, 184, 1, 151, 154, 0, 6, 16, 254, 172, 42, 180, 1, 62, 27, 50, 180, 1, 158, 77, 44, 199, 0, 6]
abbrev dktX0_play_0 : List UInt8 := dkwX0_play_0 ++ dktX0_play_1
theorem dksX0_play_0 : cX0_play.data.toList.drop 0 = dktX0_play_0 := by decide +kernel
theorem dksX0_play_1 : cX0_play.data.toList.drop 24 = dktX0_play_1 := dk_seg dksX0_play_0 24 rfl rfl
theorem dksX0_play_2 : cX0_play.data.toList.drop 47 = dktX0_play_2 := dk_seg dksX0_play_1 23 rfl rfl
theorem dX0_play_0 : decode cX0_play 0 = .ok (.iload_n 1, 1) := dk_27 (dk_at dksX0_play_0 0 rfl rfl)
theorem dX0_play_1 : decode cX0_play 1 = .ok (.invokestatic 407, 3) := dk_184 1 151 (dk_at dksX0_play_0 1 rfl rfl)
theorem dX0_play_4 : decode cX0_play 4 = .ok (.ifCond .ne 6, 3) := dk_154 0 6 (dk_at dksX0_play_0 4 rfl rfl)
theorem dX0_play_7 : decode cX0_play 7 = .ok (.bipush (-2), 2) := dk_16 254 (dk_at dksX0_play_0 7 rfl rfl)
theorem dX0_play_9 : decode cX0_play 9 = .ok (.ireturn, 1) := dk_172 (dk_at dksX0_play_0 9 rfl rfl)
theorem dX0_play_10 : decode cX0_play 10 = .ok (.aload_n 0, 1) := dk_42 (dk_at dksX0_play_0 10 rfl rfl)
theorem dX0_play_11 : decode cX0_play 11 = .ok (.getfield 318, 3) := dk_180 1 62 (dk_at dksX0_play_0 11 rfl rfl)
theorem dX0_play_14 : decode cX0_play 14 = .ok (.iload_n 1, 1) := dk_27 (dk_at dksX0_play_0 14 rfl rfl)
theorem dX0_play_15 : decode cX0_play 15 = .ok (.aaload, 1) := dk_50 (dk_at dksX0_play_0 15 rfl rfl)
theorem dX0_play_16 : decode cX0_play 16 = .ok (.getfield 414, 3) := dk_180 1 158 (dk_at dksX0_play_0 16 rfl rfl)
theorem dX0_play_19 : decode cX0_play 19 = .ok (.astore_n 2, 1) := dk_77 (dk_at dksX0_play_0 19 rfl rfl)
theorem dX0_play_20 : decode cX0_play 20 = .ok (.aload_n 2, 1) := dk_44 (dk_at dksX0_play_0 20 rfl rfl)
theorem dX0_play_21 : decode cX0_play 21 = .ok (.ifnonnull 6, 3) := dk_199 0 6 (dk_at dksX0_play_0 21 rfl rfl)
theorem dX0_play_24 : decode cX0_play 24 = .ok (.bipush (-11), 2) := dk_16 245 (dk_at dksX0_play_1 0 rfl rfl)
theorem dX0_play_26 : decode cX0_play 26 = .ok (.ireturn, 1) := dk_172 (dk_at dksX0_play_1 2 rfl rfl)
theorem dX0_play_27 : decode cX0_play 27 = .ok (.aload_n 0, 1) := dk_42 (dk_at dksX0_play_1 3 rfl rfl)
theorem dX0_play_28 : decode cX0_play 28 = .ok (.aload_n 2, 1) := dk_44 (dk_at dksX0_play_1 4 rfl rfl)
theorem dX0_play_29 : decode cX0_play 29 = .ok (.invokevirtual 418, 3) := dk_182 1 162 (dk_at dksX0_play_1 5 rfl rfl)
theorem dX0_play_32 : decode cX0_play 32 = .ok (.ifCond .ne 6, 3) := dk_154 0 6 (dk_at dksX0_play_1 8 rfl rfl)
theorem dX0_play_35 : decode cX0_play 35 = .ok (.bipush (-2), 2) := dk_16 254 (dk_at dksX0_play_1 11 rfl rfl)
theorem dX0_play_37 : decode cX0_play 37 = .ok (.ireturn, 1) := dk_172 (dk_at dksX0_play_1 13 rfl rfl)
theorem dX0_play_38 : decode cX0_play 38 = .ok (.aload_n 0, 1) := dk_42 (dk_at dksX0_play_1 14 rfl rfl)
theorem dX0_play_39 : decode cX0_play 39 = .ok (.getfield 76, 3) := dk_180 0 76 (dk_at dksX0_play_1 15 rfl rfl)
theorem dX0_play_42 : decode cX0_play 42 = .ok (.aload_n 2, 1) := dk_44 (dk_at dksX0_play_1 18 rfl rfl)
theorem dX0_play_43 : decode cX0_play 43 = .ok (.aload_n 2, 1) := dk_44 (dk_at dksX0_play_1 19 rfl rfl)
theorem dX0_play_44 : decode cX0_play 44 = .ok (.invokestatic 385, 3) := dk_184 1 129 (dk_at dksX0_play_1 20 rfl rfl)
theorem dX0_play_47 : decode cX0_play 47 = .ok (.invokestatic 389, 3) := dk_184 1 133 (dk_at dksX0_play_2 0 rfl rfl)
theorem dX0_play_50 : decode cX0_play 50 = .ok (.iadd, 1) := dk_96 (dk_at dksX0_play_2 3 rfl rfl)
theorem dX0_play_51 : decode cX0_play 51 = .ok (.sipush 999, 3) := dk_17 3 231 (dk_at dksX0_play_2 4 rfl rfl)
theorem dX0_play_54 : decode cX0_play 54 = .ok (.if_icmp .le 6, 3) := dk_164 0 6 (dk_at dksX0_play_2 7 rfl rfl)
theorem dX0_play_57 : decode cX0_play 57 = .ok (.bipush (-3), 2) := dk_16 253 (dk_at dksX0_play_2 10 rfl rfl)
theorem dX0_play_59 : decode cX0_play 59 = .ok (.ireturn, 1) := dk_172 (dk_at dksX0_play_2 12 rfl rfl)
theorem dX0_play_60 : decode cX0_play 60 = .ok (.aload_n 0, 1) := dk_42 (dk_at dksX0_play_2 13 rfl rfl)
theorem dX0_play_61 : decode cX0_play 61 = .ok (.aload_n 2, 1) := dk_44 (dk_at dksX0_play_2 14 rfl rfl)
theorem dX0_play_62 : decode cX0_play 62 = .ok (.invokevirtual 422, 3) := dk_182 1 166 (dk_at dksX0_play_2 15 rfl rfl)
theorem dX0_play_65 : decode cX0_play 65 = .ok (.aload_n 0, 1) := dk_42 (dk_at dksX0_play_2 18 rfl rfl)
theorem dX0_play_66 : decode cX0_play 66 = .ok (.getfield 369, 3) := dk_180 1 113 (dk_at dksX0_play_2 19 rfl rfl)
theorem dX0_play_69 : decode cX0_play 69 = .ok (.ireturn, 1) := dk_172 (dk_at dksX0_play_2 22 rfl rfl)
abbrev cX0_robin : ByteArray := prog_1_method_61_code
def yX0_robin : MethodName := ⟨RX0, "robin", "(I)I"⟩
def dkwX0_robin_2 : List UInt8 := [167, 0, 8, 42, 27, 182, 1, 185, 172]
abbrev dktX0_robin_2 : List UInt8 := dkwX0_robin_2 ++ []
def dkwX0_robin_1 : List UInt8 := [172, 27, 16, 7, 160, 0, 10, 42, 182, 1, 179, 167, 0, 21, 27, 16, 8, 160, 0, 10, 42, 182, 1, 182]
abbrev dktX0_robin_1 : List UInt8 := dkwX0_robin_1 ++ dktX0_robin_2
def dkwX0_robin_0 : List UInt8 := [27, 133, 20, 1, 154, 20, 1, 156, 184, 0, 16, 154, 0, 14, 42, 27, 182, 0, 20, 154, 0, 6, 16, 254]
abbrev dktX0_robin_0 : List UInt8 := dkwX0_robin_0 ++ dktX0_robin_1
theorem dksX0_robin_0 : cX0_robin.data.toList.drop 0 = dktX0_robin_0 := by decide +kernel
theorem dksX0_robin_1 : cX0_robin.data.toList.drop 24 = dktX0_robin_1 := dk_seg dksX0_robin_0 24 rfl rfl
theorem dksX0_robin_2 : cX0_robin.data.toList.drop 48 = dktX0_robin_2 := dk_seg dksX0_robin_1 24 rfl rfl
theorem dX0_robin_0 : decode cX0_robin 0 = .ok (.iload_n 1, 1) := dk_27 (dk_at dksX0_robin_0 0 rfl rfl)
theorem dX0_robin_1 : decode cX0_robin 1 = .ok (.i2l, 1) := dk_133 (dk_at dksX0_robin_0 1 rfl rfl)
theorem dX0_robin_2 : decode cX0_robin 2 = .ok (.ldc2_w 410, 3) := dk_20 1 154 (dk_at dksX0_robin_0 2 rfl rfl)
theorem dX0_robin_5 : decode cX0_robin 5 = .ok (.ldc2_w 412, 3) := dk_20 1 156 (dk_at dksX0_robin_0 5 rfl rfl)
theorem dX0_robin_8 : decode cX0_robin 8 = .ok (.invokestatic 16, 3) := dk_184 0 16 (dk_at dksX0_robin_0 8 rfl rfl)
theorem dX0_robin_11 : decode cX0_robin 11 = .ok (.ifCond .ne 14, 3) := dk_154 0 14 (dk_at dksX0_robin_0 11 rfl rfl)
theorem dX0_robin_14 : decode cX0_robin 14 = .ok (.aload_n 0, 1) := dk_42 (dk_at dksX0_robin_0 14 rfl rfl)
theorem dX0_robin_15 : decode cX0_robin 15 = .ok (.iload_n 1, 1) := dk_27 (dk_at dksX0_robin_0 15 rfl rfl)
theorem dX0_robin_16 : decode cX0_robin 16 = .ok (.invokevirtual 20, 3) := dk_182 0 20 (dk_at dksX0_robin_0 16 rfl rfl)
theorem dX0_robin_19 : decode cX0_robin 19 = .ok (.ifCond .ne 6, 3) := dk_154 0 6 (dk_at dksX0_robin_0 19 rfl rfl)
theorem dX0_robin_22 : decode cX0_robin 22 = .ok (.bipush (-2), 2) := dk_16 254 (dk_at dksX0_robin_0 22 rfl rfl)
theorem dX0_robin_24 : decode cX0_robin 24 = .ok (.ireturn, 1) := dk_172 (dk_at dksX0_robin_1 0 rfl rfl)
theorem dX0_robin_25 : decode cX0_robin 25 = .ok (.iload_n 1, 1) := dk_27 (dk_at dksX0_robin_1 1 rfl rfl)
theorem dX0_robin_26 : decode cX0_robin 26 = .ok (.bipush 7, 2) := dk_16 7 (dk_at dksX0_robin_1 2 rfl rfl)
theorem dX0_robin_28 : decode cX0_robin 28 = .ok (.if_icmp .ne 10, 3) := dk_160 0 10 (dk_at dksX0_robin_1 4 rfl rfl)
theorem dX0_robin_31 : decode cX0_robin 31 = .ok (.aload_n 0, 1) := dk_42 (dk_at dksX0_robin_1 7 rfl rfl)
theorem dX0_robin_32 : decode cX0_robin 32 = .ok (.invokevirtual 435, 3) := dk_182 1 179 (dk_at dksX0_robin_1 8 rfl rfl)
theorem dX0_robin_35 : decode cX0_robin 35 = .ok (.goto 21, 3) := dk_167 0 21 (dk_at dksX0_robin_1 11 rfl rfl)
theorem dX0_robin_38 : decode cX0_robin 38 = .ok (.iload_n 1, 1) := dk_27 (dk_at dksX0_robin_1 14 rfl rfl)
theorem dX0_robin_39 : decode cX0_robin 39 = .ok (.bipush 8, 2) := dk_16 8 (dk_at dksX0_robin_1 15 rfl rfl)
theorem dX0_robin_41 : decode cX0_robin 41 = .ok (.if_icmp .ne 10, 3) := dk_160 0 10 (dk_at dksX0_robin_1 17 rfl rfl)
theorem dX0_robin_44 : decode cX0_robin 44 = .ok (.aload_n 0, 1) := dk_42 (dk_at dksX0_robin_1 20 rfl rfl)
theorem dX0_robin_45 : decode cX0_robin 45 = .ok (.invokevirtual 438, 3) := dk_182 1 182 (dk_at dksX0_robin_1 21 rfl rfl)
theorem dX0_robin_48 : decode cX0_robin 48 = .ok (.goto 8, 3) := dk_167 0 8 (dk_at dksX0_robin_2 0 rfl rfl)
theorem dX0_robin_51 : decode cX0_robin 51 = .ok (.aload_n 0, 1) := dk_42 (dk_at dksX0_robin_2 3 rfl rfl)
theorem dX0_robin_52 : decode cX0_robin 52 = .ok (.iload_n 1, 1) := dk_27 (dk_at dksX0_robin_2 4 rfl rfl)
theorem dX0_robin_53 : decode cX0_robin 53 = .ok (.invokevirtual 441, 3) := dk_182 1 185 (dk_at dksX0_robin_2 5 rfl rfl)
theorem dX0_robin_56 : decode cX0_robin 56 = .ok (.ireturn, 1) := dk_172 (dk_at dksX0_robin_2 8 rfl rfl)
abbrev cX0_keepApart : ByteArray := prog_1_method_58_code
def yX0_keepApart : MethodName := ⟨RX0, "keepApart", "()I"⟩
def dkwX0_keepApart_3 : List UInt8 := [132, 4, 1, 167, 255, 206, 132, 3, 1, 167, 255, 187, 27, 172]
abbrev dktX0_keepApart_3 : List UInt8 := dkwX0_keepApart_3 ++ []
def dkwX0_keepApart_2 : List UInt8 := [28, 162, 0, 13, 16, 10, 29, 104, 21, 4, 96, 167, 0, 4, 27, 60, 28, 21, 5, 184, 0, 1, 61]
abbrev dktX0_keepApart_2 : List UInt8 := dkwX0_keepApart_2 ++ dktX0_keepApart_3
def dkwX0_keepApart_1 : List UInt8 := [21, 4, 42, 180, 0, 10, 162, 0, 47, 42, 16, 10, 29, 104, 21, 4, 96, 182, 1, 176, 54, 5, 21, 5]
abbrev dktX0_keepApart_1 : List UInt8 := dkwX0_keepApart_1 ++ dktX0_keepApart_2
def dkwX0_keepApart_0 : List UInt8 := [2, 60, 42, 2, 182, 1, 176, 61, 3, 62, 29, 42, 180, 0, 10, 162, 0, 67, 29, 4, 96, 54, 4]
abbrev dktX0_keepApart_0 : List UInt8 := dkwX0_keepApart_0 ++ dktX0_keepApart_1
theorem dksX0_keepApart_0 : cX0_keepApart.data.toList.drop 0 = dktX0_keepApart_0 := by decide +kernel
theorem dksX0_keepApart_1 : cX0_keepApart.data.toList.drop 23 = dktX0_keepApart_1 := dk_seg dksX0_keepApart_0 23 rfl rfl
theorem dksX0_keepApart_2 : cX0_keepApart.data.toList.drop 47 = dktX0_keepApart_2 := dk_seg dksX0_keepApart_1 24 rfl rfl
theorem dksX0_keepApart_3 : cX0_keepApart.data.toList.drop 70 = dktX0_keepApart_3 := dk_seg dksX0_keepApart_2 23 rfl rfl
theorem dX0_keepApart_0 : decode cX0_keepApart 0 = .ok (.iconst (-1), 1) := dk_2 (dk_at dksX0_keepApart_0 0 rfl rfl)
theorem dX0_keepApart_1 : decode cX0_keepApart 1 = .ok (.istore_n 1, 1) := dk_60 (dk_at dksX0_keepApart_0 1 rfl rfl)
theorem dX0_keepApart_2 : decode cX0_keepApart 2 = .ok (.aload_n 0, 1) := dk_42 (dk_at dksX0_keepApart_0 2 rfl rfl)
theorem dX0_keepApart_3 : decode cX0_keepApart 3 = .ok (.iconst (-1), 1) := dk_2 (dk_at dksX0_keepApart_0 3 rfl rfl)
theorem dX0_keepApart_4 : decode cX0_keepApart 4 = .ok (.invokevirtual 432, 3) := dk_182 1 176 (dk_at dksX0_keepApart_0 4 rfl rfl)
theorem dX0_keepApart_7 : decode cX0_keepApart 7 = .ok (.istore_n 2, 1) := dk_61 (dk_at dksX0_keepApart_0 7 rfl rfl)
theorem dX0_keepApart_8 : decode cX0_keepApart 8 = .ok (.iconst 0, 1) := dk_3 (dk_at dksX0_keepApart_0 8 rfl rfl)
theorem dX0_keepApart_9 : decode cX0_keepApart 9 = .ok (.istore_n 3, 1) := dk_62 (dk_at dksX0_keepApart_0 9 rfl rfl)
theorem dX0_keepApart_10 : decode cX0_keepApart 10 = .ok (.iload_n 3, 1) := dk_29 (dk_at dksX0_keepApart_0 10 rfl rfl)
theorem dX0_keepApart_11 : decode cX0_keepApart 11 = .ok (.aload_n 0, 1) := dk_42 (dk_at dksX0_keepApart_0 11 rfl rfl)
theorem dX0_keepApart_12 : decode cX0_keepApart 12 = .ok (.getfield 10, 3) := dk_180 0 10 (dk_at dksX0_keepApart_0 12 rfl rfl)
theorem dX0_keepApart_15 : decode cX0_keepApart 15 = .ok (.if_icmp .ge 67, 3) := dk_162 0 67 (dk_at dksX0_keepApart_0 15 rfl rfl)
theorem dX0_keepApart_18 : decode cX0_keepApart 18 = .ok (.iload_n 3, 1) := dk_29 (dk_at dksX0_keepApart_0 18 rfl rfl)
theorem dX0_keepApart_19 : decode cX0_keepApart 19 = .ok (.iconst 1, 1) := dk_4 (dk_at dksX0_keepApart_0 19 rfl rfl)
theorem dX0_keepApart_20 : decode cX0_keepApart 20 = .ok (.iadd, 1) := dk_96 (dk_at dksX0_keepApart_0 20 rfl rfl)
theorem dX0_keepApart_21 : decode cX0_keepApart 21 = .ok (.istore 4, 2) := dk_54 4 (dk_at dksX0_keepApart_0 21 rfl rfl)
theorem dX0_keepApart_23 : decode cX0_keepApart 23 = .ok (.iload 4, 2) := dk_21 4 (dk_at dksX0_keepApart_1 0 rfl rfl)
theorem dX0_keepApart_25 : decode cX0_keepApart 25 = .ok (.aload_n 0, 1) := dk_42 (dk_at dksX0_keepApart_1 2 rfl rfl)
theorem dX0_keepApart_26 : decode cX0_keepApart 26 = .ok (.getfield 10, 3) := dk_180 0 10 (dk_at dksX0_keepApart_1 3 rfl rfl)
theorem dX0_keepApart_29 : decode cX0_keepApart 29 = .ok (.if_icmp .ge 47, 3) := dk_162 0 47 (dk_at dksX0_keepApart_1 6 rfl rfl)
theorem dX0_keepApart_32 : decode cX0_keepApart 32 = .ok (.aload_n 0, 1) := dk_42 (dk_at dksX0_keepApart_1 9 rfl rfl)
theorem dX0_keepApart_33 : decode cX0_keepApart 33 = .ok (.bipush 10, 2) := dk_16 10 (dk_at dksX0_keepApart_1 10 rfl rfl)
theorem dX0_keepApart_35 : decode cX0_keepApart 35 = .ok (.iload_n 3, 1) := dk_29 (dk_at dksX0_keepApart_1 12 rfl rfl)
theorem dX0_keepApart_36 : decode cX0_keepApart 36 = .ok (.imul, 1) := dk_104 (dk_at dksX0_keepApart_1 13 rfl rfl)
theorem dX0_keepApart_37 : decode cX0_keepApart 37 = .ok (.iload 4, 2) := dk_21 4 (dk_at dksX0_keepApart_1 14 rfl rfl)
theorem dX0_keepApart_39 : decode cX0_keepApart 39 = .ok (.iadd, 1) := dk_96 (dk_at dksX0_keepApart_1 16 rfl rfl)
theorem dX0_keepApart_40 : decode cX0_keepApart 40 = .ok (.invokevirtual 432, 3) := dk_182 1 176 (dk_at dksX0_keepApart_1 17 rfl rfl)
theorem dX0_keepApart_43 : decode cX0_keepApart 43 = .ok (.istore 5, 2) := dk_54 5 (dk_at dksX0_keepApart_1 20 rfl rfl)
theorem dX0_keepApart_45 : decode cX0_keepApart 45 = .ok (.iload 5, 2) := dk_21 5 (dk_at dksX0_keepApart_1 22 rfl rfl)
theorem dX0_keepApart_47 : decode cX0_keepApart 47 = .ok (.iload_n 2, 1) := dk_28 (dk_at dksX0_keepApart_2 0 rfl rfl)
theorem dX0_keepApart_48 : decode cX0_keepApart 48 = .ok (.if_icmp .ge 13, 3) := dk_162 0 13 (dk_at dksX0_keepApart_2 1 rfl rfl)
theorem dX0_keepApart_51 : decode cX0_keepApart 51 = .ok (.bipush 10, 2) := dk_16 10 (dk_at dksX0_keepApart_2 4 rfl rfl)
theorem dX0_keepApart_53 : decode cX0_keepApart 53 = .ok (.iload_n 3, 1) := dk_29 (dk_at dksX0_keepApart_2 6 rfl rfl)
theorem dX0_keepApart_54 : decode cX0_keepApart 54 = .ok (.imul, 1) := dk_104 (dk_at dksX0_keepApart_2 7 rfl rfl)
theorem dX0_keepApart_55 : decode cX0_keepApart 55 = .ok (.iload 4, 2) := dk_21 4 (dk_at dksX0_keepApart_2 8 rfl rfl)
theorem dX0_keepApart_57 : decode cX0_keepApart 57 = .ok (.iadd, 1) := dk_96 (dk_at dksX0_keepApart_2 10 rfl rfl)
theorem dX0_keepApart_58 : decode cX0_keepApart 58 = .ok (.goto 4, 3) := dk_167 0 4 (dk_at dksX0_keepApart_2 11 rfl rfl)
theorem dX0_keepApart_61 : decode cX0_keepApart 61 = .ok (.iload_n 1, 1) := dk_27 (dk_at dksX0_keepApart_2 14 rfl rfl)
theorem dX0_keepApart_62 : decode cX0_keepApart 62 = .ok (.istore_n 1, 1) := dk_60 (dk_at dksX0_keepApart_2 15 rfl rfl)
theorem dX0_keepApart_63 : decode cX0_keepApart 63 = .ok (.iload_n 2, 1) := dk_28 (dk_at dksX0_keepApart_2 16 rfl rfl)
theorem dX0_keepApart_64 : decode cX0_keepApart 64 = .ok (.iload 5, 2) := dk_21 5 (dk_at dksX0_keepApart_2 17 rfl rfl)
theorem dX0_keepApart_66 : decode cX0_keepApart 66 = .ok (.invokestatic 1, 3) := dk_184 0 1 (dk_at dksX0_keepApart_2 19 rfl rfl)
theorem dX0_keepApart_69 : decode cX0_keepApart 69 = .ok (.istore_n 2, 1) := dk_61 (dk_at dksX0_keepApart_2 22 rfl rfl)
theorem dX0_keepApart_70 : decode cX0_keepApart 70 = .ok (.iinc 4 1, 3) := dk_132 4 1 (dk_at dksX0_keepApart_3 0 rfl rfl)
theorem dX0_keepApart_73 : decode cX0_keepApart 73 = .ok (.goto (-50), 3) := dk_167 255 206 (dk_at dksX0_keepApart_3 3 rfl rfl)
theorem dX0_keepApart_76 : decode cX0_keepApart 76 = .ok (.iinc 3 1, 3) := dk_132 3 1 (dk_at dksX0_keepApart_3 6 rfl rfl)
theorem dX0_keepApart_79 : decode cX0_keepApart 79 = .ok (.goto (-69), 3) := dk_167 255 187 (dk_at dksX0_keepApart_3 9 rfl rfl)
theorem dX0_keepApart_82 : decode cX0_keepApart 82 = .ok (.iload_n 1, 1) := dk_27 (dk_at dksX0_keepApart_3 12 rfl rfl)
theorem dX0_keepApart_83 : decode cX0_keepApart 83 = .ok (.ireturn, 1) := dk_172 (dk_at dksX0_keepApart_3 13 rfl rfl)
abbrev cX0_hallBut : ByteArray := prog_1_method_57_code
def yX0_hallBut : MethodName := ⟨RX0, "hallBut", "(I)I"⟩
def dkwX0_hallBut_1 : List UInt8 := [182, 1, 120, 45, 191]
abbrev dktX0_hallBut_1 : List UInt8 := dkwX0_hallBut_1 ++ []
def dkwX0_hallBut_0 : List UInt8 := [42, 3, 182, 1, 116, 42, 27, 182, 1, 173, 184, 1, 143, 61, 42, 3, 182, 1, 120, 28, 172, 78, 42, 3]
abbrev dktX0_hallBut_0 : List UInt8 := dkwX0_hallBut_0 ++ dktX0_hallBut_1
theorem dksX0_hallBut_0 : cX0_hallBut.data.toList.drop 0 = dktX0_hallBut_0 := by decide +kernel
theorem dksX0_hallBut_1 : cX0_hallBut.data.toList.drop 24 = dktX0_hallBut_1 := dk_seg dksX0_hallBut_0 24 rfl rfl
theorem dX0_hallBut_0 : decode cX0_hallBut 0 = .ok (.aload_n 0, 1) := dk_42 (dk_at dksX0_hallBut_0 0 rfl rfl)
theorem dX0_hallBut_1 : decode cX0_hallBut 1 = .ok (.iconst 0, 1) := dk_3 (dk_at dksX0_hallBut_0 1 rfl rfl)
theorem dX0_hallBut_2 : decode cX0_hallBut 2 = .ok (.invokevirtual 372, 3) := dk_182 1 116 (dk_at dksX0_hallBut_0 2 rfl rfl)
theorem dX0_hallBut_5 : decode cX0_hallBut 5 = .ok (.aload_n 0, 1) := dk_42 (dk_at dksX0_hallBut_0 5 rfl rfl)
theorem dX0_hallBut_6 : decode cX0_hallBut 6 = .ok (.iload_n 1, 1) := dk_27 (dk_at dksX0_hallBut_0 6 rfl rfl)
theorem dX0_hallBut_7 : decode cX0_hallBut 7 = .ok (.invokevirtual 429, 3) := dk_182 1 173 (dk_at dksX0_hallBut_0 7 rfl rfl)
theorem dX0_hallBut_10 : decode cX0_hallBut 10 = .ok (.invokestatic 399, 3) := dk_184 1 143 (dk_at dksX0_hallBut_0 10 rfl rfl)
theorem dX0_hallBut_13 : decode cX0_hallBut 13 = .ok (.istore_n 2, 1) := dk_61 (dk_at dksX0_hallBut_0 13 rfl rfl)
theorem dX0_hallBut_14 : decode cX0_hallBut 14 = .ok (.aload_n 0, 1) := dk_42 (dk_at dksX0_hallBut_0 14 rfl rfl)
theorem dX0_hallBut_15 : decode cX0_hallBut 15 = .ok (.iconst 0, 1) := dk_3 (dk_at dksX0_hallBut_0 15 rfl rfl)
theorem dX0_hallBut_16 : decode cX0_hallBut 16 = .ok (.invokevirtual 376, 3) := dk_182 1 120 (dk_at dksX0_hallBut_0 16 rfl rfl)
theorem dX0_hallBut_19 : decode cX0_hallBut 19 = .ok (.iload_n 2, 1) := dk_28 (dk_at dksX0_hallBut_0 19 rfl rfl)
theorem dX0_hallBut_20 : decode cX0_hallBut 20 = .ok (.ireturn, 1) := dk_172 (dk_at dksX0_hallBut_0 20 rfl rfl)
theorem dX0_hallBut_21 : decode cX0_hallBut 21 = .ok (.astore_n 3, 1) := dk_78 (dk_at dksX0_hallBut_0 21 rfl rfl)
theorem dX0_hallBut_22 : decode cX0_hallBut 22 = .ok (.aload_n 0, 1) := dk_42 (dk_at dksX0_hallBut_0 22 rfl rfl)
theorem dX0_hallBut_23 : decode cX0_hallBut 23 = .ok (.iconst 0, 1) := dk_3 (dk_at dksX0_hallBut_0 23 rfl rfl)
theorem dX0_hallBut_24 : decode cX0_hallBut 24 = .ok (.invokevirtual 376, 3) := dk_182 1 120 (dk_at dksX0_hallBut_1 0 rfl rfl)
theorem dX0_hallBut_27 : decode cX0_hallBut 27 = .ok (.aload_n 3, 1) := dk_45 (dk_at dksX0_hallBut_1 3 rfl rfl)
theorem dX0_hallBut_28 : decode cX0_hallBut 28 = .ok (.athrow, 1) := dk_191 (dk_at dksX0_hallBut_1 4 rfl rfl)
abbrev cX0_hallRobin : ByteArray := prog_1_method_56_code
def yX0_hallRobin : MethodName := ⟨RX0, "hallRobin", "(I)I"⟩
def dkwX0_hallRobin_2 : List UInt8 := [167, 255, 210, 42, 180, 0, 73, 172]
abbrev dktX0_hallRobin_2 : List UInt8 := dkwX0_hallRobin_2 ++ []
def dkwX0_hallRobin_1 : List UInt8 := [28, 104, 29, 96, 27, 159, 0, 10, 42, 28, 29, 182, 1, 119, 87, 132, 3, 1, 167, 255, 228, 132, 2, 1]
abbrev dktX0_hallRobin_1 : List UInt8 := dkwX0_hallRobin_1 ++ dktX0_hallRobin_2
def dkwX0_hallRobin_0 : List UInt8 := [3, 61, 28, 42, 180, 0, 10, 162, 0, 44, 28, 4, 96, 62, 29, 42, 180, 0, 10, 162, 0, 26, 16, 10]
abbrev dktX0_hallRobin_0 : List UInt8 := dkwX0_hallRobin_0 ++ dktX0_hallRobin_1
theorem dksX0_hallRobin_0 : cX0_hallRobin.data.toList.drop 0 = dktX0_hallRobin_0 := by decide +kernel
theorem dksX0_hallRobin_1 : cX0_hallRobin.data.toList.drop 24 = dktX0_hallRobin_1 := dk_seg dksX0_hallRobin_0 24 rfl rfl
theorem dksX0_hallRobin_2 : cX0_hallRobin.data.toList.drop 48 = dktX0_hallRobin_2 := dk_seg dksX0_hallRobin_1 24 rfl rfl
theorem dX0_hallRobin_0 : decode cX0_hallRobin 0 = .ok (.iconst 0, 1) := dk_3 (dk_at dksX0_hallRobin_0 0 rfl rfl)
theorem dX0_hallRobin_1 : decode cX0_hallRobin 1 = .ok (.istore_n 2, 1) := dk_61 (dk_at dksX0_hallRobin_0 1 rfl rfl)
theorem dX0_hallRobin_2 : decode cX0_hallRobin 2 = .ok (.iload_n 2, 1) := dk_28 (dk_at dksX0_hallRobin_0 2 rfl rfl)
theorem dX0_hallRobin_3 : decode cX0_hallRobin 3 = .ok (.aload_n 0, 1) := dk_42 (dk_at dksX0_hallRobin_0 3 rfl rfl)
theorem dX0_hallRobin_4 : decode cX0_hallRobin 4 = .ok (.getfield 10, 3) := dk_180 0 10 (dk_at dksX0_hallRobin_0 4 rfl rfl)
theorem dX0_hallRobin_7 : decode cX0_hallRobin 7 = .ok (.if_icmp .ge 44, 3) := dk_162 0 44 (dk_at dksX0_hallRobin_0 7 rfl rfl)
theorem dX0_hallRobin_10 : decode cX0_hallRobin 10 = .ok (.iload_n 2, 1) := dk_28 (dk_at dksX0_hallRobin_0 10 rfl rfl)
theorem dX0_hallRobin_11 : decode cX0_hallRobin 11 = .ok (.iconst 1, 1) := dk_4 (dk_at dksX0_hallRobin_0 11 rfl rfl)
theorem dX0_hallRobin_12 : decode cX0_hallRobin 12 = .ok (.iadd, 1) := dk_96 (dk_at dksX0_hallRobin_0 12 rfl rfl)
theorem dX0_hallRobin_13 : decode cX0_hallRobin 13 = .ok (.istore_n 3, 1) := dk_62 (dk_at dksX0_hallRobin_0 13 rfl rfl)
theorem dX0_hallRobin_14 : decode cX0_hallRobin 14 = .ok (.iload_n 3, 1) := dk_29 (dk_at dksX0_hallRobin_0 14 rfl rfl)
theorem dX0_hallRobin_15 : decode cX0_hallRobin 15 = .ok (.aload_n 0, 1) := dk_42 (dk_at dksX0_hallRobin_0 15 rfl rfl)
theorem dX0_hallRobin_16 : decode cX0_hallRobin 16 = .ok (.getfield 10, 3) := dk_180 0 10 (dk_at dksX0_hallRobin_0 16 rfl rfl)
theorem dX0_hallRobin_19 : decode cX0_hallRobin 19 = .ok (.if_icmp .ge 26, 3) := dk_162 0 26 (dk_at dksX0_hallRobin_0 19 rfl rfl)
theorem dX0_hallRobin_22 : decode cX0_hallRobin 22 = .ok (.bipush 10, 2) := dk_16 10 (dk_at dksX0_hallRobin_0 22 rfl rfl)
theorem dX0_hallRobin_24 : decode cX0_hallRobin 24 = .ok (.iload_n 2, 1) := dk_28 (dk_at dksX0_hallRobin_1 0 rfl rfl)
theorem dX0_hallRobin_25 : decode cX0_hallRobin 25 = .ok (.imul, 1) := dk_104 (dk_at dksX0_hallRobin_1 1 rfl rfl)
theorem dX0_hallRobin_26 : decode cX0_hallRobin 26 = .ok (.iload_n 3, 1) := dk_29 (dk_at dksX0_hallRobin_1 2 rfl rfl)
theorem dX0_hallRobin_27 : decode cX0_hallRobin 27 = .ok (.iadd, 1) := dk_96 (dk_at dksX0_hallRobin_1 3 rfl rfl)
theorem dX0_hallRobin_28 : decode cX0_hallRobin 28 = .ok (.iload_n 1, 1) := dk_27 (dk_at dksX0_hallRobin_1 4 rfl rfl)
theorem dX0_hallRobin_29 : decode cX0_hallRobin 29 = .ok (.if_icmp .eq 10, 3) := dk_159 0 10 (dk_at dksX0_hallRobin_1 5 rfl rfl)
theorem dX0_hallRobin_32 : decode cX0_hallRobin 32 = .ok (.aload_n 0, 1) := dk_42 (dk_at dksX0_hallRobin_1 8 rfl rfl)
theorem dX0_hallRobin_33 : decode cX0_hallRobin 33 = .ok (.iload_n 2, 1) := dk_28 (dk_at dksX0_hallRobin_1 9 rfl rfl)
theorem dX0_hallRobin_34 : decode cX0_hallRobin 34 = .ok (.iload_n 3, 1) := dk_29 (dk_at dksX0_hallRobin_1 10 rfl rfl)
theorem dX0_hallRobin_35 : decode cX0_hallRobin 35 = .ok (.invokevirtual 375, 3) := dk_182 1 119 (dk_at dksX0_hallRobin_1 11 rfl rfl)
theorem dX0_hallRobin_38 : decode cX0_hallRobin 38 = .ok (.pop, 1) := dk_87 (dk_at dksX0_hallRobin_1 14 rfl rfl)
theorem dX0_hallRobin_39 : decode cX0_hallRobin 39 = .ok (.iinc 3 1, 3) := dk_132 3 1 (dk_at dksX0_hallRobin_1 15 rfl rfl)
theorem dX0_hallRobin_42 : decode cX0_hallRobin 42 = .ok (.goto (-28), 3) := dk_167 255 228 (dk_at dksX0_hallRobin_1 18 rfl rfl)
theorem dX0_hallRobin_45 : decode cX0_hallRobin 45 = .ok (.iinc 2 1, 3) := dk_132 2 1 (dk_at dksX0_hallRobin_1 21 rfl rfl)
theorem dX0_hallRobin_48 : decode cX0_hallRobin 48 = .ok (.goto (-46), 3) := dk_167 255 210 (dk_at dksX0_hallRobin_2 0 rfl rfl)
theorem dX0_hallRobin_51 : decode cX0_hallRobin 51 = .ok (.aload_n 0, 1) := dk_42 (dk_at dksX0_hallRobin_2 3 rfl rfl)
theorem dX0_hallRobin_52 : decode cX0_hallRobin 52 = .ok (.getfield 73, 3) := dk_180 0 73 (dk_at dksX0_hallRobin_2 4 rfl rfl)
theorem dX0_hallRobin_55 : decode cX0_hallRobin 55 = .ok (.ireturn, 1) := dk_172 (dk_at dksX0_hallRobin_2 7 rfl rfl)
abbrev cX0_rings : ByteArray := prog_1_method_59_code
def yX0_rings : MethodName := ⟨RX0, "rings", "()I"⟩
def dkwX0_rings_4 : List UInt8 := [132, 3, 1, 167, 255, 175, 132, 2, 1, 167, 255, 157, 27, 172]
abbrev dktX0_rings_4 : List UInt8 := dkwX0_rings_4 ++ []
def dkwX0_rings_3 : List UInt8 := [21, 4, 28, 182, 1, 106, 21, 4, 160, 0, 7, 4, 167, 0, 4, 3, 96, 60, 132, 4, 1, 167, 255, 194]
abbrev dktX0_rings_3 : List UInt8 := dkwX0_rings_3 ++ dktX0_rings_4
def dkwX0_rings_2 : List UInt8 := [182, 1, 106, 28, 160, 0, 37, 42, 29, 21, 4, 182, 1, 106, 29, 159, 0, 6, 167, 0, 23, 27, 42]
abbrev dktX0_rings_2 : List UInt8 := dkwX0_rings_2 ++ dktX0_rings_3
def dkwX0_rings_1 : List UInt8 := [28, 4, 96, 54, 4, 21, 4, 42, 180, 0, 10, 162, 0, 59, 29, 21, 4, 159, 0, 47, 42, 28, 29]
abbrev dktX0_rings_1 : List UInt8 := dkwX0_rings_1 ++ dktX0_rings_2
def dkwX0_rings_0 : List UInt8 := [3, 60, 3, 61, 28, 42, 180, 0, 10, 162, 0, 97, 28, 4, 96, 62, 29, 42, 180, 0, 10, 162, 0, 79]
abbrev dktX0_rings_0 : List UInt8 := dkwX0_rings_0 ++ dktX0_rings_1
theorem dksX0_rings_0 : cX0_rings.data.toList.drop 0 = dktX0_rings_0 := by decide +kernel
theorem dksX0_rings_1 : cX0_rings.data.toList.drop 24 = dktX0_rings_1 := dk_seg dksX0_rings_0 24 rfl rfl
theorem dksX0_rings_2 : cX0_rings.data.toList.drop 47 = dktX0_rings_2 := dk_seg dksX0_rings_1 23 rfl rfl
theorem dksX0_rings_3 : cX0_rings.data.toList.drop 70 = dktX0_rings_3 := dk_seg dksX0_rings_2 23 rfl rfl
theorem dksX0_rings_4 : cX0_rings.data.toList.drop 94 = dktX0_rings_4 := dk_seg dksX0_rings_3 24 rfl rfl
theorem dX0_rings_0 : decode cX0_rings 0 = .ok (.iconst 0, 1) := dk_3 (dk_at dksX0_rings_0 0 rfl rfl)
theorem dX0_rings_1 : decode cX0_rings 1 = .ok (.istore_n 1, 1) := dk_60 (dk_at dksX0_rings_0 1 rfl rfl)
theorem dX0_rings_2 : decode cX0_rings 2 = .ok (.iconst 0, 1) := dk_3 (dk_at dksX0_rings_0 2 rfl rfl)
theorem dX0_rings_3 : decode cX0_rings 3 = .ok (.istore_n 2, 1) := dk_61 (dk_at dksX0_rings_0 3 rfl rfl)
theorem dX0_rings_4 : decode cX0_rings 4 = .ok (.iload_n 2, 1) := dk_28 (dk_at dksX0_rings_0 4 rfl rfl)
theorem dX0_rings_5 : decode cX0_rings 5 = .ok (.aload_n 0, 1) := dk_42 (dk_at dksX0_rings_0 5 rfl rfl)
theorem dX0_rings_6 : decode cX0_rings 6 = .ok (.getfield 10, 3) := dk_180 0 10 (dk_at dksX0_rings_0 6 rfl rfl)
theorem dX0_rings_9 : decode cX0_rings 9 = .ok (.if_icmp .ge 97, 3) := dk_162 0 97 (dk_at dksX0_rings_0 9 rfl rfl)
theorem dX0_rings_12 : decode cX0_rings 12 = .ok (.iload_n 2, 1) := dk_28 (dk_at dksX0_rings_0 12 rfl rfl)
theorem dX0_rings_13 : decode cX0_rings 13 = .ok (.iconst 1, 1) := dk_4 (dk_at dksX0_rings_0 13 rfl rfl)
theorem dX0_rings_14 : decode cX0_rings 14 = .ok (.iadd, 1) := dk_96 (dk_at dksX0_rings_0 14 rfl rfl)
theorem dX0_rings_15 : decode cX0_rings 15 = .ok (.istore_n 3, 1) := dk_62 (dk_at dksX0_rings_0 15 rfl rfl)
theorem dX0_rings_16 : decode cX0_rings 16 = .ok (.iload_n 3, 1) := dk_29 (dk_at dksX0_rings_0 16 rfl rfl)
theorem dX0_rings_17 : decode cX0_rings 17 = .ok (.aload_n 0, 1) := dk_42 (dk_at dksX0_rings_0 17 rfl rfl)
theorem dX0_rings_18 : decode cX0_rings 18 = .ok (.getfield 10, 3) := dk_180 0 10 (dk_at dksX0_rings_0 18 rfl rfl)
theorem dX0_rings_21 : decode cX0_rings 21 = .ok (.if_icmp .ge 79, 3) := dk_162 0 79 (dk_at dksX0_rings_0 21 rfl rfl)
theorem dX0_rings_24 : decode cX0_rings 24 = .ok (.iload_n 2, 1) := dk_28 (dk_at dksX0_rings_1 0 rfl rfl)
theorem dX0_rings_25 : decode cX0_rings 25 = .ok (.iconst 1, 1) := dk_4 (dk_at dksX0_rings_1 1 rfl rfl)
theorem dX0_rings_26 : decode cX0_rings 26 = .ok (.iadd, 1) := dk_96 (dk_at dksX0_rings_1 2 rfl rfl)
theorem dX0_rings_27 : decode cX0_rings 27 = .ok (.istore 4, 2) := dk_54 4 (dk_at dksX0_rings_1 3 rfl rfl)
theorem dX0_rings_29 : decode cX0_rings 29 = .ok (.iload 4, 2) := dk_21 4 (dk_at dksX0_rings_1 5 rfl rfl)
theorem dX0_rings_31 : decode cX0_rings 31 = .ok (.aload_n 0, 1) := dk_42 (dk_at dksX0_rings_1 7 rfl rfl)
theorem dX0_rings_32 : decode cX0_rings 32 = .ok (.getfield 10, 3) := dk_180 0 10 (dk_at dksX0_rings_1 8 rfl rfl)
theorem dX0_rings_35 : decode cX0_rings 35 = .ok (.if_icmp .ge 59, 3) := dk_162 0 59 (dk_at dksX0_rings_1 11 rfl rfl)
theorem dX0_rings_38 : decode cX0_rings 38 = .ok (.iload_n 3, 1) := dk_29 (dk_at dksX0_rings_1 14 rfl rfl)
theorem dX0_rings_39 : decode cX0_rings 39 = .ok (.iload 4, 2) := dk_21 4 (dk_at dksX0_rings_1 15 rfl rfl)
theorem dX0_rings_41 : decode cX0_rings 41 = .ok (.if_icmp .eq 47, 3) := dk_159 0 47 (dk_at dksX0_rings_1 17 rfl rfl)
theorem dX0_rings_44 : decode cX0_rings 44 = .ok (.aload_n 0, 1) := dk_42 (dk_at dksX0_rings_1 20 rfl rfl)
theorem dX0_rings_45 : decode cX0_rings 45 = .ok (.iload_n 2, 1) := dk_28 (dk_at dksX0_rings_1 21 rfl rfl)
theorem dX0_rings_46 : decode cX0_rings 46 = .ok (.iload_n 3, 1) := dk_29 (dk_at dksX0_rings_1 22 rfl rfl)
theorem dX0_rings_47 : decode cX0_rings 47 = .ok (.invokevirtual 362, 3) := dk_182 1 106 (dk_at dksX0_rings_2 0 rfl rfl)
theorem dX0_rings_50 : decode cX0_rings 50 = .ok (.iload_n 2, 1) := dk_28 (dk_at dksX0_rings_2 3 rfl rfl)
theorem dX0_rings_51 : decode cX0_rings 51 = .ok (.if_icmp .ne 37, 3) := dk_160 0 37 (dk_at dksX0_rings_2 4 rfl rfl)
theorem dX0_rings_54 : decode cX0_rings 54 = .ok (.aload_n 0, 1) := dk_42 (dk_at dksX0_rings_2 7 rfl rfl)
theorem dX0_rings_55 : decode cX0_rings 55 = .ok (.iload_n 3, 1) := dk_29 (dk_at dksX0_rings_2 8 rfl rfl)
theorem dX0_rings_56 : decode cX0_rings 56 = .ok (.iload 4, 2) := dk_21 4 (dk_at dksX0_rings_2 9 rfl rfl)
theorem dX0_rings_58 : decode cX0_rings 58 = .ok (.invokevirtual 362, 3) := dk_182 1 106 (dk_at dksX0_rings_2 11 rfl rfl)
theorem dX0_rings_61 : decode cX0_rings 61 = .ok (.iload_n 3, 1) := dk_29 (dk_at dksX0_rings_2 14 rfl rfl)
theorem dX0_rings_62 : decode cX0_rings 62 = .ok (.if_icmp .eq 6, 3) := dk_159 0 6 (dk_at dksX0_rings_2 15 rfl rfl)
theorem dX0_rings_65 : decode cX0_rings 65 = .ok (.goto 23, 3) := dk_167 0 23 (dk_at dksX0_rings_2 18 rfl rfl)
theorem dX0_rings_68 : decode cX0_rings 68 = .ok (.iload_n 1, 1) := dk_27 (dk_at dksX0_rings_2 21 rfl rfl)
theorem dX0_rings_69 : decode cX0_rings 69 = .ok (.aload_n 0, 1) := dk_42 (dk_at dksX0_rings_2 22 rfl rfl)
theorem dX0_rings_70 : decode cX0_rings 70 = .ok (.iload 4, 2) := dk_21 4 (dk_at dksX0_rings_3 0 rfl rfl)
theorem dX0_rings_72 : decode cX0_rings 72 = .ok (.iload_n 2, 1) := dk_28 (dk_at dksX0_rings_3 2 rfl rfl)
theorem dX0_rings_73 : decode cX0_rings 73 = .ok (.invokevirtual 362, 3) := dk_182 1 106 (dk_at dksX0_rings_3 3 rfl rfl)
theorem dX0_rings_76 : decode cX0_rings 76 = .ok (.iload 4, 2) := dk_21 4 (dk_at dksX0_rings_3 6 rfl rfl)
theorem dX0_rings_78 : decode cX0_rings 78 = .ok (.if_icmp .ne 7, 3) := dk_160 0 7 (dk_at dksX0_rings_3 8 rfl rfl)
theorem dX0_rings_81 : decode cX0_rings 81 = .ok (.iconst 1, 1) := dk_4 (dk_at dksX0_rings_3 11 rfl rfl)
theorem dX0_rings_82 : decode cX0_rings 82 = .ok (.goto 4, 3) := dk_167 0 4 (dk_at dksX0_rings_3 12 rfl rfl)
theorem dX0_rings_85 : decode cX0_rings 85 = .ok (.iconst 0, 1) := dk_3 (dk_at dksX0_rings_3 15 rfl rfl)
theorem dX0_rings_86 : decode cX0_rings 86 = .ok (.iadd, 1) := dk_96 (dk_at dksX0_rings_3 16 rfl rfl)
theorem dX0_rings_87 : decode cX0_rings 87 = .ok (.istore_n 1, 1) := dk_60 (dk_at dksX0_rings_3 17 rfl rfl)
theorem dX0_rings_88 : decode cX0_rings 88 = .ok (.iinc 4 1, 3) := dk_132 4 1 (dk_at dksX0_rings_3 18 rfl rfl)
theorem dX0_rings_91 : decode cX0_rings 91 = .ok (.goto (-62), 3) := dk_167 255 194 (dk_at dksX0_rings_3 21 rfl rfl)
theorem dX0_rings_94 : decode cX0_rings 94 = .ok (.iinc 3 1, 3) := dk_132 3 1 (dk_at dksX0_rings_4 0 rfl rfl)
theorem dX0_rings_97 : decode cX0_rings 97 = .ok (.goto (-81), 3) := dk_167 255 175 (dk_at dksX0_rings_4 3 rfl rfl)
theorem dX0_rings_100 : decode cX0_rings 100 = .ok (.iinc 2 1, 3) := dk_132 2 1 (dk_at dksX0_rings_4 6 rfl rfl)
theorem dX0_rings_103 : decode cX0_rings 103 = .ok (.goto (-99), 3) := dk_167 255 157 (dk_at dksX0_rings_4 9 rfl rfl)
theorem dX0_rings_106 : decode cX0_rings 106 = .ok (.iload_n 1, 1) := dk_27 (dk_at dksX0_rings_4 12 rfl rfl)
theorem dX0_rings_107 : decode cX0_rings 107 = .ok (.ireturn, 1) := dk_172 (dk_at dksX0_rings_4 13 rfl rfl)
abbrev cX0_behindRobin : ByteArray := prog_1_method_60_code
def yX0_behindRobin : MethodName := ⟨RX0, "behindRobin", "(I)I"⟩
def dkwX0_behindRobin_2 : List UInt8 := [25, 4, 191]
abbrev dktX0_behindRobin_2 : List UInt8 := dkwX0_behindRobin_2 ++ []
def dkwX0_behindRobin_1 : List UInt8 := [180, 0, 51, 27, 50, 180, 0, 66, 62, 42, 3, 182, 1, 120, 29, 172, 58, 4, 42, 3, 182, 1, 120]
abbrev dktX0_behindRobin_1 : List UInt8 := dkwX0_behindRobin_1 ++ dktX0_behindRobin_2
def dkwX0_behindRobin_0 : List UInt8 := [42, 3, 182, 1, 116, 42, 2, 182, 1, 173, 61, 27, 16, 6, 160, 0, 7, 28, 167, 0, 12, 42]
abbrev dktX0_behindRobin_0 : List UInt8 := dkwX0_behindRobin_0 ++ dktX0_behindRobin_1
theorem dksX0_behindRobin_0 : cX0_behindRobin.data.toList.drop 0 = dktX0_behindRobin_0 := by decide +kernel
theorem dksX0_behindRobin_1 : cX0_behindRobin.data.toList.drop 22 = dktX0_behindRobin_1 := dk_seg dksX0_behindRobin_0 22 rfl rfl
theorem dksX0_behindRobin_2 : cX0_behindRobin.data.toList.drop 45 = dktX0_behindRobin_2 := dk_seg dksX0_behindRobin_1 23 rfl rfl
theorem dX0_behindRobin_0 : decode cX0_behindRobin 0 = .ok (.aload_n 0, 1) := dk_42 (dk_at dksX0_behindRobin_0 0 rfl rfl)
theorem dX0_behindRobin_1 : decode cX0_behindRobin 1 = .ok (.iconst 0, 1) := dk_3 (dk_at dksX0_behindRobin_0 1 rfl rfl)
theorem dX0_behindRobin_2 : decode cX0_behindRobin 2 = .ok (.invokevirtual 372, 3) := dk_182 1 116 (dk_at dksX0_behindRobin_0 2 rfl rfl)
theorem dX0_behindRobin_5 : decode cX0_behindRobin 5 = .ok (.aload_n 0, 1) := dk_42 (dk_at dksX0_behindRobin_0 5 rfl rfl)
theorem dX0_behindRobin_6 : decode cX0_behindRobin 6 = .ok (.iconst (-1), 1) := dk_2 (dk_at dksX0_behindRobin_0 6 rfl rfl)
theorem dX0_behindRobin_7 : decode cX0_behindRobin 7 = .ok (.invokevirtual 429, 3) := dk_182 1 173 (dk_at dksX0_behindRobin_0 7 rfl rfl)
theorem dX0_behindRobin_10 : decode cX0_behindRobin 10 = .ok (.istore_n 2, 1) := dk_61 (dk_at dksX0_behindRobin_0 10 rfl rfl)
theorem dX0_behindRobin_11 : decode cX0_behindRobin 11 = .ok (.iload_n 1, 1) := dk_27 (dk_at dksX0_behindRobin_0 11 rfl rfl)
theorem dX0_behindRobin_12 : decode cX0_behindRobin 12 = .ok (.bipush 6, 2) := dk_16 6 (dk_at dksX0_behindRobin_0 12 rfl rfl)
theorem dX0_behindRobin_14 : decode cX0_behindRobin 14 = .ok (.if_icmp .ne 7, 3) := dk_160 0 7 (dk_at dksX0_behindRobin_0 14 rfl rfl)
theorem dX0_behindRobin_17 : decode cX0_behindRobin 17 = .ok (.iload_n 2, 1) := dk_28 (dk_at dksX0_behindRobin_0 17 rfl rfl)
theorem dX0_behindRobin_18 : decode cX0_behindRobin 18 = .ok (.goto 12, 3) := dk_167 0 12 (dk_at dksX0_behindRobin_0 18 rfl rfl)
theorem dX0_behindRobin_21 : decode cX0_behindRobin 21 = .ok (.aload_n 0, 1) := dk_42 (dk_at dksX0_behindRobin_0 21 rfl rfl)
theorem dX0_behindRobin_22 : decode cX0_behindRobin 22 = .ok (.getfield 51, 3) := dk_180 0 51 (dk_at dksX0_behindRobin_1 0 rfl rfl)
theorem dX0_behindRobin_25 : decode cX0_behindRobin 25 = .ok (.iload_n 1, 1) := dk_27 (dk_at dksX0_behindRobin_1 3 rfl rfl)
theorem dX0_behindRobin_26 : decode cX0_behindRobin 26 = .ok (.aaload, 1) := dk_50 (dk_at dksX0_behindRobin_1 4 rfl rfl)
theorem dX0_behindRobin_27 : decode cX0_behindRobin 27 = .ok (.getfield 66, 3) := dk_180 0 66 (dk_at dksX0_behindRobin_1 5 rfl rfl)
theorem dX0_behindRobin_30 : decode cX0_behindRobin 30 = .ok (.istore_n 3, 1) := dk_62 (dk_at dksX0_behindRobin_1 8 rfl rfl)
theorem dX0_behindRobin_31 : decode cX0_behindRobin 31 = .ok (.aload_n 0, 1) := dk_42 (dk_at dksX0_behindRobin_1 9 rfl rfl)
theorem dX0_behindRobin_32 : decode cX0_behindRobin 32 = .ok (.iconst 0, 1) := dk_3 (dk_at dksX0_behindRobin_1 10 rfl rfl)
theorem dX0_behindRobin_33 : decode cX0_behindRobin 33 = .ok (.invokevirtual 376, 3) := dk_182 1 120 (dk_at dksX0_behindRobin_1 11 rfl rfl)
theorem dX0_behindRobin_36 : decode cX0_behindRobin 36 = .ok (.iload_n 3, 1) := dk_29 (dk_at dksX0_behindRobin_1 14 rfl rfl)
theorem dX0_behindRobin_37 : decode cX0_behindRobin 37 = .ok (.ireturn, 1) := dk_172 (dk_at dksX0_behindRobin_1 15 rfl rfl)
theorem dX0_behindRobin_38 : decode cX0_behindRobin 38 = .ok (.astore 4, 2) := dk_58 4 (dk_at dksX0_behindRobin_1 16 rfl rfl)
theorem dX0_behindRobin_40 : decode cX0_behindRobin 40 = .ok (.aload_n 0, 1) := dk_42 (dk_at dksX0_behindRobin_1 18 rfl rfl)
theorem dX0_behindRobin_41 : decode cX0_behindRobin 41 = .ok (.iconst 0, 1) := dk_3 (dk_at dksX0_behindRobin_1 19 rfl rfl)
theorem dX0_behindRobin_42 : decode cX0_behindRobin 42 = .ok (.invokevirtual 376, 3) := dk_182 1 120 (dk_at dksX0_behindRobin_1 20 rfl rfl)
theorem dX0_behindRobin_45 : decode cX0_behindRobin 45 = .ok (.aload 4, 2) := dk_25 4 (dk_at dksX0_behindRobin_2 0 rfl rfl)
theorem dX0_behindRobin_47 : decode cX0_behindRobin 47 = .ok (.athrow, 1) := dk_191 (dk_at dksX0_behindRobin_2 2 rfl rfl)
abbrev cX0_best : ByteArray := prog_1_method_62_code
def yX0_best : MethodName := ⟨RX0, "best", "(II)I"⟩
def dkwX0_best_4 : List UInt8 := [21, 4, 172]
abbrev dktX0_best_4 : List UInt8 := dkwX0_best_4 ++ []
def dkwX0_best_3 : List UInt8 := [21, 4, 21, 6, 184, 0, 7, 54, 4, 132, 5, 1, 167, 255, 202, 28, 154, 0, 7, 29, 167, 0, 5]
abbrev dktX0_best_3 : List UInt8 := dkwX0_best_3 ++ dktX0_best_4
def dkwX0_best_2 : List UInt8 := [42, 27, 21, 5, 182, 1, 126, 54, 6, 21, 6, 21, 4, 164, 0, 8, 21, 5, 167, 0, 4, 29, 62]
abbrev dktX0_best_2 : List UInt8 := dkwX0_best_2 ++ dktX0_best_3
def dkwX0_best_1 : List UInt8 := [54, 4, 3, 54, 5, 21, 5, 42, 180, 0, 10, 162, 0, 51, 21, 5, 27, 160, 0, 7, 2, 167, 0, 10]
abbrev dktX0_best_1 : List UInt8 := dkwX0_best_1 ++ dktX0_best_2
def dkwX0_best_0 : List UInt8 := [42, 27, 182, 0, 20, 153, 0, 13, 28, 133, 9, 10, 184, 0, 16, 154, 0, 6, 16, 254, 172, 2, 62, 2]
abbrev dktX0_best_0 : List UInt8 := dkwX0_best_0 ++ dktX0_best_1
theorem dksX0_best_0 : cX0_best.data.toList.drop 0 = dktX0_best_0 := by decide +kernel
theorem dksX0_best_1 : cX0_best.data.toList.drop 24 = dktX0_best_1 := dk_seg dksX0_best_0 24 rfl rfl
theorem dksX0_best_2 : cX0_best.data.toList.drop 48 = dktX0_best_2 := dk_seg dksX0_best_1 24 rfl rfl
theorem dksX0_best_3 : cX0_best.data.toList.drop 71 = dktX0_best_3 := dk_seg dksX0_best_2 23 rfl rfl
theorem dksX0_best_4 : cX0_best.data.toList.drop 94 = dktX0_best_4 := dk_seg dksX0_best_3 23 rfl rfl
theorem dX0_best_0 : decode cX0_best 0 = .ok (.aload_n 0, 1) := dk_42 (dk_at dksX0_best_0 0 rfl rfl)
theorem dX0_best_1 : decode cX0_best 1 = .ok (.iload_n 1, 1) := dk_27 (dk_at dksX0_best_0 1 rfl rfl)
theorem dX0_best_2 : decode cX0_best 2 = .ok (.invokevirtual 20, 3) := dk_182 0 20 (dk_at dksX0_best_0 2 rfl rfl)
theorem dX0_best_5 : decode cX0_best 5 = .ok (.ifCond .eq 13, 3) := dk_153 0 13 (dk_at dksX0_best_0 5 rfl rfl)
theorem dX0_best_8 : decode cX0_best 8 = .ok (.iload_n 2, 1) := dk_28 (dk_at dksX0_best_0 8 rfl rfl)
theorem dX0_best_9 : decode cX0_best 9 = .ok (.i2l, 1) := dk_133 (dk_at dksX0_best_0 9 rfl rfl)
theorem dX0_best_10 : decode cX0_best 10 = .ok (.lconst 0, 1) := dk_9 (dk_at dksX0_best_0 10 rfl rfl)
theorem dX0_best_11 : decode cX0_best 11 = .ok (.lconst 1, 1) := dk_10 (dk_at dksX0_best_0 11 rfl rfl)
theorem dX0_best_12 : decode cX0_best 12 = .ok (.invokestatic 16, 3) := dk_184 0 16 (dk_at dksX0_best_0 12 rfl rfl)
theorem dX0_best_15 : decode cX0_best 15 = .ok (.ifCond .ne 6, 3) := dk_154 0 6 (dk_at dksX0_best_0 15 rfl rfl)
theorem dX0_best_18 : decode cX0_best 18 = .ok (.bipush (-2), 2) := dk_16 254 (dk_at dksX0_best_0 18 rfl rfl)
theorem dX0_best_20 : decode cX0_best 20 = .ok (.ireturn, 1) := dk_172 (dk_at dksX0_best_0 20 rfl rfl)
theorem dX0_best_21 : decode cX0_best 21 = .ok (.iconst (-1), 1) := dk_2 (dk_at dksX0_best_0 21 rfl rfl)
theorem dX0_best_22 : decode cX0_best 22 = .ok (.istore_n 3, 1) := dk_62 (dk_at dksX0_best_0 22 rfl rfl)
theorem dX0_best_23 : decode cX0_best 23 = .ok (.iconst (-1), 1) := dk_2 (dk_at dksX0_best_0 23 rfl rfl)
theorem dX0_best_24 : decode cX0_best 24 = .ok (.istore 4, 2) := dk_54 4 (dk_at dksX0_best_1 0 rfl rfl)
theorem dX0_best_26 : decode cX0_best 26 = .ok (.iconst 0, 1) := dk_3 (dk_at dksX0_best_1 2 rfl rfl)
theorem dX0_best_27 : decode cX0_best 27 = .ok (.istore 5, 2) := dk_54 5 (dk_at dksX0_best_1 3 rfl rfl)
theorem dX0_best_29 : decode cX0_best 29 = .ok (.iload 5, 2) := dk_21 5 (dk_at dksX0_best_1 5 rfl rfl)
theorem dX0_best_31 : decode cX0_best 31 = .ok (.aload_n 0, 1) := dk_42 (dk_at dksX0_best_1 7 rfl rfl)
theorem dX0_best_32 : decode cX0_best 32 = .ok (.getfield 10, 3) := dk_180 0 10 (dk_at dksX0_best_1 8 rfl rfl)
theorem dX0_best_35 : decode cX0_best 35 = .ok (.if_icmp .ge 51, 3) := dk_162 0 51 (dk_at dksX0_best_1 11 rfl rfl)
theorem dX0_best_38 : decode cX0_best 38 = .ok (.iload 5, 2) := dk_21 5 (dk_at dksX0_best_1 14 rfl rfl)
theorem dX0_best_40 : decode cX0_best 40 = .ok (.iload_n 1, 1) := dk_27 (dk_at dksX0_best_1 16 rfl rfl)
theorem dX0_best_41 : decode cX0_best 41 = .ok (.if_icmp .ne 7, 3) := dk_160 0 7 (dk_at dksX0_best_1 17 rfl rfl)
theorem dX0_best_44 : decode cX0_best 44 = .ok (.iconst (-1), 1) := dk_2 (dk_at dksX0_best_1 20 rfl rfl)
theorem dX0_best_45 : decode cX0_best 45 = .ok (.goto 10, 3) := dk_167 0 10 (dk_at dksX0_best_1 21 rfl rfl)
theorem dX0_best_48 : decode cX0_best 48 = .ok (.aload_n 0, 1) := dk_42 (dk_at dksX0_best_2 0 rfl rfl)
theorem dX0_best_49 : decode cX0_best 49 = .ok (.iload_n 1, 1) := dk_27 (dk_at dksX0_best_2 1 rfl rfl)
theorem dX0_best_50 : decode cX0_best 50 = .ok (.iload 5, 2) := dk_21 5 (dk_at dksX0_best_2 2 rfl rfl)
theorem dX0_best_52 : decode cX0_best 52 = .ok (.invokevirtual 382, 3) := dk_182 1 126 (dk_at dksX0_best_2 4 rfl rfl)
theorem dX0_best_55 : decode cX0_best 55 = .ok (.istore 6, 2) := dk_54 6 (dk_at dksX0_best_2 7 rfl rfl)
theorem dX0_best_57 : decode cX0_best 57 = .ok (.iload 6, 2) := dk_21 6 (dk_at dksX0_best_2 9 rfl rfl)
theorem dX0_best_59 : decode cX0_best 59 = .ok (.iload 4, 2) := dk_21 4 (dk_at dksX0_best_2 11 rfl rfl)
theorem dX0_best_61 : decode cX0_best 61 = .ok (.if_icmp .le 8, 3) := dk_164 0 8 (dk_at dksX0_best_2 13 rfl rfl)
theorem dX0_best_64 : decode cX0_best 64 = .ok (.iload 5, 2) := dk_21 5 (dk_at dksX0_best_2 16 rfl rfl)
theorem dX0_best_66 : decode cX0_best 66 = .ok (.goto 4, 3) := dk_167 0 4 (dk_at dksX0_best_2 18 rfl rfl)
theorem dX0_best_69 : decode cX0_best 69 = .ok (.iload_n 3, 1) := dk_29 (dk_at dksX0_best_2 21 rfl rfl)
theorem dX0_best_70 : decode cX0_best 70 = .ok (.istore_n 3, 1) := dk_62 (dk_at dksX0_best_2 22 rfl rfl)
theorem dX0_best_71 : decode cX0_best 71 = .ok (.iload 4, 2) := dk_21 4 (dk_at dksX0_best_3 0 rfl rfl)
theorem dX0_best_73 : decode cX0_best 73 = .ok (.iload 6, 2) := dk_21 6 (dk_at dksX0_best_3 2 rfl rfl)
theorem dX0_best_75 : decode cX0_best 75 = .ok (.invokestatic 7, 3) := dk_184 0 7 (dk_at dksX0_best_3 4 rfl rfl)
theorem dX0_best_78 : decode cX0_best 78 = .ok (.istore 4, 2) := dk_54 4 (dk_at dksX0_best_3 7 rfl rfl)
theorem dX0_best_80 : decode cX0_best 80 = .ok (.iinc 5 1, 3) := dk_132 5 1 (dk_at dksX0_best_3 9 rfl rfl)
theorem dX0_best_83 : decode cX0_best 83 = .ok (.goto (-54), 3) := dk_167 255 202 (dk_at dksX0_best_3 12 rfl rfl)
theorem dX0_best_86 : decode cX0_best 86 = .ok (.iload_n 2, 1) := dk_28 (dk_at dksX0_best_3 15 rfl rfl)
theorem dX0_best_87 : decode cX0_best 87 = .ok (.ifCond .ne 7, 3) := dk_154 0 7 (dk_at dksX0_best_3 16 rfl rfl)
theorem dX0_best_90 : decode cX0_best 90 = .ok (.iload_n 3, 1) := dk_29 (dk_at dksX0_best_3 19 rfl rfl)
theorem dX0_best_91 : decode cX0_best 91 = .ok (.goto 5, 3) := dk_167 0 5 (dk_at dksX0_best_3 20 rfl rfl)
theorem dX0_best_94 : decode cX0_best 94 = .ok (.iload 4, 2) := dk_21 4 (dk_at dksX0_best_4 0 rfl rfl)
theorem dX0_best_96 : decode cX0_best 96 = .ok (.ireturn, 1) := dk_172 (dk_at dksX0_best_4 2 rfl rfl)
abbrev cX0_order : ByteArray := prog_1_method_64_code
def yX0_order : MethodName := ⟨RX0, "order", "(II)I"⟩
def dkwX0_order_2 : List UInt8 := [3, 3, 182, 1, 194, 28, 154, 0, 10, 42, 180, 1, 191, 167, 0, 7, 42, 180, 1, 188, 172]
abbrev dktX0_order_2 : List UInt8 := dkwX0_order_2 ++ []
def dkwX0_order_1 : List UInt8 := [181, 1, 188, 42, 3, 181, 1, 191, 42, 27, 4, 42, 180, 0, 10, 120, 4, 100, 4, 27, 120, 2, 130, 126]
abbrev dktX0_order_1 : List UInt8 := dkwX0_order_1 ++ dktX0_order_2
def dkwX0_order_0 : List UInt8 := [42, 27, 182, 0, 20, 153, 0, 13, 28, 133, 9, 10, 184, 0, 16, 154, 0, 6, 16, 254, 172, 42, 2]
abbrev dktX0_order_0 : List UInt8 := dkwX0_order_0 ++ dktX0_order_1
theorem dksX0_order_0 : cX0_order.data.toList.drop 0 = dktX0_order_0 := by decide +kernel
theorem dksX0_order_1 : cX0_order.data.toList.drop 23 = dktX0_order_1 := dk_seg dksX0_order_0 23 rfl rfl
theorem dksX0_order_2 : cX0_order.data.toList.drop 47 = dktX0_order_2 := dk_seg dksX0_order_1 24 rfl rfl
theorem dX0_order_0 : decode cX0_order 0 = .ok (.aload_n 0, 1) := dk_42 (dk_at dksX0_order_0 0 rfl rfl)
theorem dX0_order_1 : decode cX0_order 1 = .ok (.iload_n 1, 1) := dk_27 (dk_at dksX0_order_0 1 rfl rfl)
theorem dX0_order_2 : decode cX0_order 2 = .ok (.invokevirtual 20, 3) := dk_182 0 20 (dk_at dksX0_order_0 2 rfl rfl)
theorem dX0_order_5 : decode cX0_order 5 = .ok (.ifCond .eq 13, 3) := dk_153 0 13 (dk_at dksX0_order_0 5 rfl rfl)
theorem dX0_order_8 : decode cX0_order 8 = .ok (.iload_n 2, 1) := dk_28 (dk_at dksX0_order_0 8 rfl rfl)
theorem dX0_order_9 : decode cX0_order 9 = .ok (.i2l, 1) := dk_133 (dk_at dksX0_order_0 9 rfl rfl)
theorem dX0_order_10 : decode cX0_order 10 = .ok (.lconst 0, 1) := dk_9 (dk_at dksX0_order_0 10 rfl rfl)
theorem dX0_order_11 : decode cX0_order 11 = .ok (.lconst 1, 1) := dk_10 (dk_at dksX0_order_0 11 rfl rfl)
theorem dX0_order_12 : decode cX0_order 12 = .ok (.invokestatic 16, 3) := dk_184 0 16 (dk_at dksX0_order_0 12 rfl rfl)
theorem dX0_order_15 : decode cX0_order 15 = .ok (.ifCond .ne 6, 3) := dk_154 0 6 (dk_at dksX0_order_0 15 rfl rfl)
theorem dX0_order_18 : decode cX0_order 18 = .ok (.bipush (-2), 2) := dk_16 254 (dk_at dksX0_order_0 18 rfl rfl)
theorem dX0_order_20 : decode cX0_order 20 = .ok (.ireturn, 1) := dk_172 (dk_at dksX0_order_0 20 rfl rfl)
theorem dX0_order_21 : decode cX0_order 21 = .ok (.aload_n 0, 1) := dk_42 (dk_at dksX0_order_0 21 rfl rfl)
theorem dX0_order_22 : decode cX0_order 22 = .ok (.iconst (-1), 1) := dk_2 (dk_at dksX0_order_0 22 rfl rfl)
theorem dX0_order_23 : decode cX0_order 23 = .ok (.putfield 444, 3) := dk_181 1 188 (dk_at dksX0_order_1 0 rfl rfl)
theorem dX0_order_26 : decode cX0_order 26 = .ok (.aload_n 0, 1) := dk_42 (dk_at dksX0_order_1 3 rfl rfl)
theorem dX0_order_27 : decode cX0_order 27 = .ok (.iconst 0, 1) := dk_3 (dk_at dksX0_order_1 4 rfl rfl)
theorem dX0_order_28 : decode cX0_order 28 = .ok (.putfield 447, 3) := dk_181 1 191 (dk_at dksX0_order_1 5 rfl rfl)
theorem dX0_order_31 : decode cX0_order 31 = .ok (.aload_n 0, 1) := dk_42 (dk_at dksX0_order_1 8 rfl rfl)
theorem dX0_order_32 : decode cX0_order 32 = .ok (.iload_n 1, 1) := dk_27 (dk_at dksX0_order_1 9 rfl rfl)
theorem dX0_order_33 : decode cX0_order 33 = .ok (.iconst 1, 1) := dk_4 (dk_at dksX0_order_1 10 rfl rfl)
theorem dX0_order_34 : decode cX0_order 34 = .ok (.aload_n 0, 1) := dk_42 (dk_at dksX0_order_1 11 rfl rfl)
theorem dX0_order_35 : decode cX0_order 35 = .ok (.getfield 10, 3) := dk_180 0 10 (dk_at dksX0_order_1 12 rfl rfl)
theorem dX0_order_38 : decode cX0_order 38 = .ok (.ishl, 1) := dk_120 (dk_at dksX0_order_1 15 rfl rfl)
theorem dX0_order_39 : decode cX0_order 39 = .ok (.iconst 1, 1) := dk_4 (dk_at dksX0_order_1 16 rfl rfl)
theorem dX0_order_40 : decode cX0_order 40 = .ok (.isub, 1) := dk_100 (dk_at dksX0_order_1 17 rfl rfl)
theorem dX0_order_41 : decode cX0_order 41 = .ok (.iconst 1, 1) := dk_4 (dk_at dksX0_order_1 18 rfl rfl)
theorem dX0_order_42 : decode cX0_order 42 = .ok (.iload_n 1, 1) := dk_27 (dk_at dksX0_order_1 19 rfl rfl)
theorem dX0_order_43 : decode cX0_order 43 = .ok (.ishl, 1) := dk_120 (dk_at dksX0_order_1 20 rfl rfl)
theorem dX0_order_44 : decode cX0_order 44 = .ok (.iconst (-1), 1) := dk_2 (dk_at dksX0_order_1 21 rfl rfl)
theorem dX0_order_45 : decode cX0_order 45 = .ok (.ixor, 1) := dk_130 (dk_at dksX0_order_1 22 rfl rfl)
theorem dX0_order_46 : decode cX0_order 46 = .ok (.iand, 1) := dk_126 (dk_at dksX0_order_1 23 rfl rfl)
theorem dX0_order_47 : decode cX0_order 47 = .ok (.iconst 0, 1) := dk_3 (dk_at dksX0_order_2 0 rfl rfl)
theorem dX0_order_48 : decode cX0_order 48 = .ok (.iconst 0, 1) := dk_3 (dk_at dksX0_order_2 1 rfl rfl)
theorem dX0_order_49 : decode cX0_order 49 = .ok (.invokevirtual 450, 3) := dk_182 1 194 (dk_at dksX0_order_2 2 rfl rfl)
theorem dX0_order_52 : decode cX0_order 52 = .ok (.iload_n 2, 1) := dk_28 (dk_at dksX0_order_2 5 rfl rfl)
theorem dX0_order_53 : decode cX0_order 53 = .ok (.ifCond .ne 10, 3) := dk_154 0 10 (dk_at dksX0_order_2 6 rfl rfl)
theorem dX0_order_56 : decode cX0_order 56 = .ok (.aload_n 0, 1) := dk_42 (dk_at dksX0_order_2 9 rfl rfl)
theorem dX0_order_57 : decode cX0_order 57 = .ok (.getfield 447, 3) := dk_180 1 191 (dk_at dksX0_order_2 10 rfl rfl)
theorem dX0_order_60 : decode cX0_order 60 = .ok (.goto 7, 3) := dk_167 0 7 (dk_at dksX0_order_2 13 rfl rfl)
theorem dX0_order_63 : decode cX0_order 63 = .ok (.aload_n 0, 1) := dk_42 (dk_at dksX0_order_2 16 rfl rfl)
theorem dX0_order_64 : decode cX0_order 64 = .ok (.getfield 444, 3) := dk_180 1 188 (dk_at dksX0_order_2 17 rfl rfl)
theorem dX0_order_67 : decode cX0_order 67 = .ok (.ireturn, 1) := dk_172 (dk_at dksX0_order_2 20 rfl rfl)
abbrev cX0_orders : ByteArray := prog_1_method_63_code
def yX0_orders : MethodName := ⟨RX0, "orders", "(IIII)V"⟩
def dkwX0_orders_4 : List UInt8 := [104, 21, 5, 96, 4, 96, 182, 1, 194, 42, 29, 182, 1, 120, 132, 5, 1, 167, 255, 188, 177]
abbrev dktX0_orders_4 : List UInt8 := dkwX0_orders_4 ++ []
def dkwX0_orders_3 : List UInt8 := [27, 21, 5, 182, 1, 119, 87, 42, 27, 28, 4, 21, 5, 120, 2, 130, 126, 29, 4, 96, 16, 10, 21, 4]
abbrev dktX0_orders_3 : List UInt8 := dkwX0_orders_3 ++ dktX0_orders_4
def dkwX0_orders_2 : List UInt8 := [180, 0, 10, 162, 0, 65, 28, 21, 5, 184, 0, 69, 154, 0, 6, 167, 0, 47, 42, 29, 182, 1, 116, 42]
abbrev dktX0_orders_2 : List UInt8 := dkwX0_orders_2 ++ dktX0_orders_3
def dkwX0_orders_1 : List UInt8 := [180, 0, 51, 27, 50, 182, 0, 107, 181, 1, 188, 42, 21, 4, 181, 1, 191, 177, 3, 54, 5, 21, 5, 42]
abbrev dktX0_orders_1 : List UInt8 := dkwX0_orders_1 ++ dktX0_orders_2
def dkwX0_orders_0 : List UInt8 := [28, 154, 0, 39, 42, 180, 0, 51, 27, 50, 182, 0, 107, 42, 180, 1, 188, 164, 0, 22, 42, 42]
abbrev dktX0_orders_0 : List UInt8 := dkwX0_orders_0 ++ dktX0_orders_1
theorem dksX0_orders_0 : cX0_orders.data.toList.drop 0 = dktX0_orders_0 := by decide +kernel
theorem dksX0_orders_1 : cX0_orders.data.toList.drop 22 = dktX0_orders_1 := dk_seg dksX0_orders_0 22 rfl rfl
theorem dksX0_orders_2 : cX0_orders.data.toList.drop 46 = dktX0_orders_2 := dk_seg dksX0_orders_1 24 rfl rfl
theorem dksX0_orders_3 : cX0_orders.data.toList.drop 70 = dktX0_orders_3 := dk_seg dksX0_orders_2 24 rfl rfl
theorem dksX0_orders_4 : cX0_orders.data.toList.drop 94 = dktX0_orders_4 := dk_seg dksX0_orders_3 24 rfl rfl
theorem dX0_orders_0 : decode cX0_orders 0 = .ok (.iload_n 2, 1) := dk_28 (dk_at dksX0_orders_0 0 rfl rfl)
theorem dX0_orders_1 : decode cX0_orders 1 = .ok (.ifCond .ne 39, 3) := dk_154 0 39 (dk_at dksX0_orders_0 1 rfl rfl)
theorem dX0_orders_4 : decode cX0_orders 4 = .ok (.aload_n 0, 1) := dk_42 (dk_at dksX0_orders_0 4 rfl rfl)
theorem dX0_orders_5 : decode cX0_orders 5 = .ok (.getfield 51, 3) := dk_180 0 51 (dk_at dksX0_orders_0 5 rfl rfl)
theorem dX0_orders_8 : decode cX0_orders 8 = .ok (.iload_n 1, 1) := dk_27 (dk_at dksX0_orders_0 8 rfl rfl)
theorem dX0_orders_9 : decode cX0_orders 9 = .ok (.aaload, 1) := dk_50 (dk_at dksX0_orders_0 9 rfl rfl)
theorem dX0_orders_10 : decode cX0_orders 10 = .ok (.invokevirtual 107, 3) := dk_182 0 107 (dk_at dksX0_orders_0 10 rfl rfl)
theorem dX0_orders_13 : decode cX0_orders 13 = .ok (.aload_n 0, 1) := dk_42 (dk_at dksX0_orders_0 13 rfl rfl)
theorem dX0_orders_14 : decode cX0_orders 14 = .ok (.getfield 444, 3) := dk_180 1 188 (dk_at dksX0_orders_0 14 rfl rfl)
theorem dX0_orders_17 : decode cX0_orders 17 = .ok (.if_icmp .le 22, 3) := dk_164 0 22 (dk_at dksX0_orders_0 17 rfl rfl)
theorem dX0_orders_20 : decode cX0_orders 20 = .ok (.aload_n 0, 1) := dk_42 (dk_at dksX0_orders_0 20 rfl rfl)
theorem dX0_orders_21 : decode cX0_orders 21 = .ok (.aload_n 0, 1) := dk_42 (dk_at dksX0_orders_0 21 rfl rfl)
theorem dX0_orders_22 : decode cX0_orders 22 = .ok (.getfield 51, 3) := dk_180 0 51 (dk_at dksX0_orders_1 0 rfl rfl)
theorem dX0_orders_25 : decode cX0_orders 25 = .ok (.iload_n 1, 1) := dk_27 (dk_at dksX0_orders_1 3 rfl rfl)
theorem dX0_orders_26 : decode cX0_orders 26 = .ok (.aaload, 1) := dk_50 (dk_at dksX0_orders_1 4 rfl rfl)
theorem dX0_orders_27 : decode cX0_orders 27 = .ok (.invokevirtual 107, 3) := dk_182 0 107 (dk_at dksX0_orders_1 5 rfl rfl)
theorem dX0_orders_30 : decode cX0_orders 30 = .ok (.putfield 444, 3) := dk_181 1 188 (dk_at dksX0_orders_1 8 rfl rfl)
theorem dX0_orders_33 : decode cX0_orders 33 = .ok (.aload_n 0, 1) := dk_42 (dk_at dksX0_orders_1 11 rfl rfl)
theorem dX0_orders_34 : decode cX0_orders 34 = .ok (.iload 4, 2) := dk_21 4 (dk_at dksX0_orders_1 12 rfl rfl)
theorem dX0_orders_36 : decode cX0_orders 36 = .ok (.putfield 447, 3) := dk_181 1 191 (dk_at dksX0_orders_1 14 rfl rfl)
theorem dX0_orders_39 : decode cX0_orders 39 = .ok (.return_, 1) := dk_177 (dk_at dksX0_orders_1 17 rfl rfl)
theorem dX0_orders_40 : decode cX0_orders 40 = .ok (.iconst 0, 1) := dk_3 (dk_at dksX0_orders_1 18 rfl rfl)
theorem dX0_orders_41 : decode cX0_orders 41 = .ok (.istore 5, 2) := dk_54 5 (dk_at dksX0_orders_1 19 rfl rfl)
theorem dX0_orders_43 : decode cX0_orders 43 = .ok (.iload 5, 2) := dk_21 5 (dk_at dksX0_orders_1 21 rfl rfl)
theorem dX0_orders_45 : decode cX0_orders 45 = .ok (.aload_n 0, 1) := dk_42 (dk_at dksX0_orders_1 23 rfl rfl)
theorem dX0_orders_46 : decode cX0_orders 46 = .ok (.getfield 10, 3) := dk_180 0 10 (dk_at dksX0_orders_2 0 rfl rfl)
theorem dX0_orders_49 : decode cX0_orders 49 = .ok (.if_icmp .ge 65, 3) := dk_162 0 65 (dk_at dksX0_orders_2 3 rfl rfl)
theorem dX0_orders_52 : decode cX0_orders 52 = .ok (.iload_n 2, 1) := dk_28 (dk_at dksX0_orders_2 6 rfl rfl)
theorem dX0_orders_53 : decode cX0_orders 53 = .ok (.iload 5, 2) := dk_21 5 (dk_at dksX0_orders_2 7 rfl rfl)
theorem dX0_orders_55 : decode cX0_orders 55 = .ok (.invokestatic 69, 3) := dk_184 0 69 (dk_at dksX0_orders_2 9 rfl rfl)
theorem dX0_orders_58 : decode cX0_orders 58 = .ok (.ifCond .ne 6, 3) := dk_154 0 6 (dk_at dksX0_orders_2 12 rfl rfl)
theorem dX0_orders_61 : decode cX0_orders 61 = .ok (.goto 47, 3) := dk_167 0 47 (dk_at dksX0_orders_2 15 rfl rfl)
theorem dX0_orders_64 : decode cX0_orders 64 = .ok (.aload_n 0, 1) := dk_42 (dk_at dksX0_orders_2 18 rfl rfl)
theorem dX0_orders_65 : decode cX0_orders 65 = .ok (.iload_n 3, 1) := dk_29 (dk_at dksX0_orders_2 19 rfl rfl)
theorem dX0_orders_66 : decode cX0_orders 66 = .ok (.invokevirtual 372, 3) := dk_182 1 116 (dk_at dksX0_orders_2 20 rfl rfl)
theorem dX0_orders_69 : decode cX0_orders 69 = .ok (.aload_n 0, 1) := dk_42 (dk_at dksX0_orders_2 23 rfl rfl)
theorem dX0_orders_70 : decode cX0_orders 70 = .ok (.iload_n 1, 1) := dk_27 (dk_at dksX0_orders_3 0 rfl rfl)
theorem dX0_orders_71 : decode cX0_orders 71 = .ok (.iload 5, 2) := dk_21 5 (dk_at dksX0_orders_3 1 rfl rfl)
theorem dX0_orders_73 : decode cX0_orders 73 = .ok (.invokevirtual 375, 3) := dk_182 1 119 (dk_at dksX0_orders_3 3 rfl rfl)
theorem dX0_orders_76 : decode cX0_orders 76 = .ok (.pop, 1) := dk_87 (dk_at dksX0_orders_3 6 rfl rfl)
theorem dX0_orders_77 : decode cX0_orders 77 = .ok (.aload_n 0, 1) := dk_42 (dk_at dksX0_orders_3 7 rfl rfl)
theorem dX0_orders_78 : decode cX0_orders 78 = .ok (.iload_n 1, 1) := dk_27 (dk_at dksX0_orders_3 8 rfl rfl)
theorem dX0_orders_79 : decode cX0_orders 79 = .ok (.iload_n 2, 1) := dk_28 (dk_at dksX0_orders_3 9 rfl rfl)
theorem dX0_orders_80 : decode cX0_orders 80 = .ok (.iconst 1, 1) := dk_4 (dk_at dksX0_orders_3 10 rfl rfl)
theorem dX0_orders_81 : decode cX0_orders 81 = .ok (.iload 5, 2) := dk_21 5 (dk_at dksX0_orders_3 11 rfl rfl)
theorem dX0_orders_83 : decode cX0_orders 83 = .ok (.ishl, 1) := dk_120 (dk_at dksX0_orders_3 13 rfl rfl)
theorem dX0_orders_84 : decode cX0_orders 84 = .ok (.iconst (-1), 1) := dk_2 (dk_at dksX0_orders_3 14 rfl rfl)
theorem dX0_orders_85 : decode cX0_orders 85 = .ok (.ixor, 1) := dk_130 (dk_at dksX0_orders_3 15 rfl rfl)
theorem dX0_orders_86 : decode cX0_orders 86 = .ok (.iand, 1) := dk_126 (dk_at dksX0_orders_3 16 rfl rfl)
theorem dX0_orders_87 : decode cX0_orders 87 = .ok (.iload_n 3, 1) := dk_29 (dk_at dksX0_orders_3 17 rfl rfl)
theorem dX0_orders_88 : decode cX0_orders 88 = .ok (.iconst 1, 1) := dk_4 (dk_at dksX0_orders_3 18 rfl rfl)
theorem dX0_orders_89 : decode cX0_orders 89 = .ok (.iadd, 1) := dk_96 (dk_at dksX0_orders_3 19 rfl rfl)
theorem dX0_orders_90 : decode cX0_orders 90 = .ok (.bipush 10, 2) := dk_16 10 (dk_at dksX0_orders_3 20 rfl rfl)
theorem dX0_orders_92 : decode cX0_orders 92 = .ok (.iload 4, 2) := dk_21 4 (dk_at dksX0_orders_3 22 rfl rfl)
theorem dX0_orders_94 : decode cX0_orders 94 = .ok (.imul, 1) := dk_104 (dk_at dksX0_orders_4 0 rfl rfl)
theorem dX0_orders_95 : decode cX0_orders 95 = .ok (.iload 5, 2) := dk_21 5 (dk_at dksX0_orders_4 1 rfl rfl)
theorem dX0_orders_97 : decode cX0_orders 97 = .ok (.iadd, 1) := dk_96 (dk_at dksX0_orders_4 3 rfl rfl)
theorem dX0_orders_98 : decode cX0_orders 98 = .ok (.iconst 1, 1) := dk_4 (dk_at dksX0_orders_4 4 rfl rfl)
theorem dX0_orders_99 : decode cX0_orders 99 = .ok (.iadd, 1) := dk_96 (dk_at dksX0_orders_4 5 rfl rfl)
theorem dX0_orders_100 : decode cX0_orders 100 = .ok (.invokevirtual 450, 3) := dk_182 1 194 (dk_at dksX0_orders_4 6 rfl rfl)
theorem dX0_orders_103 : decode cX0_orders 103 = .ok (.aload_n 0, 1) := dk_42 (dk_at dksX0_orders_4 9 rfl rfl)
theorem dX0_orders_104 : decode cX0_orders 104 = .ok (.iload_n 3, 1) := dk_29 (dk_at dksX0_orders_4 10 rfl rfl)
theorem dX0_orders_105 : decode cX0_orders 105 = .ok (.invokevirtual 376, 3) := dk_182 1 120 (dk_at dksX0_orders_4 11 rfl rfl)
theorem dX0_orders_108 : decode cX0_orders 108 = .ok (.iinc 5 1, 3) := dk_132 5 1 (dk_at dksX0_orders_4 14 rfl rfl)
theorem dX0_orders_111 : decode cX0_orders 111 = .ok (.goto (-68), 3) := dk_167 255 188 (dk_at dksX0_orders_4 17 rfl rfl)
theorem dX0_orders_114 : decode cX0_orders 114 = .ok (.return_, 1) := dk_177 (dk_at dksX0_orders_4 20 rfl rfl)
abbrev cX0_all : ByteArray := prog_1_method_66_code
def yX0_all : MethodName := ⟨RX0, "all", "(I)I"⟩
def dkwX0_all_1 : List UInt8 := [7, 164, 0, 6, 16, 253, 172, 42, 3, 181, 1, 198, 42, 27, 3, 182, 1, 201, 42, 180, 1, 198, 172]
abbrev dktX0_all_1 : List UInt8 := dkwX0_all_1 ++ []
def dkwX0_all_0 : List UInt8 := [27, 133, 9, 20, 1, 204, 184, 0, 16, 154, 0, 6, 16, 254, 172, 27, 6, 160, 0, 14, 42, 180, 0, 10]
abbrev dktX0_all_0 : List UInt8 := dkwX0_all_0 ++ dktX0_all_1
theorem dksX0_all_0 : cX0_all.data.toList.drop 0 = dktX0_all_0 := by decide +kernel
theorem dksX0_all_1 : cX0_all.data.toList.drop 24 = dktX0_all_1 := dk_seg dksX0_all_0 24 rfl rfl
theorem dX0_all_0 : decode cX0_all 0 = .ok (.iload_n 1, 1) := dk_27 (dk_at dksX0_all_0 0 rfl rfl)
theorem dX0_all_1 : decode cX0_all 1 = .ok (.i2l, 1) := dk_133 (dk_at dksX0_all_0 1 rfl rfl)
theorem dX0_all_2 : decode cX0_all 2 = .ok (.lconst 0, 1) := dk_9 (dk_at dksX0_all_0 2 rfl rfl)
theorem dX0_all_3 : decode cX0_all 3 = .ok (.ldc2_w 460, 3) := dk_20 1 204 (dk_at dksX0_all_0 3 rfl rfl)
theorem dX0_all_6 : decode cX0_all 6 = .ok (.invokestatic 16, 3) := dk_184 0 16 (dk_at dksX0_all_0 6 rfl rfl)
theorem dX0_all_9 : decode cX0_all 9 = .ok (.ifCond .ne 6, 3) := dk_154 0 6 (dk_at dksX0_all_0 9 rfl rfl)
theorem dX0_all_12 : decode cX0_all 12 = .ok (.bipush (-2), 2) := dk_16 254 (dk_at dksX0_all_0 12 rfl rfl)
theorem dX0_all_14 : decode cX0_all 14 = .ok (.ireturn, 1) := dk_172 (dk_at dksX0_all_0 14 rfl rfl)
theorem dX0_all_15 : decode cX0_all 15 = .ok (.iload_n 1, 1) := dk_27 (dk_at dksX0_all_0 15 rfl rfl)
theorem dX0_all_16 : decode cX0_all 16 = .ok (.iconst 3, 1) := dk_6 (dk_at dksX0_all_0 16 rfl rfl)
theorem dX0_all_17 : decode cX0_all 17 = .ok (.if_icmp .ne 14, 3) := dk_160 0 14 (dk_at dksX0_all_0 17 rfl rfl)
theorem dX0_all_20 : decode cX0_all 20 = .ok (.aload_n 0, 1) := dk_42 (dk_at dksX0_all_0 20 rfl rfl)
theorem dX0_all_21 : decode cX0_all 21 = .ok (.getfield 10, 3) := dk_180 0 10 (dk_at dksX0_all_0 21 rfl rfl)
theorem dX0_all_24 : decode cX0_all 24 = .ok (.iconst 4, 1) := dk_7 (dk_at dksX0_all_1 0 rfl rfl)
theorem dX0_all_25 : decode cX0_all 25 = .ok (.if_icmp .le 6, 3) := dk_164 0 6 (dk_at dksX0_all_1 1 rfl rfl)
theorem dX0_all_28 : decode cX0_all 28 = .ok (.bipush (-3), 2) := dk_16 253 (dk_at dksX0_all_1 4 rfl rfl)
theorem dX0_all_30 : decode cX0_all 30 = .ok (.ireturn, 1) := dk_172 (dk_at dksX0_all_1 6 rfl rfl)
theorem dX0_all_31 : decode cX0_all 31 = .ok (.aload_n 0, 1) := dk_42 (dk_at dksX0_all_1 7 rfl rfl)
theorem dX0_all_32 : decode cX0_all 32 = .ok (.iconst 0, 1) := dk_3 (dk_at dksX0_all_1 8 rfl rfl)
theorem dX0_all_33 : decode cX0_all 33 = .ok (.putfield 454, 3) := dk_181 1 198 (dk_at dksX0_all_1 9 rfl rfl)
theorem dX0_all_36 : decode cX0_all 36 = .ok (.aload_n 0, 1) := dk_42 (dk_at dksX0_all_1 12 rfl rfl)
theorem dX0_all_37 : decode cX0_all 37 = .ok (.iload_n 1, 1) := dk_27 (dk_at dksX0_all_1 13 rfl rfl)
theorem dX0_all_38 : decode cX0_all 38 = .ok (.iconst 0, 1) := dk_3 (dk_at dksX0_all_1 14 rfl rfl)
theorem dX0_all_39 : decode cX0_all 39 = .ok (.invokevirtual 457, 3) := dk_182 1 201 (dk_at dksX0_all_1 15 rfl rfl)
theorem dX0_all_42 : decode cX0_all 42 = .ok (.aload_n 0, 1) := dk_42 (dk_at dksX0_all_1 18 rfl rfl)
theorem dX0_all_43 : decode cX0_all 43 = .ok (.getfield 454, 3) := dk_180 1 198 (dk_at dksX0_all_1 19 rfl rfl)
theorem dX0_all_46 : decode cX0_all 46 = .ok (.ireturn, 1) := dk_172 (dk_at dksX0_all_1 22 rfl rfl)
abbrev cX0_goesOn : ByteArray := prog_1_method_65_code
def yX0_goesOn : MethodName := ⟨RX0, "goesOn", "(II)V"⟩
def dkwX0_goesOn_4 : List UInt8 := [182, 1, 201, 42, 28, 182, 1, 120, 132, 4, 1, 167, 255, 216, 132, 3, 1, 167, 255, 193, 177]
abbrev dktX0_goesOn_4 : List UInt8 := dkwX0_goesOn_4 ++ []
def dkwX0_goesOn_3 : List UInt8 := [162, 0, 37, 42, 28, 182, 1, 116, 42, 29, 21, 4, 182, 1, 119, 87, 42, 27, 4, 100, 28, 4, 96]
abbrev dktX0_goesOn_3 : List UInt8 := dkwX0_goesOn_3 ++ dktX0_goesOn_4
def dkwX0_goesOn_2 : List UInt8 := [62, 29, 42, 180, 0, 10, 162, 0, 61, 27, 158, 0, 57, 29, 4, 96, 54, 4, 21, 4, 42, 180, 0, 10]
abbrev dktX0_goesOn_2 : List UInt8 := dkwX0_goesOn_2 ++ dktX0_goesOn_3
def dkwX0_goesOn_1 : List UInt8 := [17, 0, 255, 160, 0, 9, 4, 29, 120, 167, 0, 4, 3, 128, 181, 1, 198, 132, 3, 1, 167, 255, 214, 3]
abbrev dktX0_goesOn_1 : List UInt8 := dkwX0_goesOn_1 ++ dktX0_goesOn_2
def dkwX0_goesOn_0 : List UInt8 := [3, 62, 29, 42, 180, 0, 10, 162, 0, 40, 42, 89, 180, 1, 198, 42, 180, 0, 51, 29, 50, 180, 0, 66]
abbrev dktX0_goesOn_0 : List UInt8 := dkwX0_goesOn_0 ++ dktX0_goesOn_1
theorem dksX0_goesOn_0 : cX0_goesOn.data.toList.drop 0 = dktX0_goesOn_0 := by decide +kernel
theorem dksX0_goesOn_1 : cX0_goesOn.data.toList.drop 24 = dktX0_goesOn_1 := dk_seg dksX0_goesOn_0 24 rfl rfl
theorem dksX0_goesOn_2 : cX0_goesOn.data.toList.drop 48 = dktX0_goesOn_2 := dk_seg dksX0_goesOn_1 24 rfl rfl
theorem dksX0_goesOn_3 : cX0_goesOn.data.toList.drop 72 = dktX0_goesOn_3 := dk_seg dksX0_goesOn_2 24 rfl rfl
theorem dksX0_goesOn_4 : cX0_goesOn.data.toList.drop 95 = dktX0_goesOn_4 := dk_seg dksX0_goesOn_3 23 rfl rfl
theorem dX0_goesOn_0 : decode cX0_goesOn 0 = .ok (.iconst 0, 1) := dk_3 (dk_at dksX0_goesOn_0 0 rfl rfl)
theorem dX0_goesOn_1 : decode cX0_goesOn 1 = .ok (.istore_n 3, 1) := dk_62 (dk_at dksX0_goesOn_0 1 rfl rfl)
theorem dX0_goesOn_2 : decode cX0_goesOn 2 = .ok (.iload_n 3, 1) := dk_29 (dk_at dksX0_goesOn_0 2 rfl rfl)
theorem dX0_goesOn_3 : decode cX0_goesOn 3 = .ok (.aload_n 0, 1) := dk_42 (dk_at dksX0_goesOn_0 3 rfl rfl)
theorem dX0_goesOn_4 : decode cX0_goesOn 4 = .ok (.getfield 10, 3) := dk_180 0 10 (dk_at dksX0_goesOn_0 4 rfl rfl)
theorem dX0_goesOn_7 : decode cX0_goesOn 7 = .ok (.if_icmp .ge 40, 3) := dk_162 0 40 (dk_at dksX0_goesOn_0 7 rfl rfl)
theorem dX0_goesOn_10 : decode cX0_goesOn 10 = .ok (.aload_n 0, 1) := dk_42 (dk_at dksX0_goesOn_0 10 rfl rfl)
theorem dX0_goesOn_11 : decode cX0_goesOn 11 = .ok (.dup, 1) := dk_89 (dk_at dksX0_goesOn_0 11 rfl rfl)
theorem dX0_goesOn_12 : decode cX0_goesOn 12 = .ok (.getfield 454, 3) := dk_180 1 198 (dk_at dksX0_goesOn_0 12 rfl rfl)
theorem dX0_goesOn_15 : decode cX0_goesOn 15 = .ok (.aload_n 0, 1) := dk_42 (dk_at dksX0_goesOn_0 15 rfl rfl)
theorem dX0_goesOn_16 : decode cX0_goesOn 16 = .ok (.getfield 51, 3) := dk_180 0 51 (dk_at dksX0_goesOn_0 16 rfl rfl)
theorem dX0_goesOn_19 : decode cX0_goesOn 19 = .ok (.iload_n 3, 1) := dk_29 (dk_at dksX0_goesOn_0 19 rfl rfl)
theorem dX0_goesOn_20 : decode cX0_goesOn 20 = .ok (.aaload, 1) := dk_50 (dk_at dksX0_goesOn_0 20 rfl rfl)
theorem dX0_goesOn_21 : decode cX0_goesOn 21 = .ok (.getfield 66, 3) := dk_180 0 66 (dk_at dksX0_goesOn_0 21 rfl rfl)
theorem dX0_goesOn_24 : decode cX0_goesOn 24 = .ok (.sipush 255, 3) := dk_17 0 255 (dk_at dksX0_goesOn_1 0 rfl rfl)
theorem dX0_goesOn_27 : decode cX0_goesOn 27 = .ok (.if_icmp .ne 9, 3) := dk_160 0 9 (dk_at dksX0_goesOn_1 3 rfl rfl)
theorem dX0_goesOn_30 : decode cX0_goesOn 30 = .ok (.iconst 1, 1) := dk_4 (dk_at dksX0_goesOn_1 6 rfl rfl)
theorem dX0_goesOn_31 : decode cX0_goesOn 31 = .ok (.iload_n 3, 1) := dk_29 (dk_at dksX0_goesOn_1 7 rfl rfl)
theorem dX0_goesOn_32 : decode cX0_goesOn 32 = .ok (.ishl, 1) := dk_120 (dk_at dksX0_goesOn_1 8 rfl rfl)
theorem dX0_goesOn_33 : decode cX0_goesOn 33 = .ok (.goto 4, 3) := dk_167 0 4 (dk_at dksX0_goesOn_1 9 rfl rfl)
theorem dX0_goesOn_36 : decode cX0_goesOn 36 = .ok (.iconst 0, 1) := dk_3 (dk_at dksX0_goesOn_1 12 rfl rfl)
theorem dX0_goesOn_37 : decode cX0_goesOn 37 = .ok (.ior, 1) := dk_128 (dk_at dksX0_goesOn_1 13 rfl rfl)
theorem dX0_goesOn_38 : decode cX0_goesOn 38 = .ok (.putfield 454, 3) := dk_181 1 198 (dk_at dksX0_goesOn_1 14 rfl rfl)
theorem dX0_goesOn_41 : decode cX0_goesOn 41 = .ok (.iinc 3 1, 3) := dk_132 3 1 (dk_at dksX0_goesOn_1 17 rfl rfl)
theorem dX0_goesOn_44 : decode cX0_goesOn 44 = .ok (.goto (-42), 3) := dk_167 255 214 (dk_at dksX0_goesOn_1 20 rfl rfl)
theorem dX0_goesOn_47 : decode cX0_goesOn 47 = .ok (.iconst 0, 1) := dk_3 (dk_at dksX0_goesOn_1 23 rfl rfl)
theorem dX0_goesOn_48 : decode cX0_goesOn 48 = .ok (.istore_n 3, 1) := dk_62 (dk_at dksX0_goesOn_2 0 rfl rfl)
theorem dX0_goesOn_49 : decode cX0_goesOn 49 = .ok (.iload_n 3, 1) := dk_29 (dk_at dksX0_goesOn_2 1 rfl rfl)
theorem dX0_goesOn_50 : decode cX0_goesOn 50 = .ok (.aload_n 0, 1) := dk_42 (dk_at dksX0_goesOn_2 2 rfl rfl)
theorem dX0_goesOn_51 : decode cX0_goesOn 51 = .ok (.getfield 10, 3) := dk_180 0 10 (dk_at dksX0_goesOn_2 3 rfl rfl)
theorem dX0_goesOn_54 : decode cX0_goesOn 54 = .ok (.if_icmp .ge 61, 3) := dk_162 0 61 (dk_at dksX0_goesOn_2 6 rfl rfl)
theorem dX0_goesOn_57 : decode cX0_goesOn 57 = .ok (.iload_n 1, 1) := dk_27 (dk_at dksX0_goesOn_2 9 rfl rfl)
theorem dX0_goesOn_58 : decode cX0_goesOn 58 = .ok (.ifCond .le 57, 3) := dk_158 0 57 (dk_at dksX0_goesOn_2 10 rfl rfl)
theorem dX0_goesOn_61 : decode cX0_goesOn 61 = .ok (.iload_n 3, 1) := dk_29 (dk_at dksX0_goesOn_2 13 rfl rfl)
theorem dX0_goesOn_62 : decode cX0_goesOn 62 = .ok (.iconst 1, 1) := dk_4 (dk_at dksX0_goesOn_2 14 rfl rfl)
theorem dX0_goesOn_63 : decode cX0_goesOn 63 = .ok (.iadd, 1) := dk_96 (dk_at dksX0_goesOn_2 15 rfl rfl)
theorem dX0_goesOn_64 : decode cX0_goesOn 64 = .ok (.istore 4, 2) := dk_54 4 (dk_at dksX0_goesOn_2 16 rfl rfl)
theorem dX0_goesOn_66 : decode cX0_goesOn 66 = .ok (.iload 4, 2) := dk_21 4 (dk_at dksX0_goesOn_2 18 rfl rfl)
theorem dX0_goesOn_68 : decode cX0_goesOn 68 = .ok (.aload_n 0, 1) := dk_42 (dk_at dksX0_goesOn_2 20 rfl rfl)
theorem dX0_goesOn_69 : decode cX0_goesOn 69 = .ok (.getfield 10, 3) := dk_180 0 10 (dk_at dksX0_goesOn_2 21 rfl rfl)
theorem dX0_goesOn_72 : decode cX0_goesOn 72 = .ok (.if_icmp .ge 37, 3) := dk_162 0 37 (dk_at dksX0_goesOn_3 0 rfl rfl)
theorem dX0_goesOn_75 : decode cX0_goesOn 75 = .ok (.aload_n 0, 1) := dk_42 (dk_at dksX0_goesOn_3 3 rfl rfl)
theorem dX0_goesOn_76 : decode cX0_goesOn 76 = .ok (.iload_n 2, 1) := dk_28 (dk_at dksX0_goesOn_3 4 rfl rfl)
theorem dX0_goesOn_77 : decode cX0_goesOn 77 = .ok (.invokevirtual 372, 3) := dk_182 1 116 (dk_at dksX0_goesOn_3 5 rfl rfl)
theorem dX0_goesOn_80 : decode cX0_goesOn 80 = .ok (.aload_n 0, 1) := dk_42 (dk_at dksX0_goesOn_3 8 rfl rfl)
theorem dX0_goesOn_81 : decode cX0_goesOn 81 = .ok (.iload_n 3, 1) := dk_29 (dk_at dksX0_goesOn_3 9 rfl rfl)
theorem dX0_goesOn_82 : decode cX0_goesOn 82 = .ok (.iload 4, 2) := dk_21 4 (dk_at dksX0_goesOn_3 10 rfl rfl)
theorem dX0_goesOn_84 : decode cX0_goesOn 84 = .ok (.invokevirtual 375, 3) := dk_182 1 119 (dk_at dksX0_goesOn_3 12 rfl rfl)
theorem dX0_goesOn_87 : decode cX0_goesOn 87 = .ok (.pop, 1) := dk_87 (dk_at dksX0_goesOn_3 15 rfl rfl)
theorem dX0_goesOn_88 : decode cX0_goesOn 88 = .ok (.aload_n 0, 1) := dk_42 (dk_at dksX0_goesOn_3 16 rfl rfl)
theorem dX0_goesOn_89 : decode cX0_goesOn 89 = .ok (.iload_n 1, 1) := dk_27 (dk_at dksX0_goesOn_3 17 rfl rfl)
theorem dX0_goesOn_90 : decode cX0_goesOn 90 = .ok (.iconst 1, 1) := dk_4 (dk_at dksX0_goesOn_3 18 rfl rfl)
theorem dX0_goesOn_91 : decode cX0_goesOn 91 = .ok (.isub, 1) := dk_100 (dk_at dksX0_goesOn_3 19 rfl rfl)
theorem dX0_goesOn_92 : decode cX0_goesOn 92 = .ok (.iload_n 2, 1) := dk_28 (dk_at dksX0_goesOn_3 20 rfl rfl)
theorem dX0_goesOn_93 : decode cX0_goesOn 93 = .ok (.iconst 1, 1) := dk_4 (dk_at dksX0_goesOn_3 21 rfl rfl)
theorem dX0_goesOn_94 : decode cX0_goesOn 94 = .ok (.iadd, 1) := dk_96 (dk_at dksX0_goesOn_3 22 rfl rfl)
theorem dX0_goesOn_95 : decode cX0_goesOn 95 = .ok (.invokevirtual 457, 3) := dk_182 1 201 (dk_at dksX0_goesOn_4 0 rfl rfl)
theorem dX0_goesOn_98 : decode cX0_goesOn 98 = .ok (.aload_n 0, 1) := dk_42 (dk_at dksX0_goesOn_4 3 rfl rfl)
theorem dX0_goesOn_99 : decode cX0_goesOn 99 = .ok (.iload_n 2, 1) := dk_28 (dk_at dksX0_goesOn_4 4 rfl rfl)
theorem dX0_goesOn_100 : decode cX0_goesOn 100 = .ok (.invokevirtual 376, 3) := dk_182 1 120 (dk_at dksX0_goesOn_4 5 rfl rfl)
theorem dX0_goesOn_103 : decode cX0_goesOn 103 = .ok (.iinc 4 1, 3) := dk_132 4 1 (dk_at dksX0_goesOn_4 8 rfl rfl)
theorem dX0_goesOn_106 : decode cX0_goesOn 106 = .ok (.goto (-40), 3) := dk_167 255 216 (dk_at dksX0_goesOn_4 11 rfl rfl)
theorem dX0_goesOn_109 : decode cX0_goesOn 109 = .ok (.iinc 3 1, 3) := dk_132 3 1 (dk_at dksX0_goesOn_4 14 rfl rfl)
theorem dX0_goesOn_112 : decode cX0_goesOn 112 = .ok (.goto (-63), 3) := dk_167 255 193 (dk_at dksX0_goesOn_4 17 rfl rfl)
theorem dX0_goesOn_115 : decode cX0_goesOn 115 = .ok (.return_, 1) := dk_177 (dk_at dksX0_goesOn_4 20 rfl rfl)
abbrev cX0_soon : ByteArray := prog_1_method_67_code
def yX0_soon : MethodName := ⟨RX0, "soon", "(II)I"⟩
def dkwX0_soon_3 : List UInt8 := [172, 58, 5, 42, 3, 182, 1, 120, 25, 5, 191]
abbrev dktX0_soon_3 : List UInt8 := dkwX0_soon_3 ++ []
def dkwX0_soon_2 : List UInt8 := [21, 4, 172, 42, 27, 28, 182, 1, 119, 87, 132, 3, 1, 167, 255, 217, 2, 62, 42, 3, 182, 1, 120, 29]
abbrev dktX0_soon_2 : List UInt8 := dkwX0_soon_2 ++ dktX0_soon_3
def dkwX0_soon_1 : List UInt8 := [163, 0, 39, 42, 180, 0, 51, 27, 50, 180, 0, 66, 154, 0, 14, 29, 54, 4, 42, 3, 182, 1, 120]
abbrev dktX0_soon_1 : List UInt8 := dkwX0_soon_1 ++ dktX0_soon_2
def dkwX0_soon_0 : List UInt8 := [42, 27, 28, 182, 1, 123, 154, 0, 6, 16, 254, 172, 42, 3, 182, 1, 116, 3, 62, 29, 16, 20]
abbrev dktX0_soon_0 : List UInt8 := dkwX0_soon_0 ++ dktX0_soon_1
theorem dksX0_soon_0 : cX0_soon.data.toList.drop 0 = dktX0_soon_0 := by decide +kernel
theorem dksX0_soon_1 : cX0_soon.data.toList.drop 22 = dktX0_soon_1 := dk_seg dksX0_soon_0 22 rfl rfl
theorem dksX0_soon_2 : cX0_soon.data.toList.drop 45 = dktX0_soon_2 := dk_seg dksX0_soon_1 23 rfl rfl
theorem dksX0_soon_3 : cX0_soon.data.toList.drop 69 = dktX0_soon_3 := dk_seg dksX0_soon_2 24 rfl rfl
theorem dX0_soon_0 : decode cX0_soon 0 = .ok (.aload_n 0, 1) := dk_42 (dk_at dksX0_soon_0 0 rfl rfl)
theorem dX0_soon_1 : decode cX0_soon 1 = .ok (.iload_n 1, 1) := dk_27 (dk_at dksX0_soon_0 1 rfl rfl)
theorem dX0_soon_2 : decode cX0_soon 2 = .ok (.iload_n 2, 1) := dk_28 (dk_at dksX0_soon_0 2 rfl rfl)
theorem dX0_soon_3 : decode cX0_soon 3 = .ok (.invokevirtual 379, 3) := dk_182 1 123 (dk_at dksX0_soon_0 3 rfl rfl)
theorem dX0_soon_6 : decode cX0_soon 6 = .ok (.ifCond .ne 6, 3) := dk_154 0 6 (dk_at dksX0_soon_0 6 rfl rfl)
theorem dX0_soon_9 : decode cX0_soon 9 = .ok (.bipush (-2), 2) := dk_16 254 (dk_at dksX0_soon_0 9 rfl rfl)
theorem dX0_soon_11 : decode cX0_soon 11 = .ok (.ireturn, 1) := dk_172 (dk_at dksX0_soon_0 11 rfl rfl)
theorem dX0_soon_12 : decode cX0_soon 12 = .ok (.aload_n 0, 1) := dk_42 (dk_at dksX0_soon_0 12 rfl rfl)
theorem dX0_soon_13 : decode cX0_soon 13 = .ok (.iconst 0, 1) := dk_3 (dk_at dksX0_soon_0 13 rfl rfl)
theorem dX0_soon_14 : decode cX0_soon 14 = .ok (.invokevirtual 372, 3) := dk_182 1 116 (dk_at dksX0_soon_0 14 rfl rfl)
theorem dX0_soon_17 : decode cX0_soon 17 = .ok (.iconst 0, 1) := dk_3 (dk_at dksX0_soon_0 17 rfl rfl)
theorem dX0_soon_18 : decode cX0_soon 18 = .ok (.istore_n 3, 1) := dk_62 (dk_at dksX0_soon_0 18 rfl rfl)
theorem dX0_soon_19 : decode cX0_soon 19 = .ok (.iload_n 3, 1) := dk_29 (dk_at dksX0_soon_0 19 rfl rfl)
theorem dX0_soon_20 : decode cX0_soon 20 = .ok (.bipush 20, 2) := dk_16 20 (dk_at dksX0_soon_0 20 rfl rfl)
theorem dX0_soon_22 : decode cX0_soon 22 = .ok (.if_icmp .gt 39, 3) := dk_163 0 39 (dk_at dksX0_soon_1 0 rfl rfl)
theorem dX0_soon_25 : decode cX0_soon 25 = .ok (.aload_n 0, 1) := dk_42 (dk_at dksX0_soon_1 3 rfl rfl)
theorem dX0_soon_26 : decode cX0_soon 26 = .ok (.getfield 51, 3) := dk_180 0 51 (dk_at dksX0_soon_1 4 rfl rfl)
theorem dX0_soon_29 : decode cX0_soon 29 = .ok (.iload_n 1, 1) := dk_27 (dk_at dksX0_soon_1 7 rfl rfl)
theorem dX0_soon_30 : decode cX0_soon 30 = .ok (.aaload, 1) := dk_50 (dk_at dksX0_soon_1 8 rfl rfl)
theorem dX0_soon_31 : decode cX0_soon 31 = .ok (.getfield 66, 3) := dk_180 0 66 (dk_at dksX0_soon_1 9 rfl rfl)
theorem dX0_soon_34 : decode cX0_soon 34 = .ok (.ifCond .ne 14, 3) := dk_154 0 14 (dk_at dksX0_soon_1 12 rfl rfl)
theorem dX0_soon_37 : decode cX0_soon 37 = .ok (.iload_n 3, 1) := dk_29 (dk_at dksX0_soon_1 15 rfl rfl)
theorem dX0_soon_38 : decode cX0_soon 38 = .ok (.istore 4, 2) := dk_54 4 (dk_at dksX0_soon_1 16 rfl rfl)
theorem dX0_soon_40 : decode cX0_soon 40 = .ok (.aload_n 0, 1) := dk_42 (dk_at dksX0_soon_1 18 rfl rfl)
theorem dX0_soon_41 : decode cX0_soon 41 = .ok (.iconst 0, 1) := dk_3 (dk_at dksX0_soon_1 19 rfl rfl)
theorem dX0_soon_42 : decode cX0_soon 42 = .ok (.invokevirtual 376, 3) := dk_182 1 120 (dk_at dksX0_soon_1 20 rfl rfl)
theorem dX0_soon_45 : decode cX0_soon 45 = .ok (.iload 4, 2) := dk_21 4 (dk_at dksX0_soon_2 0 rfl rfl)
theorem dX0_soon_47 : decode cX0_soon 47 = .ok (.ireturn, 1) := dk_172 (dk_at dksX0_soon_2 2 rfl rfl)
theorem dX0_soon_48 : decode cX0_soon 48 = .ok (.aload_n 0, 1) := dk_42 (dk_at dksX0_soon_2 3 rfl rfl)
theorem dX0_soon_49 : decode cX0_soon 49 = .ok (.iload_n 1, 1) := dk_27 (dk_at dksX0_soon_2 4 rfl rfl)
theorem dX0_soon_50 : decode cX0_soon 50 = .ok (.iload_n 2, 1) := dk_28 (dk_at dksX0_soon_2 5 rfl rfl)
theorem dX0_soon_51 : decode cX0_soon 51 = .ok (.invokevirtual 375, 3) := dk_182 1 119 (dk_at dksX0_soon_2 6 rfl rfl)
theorem dX0_soon_54 : decode cX0_soon 54 = .ok (.pop, 1) := dk_87 (dk_at dksX0_soon_2 9 rfl rfl)
theorem dX0_soon_55 : decode cX0_soon 55 = .ok (.iinc 3 1, 3) := dk_132 3 1 (dk_at dksX0_soon_2 10 rfl rfl)
theorem dX0_soon_58 : decode cX0_soon 58 = .ok (.goto (-39), 3) := dk_167 255 217 (dk_at dksX0_soon_2 13 rfl rfl)
theorem dX0_soon_61 : decode cX0_soon 61 = .ok (.iconst (-1), 1) := dk_2 (dk_at dksX0_soon_2 16 rfl rfl)
theorem dX0_soon_62 : decode cX0_soon 62 = .ok (.istore_n 3, 1) := dk_62 (dk_at dksX0_soon_2 17 rfl rfl)
theorem dX0_soon_63 : decode cX0_soon 63 = .ok (.aload_n 0, 1) := dk_42 (dk_at dksX0_soon_2 18 rfl rfl)
theorem dX0_soon_64 : decode cX0_soon 64 = .ok (.iconst 0, 1) := dk_3 (dk_at dksX0_soon_2 19 rfl rfl)
theorem dX0_soon_65 : decode cX0_soon 65 = .ok (.invokevirtual 376, 3) := dk_182 1 120 (dk_at dksX0_soon_2 20 rfl rfl)
theorem dX0_soon_68 : decode cX0_soon 68 = .ok (.iload_n 3, 1) := dk_29 (dk_at dksX0_soon_2 23 rfl rfl)
theorem dX0_soon_69 : decode cX0_soon 69 = .ok (.ireturn, 1) := dk_172 (dk_at dksX0_soon_3 0 rfl rfl)
theorem dX0_soon_70 : decode cX0_soon 70 = .ok (.astore 5, 2) := dk_58 5 (dk_at dksX0_soon_3 1 rfl rfl)
theorem dX0_soon_72 : decode cX0_soon 72 = .ok (.aload_n 0, 1) := dk_42 (dk_at dksX0_soon_3 3 rfl rfl)
theorem dX0_soon_73 : decode cX0_soon 73 = .ok (.iconst 0, 1) := dk_3 (dk_at dksX0_soon_3 4 rfl rfl)
theorem dX0_soon_74 : decode cX0_soon 74 = .ok (.invokevirtual 376, 3) := dk_182 1 120 (dk_at dksX0_soon_3 5 rfl rfl)
theorem dX0_soon_77 : decode cX0_soon 77 = .ok (.aload 5, 2) := dk_25 5 (dk_at dksX0_soon_3 8 rfl rfl)
theorem dX0_soon_79 : decode cX0_soon 79 = .ok (.athrow, 1) := dk_191 (dk_at dksX0_soon_3 10 rfl rfl)
abbrev cX0_tells : ByteArray := prog_1_method_76_code
def yX0_tells : MethodName := ⟨RX0, "tells", "(III)I"⟩
def dkwX0_tells_7 : List UInt8 := [25, 4, 182, 1, 234, 172]
abbrev dktX0_tells_7 : List UInt8 := dkwX0_tells_7 ++ []
def dkwX0_tells_6 : List UInt8 := [29, 16, 6, 160, 0, 7, 4, 167, 0, 4, 3, 182, 1, 227, 172, 42, 25, 4, 28, 182, 1, 231, 172, 42]
abbrev dktX0_tells_6 : List UInt8 := dkwX0_tells_6 ++ dktX0_tells_7
def dkwX0_tells_5 : List UInt8 := [42, 25, 4, 28, 6, 29, 7, 160, 0, 7, 4, 167, 0, 4, 3, 182, 1, 227, 172, 42, 25, 4, 28, 3]
abbrev dktX0_tells_5 : List UInt8 := dkwX0_tells_5 ++ dktX0_tells_6
def dkwX0_tells_4 : List UInt8 := [42, 25, 4, 28, 182, 1, 210, 172, 42, 25, 4, 28, 182, 1, 221, 172, 42, 25, 4, 28, 182, 1, 224, 172]
abbrev dktX0_tells_4 : List UInt8 := dkwX0_tells_4 ++ dktX0_tells_5
def dkwX0_tells_3 : List UInt8 := [170, 0, 0, 0, 0, 117, 0, 0, 0, 0, 0, 0, 0, 7, 0, 0, 0, 46, 0, 0, 0, 54, 0, 0, 0, 62, 0, 0, 0, 70, 0, 0, 0, 70, 0, 0, 0, 89, 0, 0, 0, 89, 0, 0, 0, 109]
abbrev dktX0_tells_3 : List UInt8 := dkwX0_tells_3 ++ dktX0_tells_4
def dkwX0_tells_2 : List UInt8 := [172, 25, 4, 25, 4, 184, 1, 129, 184, 1, 133, 42, 180, 0, 10, 159, 0, 6, 16, 254, 172, 29]
abbrev dktX0_tells_2 : List UInt8 := dkwX0_tells_2 ++ dktX0_tells_3
def dkwX0_tells_1 : List UInt8 := [154, 0, 6, 16, 254, 172, 42, 180, 1, 62, 27, 50, 180, 1, 158, 58, 4, 25, 4, 199, 0, 6, 16, 245]
abbrev dktX0_tells_1 : List UInt8 := dkwX0_tells_1 ++ dktX0_tells_2
def dkwX0_tells_0 : List UInt8 := [27, 184, 1, 151, 153, 0, 23, 42, 28, 182, 0, 20, 153, 0, 15, 29, 133, 9, 20, 1, 156, 184, 0, 16]
abbrev dktX0_tells_0 : List UInt8 := dkwX0_tells_0 ++ dktX0_tells_1
theorem dksX0_tells_0 : cX0_tells.data.toList.drop 0 = dktX0_tells_0 := by decide +kernel
theorem dksX0_tells_1 : cX0_tells.data.toList.drop 24 = dktX0_tells_1 := dk_seg dksX0_tells_0 24 rfl rfl
theorem dksX0_tells_2 : cX0_tells.data.toList.drop 48 = dktX0_tells_2 := dk_seg dksX0_tells_1 24 rfl rfl
theorem dksX0_tells_3 : cX0_tells.data.toList.drop 70 = dktX0_tells_3 := dk_seg dksX0_tells_2 22 rfl rfl
theorem dksX0_tells_4 : cX0_tells.data.toList.drop 116 = dktX0_tells_4 := dk_seg dksX0_tells_3 46 rfl rfl
theorem dksX0_tells_5 : cX0_tells.data.toList.drop 140 = dktX0_tells_5 := dk_seg dksX0_tells_4 24 rfl rfl
theorem dksX0_tells_6 : cX0_tells.data.toList.drop 164 = dktX0_tells_6 := dk_seg dksX0_tells_5 24 rfl rfl
theorem dksX0_tells_7 : cX0_tells.data.toList.drop 188 = dktX0_tells_7 := dk_seg dksX0_tells_6 24 rfl rfl
theorem dX0_tells_0 : decode cX0_tells 0 = .ok (.iload_n 1, 1) := dk_27 (dk_at dksX0_tells_0 0 rfl rfl)
theorem dX0_tells_1 : decode cX0_tells 1 = .ok (.invokestatic 407, 3) := dk_184 1 151 (dk_at dksX0_tells_0 1 rfl rfl)
theorem dX0_tells_4 : decode cX0_tells 4 = .ok (.ifCond .eq 23, 3) := dk_153 0 23 (dk_at dksX0_tells_0 4 rfl rfl)
theorem dX0_tells_7 : decode cX0_tells 7 = .ok (.aload_n 0, 1) := dk_42 (dk_at dksX0_tells_0 7 rfl rfl)
theorem dX0_tells_8 : decode cX0_tells 8 = .ok (.iload_n 2, 1) := dk_28 (dk_at dksX0_tells_0 8 rfl rfl)
theorem dX0_tells_9 : decode cX0_tells 9 = .ok (.invokevirtual 20, 3) := dk_182 0 20 (dk_at dksX0_tells_0 9 rfl rfl)
theorem dX0_tells_12 : decode cX0_tells 12 = .ok (.ifCond .eq 15, 3) := dk_153 0 15 (dk_at dksX0_tells_0 12 rfl rfl)
theorem dX0_tells_15 : decode cX0_tells 15 = .ok (.iload_n 3, 1) := dk_29 (dk_at dksX0_tells_0 15 rfl rfl)
theorem dX0_tells_16 : decode cX0_tells 16 = .ok (.i2l, 1) := dk_133 (dk_at dksX0_tells_0 16 rfl rfl)
theorem dX0_tells_17 : decode cX0_tells 17 = .ok (.lconst 0, 1) := dk_9 (dk_at dksX0_tells_0 17 rfl rfl)
theorem dX0_tells_18 : decode cX0_tells 18 = .ok (.ldc2_w 412, 3) := dk_20 1 156 (dk_at dksX0_tells_0 18 rfl rfl)
theorem dX0_tells_21 : decode cX0_tells 21 = .ok (.invokestatic 16, 3) := dk_184 0 16 (dk_at dksX0_tells_0 21 rfl rfl)
theorem dX0_tells_24 : decode cX0_tells 24 = .ok (.ifCond .ne 6, 3) := dk_154 0 6 (dk_at dksX0_tells_1 0 rfl rfl)
theorem dX0_tells_27 : decode cX0_tells 27 = .ok (.bipush (-2), 2) := dk_16 254 (dk_at dksX0_tells_1 3 rfl rfl)
theorem dX0_tells_29 : decode cX0_tells 29 = .ok (.ireturn, 1) := dk_172 (dk_at dksX0_tells_1 5 rfl rfl)
theorem dX0_tells_30 : decode cX0_tells 30 = .ok (.aload_n 0, 1) := dk_42 (dk_at dksX0_tells_1 6 rfl rfl)
theorem dX0_tells_31 : decode cX0_tells 31 = .ok (.getfield 318, 3) := dk_180 1 62 (dk_at dksX0_tells_1 7 rfl rfl)
theorem dX0_tells_34 : decode cX0_tells 34 = .ok (.iload_n 1, 1) := dk_27 (dk_at dksX0_tells_1 10 rfl rfl)
theorem dX0_tells_35 : decode cX0_tells 35 = .ok (.aaload, 1) := dk_50 (dk_at dksX0_tells_1 11 rfl rfl)
theorem dX0_tells_36 : decode cX0_tells 36 = .ok (.getfield 414, 3) := dk_180 1 158 (dk_at dksX0_tells_1 12 rfl rfl)
theorem dX0_tells_39 : decode cX0_tells 39 = .ok (.astore 4, 2) := dk_58 4 (dk_at dksX0_tells_1 15 rfl rfl)
theorem dX0_tells_41 : decode cX0_tells 41 = .ok (.aload 4, 2) := dk_25 4 (dk_at dksX0_tells_1 17 rfl rfl)
theorem dX0_tells_43 : decode cX0_tells 43 = .ok (.ifnonnull 6, 3) := dk_199 0 6 (dk_at dksX0_tells_1 19 rfl rfl)
theorem dX0_tells_46 : decode cX0_tells 46 = .ok (.bipush (-11), 2) := dk_16 245 (dk_at dksX0_tells_1 22 rfl rfl)
theorem dX0_tells_48 : decode cX0_tells 48 = .ok (.ireturn, 1) := dk_172 (dk_at dksX0_tells_2 0 rfl rfl)
theorem dX0_tells_49 : decode cX0_tells 49 = .ok (.aload 4, 2) := dk_25 4 (dk_at dksX0_tells_2 1 rfl rfl)
theorem dX0_tells_51 : decode cX0_tells 51 = .ok (.aload 4, 2) := dk_25 4 (dk_at dksX0_tells_2 3 rfl rfl)
theorem dX0_tells_53 : decode cX0_tells 53 = .ok (.invokestatic 385, 3) := dk_184 1 129 (dk_at dksX0_tells_2 5 rfl rfl)
theorem dX0_tells_56 : decode cX0_tells 56 = .ok (.invokestatic 389, 3) := dk_184 1 133 (dk_at dksX0_tells_2 8 rfl rfl)
theorem dX0_tells_59 : decode cX0_tells 59 = .ok (.aload_n 0, 1) := dk_42 (dk_at dksX0_tells_2 11 rfl rfl)
theorem dX0_tells_60 : decode cX0_tells 60 = .ok (.getfield 10, 3) := dk_180 0 10 (dk_at dksX0_tells_2 12 rfl rfl)
theorem dX0_tells_63 : decode cX0_tells 63 = .ok (.if_icmp .eq 6, 3) := dk_159 0 6 (dk_at dksX0_tells_2 15 rfl rfl)
theorem dX0_tells_66 : decode cX0_tells 66 = .ok (.bipush (-2), 2) := dk_16 254 (dk_at dksX0_tells_2 18 rfl rfl)
theorem dX0_tells_68 : decode cX0_tells 68 = .ok (.ireturn, 1) := dk_172 (dk_at dksX0_tells_2 20 rfl rfl)
theorem dX0_tells_69 : decode cX0_tells 69 = .ok (.iload_n 3, 1) := dk_29 (dk_at dksX0_tells_2 21 rfl rfl)
theorem dX0_tells_70 : decode cX0_tells 70 = .ok (.tableswitch 117 0 7 #[46, 54, 62, 70, 70, 89, 89, 109], 46) := by decide +kernel
theorem dX0_tells_116 : decode cX0_tells 116 = .ok (.aload_n 0, 1) := dk_42 (dk_at dksX0_tells_4 0 rfl rfl)
theorem dX0_tells_117 : decode cX0_tells 117 = .ok (.aload 4, 2) := dk_25 4 (dk_at dksX0_tells_4 1 rfl rfl)
theorem dX0_tells_119 : decode cX0_tells 119 = .ok (.iload_n 2, 1) := dk_28 (dk_at dksX0_tells_4 3 rfl rfl)
theorem dX0_tells_120 : decode cX0_tells 120 = .ok (.invokevirtual 466, 3) := dk_182 1 210 (dk_at dksX0_tells_4 4 rfl rfl)
theorem dX0_tells_123 : decode cX0_tells 123 = .ok (.ireturn, 1) := dk_172 (dk_at dksX0_tells_4 7 rfl rfl)
theorem dX0_tells_124 : decode cX0_tells 124 = .ok (.aload_n 0, 1) := dk_42 (dk_at dksX0_tells_4 8 rfl rfl)
theorem dX0_tells_125 : decode cX0_tells 125 = .ok (.aload 4, 2) := dk_25 4 (dk_at dksX0_tells_4 9 rfl rfl)
theorem dX0_tells_127 : decode cX0_tells 127 = .ok (.iload_n 2, 1) := dk_28 (dk_at dksX0_tells_4 11 rfl rfl)
theorem dX0_tells_128 : decode cX0_tells 128 = .ok (.invokevirtual 477, 3) := dk_182 1 221 (dk_at dksX0_tells_4 12 rfl rfl)
theorem dX0_tells_131 : decode cX0_tells 131 = .ok (.ireturn, 1) := dk_172 (dk_at dksX0_tells_4 15 rfl rfl)
theorem dX0_tells_132 : decode cX0_tells 132 = .ok (.aload_n 0, 1) := dk_42 (dk_at dksX0_tells_4 16 rfl rfl)
theorem dX0_tells_133 : decode cX0_tells 133 = .ok (.aload 4, 2) := dk_25 4 (dk_at dksX0_tells_4 17 rfl rfl)
theorem dX0_tells_135 : decode cX0_tells 135 = .ok (.iload_n 2, 1) := dk_28 (dk_at dksX0_tells_4 19 rfl rfl)
theorem dX0_tells_136 : decode cX0_tells 136 = .ok (.invokevirtual 480, 3) := dk_182 1 224 (dk_at dksX0_tells_4 20 rfl rfl)
theorem dX0_tells_139 : decode cX0_tells 139 = .ok (.ireturn, 1) := dk_172 (dk_at dksX0_tells_4 23 rfl rfl)
theorem dX0_tells_140 : decode cX0_tells 140 = .ok (.aload_n 0, 1) := dk_42 (dk_at dksX0_tells_5 0 rfl rfl)
theorem dX0_tells_141 : decode cX0_tells 141 = .ok (.aload 4, 2) := dk_25 4 (dk_at dksX0_tells_5 1 rfl rfl)
theorem dX0_tells_143 : decode cX0_tells 143 = .ok (.iload_n 2, 1) := dk_28 (dk_at dksX0_tells_5 3 rfl rfl)
theorem dX0_tells_144 : decode cX0_tells 144 = .ok (.iconst 3, 1) := dk_6 (dk_at dksX0_tells_5 4 rfl rfl)
theorem dX0_tells_145 : decode cX0_tells 145 = .ok (.iload_n 3, 1) := dk_29 (dk_at dksX0_tells_5 5 rfl rfl)
theorem dX0_tells_146 : decode cX0_tells 146 = .ok (.iconst 4, 1) := dk_7 (dk_at dksX0_tells_5 6 rfl rfl)
theorem dX0_tells_147 : decode cX0_tells 147 = .ok (.if_icmp .ne 7, 3) := dk_160 0 7 (dk_at dksX0_tells_5 7 rfl rfl)
theorem dX0_tells_150 : decode cX0_tells 150 = .ok (.iconst 1, 1) := dk_4 (dk_at dksX0_tells_5 10 rfl rfl)
theorem dX0_tells_151 : decode cX0_tells 151 = .ok (.goto 4, 3) := dk_167 0 4 (dk_at dksX0_tells_5 11 rfl rfl)
theorem dX0_tells_154 : decode cX0_tells 154 = .ok (.iconst 0, 1) := dk_3 (dk_at dksX0_tells_5 14 rfl rfl)
theorem dX0_tells_155 : decode cX0_tells 155 = .ok (.invokevirtual 483, 3) := dk_182 1 227 (dk_at dksX0_tells_5 15 rfl rfl)
theorem dX0_tells_158 : decode cX0_tells 158 = .ok (.ireturn, 1) := dk_172 (dk_at dksX0_tells_5 18 rfl rfl)
theorem dX0_tells_159 : decode cX0_tells 159 = .ok (.aload_n 0, 1) := dk_42 (dk_at dksX0_tells_5 19 rfl rfl)
theorem dX0_tells_160 : decode cX0_tells 160 = .ok (.aload 4, 2) := dk_25 4 (dk_at dksX0_tells_5 20 rfl rfl)
theorem dX0_tells_162 : decode cX0_tells 162 = .ok (.iload_n 2, 1) := dk_28 (dk_at dksX0_tells_5 22 rfl rfl)
theorem dX0_tells_163 : decode cX0_tells 163 = .ok (.iconst 0, 1) := dk_3 (dk_at dksX0_tells_5 23 rfl rfl)
theorem dX0_tells_164 : decode cX0_tells 164 = .ok (.iload_n 3, 1) := dk_29 (dk_at dksX0_tells_6 0 rfl rfl)
theorem dX0_tells_165 : decode cX0_tells 165 = .ok (.bipush 6, 2) := dk_16 6 (dk_at dksX0_tells_6 1 rfl rfl)
theorem dX0_tells_167 : decode cX0_tells 167 = .ok (.if_icmp .ne 7, 3) := dk_160 0 7 (dk_at dksX0_tells_6 3 rfl rfl)
theorem dX0_tells_170 : decode cX0_tells 170 = .ok (.iconst 1, 1) := dk_4 (dk_at dksX0_tells_6 6 rfl rfl)
theorem dX0_tells_171 : decode cX0_tells 171 = .ok (.goto 4, 3) := dk_167 0 4 (dk_at dksX0_tells_6 7 rfl rfl)
theorem dX0_tells_174 : decode cX0_tells 174 = .ok (.iconst 0, 1) := dk_3 (dk_at dksX0_tells_6 10 rfl rfl)
theorem dX0_tells_175 : decode cX0_tells 175 = .ok (.invokevirtual 483, 3) := dk_182 1 227 (dk_at dksX0_tells_6 11 rfl rfl)
theorem dX0_tells_178 : decode cX0_tells 178 = .ok (.ireturn, 1) := dk_172 (dk_at dksX0_tells_6 14 rfl rfl)
theorem dX0_tells_179 : decode cX0_tells 179 = .ok (.aload_n 0, 1) := dk_42 (dk_at dksX0_tells_6 15 rfl rfl)
theorem dX0_tells_180 : decode cX0_tells 180 = .ok (.aload 4, 2) := dk_25 4 (dk_at dksX0_tells_6 16 rfl rfl)
theorem dX0_tells_182 : decode cX0_tells 182 = .ok (.iload_n 2, 1) := dk_28 (dk_at dksX0_tells_6 18 rfl rfl)
theorem dX0_tells_183 : decode cX0_tells 183 = .ok (.invokevirtual 487, 3) := dk_182 1 231 (dk_at dksX0_tells_6 19 rfl rfl)
theorem dX0_tells_186 : decode cX0_tells 186 = .ok (.ireturn, 1) := dk_172 (dk_at dksX0_tells_6 22 rfl rfl)
theorem dX0_tells_187 : decode cX0_tells 187 = .ok (.aload_n 0, 1) := dk_42 (dk_at dksX0_tells_6 23 rfl rfl)
theorem dX0_tells_188 : decode cX0_tells 188 = .ok (.aload 4, 2) := dk_25 4 (dk_at dksX0_tells_7 0 rfl rfl)
theorem dX0_tells_190 : decode cX0_tells 190 = .ok (.invokevirtual 490, 3) := dk_182 1 234 (dk_at dksX0_tells_7 2 rfl rfl)
theorem dX0_tells_193 : decode cX0_tells 193 = .ok (.ireturn, 1) := dk_172 (dk_at dksX0_tells_7 5 rfl rfl)
abbrev cX0_otherwise : ByteArray := prog_1_method_68_code
def yX0_otherwise : MethodName := ⟨RX0, "otherwise", "(Ljava/lang/Object;I)I"⟩
def dkwX0_otherwise_1 : List UInt8 := [3, 167, 0, 9, 42, 28, 29, 182, 1, 103, 159, 0, 5, 29, 172, 132, 3, 1, 167, 255, 216, 2, 172]
abbrev dktX0_otherwise_1 : List UInt8 := dkwX0_otherwise_1 ++ []
def dkwX0_otherwise_0 : List UInt8 := [3, 62, 29, 42, 180, 0, 10, 162, 0, 38, 43, 43, 184, 1, 129, 29, 184, 1, 137, 29, 28, 160, 0, 7]
abbrev dktX0_otherwise_0 : List UInt8 := dkwX0_otherwise_0 ++ dktX0_otherwise_1
theorem dksX0_otherwise_0 : cX0_otherwise.data.toList.drop 0 = dktX0_otherwise_0 := by decide +kernel
theorem dksX0_otherwise_1 : cX0_otherwise.data.toList.drop 24 = dktX0_otherwise_1 := dk_seg dksX0_otherwise_0 24 rfl rfl
theorem dX0_otherwise_0 : decode cX0_otherwise 0 = .ok (.iconst 0, 1) := dk_3 (dk_at dksX0_otherwise_0 0 rfl rfl)
theorem dX0_otherwise_1 : decode cX0_otherwise 1 = .ok (.istore_n 3, 1) := dk_62 (dk_at dksX0_otherwise_0 1 rfl rfl)
theorem dX0_otherwise_2 : decode cX0_otherwise 2 = .ok (.iload_n 3, 1) := dk_29 (dk_at dksX0_otherwise_0 2 rfl rfl)
theorem dX0_otherwise_3 : decode cX0_otherwise 3 = .ok (.aload_n 0, 1) := dk_42 (dk_at dksX0_otherwise_0 3 rfl rfl)
theorem dX0_otherwise_4 : decode cX0_otherwise 4 = .ok (.getfield 10, 3) := dk_180 0 10 (dk_at dksX0_otherwise_0 4 rfl rfl)
theorem dX0_otherwise_7 : decode cX0_otherwise 7 = .ok (.if_icmp .ge 38, 3) := dk_162 0 38 (dk_at dksX0_otherwise_0 7 rfl rfl)
theorem dX0_otherwise_10 : decode cX0_otherwise 10 = .ok (.aload_n 1, 1) := dk_43 (dk_at dksX0_otherwise_0 10 rfl rfl)
theorem dX0_otherwise_11 : decode cX0_otherwise 11 = .ok (.aload_n 1, 1) := dk_43 (dk_at dksX0_otherwise_0 11 rfl rfl)
theorem dX0_otherwise_12 : decode cX0_otherwise 12 = .ok (.invokestatic 385, 3) := dk_184 1 129 (dk_at dksX0_otherwise_0 12 rfl rfl)
theorem dX0_otherwise_15 : decode cX0_otherwise 15 = .ok (.iload_n 3, 1) := dk_29 (dk_at dksX0_otherwise_0 15 rfl rfl)
theorem dX0_otherwise_16 : decode cX0_otherwise 16 = .ok (.invokestatic 393, 3) := dk_184 1 137 (dk_at dksX0_otherwise_0 16 rfl rfl)
theorem dX0_otherwise_19 : decode cX0_otherwise 19 = .ok (.iload_n 3, 1) := dk_29 (dk_at dksX0_otherwise_0 19 rfl rfl)
theorem dX0_otherwise_20 : decode cX0_otherwise 20 = .ok (.iload_n 2, 1) := dk_28 (dk_at dksX0_otherwise_0 20 rfl rfl)
theorem dX0_otherwise_21 : decode cX0_otherwise 21 = .ok (.if_icmp .ne 7, 3) := dk_160 0 7 (dk_at dksX0_otherwise_0 21 rfl rfl)
theorem dX0_otherwise_24 : decode cX0_otherwise 24 = .ok (.iconst 0, 1) := dk_3 (dk_at dksX0_otherwise_1 0 rfl rfl)
theorem dX0_otherwise_25 : decode cX0_otherwise 25 = .ok (.goto 9, 3) := dk_167 0 9 (dk_at dksX0_otherwise_1 1 rfl rfl)
theorem dX0_otherwise_28 : decode cX0_otherwise 28 = .ok (.aload_n 0, 1) := dk_42 (dk_at dksX0_otherwise_1 4 rfl rfl)
theorem dX0_otherwise_29 : decode cX0_otherwise 29 = .ok (.iload_n 2, 1) := dk_28 (dk_at dksX0_otherwise_1 5 rfl rfl)
theorem dX0_otherwise_30 : decode cX0_otherwise 30 = .ok (.iload_n 3, 1) := dk_29 (dk_at dksX0_otherwise_1 6 rfl rfl)
theorem dX0_otherwise_31 : decode cX0_otherwise 31 = .ok (.invokevirtual 359, 3) := dk_182 1 103 (dk_at dksX0_otherwise_1 7 rfl rfl)
theorem dX0_otherwise_34 : decode cX0_otherwise 34 = .ok (.if_icmp .eq 5, 3) := dk_159 0 5 (dk_at dksX0_otherwise_1 10 rfl rfl)
theorem dX0_otherwise_37 : decode cX0_otherwise 37 = .ok (.iload_n 3, 1) := dk_29 (dk_at dksX0_otherwise_1 13 rfl rfl)
theorem dX0_otherwise_38 : decode cX0_otherwise 38 = .ok (.ireturn, 1) := dk_172 (dk_at dksX0_otherwise_1 14 rfl rfl)
theorem dX0_otherwise_39 : decode cX0_otherwise 39 = .ok (.iinc 3 1, 3) := dk_132 3 1 (dk_at dksX0_otherwise_1 15 rfl rfl)
theorem dX0_otherwise_42 : decode cX0_otherwise 42 = .ok (.goto (-40), 3) := dk_167 255 216 (dk_at dksX0_otherwise_1 18 rfl rfl)
theorem dX0_otherwise_45 : decode cX0_otherwise 45 = .ok (.iconst (-1), 1) := dk_2 (dk_at dksX0_otherwise_1 21 rfl rfl)
theorem dX0_otherwise_46 : decode cX0_otherwise 46 = .ok (.ireturn, 1) := dk_172 (dk_at dksX0_otherwise_1 22 rfl rfl)
abbrev cX0_kindsOf : ByteArray := prog_1_method_70_code
def yX0_kindsOf : MethodName := ⟨RX0, "kindsOf", "(Ljava/lang/Object;I)I"⟩
def dkwX0_kindsOf_1 : List UInt8 := [4, 21, 4, 120, 167, 0, 4, 3, 128, 62, 132, 4, 1, 167, 255, 224, 29, 172]
abbrev dktX0_kindsOf_1 : List UInt8 := dkwX0_kindsOf_1 ++ []
def dkwX0_kindsOf_0 : List UInt8 := [3, 62, 3, 54, 4, 21, 4, 16, 6, 162, 0, 31, 29, 42, 43, 28, 21, 4, 182, 1, 213, 153, 0, 10]
abbrev dktX0_kindsOf_0 : List UInt8 := dkwX0_kindsOf_0 ++ dktX0_kindsOf_1
theorem dksX0_kindsOf_0 : cX0_kindsOf.data.toList.drop 0 = dktX0_kindsOf_0 := by decide +kernel
theorem dksX0_kindsOf_1 : cX0_kindsOf.data.toList.drop 24 = dktX0_kindsOf_1 := dk_seg dksX0_kindsOf_0 24 rfl rfl
theorem dX0_kindsOf_0 : decode cX0_kindsOf 0 = .ok (.iconst 0, 1) := dk_3 (dk_at dksX0_kindsOf_0 0 rfl rfl)
theorem dX0_kindsOf_1 : decode cX0_kindsOf 1 = .ok (.istore_n 3, 1) := dk_62 (dk_at dksX0_kindsOf_0 1 rfl rfl)
theorem dX0_kindsOf_2 : decode cX0_kindsOf 2 = .ok (.iconst 0, 1) := dk_3 (dk_at dksX0_kindsOf_0 2 rfl rfl)
theorem dX0_kindsOf_3 : decode cX0_kindsOf 3 = .ok (.istore 4, 2) := dk_54 4 (dk_at dksX0_kindsOf_0 3 rfl rfl)
theorem dX0_kindsOf_5 : decode cX0_kindsOf 5 = .ok (.iload 4, 2) := dk_21 4 (dk_at dksX0_kindsOf_0 5 rfl rfl)
theorem dX0_kindsOf_7 : decode cX0_kindsOf 7 = .ok (.bipush 6, 2) := dk_16 6 (dk_at dksX0_kindsOf_0 7 rfl rfl)
theorem dX0_kindsOf_9 : decode cX0_kindsOf 9 = .ok (.if_icmp .ge 31, 3) := dk_162 0 31 (dk_at dksX0_kindsOf_0 9 rfl rfl)
theorem dX0_kindsOf_12 : decode cX0_kindsOf 12 = .ok (.iload_n 3, 1) := dk_29 (dk_at dksX0_kindsOf_0 12 rfl rfl)
theorem dX0_kindsOf_13 : decode cX0_kindsOf 13 = .ok (.aload_n 0, 1) := dk_42 (dk_at dksX0_kindsOf_0 13 rfl rfl)
theorem dX0_kindsOf_14 : decode cX0_kindsOf 14 = .ok (.aload_n 1, 1) := dk_43 (dk_at dksX0_kindsOf_0 14 rfl rfl)
theorem dX0_kindsOf_15 : decode cX0_kindsOf 15 = .ok (.iload_n 2, 1) := dk_28 (dk_at dksX0_kindsOf_0 15 rfl rfl)
theorem dX0_kindsOf_16 : decode cX0_kindsOf 16 = .ok (.iload 4, 2) := dk_21 4 (dk_at dksX0_kindsOf_0 16 rfl rfl)
theorem dX0_kindsOf_18 : decode cX0_kindsOf 18 = .ok (.invokevirtual 469, 3) := dk_182 1 213 (dk_at dksX0_kindsOf_0 18 rfl rfl)
theorem dX0_kindsOf_21 : decode cX0_kindsOf 21 = .ok (.ifCond .eq 10, 3) := dk_153 0 10 (dk_at dksX0_kindsOf_0 21 rfl rfl)
theorem dX0_kindsOf_24 : decode cX0_kindsOf 24 = .ok (.iconst 1, 1) := dk_4 (dk_at dksX0_kindsOf_1 0 rfl rfl)
theorem dX0_kindsOf_25 : decode cX0_kindsOf 25 = .ok (.iload 4, 2) := dk_21 4 (dk_at dksX0_kindsOf_1 1 rfl rfl)
theorem dX0_kindsOf_27 : decode cX0_kindsOf 27 = .ok (.ishl, 1) := dk_120 (dk_at dksX0_kindsOf_1 3 rfl rfl)
theorem dX0_kindsOf_28 : decode cX0_kindsOf 28 = .ok (.goto 4, 3) := dk_167 0 4 (dk_at dksX0_kindsOf_1 4 rfl rfl)
theorem dX0_kindsOf_31 : decode cX0_kindsOf 31 = .ok (.iconst 0, 1) := dk_3 (dk_at dksX0_kindsOf_1 7 rfl rfl)
theorem dX0_kindsOf_32 : decode cX0_kindsOf 32 = .ok (.ior, 1) := dk_128 (dk_at dksX0_kindsOf_1 8 rfl rfl)
theorem dX0_kindsOf_33 : decode cX0_kindsOf 33 = .ok (.istore_n 3, 1) := dk_62 (dk_at dksX0_kindsOf_1 9 rfl rfl)
theorem dX0_kindsOf_34 : decode cX0_kindsOf 34 = .ok (.iinc 4 1, 3) := dk_132 4 1 (dk_at dksX0_kindsOf_1 10 rfl rfl)
theorem dX0_kindsOf_37 : decode cX0_kindsOf 37 = .ok (.goto (-32), 3) := dk_167 255 224 (dk_at dksX0_kindsOf_1 13 rfl rfl)
theorem dX0_kindsOf_40 : decode cX0_kindsOf 40 = .ok (.iload_n 3, 1) := dk_29 (dk_at dksX0_kindsOf_1 16 rfl rfl)
theorem dX0_kindsOf_41 : decode cX0_kindsOf 41 = .ok (.ireturn, 1) := dk_172 (dk_at dksX0_kindsOf_1 17 rfl rfl)
abbrev cX0_isSoAs : ByteArray := prog_1_method_69_code
def yX0_isSoAs : MethodName := ⟨RX0, "isSoAs", "(Ljava/lang/Object;II)Z"⟩
def dkwX0_isSoAs_2 : List UInt8 := [180, 0, 51, 28, 25, 4, 83, 21, 5, 172, 58, 6, 42, 180, 0, 51, 28, 25, 4, 83, 25, 6, 191]
abbrev dktX0_isSoAs_2 : List UInt8 := dkwX0_isSoAs_2 ++ []
def dkwX0_isSoAs_1 : List UInt8 := [182, 1, 206, 83, 42, 43, 28, 182, 1, 210, 2, 160, 0, 7, 4, 167, 0, 4, 3, 54, 5, 42]
abbrev dktX0_isSoAs_1 : List UInt8 := dkwX0_isSoAs_1 ++ dktX0_isSoAs_2
def dkwX0_isSoAs_0 : List UInt8 := [42, 180, 0, 51, 28, 50, 58, 4, 42, 180, 0, 51, 28, 29, 25, 4, 180, 0, 83, 184, 0, 55, 25, 4]
abbrev dktX0_isSoAs_0 : List UInt8 := dkwX0_isSoAs_0 ++ dktX0_isSoAs_1
theorem dksX0_isSoAs_0 : cX0_isSoAs.data.toList.drop 0 = dktX0_isSoAs_0 := by decide +kernel
theorem dksX0_isSoAs_1 : cX0_isSoAs.data.toList.drop 24 = dktX0_isSoAs_1 := dk_seg dksX0_isSoAs_0 24 rfl rfl
theorem dksX0_isSoAs_2 : cX0_isSoAs.data.toList.drop 46 = dktX0_isSoAs_2 := dk_seg dksX0_isSoAs_1 22 rfl rfl
theorem dX0_isSoAs_0 : decode cX0_isSoAs 0 = .ok (.aload_n 0, 1) := dk_42 (dk_at dksX0_isSoAs_0 0 rfl rfl)
theorem dX0_isSoAs_1 : decode cX0_isSoAs 1 = .ok (.getfield 51, 3) := dk_180 0 51 (dk_at dksX0_isSoAs_0 1 rfl rfl)
theorem dX0_isSoAs_4 : decode cX0_isSoAs 4 = .ok (.iload_n 2, 1) := dk_28 (dk_at dksX0_isSoAs_0 4 rfl rfl)
theorem dX0_isSoAs_5 : decode cX0_isSoAs 5 = .ok (.aaload, 1) := dk_50 (dk_at dksX0_isSoAs_0 5 rfl rfl)
theorem dX0_isSoAs_6 : decode cX0_isSoAs 6 = .ok (.astore 4, 2) := dk_58 4 (dk_at dksX0_isSoAs_0 6 rfl rfl)
theorem dX0_isSoAs_8 : decode cX0_isSoAs 8 = .ok (.aload_n 0, 1) := dk_42 (dk_at dksX0_isSoAs_0 8 rfl rfl)
theorem dX0_isSoAs_9 : decode cX0_isSoAs 9 = .ok (.getfield 51, 3) := dk_180 0 51 (dk_at dksX0_isSoAs_0 9 rfl rfl)
theorem dX0_isSoAs_12 : decode cX0_isSoAs 12 = .ok (.iload_n 2, 1) := dk_28 (dk_at dksX0_isSoAs_0 12 rfl rfl)
theorem dX0_isSoAs_13 : decode cX0_isSoAs 13 = .ok (.iload_n 3, 1) := dk_29 (dk_at dksX0_isSoAs_0 13 rfl rfl)
theorem dX0_isSoAs_14 : decode cX0_isSoAs 14 = .ok (.aload 4, 2) := dk_25 4 (dk_at dksX0_isSoAs_0 14 rfl rfl)
theorem dX0_isSoAs_16 : decode cX0_isSoAs 16 = .ok (.getfield 83, 3) := dk_180 0 83 (dk_at dksX0_isSoAs_0 16 rfl rfl)
theorem dX0_isSoAs_19 : decode cX0_isSoAs 19 = .ok (.invokestatic 55, 3) := dk_184 0 55 (dk_at dksX0_isSoAs_0 19 rfl rfl)
theorem dX0_isSoAs_22 : decode cX0_isSoAs 22 = .ok (.aload 4, 2) := dk_25 4 (dk_at dksX0_isSoAs_0 22 rfl rfl)
theorem dX0_isSoAs_24 : decode cX0_isSoAs 24 = .ok (.invokevirtual 462, 3) := dk_182 1 206 (dk_at dksX0_isSoAs_1 0 rfl rfl)
theorem dX0_isSoAs_27 : decode cX0_isSoAs 27 = .ok (.aastore, 1) := dk_83 (dk_at dksX0_isSoAs_1 3 rfl rfl)
theorem dX0_isSoAs_28 : decode cX0_isSoAs 28 = .ok (.aload_n 0, 1) := dk_42 (dk_at dksX0_isSoAs_1 4 rfl rfl)
theorem dX0_isSoAs_29 : decode cX0_isSoAs 29 = .ok (.aload_n 1, 1) := dk_43 (dk_at dksX0_isSoAs_1 5 rfl rfl)
theorem dX0_isSoAs_30 : decode cX0_isSoAs 30 = .ok (.iload_n 2, 1) := dk_28 (dk_at dksX0_isSoAs_1 6 rfl rfl)
theorem dX0_isSoAs_31 : decode cX0_isSoAs 31 = .ok (.invokevirtual 466, 3) := dk_182 1 210 (dk_at dksX0_isSoAs_1 7 rfl rfl)
theorem dX0_isSoAs_34 : decode cX0_isSoAs 34 = .ok (.iconst (-1), 1) := dk_2 (dk_at dksX0_isSoAs_1 10 rfl rfl)
theorem dX0_isSoAs_35 : decode cX0_isSoAs 35 = .ok (.if_icmp .ne 7, 3) := dk_160 0 7 (dk_at dksX0_isSoAs_1 11 rfl rfl)
theorem dX0_isSoAs_38 : decode cX0_isSoAs 38 = .ok (.iconst 1, 1) := dk_4 (dk_at dksX0_isSoAs_1 14 rfl rfl)
theorem dX0_isSoAs_39 : decode cX0_isSoAs 39 = .ok (.goto 4, 3) := dk_167 0 4 (dk_at dksX0_isSoAs_1 15 rfl rfl)
theorem dX0_isSoAs_42 : decode cX0_isSoAs 42 = .ok (.iconst 0, 1) := dk_3 (dk_at dksX0_isSoAs_1 18 rfl rfl)
theorem dX0_isSoAs_43 : decode cX0_isSoAs 43 = .ok (.istore 5, 2) := dk_54 5 (dk_at dksX0_isSoAs_1 19 rfl rfl)
theorem dX0_isSoAs_45 : decode cX0_isSoAs 45 = .ok (.aload_n 0, 1) := dk_42 (dk_at dksX0_isSoAs_1 21 rfl rfl)
theorem dX0_isSoAs_46 : decode cX0_isSoAs 46 = .ok (.getfield 51, 3) := dk_180 0 51 (dk_at dksX0_isSoAs_2 0 rfl rfl)
theorem dX0_isSoAs_49 : decode cX0_isSoAs 49 = .ok (.iload_n 2, 1) := dk_28 (dk_at dksX0_isSoAs_2 3 rfl rfl)
theorem dX0_isSoAs_50 : decode cX0_isSoAs 50 = .ok (.aload 4, 2) := dk_25 4 (dk_at dksX0_isSoAs_2 4 rfl rfl)
theorem dX0_isSoAs_52 : decode cX0_isSoAs 52 = .ok (.aastore, 1) := dk_83 (dk_at dksX0_isSoAs_2 6 rfl rfl)
theorem dX0_isSoAs_53 : decode cX0_isSoAs 53 = .ok (.iload 5, 2) := dk_21 5 (dk_at dksX0_isSoAs_2 7 rfl rfl)
theorem dX0_isSoAs_55 : decode cX0_isSoAs 55 = .ok (.ireturn, 1) := dk_172 (dk_at dksX0_isSoAs_2 9 rfl rfl)
theorem dX0_isSoAs_56 : decode cX0_isSoAs 56 = .ok (.astore 6, 2) := dk_58 6 (dk_at dksX0_isSoAs_2 10 rfl rfl)
theorem dX0_isSoAs_58 : decode cX0_isSoAs 58 = .ok (.aload_n 0, 1) := dk_42 (dk_at dksX0_isSoAs_2 12 rfl rfl)
theorem dX0_isSoAs_59 : decode cX0_isSoAs 59 = .ok (.getfield 51, 3) := dk_180 0 51 (dk_at dksX0_isSoAs_2 13 rfl rfl)
theorem dX0_isSoAs_62 : decode cX0_isSoAs 62 = .ok (.iload_n 2, 1) := dk_28 (dk_at dksX0_isSoAs_2 16 rfl rfl)
theorem dX0_isSoAs_63 : decode cX0_isSoAs 63 = .ok (.aload 4, 2) := dk_25 4 (dk_at dksX0_isSoAs_2 17 rfl rfl)
theorem dX0_isSoAs_65 : decode cX0_isSoAs 65 = .ok (.aastore, 1) := dk_83 (dk_at dksX0_isSoAs_2 19 rfl rfl)
theorem dX0_isSoAs_66 : decode cX0_isSoAs 66 = .ok (.aload 6, 2) := dk_25 6 (dk_at dksX0_isSoAs_2 20 rfl rfl)
theorem dX0_isSoAs_68 : decode cX0_isSoAs 68 = .ok (.athrow, 1) := dk_191 (dk_at dksX0_isSoAs_2 22 rfl rfl)
abbrev cX0_numbersOf : ByteArray := prog_1_method_72_code
def yX0_numbersOf : MethodName := ⟨RX0, "numbersOf", "(Ljava/lang/Object;I)I"⟩
def dkwX0_numbersOf_1 : List UInt8 := [153, 0, 10, 4, 21, 4, 120, 167, 0, 4, 3, 128, 62, 132, 4, 1, 167, 255, 223, 29, 172]
abbrev dktX0_numbersOf_1 : List UInt8 := dkwX0_numbersOf_1 ++ []
def dkwX0_numbersOf_0 : List UInt8 := [3, 62, 3, 54, 4, 21, 4, 16, 9, 163, 0, 32, 29, 42, 43, 28, 5, 21, 4, 182, 1, 217]
abbrev dktX0_numbersOf_0 : List UInt8 := dkwX0_numbersOf_0 ++ dktX0_numbersOf_1
theorem dksX0_numbersOf_0 : cX0_numbersOf.data.toList.drop 0 = dktX0_numbersOf_0 := by decide +kernel
theorem dksX0_numbersOf_1 : cX0_numbersOf.data.toList.drop 22 = dktX0_numbersOf_1 := dk_seg dksX0_numbersOf_0 22 rfl rfl
theorem dX0_numbersOf_0 : decode cX0_numbersOf 0 = .ok (.iconst 0, 1) := dk_3 (dk_at dksX0_numbersOf_0 0 rfl rfl)
theorem dX0_numbersOf_1 : decode cX0_numbersOf 1 = .ok (.istore_n 3, 1) := dk_62 (dk_at dksX0_numbersOf_0 1 rfl rfl)
theorem dX0_numbersOf_2 : decode cX0_numbersOf 2 = .ok (.iconst 0, 1) := dk_3 (dk_at dksX0_numbersOf_0 2 rfl rfl)
theorem dX0_numbersOf_3 : decode cX0_numbersOf 3 = .ok (.istore 4, 2) := dk_54 4 (dk_at dksX0_numbersOf_0 3 rfl rfl)
theorem dX0_numbersOf_5 : decode cX0_numbersOf 5 = .ok (.iload 4, 2) := dk_21 4 (dk_at dksX0_numbersOf_0 5 rfl rfl)
theorem dX0_numbersOf_7 : decode cX0_numbersOf 7 = .ok (.bipush 9, 2) := dk_16 9 (dk_at dksX0_numbersOf_0 7 rfl rfl)
theorem dX0_numbersOf_9 : decode cX0_numbersOf 9 = .ok (.if_icmp .gt 32, 3) := dk_163 0 32 (dk_at dksX0_numbersOf_0 9 rfl rfl)
theorem dX0_numbersOf_12 : decode cX0_numbersOf 12 = .ok (.iload_n 3, 1) := dk_29 (dk_at dksX0_numbersOf_0 12 rfl rfl)
theorem dX0_numbersOf_13 : decode cX0_numbersOf 13 = .ok (.aload_n 0, 1) := dk_42 (dk_at dksX0_numbersOf_0 13 rfl rfl)
theorem dX0_numbersOf_14 : decode cX0_numbersOf 14 = .ok (.aload_n 1, 1) := dk_43 (dk_at dksX0_numbersOf_0 14 rfl rfl)
theorem dX0_numbersOf_15 : decode cX0_numbersOf 15 = .ok (.iload_n 2, 1) := dk_28 (dk_at dksX0_numbersOf_0 15 rfl rfl)
theorem dX0_numbersOf_16 : decode cX0_numbersOf 16 = .ok (.iconst 2, 1) := dk_5 (dk_at dksX0_numbersOf_0 16 rfl rfl)
theorem dX0_numbersOf_17 : decode cX0_numbersOf 17 = .ok (.iload 4, 2) := dk_21 4 (dk_at dksX0_numbersOf_0 17 rfl rfl)
theorem dX0_numbersOf_19 : decode cX0_numbersOf 19 = .ok (.invokevirtual 473, 3) := dk_182 1 217 (dk_at dksX0_numbersOf_0 19 rfl rfl)
theorem dX0_numbersOf_22 : decode cX0_numbersOf 22 = .ok (.ifCond .eq 10, 3) := dk_153 0 10 (dk_at dksX0_numbersOf_1 0 rfl rfl)
theorem dX0_numbersOf_25 : decode cX0_numbersOf 25 = .ok (.iconst 1, 1) := dk_4 (dk_at dksX0_numbersOf_1 3 rfl rfl)
theorem dX0_numbersOf_26 : decode cX0_numbersOf 26 = .ok (.iload 4, 2) := dk_21 4 (dk_at dksX0_numbersOf_1 4 rfl rfl)
theorem dX0_numbersOf_28 : decode cX0_numbersOf 28 = .ok (.ishl, 1) := dk_120 (dk_at dksX0_numbersOf_1 6 rfl rfl)
theorem dX0_numbersOf_29 : decode cX0_numbersOf 29 = .ok (.goto 4, 3) := dk_167 0 4 (dk_at dksX0_numbersOf_1 7 rfl rfl)
theorem dX0_numbersOf_32 : decode cX0_numbersOf 32 = .ok (.iconst 0, 1) := dk_3 (dk_at dksX0_numbersOf_1 10 rfl rfl)
theorem dX0_numbersOf_33 : decode cX0_numbersOf 33 = .ok (.ior, 1) := dk_128 (dk_at dksX0_numbersOf_1 11 rfl rfl)
theorem dX0_numbersOf_34 : decode cX0_numbersOf 34 = .ok (.istore_n 3, 1) := dk_62 (dk_at dksX0_numbersOf_1 12 rfl rfl)
theorem dX0_numbersOf_35 : decode cX0_numbersOf 35 = .ok (.iinc 4 1, 3) := dk_132 4 1 (dk_at dksX0_numbersOf_1 13 rfl rfl)
theorem dX0_numbersOf_38 : decode cX0_numbersOf 38 = .ok (.goto (-33), 3) := dk_167 255 223 (dk_at dksX0_numbersOf_1 16 rfl rfl)
theorem dX0_numbersOf_41 : decode cX0_numbersOf 41 = .ok (.iload_n 3, 1) := dk_29 (dk_at dksX0_numbersOf_1 19 rfl rfl)
theorem dX0_numbersOf_42 : decode cX0_numbersOf 42 = .ok (.ireturn, 1) := dk_172 (dk_at dksX0_numbersOf_1 20 rfl rfl)
abbrev cX0_isSoBy : ByteArray := prog_1_method_71_code
def yX0_isSoBy : MethodName := ⟨RX0, "isSoBy", "(Ljava/lang/Object;III)Z"⟩
def dkwX0_isSoBy_2 : List UInt8 := [29, 28, 21, 5, 182, 0, 96, 25, 7, 191]
abbrev dktX0_isSoBy_2 : List UInt8 := dkwX0_isSoBy_2 ++ []
def dkwX0_isSoBy_1 : List UInt8 := [160, 0, 7, 4, 167, 0, 4, 3, 54, 6, 42, 29, 28, 21, 5, 182, 0, 96, 21, 6, 172, 58, 7, 42]
abbrev dktX0_isSoBy_1 : List UInt8 := dkwX0_isSoBy_1 ++ dktX0_isSoBy_2
def dkwX0_isSoBy_0 : List UInt8 := [42, 28, 29, 182, 0, 93, 54, 5, 42, 29, 28, 21, 4, 182, 0, 96, 42, 43, 28, 182, 1, 210, 2]
abbrev dktX0_isSoBy_0 : List UInt8 := dkwX0_isSoBy_0 ++ dktX0_isSoBy_1
theorem dksX0_isSoBy_0 : cX0_isSoBy.data.toList.drop 0 = dktX0_isSoBy_0 := by decide +kernel
theorem dksX0_isSoBy_1 : cX0_isSoBy.data.toList.drop 23 = dktX0_isSoBy_1 := dk_seg dksX0_isSoBy_0 23 rfl rfl
theorem dksX0_isSoBy_2 : cX0_isSoBy.data.toList.drop 47 = dktX0_isSoBy_2 := dk_seg dksX0_isSoBy_1 24 rfl rfl
theorem dX0_isSoBy_0 : decode cX0_isSoBy 0 = .ok (.aload_n 0, 1) := dk_42 (dk_at dksX0_isSoBy_0 0 rfl rfl)
theorem dX0_isSoBy_1 : decode cX0_isSoBy 1 = .ok (.iload_n 2, 1) := dk_28 (dk_at dksX0_isSoBy_0 1 rfl rfl)
theorem dX0_isSoBy_2 : decode cX0_isSoBy 2 = .ok (.iload_n 3, 1) := dk_29 (dk_at dksX0_isSoBy_0 2 rfl rfl)
theorem dX0_isSoBy_3 : decode cX0_isSoBy 3 = .ok (.invokevirtual 93, 3) := dk_182 0 93 (dk_at dksX0_isSoBy_0 3 rfl rfl)
theorem dX0_isSoBy_6 : decode cX0_isSoBy 6 = .ok (.istore 5, 2) := dk_54 5 (dk_at dksX0_isSoBy_0 6 rfl rfl)
theorem dX0_isSoBy_8 : decode cX0_isSoBy 8 = .ok (.aload_n 0, 1) := dk_42 (dk_at dksX0_isSoBy_0 8 rfl rfl)
theorem dX0_isSoBy_9 : decode cX0_isSoBy 9 = .ok (.iload_n 3, 1) := dk_29 (dk_at dksX0_isSoBy_0 9 rfl rfl)
theorem dX0_isSoBy_10 : decode cX0_isSoBy 10 = .ok (.iload_n 2, 1) := dk_28 (dk_at dksX0_isSoBy_0 10 rfl rfl)
theorem dX0_isSoBy_11 : decode cX0_isSoBy 11 = .ok (.iload 4, 2) := dk_21 4 (dk_at dksX0_isSoBy_0 11 rfl rfl)
theorem dX0_isSoBy_13 : decode cX0_isSoBy 13 = .ok (.invokevirtual 96, 3) := dk_182 0 96 (dk_at dksX0_isSoBy_0 13 rfl rfl)
theorem dX0_isSoBy_16 : decode cX0_isSoBy 16 = .ok (.aload_n 0, 1) := dk_42 (dk_at dksX0_isSoBy_0 16 rfl rfl)
theorem dX0_isSoBy_17 : decode cX0_isSoBy 17 = .ok (.aload_n 1, 1) := dk_43 (dk_at dksX0_isSoBy_0 17 rfl rfl)
theorem dX0_isSoBy_18 : decode cX0_isSoBy 18 = .ok (.iload_n 2, 1) := dk_28 (dk_at dksX0_isSoBy_0 18 rfl rfl)
theorem dX0_isSoBy_19 : decode cX0_isSoBy 19 = .ok (.invokevirtual 466, 3) := dk_182 1 210 (dk_at dksX0_isSoBy_0 19 rfl rfl)
theorem dX0_isSoBy_22 : decode cX0_isSoBy 22 = .ok (.iconst (-1), 1) := dk_2 (dk_at dksX0_isSoBy_0 22 rfl rfl)
theorem dX0_isSoBy_23 : decode cX0_isSoBy 23 = .ok (.if_icmp .ne 7, 3) := dk_160 0 7 (dk_at dksX0_isSoBy_1 0 rfl rfl)
theorem dX0_isSoBy_26 : decode cX0_isSoBy 26 = .ok (.iconst 1, 1) := dk_4 (dk_at dksX0_isSoBy_1 3 rfl rfl)
theorem dX0_isSoBy_27 : decode cX0_isSoBy 27 = .ok (.goto 4, 3) := dk_167 0 4 (dk_at dksX0_isSoBy_1 4 rfl rfl)
theorem dX0_isSoBy_30 : decode cX0_isSoBy 30 = .ok (.iconst 0, 1) := dk_3 (dk_at dksX0_isSoBy_1 7 rfl rfl)
theorem dX0_isSoBy_31 : decode cX0_isSoBy 31 = .ok (.istore 6, 2) := dk_54 6 (dk_at dksX0_isSoBy_1 8 rfl rfl)
theorem dX0_isSoBy_33 : decode cX0_isSoBy 33 = .ok (.aload_n 0, 1) := dk_42 (dk_at dksX0_isSoBy_1 10 rfl rfl)
theorem dX0_isSoBy_34 : decode cX0_isSoBy 34 = .ok (.iload_n 3, 1) := dk_29 (dk_at dksX0_isSoBy_1 11 rfl rfl)
theorem dX0_isSoBy_35 : decode cX0_isSoBy 35 = .ok (.iload_n 2, 1) := dk_28 (dk_at dksX0_isSoBy_1 12 rfl rfl)
theorem dX0_isSoBy_36 : decode cX0_isSoBy 36 = .ok (.iload 5, 2) := dk_21 5 (dk_at dksX0_isSoBy_1 13 rfl rfl)
theorem dX0_isSoBy_38 : decode cX0_isSoBy 38 = .ok (.invokevirtual 96, 3) := dk_182 0 96 (dk_at dksX0_isSoBy_1 15 rfl rfl)
theorem dX0_isSoBy_41 : decode cX0_isSoBy 41 = .ok (.iload 6, 2) := dk_21 6 (dk_at dksX0_isSoBy_1 18 rfl rfl)
theorem dX0_isSoBy_43 : decode cX0_isSoBy 43 = .ok (.ireturn, 1) := dk_172 (dk_at dksX0_isSoBy_1 20 rfl rfl)
theorem dX0_isSoBy_44 : decode cX0_isSoBy 44 = .ok (.astore 7, 2) := dk_58 7 (dk_at dksX0_isSoBy_1 21 rfl rfl)
theorem dX0_isSoBy_46 : decode cX0_isSoBy 46 = .ok (.aload_n 0, 1) := dk_42 (dk_at dksX0_isSoBy_1 23 rfl rfl)
theorem dX0_isSoBy_47 : decode cX0_isSoBy 47 = .ok (.iload_n 3, 1) := dk_29 (dk_at dksX0_isSoBy_2 0 rfl rfl)
theorem dX0_isSoBy_48 : decode cX0_isSoBy 48 = .ok (.iload_n 2, 1) := dk_28 (dk_at dksX0_isSoBy_2 1 rfl rfl)
theorem dX0_isSoBy_49 : decode cX0_isSoBy 49 = .ok (.iload 5, 2) := dk_21 5 (dk_at dksX0_isSoBy_2 2 rfl rfl)
theorem dX0_isSoBy_51 : decode cX0_isSoBy 51 = .ok (.invokevirtual 96, 3) := dk_182 0 96 (dk_at dksX0_isSoBy_2 4 rfl rfl)
theorem dX0_isSoBy_54 : decode cX0_isSoBy 54 = .ok (.aload 7, 2) := dk_25 7 (dk_at dksX0_isSoBy_2 7 rfl rfl)
theorem dX0_isSoBy_56 : decode cX0_isSoBy 56 = .ok (.athrow, 1) := dk_191 (dk_at dksX0_isSoBy_2 9 rfl rfl)
abbrev cX0_manyBy : ByteArray := prog_1_method_73_code
def yX0_manyBy : MethodName := ⟨RX0, "manyBy", "(Ljava/lang/Object;IIZ)I"⟩
def dkwX0_manyBy_2 : List UInt8 := [153, 0, 7, 2, 167, 0, 5, 21, 5, 172]
abbrev dktX0_manyBy_2 : List UInt8 := dkwX0_manyBy_2 ++ []
def dkwX0_manyBy_1 : List UInt8 := [153, 0, 14, 21, 4, 153, 0, 6, 21, 6, 172, 132, 5, 1, 132, 6, 1, 167, 255, 223, 21, 4]
abbrev dktX0_manyBy_1 : List UInt8 := dkwX0_manyBy_1 ++ dktX0_manyBy_2
def dkwX0_manyBy_0 : List UInt8 := [3, 54, 5, 3, 54, 6, 21, 6, 16, 99, 163, 0, 32, 42, 43, 28, 29, 21, 6, 182, 1, 217]
abbrev dktX0_manyBy_0 : List UInt8 := dkwX0_manyBy_0 ++ dktX0_manyBy_1
theorem dksX0_manyBy_0 : cX0_manyBy.data.toList.drop 0 = dktX0_manyBy_0 := by decide +kernel
theorem dksX0_manyBy_1 : cX0_manyBy.data.toList.drop 22 = dktX0_manyBy_1 := dk_seg dksX0_manyBy_0 22 rfl rfl
theorem dksX0_manyBy_2 : cX0_manyBy.data.toList.drop 44 = dktX0_manyBy_2 := dk_seg dksX0_manyBy_1 22 rfl rfl
theorem dX0_manyBy_0 : decode cX0_manyBy 0 = .ok (.iconst 0, 1) := dk_3 (dk_at dksX0_manyBy_0 0 rfl rfl)
theorem dX0_manyBy_1 : decode cX0_manyBy 1 = .ok (.istore 5, 2) := dk_54 5 (dk_at dksX0_manyBy_0 1 rfl rfl)
theorem dX0_manyBy_3 : decode cX0_manyBy 3 = .ok (.iconst 0, 1) := dk_3 (dk_at dksX0_manyBy_0 3 rfl rfl)
theorem dX0_manyBy_4 : decode cX0_manyBy 4 = .ok (.istore 6, 2) := dk_54 6 (dk_at dksX0_manyBy_0 4 rfl rfl)
theorem dX0_manyBy_6 : decode cX0_manyBy 6 = .ok (.iload 6, 2) := dk_21 6 (dk_at dksX0_manyBy_0 6 rfl rfl)
theorem dX0_manyBy_8 : decode cX0_manyBy 8 = .ok (.bipush 99, 2) := dk_16 99 (dk_at dksX0_manyBy_0 8 rfl rfl)
theorem dX0_manyBy_10 : decode cX0_manyBy 10 = .ok (.if_icmp .gt 32, 3) := dk_163 0 32 (dk_at dksX0_manyBy_0 10 rfl rfl)
theorem dX0_manyBy_13 : decode cX0_manyBy 13 = .ok (.aload_n 0, 1) := dk_42 (dk_at dksX0_manyBy_0 13 rfl rfl)
theorem dX0_manyBy_14 : decode cX0_manyBy 14 = .ok (.aload_n 1, 1) := dk_43 (dk_at dksX0_manyBy_0 14 rfl rfl)
theorem dX0_manyBy_15 : decode cX0_manyBy 15 = .ok (.iload_n 2, 1) := dk_28 (dk_at dksX0_manyBy_0 15 rfl rfl)
theorem dX0_manyBy_16 : decode cX0_manyBy 16 = .ok (.iload_n 3, 1) := dk_29 (dk_at dksX0_manyBy_0 16 rfl rfl)
theorem dX0_manyBy_17 : decode cX0_manyBy 17 = .ok (.iload 6, 2) := dk_21 6 (dk_at dksX0_manyBy_0 17 rfl rfl)
theorem dX0_manyBy_19 : decode cX0_manyBy 19 = .ok (.invokevirtual 473, 3) := dk_182 1 217 (dk_at dksX0_manyBy_0 19 rfl rfl)
theorem dX0_manyBy_22 : decode cX0_manyBy 22 = .ok (.ifCond .eq 14, 3) := dk_153 0 14 (dk_at dksX0_manyBy_1 0 rfl rfl)
theorem dX0_manyBy_25 : decode cX0_manyBy 25 = .ok (.iload 4, 2) := dk_21 4 (dk_at dksX0_manyBy_1 3 rfl rfl)
theorem dX0_manyBy_27 : decode cX0_manyBy 27 = .ok (.ifCond .eq 6, 3) := dk_153 0 6 (dk_at dksX0_manyBy_1 5 rfl rfl)
theorem dX0_manyBy_30 : decode cX0_manyBy 30 = .ok (.iload 6, 2) := dk_21 6 (dk_at dksX0_manyBy_1 8 rfl rfl)
theorem dX0_manyBy_32 : decode cX0_manyBy 32 = .ok (.ireturn, 1) := dk_172 (dk_at dksX0_manyBy_1 10 rfl rfl)
theorem dX0_manyBy_33 : decode cX0_manyBy 33 = .ok (.iinc 5 1, 3) := dk_132 5 1 (dk_at dksX0_manyBy_1 11 rfl rfl)
theorem dX0_manyBy_36 : decode cX0_manyBy 36 = .ok (.iinc 6 1, 3) := dk_132 6 1 (dk_at dksX0_manyBy_1 14 rfl rfl)
theorem dX0_manyBy_39 : decode cX0_manyBy 39 = .ok (.goto (-33), 3) := dk_167 255 223 (dk_at dksX0_manyBy_1 17 rfl rfl)
theorem dX0_manyBy_42 : decode cX0_manyBy 42 = .ok (.iload 4, 2) := dk_21 4 (dk_at dksX0_manyBy_1 20 rfl rfl)
theorem dX0_manyBy_44 : decode cX0_manyBy 44 = .ok (.ifCond .eq 7, 3) := dk_153 0 7 (dk_at dksX0_manyBy_2 0 rfl rfl)
theorem dX0_manyBy_47 : decode cX0_manyBy 47 = .ok (.iconst (-1), 1) := dk_2 (dk_at dksX0_manyBy_2 3 rfl rfl)
theorem dX0_manyBy_48 : decode cX0_manyBy 48 = .ok (.goto 5, 3) := dk_167 0 5 (dk_at dksX0_manyBy_2 4 rfl rfl)
theorem dX0_manyBy_51 : decode cX0_manyBy 51 = .ok (.iload 5, 2) := dk_21 5 (dk_at dksX0_manyBy_2 7 rfl rfl)
theorem dX0_manyBy_53 : decode cX0_manyBy 53 = .ok (.ireturn, 1) := dk_172 (dk_at dksX0_manyBy_2 9 rfl rfl)
abbrev cX0_textsOf : ByteArray := prog_1_method_74_code
def yX0_textsOf : MethodName := ⟨RX0, "textsOf", "(Ljava/lang/Object;I)I"⟩
def dkwX0_textsOf_3 : List UInt8 := [25, 6, 191, 21, 4, 172]
abbrev dktX0_textsOf_3 : List UInt8 := dkwX0_textsOf_3 ++ []
def dkwX0_textsOf_2 : List UInt8 := [54, 4, 132, 5, 1, 167, 255, 215, 42, 29, 181, 1, 75, 167, 0, 13, 58, 6, 42, 29, 181, 1, 75]
abbrev dktX0_textsOf_2 : List UInt8 := dkwX0_textsOf_2 ++ dktX0_textsOf_3
def dkwX0_textsOf_1 : List UInt8 := [181, 1, 75, 21, 4, 42, 43, 28, 182, 1, 210, 2, 160, 0, 10, 4, 21, 5, 120, 167, 0, 4, 3, 128]
abbrev dktX0_textsOf_1 : List UInt8 := dkwX0_textsOf_1 ++ dktX0_textsOf_2
def dkwX0_textsOf_0 : List UInt8 := [42, 180, 1, 75, 62, 3, 54, 4, 3, 54, 5, 21, 5, 42, 180, 1, 1, 162, 0, 38, 42, 21, 5]
abbrev dktX0_textsOf_0 : List UInt8 := dkwX0_textsOf_0 ++ dktX0_textsOf_1
theorem dksX0_textsOf_0 : cX0_textsOf.data.toList.drop 0 = dktX0_textsOf_0 := by decide +kernel
theorem dksX0_textsOf_1 : cX0_textsOf.data.toList.drop 23 = dktX0_textsOf_1 := dk_seg dksX0_textsOf_0 23 rfl rfl
theorem dksX0_textsOf_2 : cX0_textsOf.data.toList.drop 47 = dktX0_textsOf_2 := dk_seg dksX0_textsOf_1 24 rfl rfl
theorem dksX0_textsOf_3 : cX0_textsOf.data.toList.drop 70 = dktX0_textsOf_3 := dk_seg dksX0_textsOf_2 23 rfl rfl
theorem dX0_textsOf_0 : decode cX0_textsOf 0 = .ok (.aload_n 0, 1) := dk_42 (dk_at dksX0_textsOf_0 0 rfl rfl)
theorem dX0_textsOf_1 : decode cX0_textsOf 1 = .ok (.getfield 331, 3) := dk_180 1 75 (dk_at dksX0_textsOf_0 1 rfl rfl)
theorem dX0_textsOf_4 : decode cX0_textsOf 4 = .ok (.istore_n 3, 1) := dk_62 (dk_at dksX0_textsOf_0 4 rfl rfl)
theorem dX0_textsOf_5 : decode cX0_textsOf 5 = .ok (.iconst 0, 1) := dk_3 (dk_at dksX0_textsOf_0 5 rfl rfl)
theorem dX0_textsOf_6 : decode cX0_textsOf 6 = .ok (.istore 4, 2) := dk_54 4 (dk_at dksX0_textsOf_0 6 rfl rfl)
theorem dX0_textsOf_8 : decode cX0_textsOf 8 = .ok (.iconst 0, 1) := dk_3 (dk_at dksX0_textsOf_0 8 rfl rfl)
theorem dX0_textsOf_9 : decode cX0_textsOf 9 = .ok (.istore 5, 2) := dk_54 5 (dk_at dksX0_textsOf_0 9 rfl rfl)
theorem dX0_textsOf_11 : decode cX0_textsOf 11 = .ok (.iload 5, 2) := dk_21 5 (dk_at dksX0_textsOf_0 11 rfl rfl)
theorem dX0_textsOf_13 : decode cX0_textsOf 13 = .ok (.aload_n 0, 1) := dk_42 (dk_at dksX0_textsOf_0 13 rfl rfl)
theorem dX0_textsOf_14 : decode cX0_textsOf 14 = .ok (.getfield 257, 3) := dk_180 1 1 (dk_at dksX0_textsOf_0 14 rfl rfl)
theorem dX0_textsOf_17 : decode cX0_textsOf 17 = .ok (.if_icmp .ge 38, 3) := dk_162 0 38 (dk_at dksX0_textsOf_0 17 rfl rfl)
theorem dX0_textsOf_20 : decode cX0_textsOf 20 = .ok (.aload_n 0, 1) := dk_42 (dk_at dksX0_textsOf_0 20 rfl rfl)
theorem dX0_textsOf_21 : decode cX0_textsOf 21 = .ok (.iload 5, 2) := dk_21 5 (dk_at dksX0_textsOf_0 21 rfl rfl)
theorem dX0_textsOf_23 : decode cX0_textsOf 23 = .ok (.putfield 331, 3) := dk_181 1 75 (dk_at dksX0_textsOf_1 0 rfl rfl)
theorem dX0_textsOf_26 : decode cX0_textsOf 26 = .ok (.iload 4, 2) := dk_21 4 (dk_at dksX0_textsOf_1 3 rfl rfl)
theorem dX0_textsOf_28 : decode cX0_textsOf 28 = .ok (.aload_n 0, 1) := dk_42 (dk_at dksX0_textsOf_1 5 rfl rfl)
theorem dX0_textsOf_29 : decode cX0_textsOf 29 = .ok (.aload_n 1, 1) := dk_43 (dk_at dksX0_textsOf_1 6 rfl rfl)
theorem dX0_textsOf_30 : decode cX0_textsOf 30 = .ok (.iload_n 2, 1) := dk_28 (dk_at dksX0_textsOf_1 7 rfl rfl)
theorem dX0_textsOf_31 : decode cX0_textsOf 31 = .ok (.invokevirtual 466, 3) := dk_182 1 210 (dk_at dksX0_textsOf_1 8 rfl rfl)
theorem dX0_textsOf_34 : decode cX0_textsOf 34 = .ok (.iconst (-1), 1) := dk_2 (dk_at dksX0_textsOf_1 11 rfl rfl)
theorem dX0_textsOf_35 : decode cX0_textsOf 35 = .ok (.if_icmp .ne 10, 3) := dk_160 0 10 (dk_at dksX0_textsOf_1 12 rfl rfl)
theorem dX0_textsOf_38 : decode cX0_textsOf 38 = .ok (.iconst 1, 1) := dk_4 (dk_at dksX0_textsOf_1 15 rfl rfl)
theorem dX0_textsOf_39 : decode cX0_textsOf 39 = .ok (.iload 5, 2) := dk_21 5 (dk_at dksX0_textsOf_1 16 rfl rfl)
theorem dX0_textsOf_41 : decode cX0_textsOf 41 = .ok (.ishl, 1) := dk_120 (dk_at dksX0_textsOf_1 18 rfl rfl)
theorem dX0_textsOf_42 : decode cX0_textsOf 42 = .ok (.goto 4, 3) := dk_167 0 4 (dk_at dksX0_textsOf_1 19 rfl rfl)
theorem dX0_textsOf_45 : decode cX0_textsOf 45 = .ok (.iconst 0, 1) := dk_3 (dk_at dksX0_textsOf_1 22 rfl rfl)
theorem dX0_textsOf_46 : decode cX0_textsOf 46 = .ok (.ior, 1) := dk_128 (dk_at dksX0_textsOf_1 23 rfl rfl)
theorem dX0_textsOf_47 : decode cX0_textsOf 47 = .ok (.istore 4, 2) := dk_54 4 (dk_at dksX0_textsOf_2 0 rfl rfl)
theorem dX0_textsOf_49 : decode cX0_textsOf 49 = .ok (.iinc 5 1, 3) := dk_132 5 1 (dk_at dksX0_textsOf_2 2 rfl rfl)
theorem dX0_textsOf_52 : decode cX0_textsOf 52 = .ok (.goto (-41), 3) := dk_167 255 215 (dk_at dksX0_textsOf_2 5 rfl rfl)
theorem dX0_textsOf_55 : decode cX0_textsOf 55 = .ok (.aload_n 0, 1) := dk_42 (dk_at dksX0_textsOf_2 8 rfl rfl)
theorem dX0_textsOf_56 : decode cX0_textsOf 56 = .ok (.iload_n 3, 1) := dk_29 (dk_at dksX0_textsOf_2 9 rfl rfl)
theorem dX0_textsOf_57 : decode cX0_textsOf 57 = .ok (.putfield 331, 3) := dk_181 1 75 (dk_at dksX0_textsOf_2 10 rfl rfl)
theorem dX0_textsOf_60 : decode cX0_textsOf 60 = .ok (.goto 13, 3) := dk_167 0 13 (dk_at dksX0_textsOf_2 13 rfl rfl)
theorem dX0_textsOf_63 : decode cX0_textsOf 63 = .ok (.astore 6, 2) := dk_58 6 (dk_at dksX0_textsOf_2 16 rfl rfl)
theorem dX0_textsOf_65 : decode cX0_textsOf 65 = .ok (.aload_n 0, 1) := dk_42 (dk_at dksX0_textsOf_2 18 rfl rfl)
theorem dX0_textsOf_66 : decode cX0_textsOf 66 = .ok (.iload_n 3, 1) := dk_29 (dk_at dksX0_textsOf_2 19 rfl rfl)
theorem dX0_textsOf_67 : decode cX0_textsOf 67 = .ok (.putfield 331, 3) := dk_181 1 75 (dk_at dksX0_textsOf_2 20 rfl rfl)
theorem dX0_textsOf_70 : decode cX0_textsOf 70 = .ok (.aload 6, 2) := dk_25 6 (dk_at dksX0_textsOf_3 0 rfl rfl)
theorem dX0_textsOf_72 : decode cX0_textsOf 72 = .ok (.athrow, 1) := dk_191 (dk_at dksX0_textsOf_3 2 rfl rfl)
theorem dX0_textsOf_73 : decode cX0_textsOf 73 = .ok (.iload 4, 2) := dk_21 4 (dk_at dksX0_textsOf_3 3 rfl rfl)
theorem dX0_textsOf_75 : decode cX0_textsOf 75 = .ok (.ireturn, 1) := dk_172 (dk_at dksX0_textsOf_3 5 rfl rfl)
abbrev cX0_playersOf : ByteArray := prog_1_method_75_code
def yX0_playersOf : MethodName := ⟨RX0, "playersOf", "(Ljava/lang/Object;)I"⟩
def dkwX0_playersOf_1 : List UInt8 := [29, 120, 167, 0, 4, 3, 128, 61, 132, 3, 1, 167, 255, 225, 28, 172]
abbrev dktX0_playersOf_1 : List UInt8 := dkwX0_playersOf_1 ++ []
def dkwX0_playersOf_0 : List UInt8 := [3, 61, 3, 62, 29, 42, 180, 0, 10, 162, 0, 29, 28, 42, 43, 29, 182, 1, 210, 2, 160, 0, 9, 4]
abbrev dktX0_playersOf_0 : List UInt8 := dkwX0_playersOf_0 ++ dktX0_playersOf_1
theorem dksX0_playersOf_0 : cX0_playersOf.data.toList.drop 0 = dktX0_playersOf_0 := by decide +kernel
theorem dksX0_playersOf_1 : cX0_playersOf.data.toList.drop 24 = dktX0_playersOf_1 := dk_seg dksX0_playersOf_0 24 rfl rfl
theorem dX0_playersOf_0 : decode cX0_playersOf 0 = .ok (.iconst 0, 1) := dk_3 (dk_at dksX0_playersOf_0 0 rfl rfl)
theorem dX0_playersOf_1 : decode cX0_playersOf 1 = .ok (.istore_n 2, 1) := dk_61 (dk_at dksX0_playersOf_0 1 rfl rfl)
theorem dX0_playersOf_2 : decode cX0_playersOf 2 = .ok (.iconst 0, 1) := dk_3 (dk_at dksX0_playersOf_0 2 rfl rfl)
theorem dX0_playersOf_3 : decode cX0_playersOf 3 = .ok (.istore_n 3, 1) := dk_62 (dk_at dksX0_playersOf_0 3 rfl rfl)
theorem dX0_playersOf_4 : decode cX0_playersOf 4 = .ok (.iload_n 3, 1) := dk_29 (dk_at dksX0_playersOf_0 4 rfl rfl)
theorem dX0_playersOf_5 : decode cX0_playersOf 5 = .ok (.aload_n 0, 1) := dk_42 (dk_at dksX0_playersOf_0 5 rfl rfl)
theorem dX0_playersOf_6 : decode cX0_playersOf 6 = .ok (.getfield 10, 3) := dk_180 0 10 (dk_at dksX0_playersOf_0 6 rfl rfl)
theorem dX0_playersOf_9 : decode cX0_playersOf 9 = .ok (.if_icmp .ge 29, 3) := dk_162 0 29 (dk_at dksX0_playersOf_0 9 rfl rfl)
theorem dX0_playersOf_12 : decode cX0_playersOf 12 = .ok (.iload_n 2, 1) := dk_28 (dk_at dksX0_playersOf_0 12 rfl rfl)
theorem dX0_playersOf_13 : decode cX0_playersOf 13 = .ok (.aload_n 0, 1) := dk_42 (dk_at dksX0_playersOf_0 13 rfl rfl)
theorem dX0_playersOf_14 : decode cX0_playersOf 14 = .ok (.aload_n 1, 1) := dk_43 (dk_at dksX0_playersOf_0 14 rfl rfl)
theorem dX0_playersOf_15 : decode cX0_playersOf 15 = .ok (.iload_n 3, 1) := dk_29 (dk_at dksX0_playersOf_0 15 rfl rfl)
theorem dX0_playersOf_16 : decode cX0_playersOf 16 = .ok (.invokevirtual 466, 3) := dk_182 1 210 (dk_at dksX0_playersOf_0 16 rfl rfl)
theorem dX0_playersOf_19 : decode cX0_playersOf 19 = .ok (.iconst (-1), 1) := dk_2 (dk_at dksX0_playersOf_0 19 rfl rfl)
theorem dX0_playersOf_20 : decode cX0_playersOf 20 = .ok (.if_icmp .ne 9, 3) := dk_160 0 9 (dk_at dksX0_playersOf_0 20 rfl rfl)
theorem dX0_playersOf_23 : decode cX0_playersOf 23 = .ok (.iconst 1, 1) := dk_4 (dk_at dksX0_playersOf_0 23 rfl rfl)
theorem dX0_playersOf_24 : decode cX0_playersOf 24 = .ok (.iload_n 3, 1) := dk_29 (dk_at dksX0_playersOf_1 0 rfl rfl)
theorem dX0_playersOf_25 : decode cX0_playersOf 25 = .ok (.ishl, 1) := dk_120 (dk_at dksX0_playersOf_1 1 rfl rfl)
theorem dX0_playersOf_26 : decode cX0_playersOf 26 = .ok (.goto 4, 3) := dk_167 0 4 (dk_at dksX0_playersOf_1 2 rfl rfl)
theorem dX0_playersOf_29 : decode cX0_playersOf 29 = .ok (.iconst 0, 1) := dk_3 (dk_at dksX0_playersOf_1 5 rfl rfl)
theorem dX0_playersOf_30 : decode cX0_playersOf 30 = .ok (.ior, 1) := dk_128 (dk_at dksX0_playersOf_1 6 rfl rfl)
theorem dX0_playersOf_31 : decode cX0_playersOf 31 = .ok (.istore_n 2, 1) := dk_61 (dk_at dksX0_playersOf_1 7 rfl rfl)
theorem dX0_playersOf_32 : decode cX0_playersOf 32 = .ok (.iinc 3 1, 3) := dk_132 3 1 (dk_at dksX0_playersOf_1 8 rfl rfl)
theorem dX0_playersOf_35 : decode cX0_playersOf 35 = .ok (.goto (-31), 3) := dk_167 255 225 (dk_at dksX0_playersOf_1 11 rfl rfl)
theorem dX0_playersOf_38 : decode cX0_playersOf 38 = .ok (.iload_n 2, 1) := dk_28 (dk_at dksX0_playersOf_1 14 rfl rfl)
theorem dX0_playersOf_39 : decode cX0_playersOf 39 = .ok (.ireturn, 1) := dk_172 (dk_at dksX0_playersOf_1 15 rfl rfl)
abbrev cX0_film : ByteArray := prog_1_method_77_code
def yX0_film : MethodName := ⟨RX0, "film", "(II)I"⟩
def dkwX0_film_3 : List UInt8 := [180, 0, 10, 172]
abbrev dktX0_film_3 : List UInt8 := dkwX0_film_3 ++ []
def dkwX0_film_2 : List UInt8 := [160, 0, 7, 3, 167, 0, 9, 42, 28, 29, 182, 1, 103, 182, 1, 240, 87, 132, 3, 1, 167, 255, 223, 42]
abbrev dktX0_film_2 : List UInt8 := dkwX0_film_2 ++ dktX0_film_3
def dkwX0_film_1 : List UInt8 := [180, 0, 10, 182, 1, 237, 87, 3, 62, 29, 42, 180, 0, 10, 162, 0, 31, 42, 27, 29, 29, 28]
abbrev dktX0_film_1 : List UInt8 := dkwX0_film_1 ++ dktX0_film_2
def dkwX0_film_0 : List UInt8 := [27, 184, 1, 151, 153, 0, 11, 42, 28, 182, 0, 20, 154, 0, 6, 16, 254, 172, 42, 27, 4, 42]
abbrev dktX0_film_0 : List UInt8 := dkwX0_film_0 ++ dktX0_film_1
theorem dksX0_film_0 : cX0_film.data.toList.drop 0 = dktX0_film_0 := by decide +kernel
theorem dksX0_film_1 : cX0_film.data.toList.drop 22 = dktX0_film_1 := dk_seg dksX0_film_0 22 rfl rfl
theorem dksX0_film_2 : cX0_film.data.toList.drop 44 = dktX0_film_2 := dk_seg dksX0_film_1 22 rfl rfl
theorem dksX0_film_3 : cX0_film.data.toList.drop 68 = dktX0_film_3 := dk_seg dksX0_film_2 24 rfl rfl
theorem dX0_film_0 : decode cX0_film 0 = .ok (.iload_n 1, 1) := dk_27 (dk_at dksX0_film_0 0 rfl rfl)
theorem dX0_film_1 : decode cX0_film 1 = .ok (.invokestatic 407, 3) := dk_184 1 151 (dk_at dksX0_film_0 1 rfl rfl)
theorem dX0_film_4 : decode cX0_film 4 = .ok (.ifCond .eq 11, 3) := dk_153 0 11 (dk_at dksX0_film_0 4 rfl rfl)
theorem dX0_film_7 : decode cX0_film 7 = .ok (.aload_n 0, 1) := dk_42 (dk_at dksX0_film_0 7 rfl rfl)
theorem dX0_film_8 : decode cX0_film 8 = .ok (.iload_n 2, 1) := dk_28 (dk_at dksX0_film_0 8 rfl rfl)
theorem dX0_film_9 : decode cX0_film 9 = .ok (.invokevirtual 20, 3) := dk_182 0 20 (dk_at dksX0_film_0 9 rfl rfl)
theorem dX0_film_12 : decode cX0_film 12 = .ok (.ifCond .ne 6, 3) := dk_154 0 6 (dk_at dksX0_film_0 12 rfl rfl)
theorem dX0_film_15 : decode cX0_film 15 = .ok (.bipush (-2), 2) := dk_16 254 (dk_at dksX0_film_0 15 rfl rfl)
theorem dX0_film_17 : decode cX0_film 17 = .ok (.ireturn, 1) := dk_172 (dk_at dksX0_film_0 17 rfl rfl)
theorem dX0_film_18 : decode cX0_film 18 = .ok (.aload_n 0, 1) := dk_42 (dk_at dksX0_film_0 18 rfl rfl)
theorem dX0_film_19 : decode cX0_film 19 = .ok (.iload_n 1, 1) := dk_27 (dk_at dksX0_film_0 19 rfl rfl)
theorem dX0_film_20 : decode cX0_film 20 = .ok (.iconst 1, 1) := dk_4 (dk_at dksX0_film_0 20 rfl rfl)
theorem dX0_film_21 : decode cX0_film 21 = .ok (.aload_n 0, 1) := dk_42 (dk_at dksX0_film_0 21 rfl rfl)
theorem dX0_film_22 : decode cX0_film 22 = .ok (.getfield 10, 3) := dk_180 0 10 (dk_at dksX0_film_1 0 rfl rfl)
theorem dX0_film_25 : decode cX0_film 25 = .ok (.invokevirtual 493, 3) := dk_182 1 237 (dk_at dksX0_film_1 3 rfl rfl)
theorem dX0_film_28 : decode cX0_film 28 = .ok (.pop, 1) := dk_87 (dk_at dksX0_film_1 6 rfl rfl)
theorem dX0_film_29 : decode cX0_film 29 = .ok (.iconst 0, 1) := dk_3 (dk_at dksX0_film_1 7 rfl rfl)
theorem dX0_film_30 : decode cX0_film 30 = .ok (.istore_n 3, 1) := dk_62 (dk_at dksX0_film_1 8 rfl rfl)
theorem dX0_film_31 : decode cX0_film 31 = .ok (.iload_n 3, 1) := dk_29 (dk_at dksX0_film_1 9 rfl rfl)
theorem dX0_film_32 : decode cX0_film 32 = .ok (.aload_n 0, 1) := dk_42 (dk_at dksX0_film_1 10 rfl rfl)
theorem dX0_film_33 : decode cX0_film 33 = .ok (.getfield 10, 3) := dk_180 0 10 (dk_at dksX0_film_1 11 rfl rfl)
theorem dX0_film_36 : decode cX0_film 36 = .ok (.if_icmp .ge 31, 3) := dk_162 0 31 (dk_at dksX0_film_1 14 rfl rfl)
theorem dX0_film_39 : decode cX0_film 39 = .ok (.aload_n 0, 1) := dk_42 (dk_at dksX0_film_1 17 rfl rfl)
theorem dX0_film_40 : decode cX0_film 40 = .ok (.iload_n 1, 1) := dk_27 (dk_at dksX0_film_1 18 rfl rfl)
theorem dX0_film_41 : decode cX0_film 41 = .ok (.iload_n 3, 1) := dk_29 (dk_at dksX0_film_1 19 rfl rfl)
theorem dX0_film_42 : decode cX0_film 42 = .ok (.iload_n 3, 1) := dk_29 (dk_at dksX0_film_1 20 rfl rfl)
theorem dX0_film_43 : decode cX0_film 43 = .ok (.iload_n 2, 1) := dk_28 (dk_at dksX0_film_1 21 rfl rfl)
theorem dX0_film_44 : decode cX0_film 44 = .ok (.if_icmp .ne 7, 3) := dk_160 0 7 (dk_at dksX0_film_2 0 rfl rfl)
theorem dX0_film_47 : decode cX0_film 47 = .ok (.iconst 0, 1) := dk_3 (dk_at dksX0_film_2 3 rfl rfl)
theorem dX0_film_48 : decode cX0_film 48 = .ok (.goto 9, 3) := dk_167 0 9 (dk_at dksX0_film_2 4 rfl rfl)
theorem dX0_film_51 : decode cX0_film 51 = .ok (.aload_n 0, 1) := dk_42 (dk_at dksX0_film_2 7 rfl rfl)
theorem dX0_film_52 : decode cX0_film 52 = .ok (.iload_n 2, 1) := dk_28 (dk_at dksX0_film_2 8 rfl rfl)
theorem dX0_film_53 : decode cX0_film 53 = .ok (.iload_n 3, 1) := dk_29 (dk_at dksX0_film_2 9 rfl rfl)
theorem dX0_film_54 : decode cX0_film 54 = .ok (.invokevirtual 359, 3) := dk_182 1 103 (dk_at dksX0_film_2 10 rfl rfl)
theorem dX0_film_57 : decode cX0_film 57 = .ok (.invokevirtual 496, 3) := dk_182 1 240 (dk_at dksX0_film_2 13 rfl rfl)
theorem dX0_film_60 : decode cX0_film 60 = .ok (.pop, 1) := dk_87 (dk_at dksX0_film_2 16 rfl rfl)
theorem dX0_film_61 : decode cX0_film 61 = .ok (.iinc 3 1, 3) := dk_132 3 1 (dk_at dksX0_film_2 17 rfl rfl)
theorem dX0_film_64 : decode cX0_film 64 = .ok (.goto (-33), 3) := dk_167 255 223 (dk_at dksX0_film_2 20 rfl rfl)
theorem dX0_film_67 : decode cX0_film 67 = .ok (.aload_n 0, 1) := dk_42 (dk_at dksX0_film_2 23 rfl rfl)
theorem dX0_film_68 : decode cX0_film 68 = .ok (.getfield 10, 3) := dk_180 0 10 (dk_at dksX0_film_3 0 rfl rfl)
theorem dX0_film_71 : decode cX0_film 71 = .ok (.ireturn, 1) := dk_172 (dk_at dksX0_film_3 3 rfl rfl)
abbrev cX0_sheet : ByteArray := prog_1_method_86_code
def yX0_sheet : MethodName := ⟨RX0, "sheet", "(III)I"⟩
def dkwX0_sheet_3 : List UInt8 := [16, 242, 172]
abbrev dktX0_sheet_3 : List UInt8 := dkwX0_sheet_3 ++ []
def dkwX0_sheet_2 : List UInt8 := [181, 1, 158, 4, 172, 42, 180, 1, 62, 27, 50, 28, 29, 184, 2, 3, 181, 1, 158, 4, 172, 58, 4]
abbrev dktX0_sheet_2 : List UInt8 := dkwX0_sheet_2 ++ dktX0_sheet_3
def dkwX0_sheet_1 : List UInt8 := [159, 0, 12, 29, 16, 40, 164, 0, 6, 16, 254, 172, 28, 2, 160, 0, 15, 42, 180, 1, 62, 27, 50, 1]
abbrev dktX0_sheet_1 : List UInt8 := dkwX0_sheet_1 ++ dktX0_sheet_2
def dkwX0_sheet_0 : List UInt8 := [27, 184, 1, 151, 153, 0, 28, 28, 133, 20, 2, 1, 20, 0, 114, 184, 0, 16, 153, 0, 14, 28, 2]
abbrev dktX0_sheet_0 : List UInt8 := dkwX0_sheet_0 ++ dktX0_sheet_1
theorem dksX0_sheet_0 : cX0_sheet.data.toList.drop 0 = dktX0_sheet_0 := by decide +kernel
theorem dksX0_sheet_1 : cX0_sheet.data.toList.drop 23 = dktX0_sheet_1 := dk_seg dksX0_sheet_0 23 rfl rfl
theorem dksX0_sheet_2 : cX0_sheet.data.toList.drop 47 = dktX0_sheet_2 := dk_seg dksX0_sheet_1 24 rfl rfl
theorem dksX0_sheet_3 : cX0_sheet.data.toList.drop 70 = dktX0_sheet_3 := dk_seg dksX0_sheet_2 23 rfl rfl
theorem dX0_sheet_0 : decode cX0_sheet 0 = .ok (.iload_n 1, 1) := dk_27 (dk_at dksX0_sheet_0 0 rfl rfl)
theorem dX0_sheet_1 : decode cX0_sheet 1 = .ok (.invokestatic 407, 3) := dk_184 1 151 (dk_at dksX0_sheet_0 1 rfl rfl)
theorem dX0_sheet_4 : decode cX0_sheet 4 = .ok (.ifCond .eq 28, 3) := dk_153 0 28 (dk_at dksX0_sheet_0 4 rfl rfl)
theorem dX0_sheet_7 : decode cX0_sheet 7 = .ok (.iload_n 2, 1) := dk_28 (dk_at dksX0_sheet_0 7 rfl rfl)
theorem dX0_sheet_8 : decode cX0_sheet 8 = .ok (.i2l, 1) := dk_133 (dk_at dksX0_sheet_0 8 rfl rfl)
theorem dX0_sheet_9 : decode cX0_sheet 9 = .ok (.ldc2_w 513, 3) := dk_20 2 1 (dk_at dksX0_sheet_0 9 rfl rfl)
theorem dX0_sheet_12 : decode cX0_sheet 12 = .ok (.ldc2_w 114, 3) := dk_20 0 114 (dk_at dksX0_sheet_0 12 rfl rfl)
theorem dX0_sheet_15 : decode cX0_sheet 15 = .ok (.invokestatic 16, 3) := dk_184 0 16 (dk_at dksX0_sheet_0 15 rfl rfl)
theorem dX0_sheet_18 : decode cX0_sheet 18 = .ok (.ifCond .eq 14, 3) := dk_153 0 14 (dk_at dksX0_sheet_0 18 rfl rfl)
theorem dX0_sheet_21 : decode cX0_sheet 21 = .ok (.iload_n 2, 1) := dk_28 (dk_at dksX0_sheet_0 21 rfl rfl)
theorem dX0_sheet_22 : decode cX0_sheet 22 = .ok (.iconst (-1), 1) := dk_2 (dk_at dksX0_sheet_0 22 rfl rfl)
theorem dX0_sheet_23 : decode cX0_sheet 23 = .ok (.if_icmp .eq 12, 3) := dk_159 0 12 (dk_at dksX0_sheet_1 0 rfl rfl)
theorem dX0_sheet_26 : decode cX0_sheet 26 = .ok (.iload_n 3, 1) := dk_29 (dk_at dksX0_sheet_1 3 rfl rfl)
theorem dX0_sheet_27 : decode cX0_sheet 27 = .ok (.bipush 40, 2) := dk_16 40 (dk_at dksX0_sheet_1 4 rfl rfl)
theorem dX0_sheet_29 : decode cX0_sheet 29 = .ok (.if_icmp .le 6, 3) := dk_164 0 6 (dk_at dksX0_sheet_1 6 rfl rfl)
theorem dX0_sheet_32 : decode cX0_sheet 32 = .ok (.bipush (-2), 2) := dk_16 254 (dk_at dksX0_sheet_1 9 rfl rfl)
theorem dX0_sheet_34 : decode cX0_sheet 34 = .ok (.ireturn, 1) := dk_172 (dk_at dksX0_sheet_1 11 rfl rfl)
theorem dX0_sheet_35 : decode cX0_sheet 35 = .ok (.iload_n 2, 1) := dk_28 (dk_at dksX0_sheet_1 12 rfl rfl)
theorem dX0_sheet_36 : decode cX0_sheet 36 = .ok (.iconst (-1), 1) := dk_2 (dk_at dksX0_sheet_1 13 rfl rfl)
theorem dX0_sheet_37 : decode cX0_sheet 37 = .ok (.if_icmp .ne 15, 3) := dk_160 0 15 (dk_at dksX0_sheet_1 14 rfl rfl)
theorem dX0_sheet_40 : decode cX0_sheet 40 = .ok (.aload_n 0, 1) := dk_42 (dk_at dksX0_sheet_1 17 rfl rfl)
theorem dX0_sheet_41 : decode cX0_sheet 41 = .ok (.getfield 318, 3) := dk_180 1 62 (dk_at dksX0_sheet_1 18 rfl rfl)
theorem dX0_sheet_44 : decode cX0_sheet 44 = .ok (.iload_n 1, 1) := dk_27 (dk_at dksX0_sheet_1 21 rfl rfl)
theorem dX0_sheet_45 : decode cX0_sheet 45 = .ok (.aaload, 1) := dk_50 (dk_at dksX0_sheet_1 22 rfl rfl)
theorem dX0_sheet_46 : decode cX0_sheet 46 = .ok (.aconst_null, 1) := dk_1 (dk_at dksX0_sheet_1 23 rfl rfl)
theorem dX0_sheet_47 : decode cX0_sheet 47 = .ok (.putfield 414, 3) := dk_181 1 158 (dk_at dksX0_sheet_2 0 rfl rfl)
theorem dX0_sheet_50 : decode cX0_sheet 50 = .ok (.iconst 1, 1) := dk_4 (dk_at dksX0_sheet_2 3 rfl rfl)
theorem dX0_sheet_51 : decode cX0_sheet 51 = .ok (.ireturn, 1) := dk_172 (dk_at dksX0_sheet_2 4 rfl rfl)
theorem dX0_sheet_52 : decode cX0_sheet 52 = .ok (.aload_n 0, 1) := dk_42 (dk_at dksX0_sheet_2 5 rfl rfl)
theorem dX0_sheet_53 : decode cX0_sheet 53 = .ok (.getfield 318, 3) := dk_180 1 62 (dk_at dksX0_sheet_2 6 rfl rfl)
theorem dX0_sheet_56 : decode cX0_sheet 56 = .ok (.iload_n 1, 1) := dk_27 (dk_at dksX0_sheet_2 9 rfl rfl)
theorem dX0_sheet_57 : decode cX0_sheet 57 = .ok (.aaload, 1) := dk_50 (dk_at dksX0_sheet_2 10 rfl rfl)
theorem dX0_sheet_58 : decode cX0_sheet 58 = .ok (.iload_n 2, 1) := dk_28 (dk_at dksX0_sheet_2 11 rfl rfl)
theorem dX0_sheet_59 : decode cX0_sheet 59 = .ok (.iload_n 3, 1) := dk_29 (dk_at dksX0_sheet_2 12 rfl rfl)
theorem dX0_sheet_60 : decode cX0_sheet 60 = .ok (.invokestatic 515, 3) := dk_184 2 3 (dk_at dksX0_sheet_2 13 rfl rfl)
theorem dX0_sheet_63 : decode cX0_sheet 63 = .ok (.putfield 414, 3) := dk_181 1 158 (dk_at dksX0_sheet_2 16 rfl rfl)
theorem dX0_sheet_66 : decode cX0_sheet 66 = .ok (.iconst 1, 1) := dk_4 (dk_at dksX0_sheet_2 19 rfl rfl)
theorem dX0_sheet_67 : decode cX0_sheet 67 = .ok (.ireturn, 1) := dk_172 (dk_at dksX0_sheet_2 20 rfl rfl)
theorem dX0_sheet_68 : decode cX0_sheet 68 = .ok (.astore 4, 2) := dk_58 4 (dk_at dksX0_sheet_2 21 rfl rfl)
theorem dX0_sheet_70 : decode cX0_sheet 70 = .ok (.bipush (-14), 2) := dk_16 242 (dk_at dksX0_sheet_3 0 rfl rfl)
theorem dX0_sheet_72 : decode cX0_sheet 72 = .ok (.ireturn, 1) := dk_172 (dk_at dksX0_sheet_3 2 rfl rfl)
abbrev cX0_rowOf : ByteArray := prog_1_method_85_code
def yX0_rowOf : MethodName := ⟨RX0, "rowOf", "(II)Ljava/lang/Object;"⟩
def dkwX0_rowOf_2 : List UInt8 := [27, 188, 8, 176, 27, 188, 9, 176, 27, 188, 10, 176]
abbrev dktX0_rowOf_2 : List UInt8 := dkwX0_rowOf_2 ++ []
def dkwX0_rowOf_1 : List UInt8 := [171, 0, 0, 0, 0, 0, 35, 0, 0, 0, 2, 0, 0, 0, 0, 0, 0, 0, 27, 0, 0, 0, 1, 0, 0, 0, 31]
abbrev dktX0_rowOf_1 : List UInt8 := dkwX0_rowOf_1 ++ dktX0_rowOf_2
def dkwX0_rowOf_0 : List UInt8 := [26]
abbrev dktX0_rowOf_0 : List UInt8 := dkwX0_rowOf_0 ++ dktX0_rowOf_1
theorem dksX0_rowOf_0 : cX0_rowOf.data.toList.drop 0 = dktX0_rowOf_0 := by decide +kernel
theorem dksX0_rowOf_1 : cX0_rowOf.data.toList.drop 1 = dktX0_rowOf_1 := dk_seg dksX0_rowOf_0 1 rfl rfl
theorem dksX0_rowOf_2 : cX0_rowOf.data.toList.drop 28 = dktX0_rowOf_2 := dk_seg dksX0_rowOf_1 27 rfl rfl
theorem dX0_rowOf_0 : decode cX0_rowOf 0 = .ok (.iload_n 0, 1) := dk_26 (dk_at dksX0_rowOf_0 0 rfl rfl)
theorem dX0_rowOf_1 : decode cX0_rowOf 1 = .ok (.lookupswitch 35 #[(0, 27), (1, 31)], 27) := by decide +kernel
theorem dX0_rowOf_28 : decode cX0_rowOf 28 = .ok (.iload_n 1, 1) := dk_27 (dk_at dksX0_rowOf_2 0 rfl rfl)
theorem dX0_rowOf_29 : decode cX0_rowOf 29 = .ok (.newarray .byte, 2) := dk_188_8 (dk_at dksX0_rowOf_2 1 rfl rfl)
theorem dX0_rowOf_31 : decode cX0_rowOf 31 = .ok (.areturn, 1) := dk_176 (dk_at dksX0_rowOf_2 3 rfl rfl)
theorem dX0_rowOf_32 : decode cX0_rowOf 32 = .ok (.iload_n 1, 1) := dk_27 (dk_at dksX0_rowOf_2 4 rfl rfl)
theorem dX0_rowOf_33 : decode cX0_rowOf 33 = .ok (.newarray .short, 2) := dk_188_9 (dk_at dksX0_rowOf_2 5 rfl rfl)
theorem dX0_rowOf_35 : decode cX0_rowOf 35 = .ok (.areturn, 1) := dk_176 (dk_at dksX0_rowOf_2 7 rfl rfl)
theorem dX0_rowOf_36 : decode cX0_rowOf 36 = .ok (.iload_n 1, 1) := dk_27 (dk_at dksX0_rowOf_2 8 rfl rfl)
theorem dX0_rowOf_37 : decode cX0_rowOf 37 = .ok (.newarray .int, 2) := dk_188_10 (dk_at dksX0_rowOf_2 9 rfl rfl)
theorem dX0_rowOf_39 : decode cX0_rowOf 39 = .ok (.areturn, 1) := dk_176 (dk_at dksX0_rowOf_2 11 rfl rfl)
abbrev cX0_cell : ByteArray := prog_1_method_88_code
def yX0_cell : MethodName := ⟨RX0, "cell", "(III)I"⟩
def dkwX0_cell_1 : List UInt8 := [172, 58, 4, 16, 245, 172, 58, 4, 16, 244, 172]
abbrev dktX0_cell_1 : List UInt8 := dkwX0_cell_1 ++ []
def dkwX0_cell_0 : List UInt8 := [27, 184, 1, 151, 154, 0, 6, 16, 254, 172, 42, 180, 1, 62, 27, 50, 180, 1, 158, 28, 29, 184, 2, 16]
abbrev dktX0_cell_0 : List UInt8 := dkwX0_cell_0 ++ dktX0_cell_1
theorem dksX0_cell_0 : cX0_cell.data.toList.drop 0 = dktX0_cell_0 := by decide +kernel
theorem dksX0_cell_1 : cX0_cell.data.toList.drop 24 = dktX0_cell_1 := dk_seg dksX0_cell_0 24 rfl rfl
theorem dX0_cell_0 : decode cX0_cell 0 = .ok (.iload_n 1, 1) := dk_27 (dk_at dksX0_cell_0 0 rfl rfl)
theorem dX0_cell_1 : decode cX0_cell 1 = .ok (.invokestatic 407, 3) := dk_184 1 151 (dk_at dksX0_cell_0 1 rfl rfl)
theorem dX0_cell_4 : decode cX0_cell 4 = .ok (.ifCond .ne 6, 3) := dk_154 0 6 (dk_at dksX0_cell_0 4 rfl rfl)
theorem dX0_cell_7 : decode cX0_cell 7 = .ok (.bipush (-2), 2) := dk_16 254 (dk_at dksX0_cell_0 7 rfl rfl)
theorem dX0_cell_9 : decode cX0_cell 9 = .ok (.ireturn, 1) := dk_172 (dk_at dksX0_cell_0 9 rfl rfl)
theorem dX0_cell_10 : decode cX0_cell 10 = .ok (.aload_n 0, 1) := dk_42 (dk_at dksX0_cell_0 10 rfl rfl)
theorem dX0_cell_11 : decode cX0_cell 11 = .ok (.getfield 318, 3) := dk_180 1 62 (dk_at dksX0_cell_0 11 rfl rfl)
theorem dX0_cell_14 : decode cX0_cell 14 = .ok (.iload_n 1, 1) := dk_27 (dk_at dksX0_cell_0 14 rfl rfl)
theorem dX0_cell_15 : decode cX0_cell 15 = .ok (.aaload, 1) := dk_50 (dk_at dksX0_cell_0 15 rfl rfl)
theorem dX0_cell_16 : decode cX0_cell 16 = .ok (.getfield 414, 3) := dk_180 1 158 (dk_at dksX0_cell_0 16 rfl rfl)
theorem dX0_cell_19 : decode cX0_cell 19 = .ok (.iload_n 2, 1) := dk_28 (dk_at dksX0_cell_0 19 rfl rfl)
theorem dX0_cell_20 : decode cX0_cell 20 = .ok (.iload_n 3, 1) := dk_29 (dk_at dksX0_cell_0 20 rfl rfl)
theorem dX0_cell_21 : decode cX0_cell 21 = .ok (.invokestatic 528, 3) := dk_184 2 16 (dk_at dksX0_cell_0 21 rfl rfl)
theorem dX0_cell_24 : decode cX0_cell 24 = .ok (.ireturn, 1) := dk_172 (dk_at dksX0_cell_1 0 rfl rfl)
theorem dX0_cell_25 : decode cX0_cell 25 = .ok (.astore 4, 2) := dk_58 4 (dk_at dksX0_cell_1 1 rfl rfl)
theorem dX0_cell_27 : decode cX0_cell 27 = .ok (.bipush (-11), 2) := dk_16 245 (dk_at dksX0_cell_1 3 rfl rfl)
theorem dX0_cell_29 : decode cX0_cell 29 = .ok (.ireturn, 1) := dk_172 (dk_at dksX0_cell_1 5 rfl rfl)
theorem dX0_cell_30 : decode cX0_cell 30 = .ok (.astore 4, 2) := dk_58 4 (dk_at dksX0_cell_1 6 rfl rfl)
theorem dX0_cell_32 : decode cX0_cell 32 = .ok (.bipush (-12), 2) := dk_16 244 (dk_at dksX0_cell_1 8 rfl rfl)
theorem dX0_cell_34 : decode cX0_cell 34 = .ok (.ireturn, 1) := dk_172 (dk_at dksX0_cell_1 10 rfl rfl)
abbrev cX0_put : ByteArray := prog_1_method_87_code
def yX0_put : MethodName := ⟨RX0, "put", "(Ljava/lang/Object;II)I"⟩
def dkwX0_put_2 : List UInt8 := [28, 147, 86, 167, 0, 19, 27, 42, 192, 2, 15, 190, 184, 2, 10, 42, 192, 2, 15, 27, 28, 79, 4, 172]
abbrev dktX0_put_2 : List UInt8 := dkwX0_put_2 ++ []
def dkwX0_put_1 : List UInt8 := [167, 0, 46, 42, 193, 2, 13, 153, 0, 23, 27, 42, 192, 2, 13, 190, 184, 2, 10, 42, 192, 2, 13, 27]
abbrev dktX0_put_1 : List UInt8 := dkwX0_put_1 ++ dktX0_put_2
def dkwX0_put_0 : List UInt8 := [42, 193, 2, 9, 153, 0, 23, 27, 42, 192, 2, 9, 190, 184, 2, 10, 42, 192, 2, 9, 27, 28, 145, 84]
abbrev dktX0_put_0 : List UInt8 := dkwX0_put_0 ++ dktX0_put_1
theorem dksX0_put_0 : cX0_put.data.toList.drop 0 = dktX0_put_0 := by decide +kernel
theorem dksX0_put_1 : cX0_put.data.toList.drop 24 = dktX0_put_1 := dk_seg dksX0_put_0 24 rfl rfl
theorem dksX0_put_2 : cX0_put.data.toList.drop 48 = dktX0_put_2 := dk_seg dksX0_put_1 24 rfl rfl
theorem dX0_put_0 : decode cX0_put 0 = .ok (.aload_n 0, 1) := dk_42 (dk_at dksX0_put_0 0 rfl rfl)
theorem dX0_put_1 : decode cX0_put 1 = .ok (.instanceof 521, 3) := dk_193 2 9 (dk_at dksX0_put_0 1 rfl rfl)
theorem dX0_put_4 : decode cX0_put 4 = .ok (.ifCond .eq 23, 3) := dk_153 0 23 (dk_at dksX0_put_0 4 rfl rfl)
theorem dX0_put_7 : decode cX0_put 7 = .ok (.iload_n 1, 1) := dk_27 (dk_at dksX0_put_0 7 rfl rfl)
theorem dX0_put_8 : decode cX0_put 8 = .ok (.aload_n 0, 1) := dk_42 (dk_at dksX0_put_0 8 rfl rfl)
theorem dX0_put_9 : decode cX0_put 9 = .ok (.checkcast 521, 3) := dk_192 2 9 (dk_at dksX0_put_0 9 rfl rfl)
theorem dX0_put_12 : decode cX0_put 12 = .ok (.arraylength, 1) := dk_190 (dk_at dksX0_put_0 12 rfl rfl)
theorem dX0_put_13 : decode cX0_put 13 = .ok (.invokestatic 522, 3) := dk_184 2 10 (dk_at dksX0_put_0 13 rfl rfl)
theorem dX0_put_16 : decode cX0_put 16 = .ok (.aload_n 0, 1) := dk_42 (dk_at dksX0_put_0 16 rfl rfl)
theorem dX0_put_17 : decode cX0_put 17 = .ok (.checkcast 521, 3) := dk_192 2 9 (dk_at dksX0_put_0 17 rfl rfl)
theorem dX0_put_20 : decode cX0_put 20 = .ok (.iload_n 1, 1) := dk_27 (dk_at dksX0_put_0 20 rfl rfl)
theorem dX0_put_21 : decode cX0_put 21 = .ok (.iload_n 2, 1) := dk_28 (dk_at dksX0_put_0 21 rfl rfl)
theorem dX0_put_22 : decode cX0_put 22 = .ok (.i2b, 1) := dk_145 (dk_at dksX0_put_0 22 rfl rfl)
theorem dX0_put_23 : decode cX0_put 23 = .ok (.bastore, 1) := dk_84 (dk_at dksX0_put_0 23 rfl rfl)
theorem dX0_put_24 : decode cX0_put 24 = .ok (.goto 46, 3) := dk_167 0 46 (dk_at dksX0_put_1 0 rfl rfl)
theorem dX0_put_27 : decode cX0_put 27 = .ok (.aload_n 0, 1) := dk_42 (dk_at dksX0_put_1 3 rfl rfl)
theorem dX0_put_28 : decode cX0_put 28 = .ok (.instanceof 525, 3) := dk_193 2 13 (dk_at dksX0_put_1 4 rfl rfl)
theorem dX0_put_31 : decode cX0_put 31 = .ok (.ifCond .eq 23, 3) := dk_153 0 23 (dk_at dksX0_put_1 7 rfl rfl)
theorem dX0_put_34 : decode cX0_put 34 = .ok (.iload_n 1, 1) := dk_27 (dk_at dksX0_put_1 10 rfl rfl)
theorem dX0_put_35 : decode cX0_put 35 = .ok (.aload_n 0, 1) := dk_42 (dk_at dksX0_put_1 11 rfl rfl)
theorem dX0_put_36 : decode cX0_put 36 = .ok (.checkcast 525, 3) := dk_192 2 13 (dk_at dksX0_put_1 12 rfl rfl)
theorem dX0_put_39 : decode cX0_put 39 = .ok (.arraylength, 1) := dk_190 (dk_at dksX0_put_1 15 rfl rfl)
theorem dX0_put_40 : decode cX0_put 40 = .ok (.invokestatic 522, 3) := dk_184 2 10 (dk_at dksX0_put_1 16 rfl rfl)
theorem dX0_put_43 : decode cX0_put 43 = .ok (.aload_n 0, 1) := dk_42 (dk_at dksX0_put_1 19 rfl rfl)
theorem dX0_put_44 : decode cX0_put 44 = .ok (.checkcast 525, 3) := dk_192 2 13 (dk_at dksX0_put_1 20 rfl rfl)
theorem dX0_put_47 : decode cX0_put 47 = .ok (.iload_n 1, 1) := dk_27 (dk_at dksX0_put_1 23 rfl rfl)
theorem dX0_put_48 : decode cX0_put 48 = .ok (.iload_n 2, 1) := dk_28 (dk_at dksX0_put_2 0 rfl rfl)
theorem dX0_put_49 : decode cX0_put 49 = .ok (.i2s, 1) := dk_147 (dk_at dksX0_put_2 1 rfl rfl)
theorem dX0_put_50 : decode cX0_put 50 = .ok (.sastore, 1) := dk_86 (dk_at dksX0_put_2 2 rfl rfl)
theorem dX0_put_51 : decode cX0_put 51 = .ok (.goto 19, 3) := dk_167 0 19 (dk_at dksX0_put_2 3 rfl rfl)
theorem dX0_put_54 : decode cX0_put 54 = .ok (.iload_n 1, 1) := dk_27 (dk_at dksX0_put_2 6 rfl rfl)
theorem dX0_put_55 : decode cX0_put 55 = .ok (.aload_n 0, 1) := dk_42 (dk_at dksX0_put_2 7 rfl rfl)
theorem dX0_put_56 : decode cX0_put 56 = .ok (.checkcast 527, 3) := dk_192 2 15 (dk_at dksX0_put_2 8 rfl rfl)
theorem dX0_put_59 : decode cX0_put 59 = .ok (.arraylength, 1) := dk_190 (dk_at dksX0_put_2 11 rfl rfl)
theorem dX0_put_60 : decode cX0_put 60 = .ok (.invokestatic 522, 3) := dk_184 2 10 (dk_at dksX0_put_2 12 rfl rfl)
theorem dX0_put_63 : decode cX0_put 63 = .ok (.aload_n 0, 1) := dk_42 (dk_at dksX0_put_2 15 rfl rfl)
theorem dX0_put_64 : decode cX0_put 64 = .ok (.checkcast 527, 3) := dk_192 2 15 (dk_at dksX0_put_2 16 rfl rfl)
theorem dX0_put_67 : decode cX0_put 67 = .ok (.iload_n 1, 1) := dk_27 (dk_at dksX0_put_2 19 rfl rfl)
theorem dX0_put_68 : decode cX0_put 68 = .ok (.iload_n 2, 1) := dk_28 (dk_at dksX0_put_2 20 rfl rfl)
theorem dX0_put_69 : decode cX0_put 69 = .ok (.iastore, 1) := dk_79 (dk_at dksX0_put_2 21 rfl rfl)
theorem dX0_put_70 : decode cX0_put 70 = .ok (.iconst 1, 1) := dk_4 (dk_at dksX0_put_2 22 rfl rfl)
theorem dX0_put_71 : decode cX0_put 71 = .ok (.ireturn, 1) := dk_172 (dk_at dksX0_put_2 23 rfl rfl)
abbrev cX0_drawn : ByteArray := prog_1_method_79_code
def yX0_drawn : MethodName := ⟨RX0, "drawn", "(III)I"⟩
def dkwX0_drawn_1 : List UInt8 := [182, 1, 246, 167, 0, 5, 16, 254, 172]
abbrev dktX0_drawn_1 : List UInt8 := dkwX0_drawn_1 ++ []
def dkwX0_drawn_0 : List UInt8 := [42, 28, 182, 0, 20, 153, 0, 25, 29, 133, 9, 20, 1, 244, 184, 0, 16, 153, 0, 13, 42, 27, 28, 29]
abbrev dktX0_drawn_0 : List UInt8 := dkwX0_drawn_0 ++ dktX0_drawn_1
theorem dksX0_drawn_0 : cX0_drawn.data.toList.drop 0 = dktX0_drawn_0 := by decide +kernel
theorem dksX0_drawn_1 : cX0_drawn.data.toList.drop 24 = dktX0_drawn_1 := dk_seg dksX0_drawn_0 24 rfl rfl
theorem dX0_drawn_0 : decode cX0_drawn 0 = .ok (.aload_n 0, 1) := dk_42 (dk_at dksX0_drawn_0 0 rfl rfl)
theorem dX0_drawn_1 : decode cX0_drawn 1 = .ok (.iload_n 2, 1) := dk_28 (dk_at dksX0_drawn_0 1 rfl rfl)
theorem dX0_drawn_2 : decode cX0_drawn 2 = .ok (.invokevirtual 20, 3) := dk_182 0 20 (dk_at dksX0_drawn_0 2 rfl rfl)
theorem dX0_drawn_5 : decode cX0_drawn 5 = .ok (.ifCond .eq 25, 3) := dk_153 0 25 (dk_at dksX0_drawn_0 5 rfl rfl)
theorem dX0_drawn_8 : decode cX0_drawn 8 = .ok (.iload_n 3, 1) := dk_29 (dk_at dksX0_drawn_0 8 rfl rfl)
theorem dX0_drawn_9 : decode cX0_drawn 9 = .ok (.i2l, 1) := dk_133 (dk_at dksX0_drawn_0 9 rfl rfl)
theorem dX0_drawn_10 : decode cX0_drawn 10 = .ok (.lconst 0, 1) := dk_9 (dk_at dksX0_drawn_0 10 rfl rfl)
theorem dX0_drawn_11 : decode cX0_drawn 11 = .ok (.ldc2_w 500, 3) := dk_20 1 244 (dk_at dksX0_drawn_0 11 rfl rfl)
theorem dX0_drawn_14 : decode cX0_drawn 14 = .ok (.invokestatic 16, 3) := dk_184 0 16 (dk_at dksX0_drawn_0 14 rfl rfl)
theorem dX0_drawn_17 : decode cX0_drawn 17 = .ok (.ifCond .eq 13, 3) := dk_153 0 13 (dk_at dksX0_drawn_0 17 rfl rfl)
theorem dX0_drawn_20 : decode cX0_drawn 20 = .ok (.aload_n 0, 1) := dk_42 (dk_at dksX0_drawn_0 20 rfl rfl)
theorem dX0_drawn_21 : decode cX0_drawn 21 = .ok (.iload_n 1, 1) := dk_27 (dk_at dksX0_drawn_0 21 rfl rfl)
theorem dX0_drawn_22 : decode cX0_drawn 22 = .ok (.iload_n 2, 1) := dk_28 (dk_at dksX0_drawn_0 22 rfl rfl)
theorem dX0_drawn_23 : decode cX0_drawn 23 = .ok (.iload_n 3, 1) := dk_29 (dk_at dksX0_drawn_0 23 rfl rfl)
theorem dX0_drawn_24 : decode cX0_drawn 24 = .ok (.invokevirtual 502, 3) := dk_182 1 246 (dk_at dksX0_drawn_1 0 rfl rfl)
theorem dX0_drawn_27 : decode cX0_drawn 27 = .ok (.goto 5, 3) := dk_167 0 5 (dk_at dksX0_drawn_1 3 rfl rfl)
theorem dX0_drawn_30 : decode cX0_drawn 30 = .ok (.bipush (-2), 2) := dk_16 254 (dk_at dksX0_drawn_1 6 rfl rfl)
theorem dX0_drawn_32 : decode cX0_drawn 32 = .ok (.ireturn, 1) := dk_172 (dk_at dksX0_drawn_1 8 rfl rfl)
abbrev cX0_hasDrawn : ByteArray := prog_1_method_78_code
def yX0_hasDrawn : MethodName := ⟨RX0, "hasDrawn", "(III)I"⟩
def dkwX0_hasDrawn_4 : List UInt8 := [54, 5, 42, 3, 182, 1, 120, 21, 5, 172, 58, 7, 42, 3, 182, 1, 120, 25, 7, 191]
abbrev dktX0_hasDrawn_4 : List UInt8 := dkwX0_hasDrawn_4 ++ []
def dkwX0_hasDrawn_3 : List UInt8 := [180, 0, 10, 112, 182, 1, 119, 87, 132, 5, 1, 167, 255, 186, 42, 180, 0, 51, 28, 50, 180, 0, 66]
abbrev dktX0_hasDrawn_3 : List UInt8 := dkwX0_hasDrawn_3 ++ dktX0_hasDrawn_4
def dkwX0_hasDrawn_2 : List UInt8 := [112, 54, 6, 42, 21, 6, 21, 6, 4, 96, 21, 4, 16, 17, 124, 42, 180, 0, 10, 4, 100, 112, 96, 42]
abbrev dktX0_hasDrawn_2 : List UInt8 := dkwX0_hasDrawn_2 ++ dktX0_hasDrawn_3
def dkwX0_hasDrawn_1 : List UInt8 := [164, 0, 62, 21, 4, 19, 1, 243, 104, 17, 48, 57, 96, 54, 4, 21, 4, 16, 9, 124, 42, 180, 0, 10]
abbrev dktX0_hasDrawn_1 : List UInt8 := dkwX0_hasDrawn_1 ++ dktX0_hasDrawn_2
def dkwX0_hasDrawn_0 : List UInt8 := [27, 54, 4, 42, 3, 182, 1, 116, 3, 54, 5, 21, 5, 29, 162, 0, 70, 42, 180, 0, 10, 4]
abbrev dktX0_hasDrawn_0 : List UInt8 := dkwX0_hasDrawn_0 ++ dktX0_hasDrawn_1
theorem dksX0_hasDrawn_0 : cX0_hasDrawn.data.toList.drop 0 = dktX0_hasDrawn_0 := by decide +kernel
theorem dksX0_hasDrawn_1 : cX0_hasDrawn.data.toList.drop 22 = dktX0_hasDrawn_1 := dk_seg dksX0_hasDrawn_0 22 rfl rfl
theorem dksX0_hasDrawn_2 : cX0_hasDrawn.data.toList.drop 46 = dktX0_hasDrawn_2 := dk_seg dksX0_hasDrawn_1 24 rfl rfl
theorem dksX0_hasDrawn_3 : cX0_hasDrawn.data.toList.drop 70 = dktX0_hasDrawn_3 := dk_seg dksX0_hasDrawn_2 24 rfl rfl
theorem dksX0_hasDrawn_4 : cX0_hasDrawn.data.toList.drop 93 = dktX0_hasDrawn_4 := dk_seg dksX0_hasDrawn_3 23 rfl rfl
theorem dX0_hasDrawn_0 : decode cX0_hasDrawn 0 = .ok (.iload_n 1, 1) := dk_27 (dk_at dksX0_hasDrawn_0 0 rfl rfl)
theorem dX0_hasDrawn_1 : decode cX0_hasDrawn 1 = .ok (.istore 4, 2) := dk_54 4 (dk_at dksX0_hasDrawn_0 1 rfl rfl)
theorem dX0_hasDrawn_3 : decode cX0_hasDrawn 3 = .ok (.aload_n 0, 1) := dk_42 (dk_at dksX0_hasDrawn_0 3 rfl rfl)
theorem dX0_hasDrawn_4 : decode cX0_hasDrawn 4 = .ok (.iconst 0, 1) := dk_3 (dk_at dksX0_hasDrawn_0 4 rfl rfl)
theorem dX0_hasDrawn_5 : decode cX0_hasDrawn 5 = .ok (.invokevirtual 372, 3) := dk_182 1 116 (dk_at dksX0_hasDrawn_0 5 rfl rfl)
theorem dX0_hasDrawn_8 : decode cX0_hasDrawn 8 = .ok (.iconst 0, 1) := dk_3 (dk_at dksX0_hasDrawn_0 8 rfl rfl)
theorem dX0_hasDrawn_9 : decode cX0_hasDrawn 9 = .ok (.istore 5, 2) := dk_54 5 (dk_at dksX0_hasDrawn_0 9 rfl rfl)
theorem dX0_hasDrawn_11 : decode cX0_hasDrawn 11 = .ok (.iload 5, 2) := dk_21 5 (dk_at dksX0_hasDrawn_0 11 rfl rfl)
theorem dX0_hasDrawn_13 : decode cX0_hasDrawn 13 = .ok (.iload_n 3, 1) := dk_29 (dk_at dksX0_hasDrawn_0 13 rfl rfl)
theorem dX0_hasDrawn_14 : decode cX0_hasDrawn 14 = .ok (.if_icmp .ge 70, 3) := dk_162 0 70 (dk_at dksX0_hasDrawn_0 14 rfl rfl)
theorem dX0_hasDrawn_17 : decode cX0_hasDrawn 17 = .ok (.aload_n 0, 1) := dk_42 (dk_at dksX0_hasDrawn_0 17 rfl rfl)
theorem dX0_hasDrawn_18 : decode cX0_hasDrawn 18 = .ok (.getfield 10, 3) := dk_180 0 10 (dk_at dksX0_hasDrawn_0 18 rfl rfl)
theorem dX0_hasDrawn_21 : decode cX0_hasDrawn 21 = .ok (.iconst 1, 1) := dk_4 (dk_at dksX0_hasDrawn_0 21 rfl rfl)
theorem dX0_hasDrawn_22 : decode cX0_hasDrawn 22 = .ok (.if_icmp .le 62, 3) := dk_164 0 62 (dk_at dksX0_hasDrawn_1 0 rfl rfl)
theorem dX0_hasDrawn_25 : decode cX0_hasDrawn 25 = .ok (.iload 4, 2) := dk_21 4 (dk_at dksX0_hasDrawn_1 3 rfl rfl)
theorem dX0_hasDrawn_27 : decode cX0_hasDrawn 27 = .ok (.ldc_w 499, 3) := dk_19 1 243 (dk_at dksX0_hasDrawn_1 5 rfl rfl)
theorem dX0_hasDrawn_30 : decode cX0_hasDrawn 30 = .ok (.imul, 1) := dk_104 (dk_at dksX0_hasDrawn_1 8 rfl rfl)
theorem dX0_hasDrawn_31 : decode cX0_hasDrawn 31 = .ok (.sipush 12345, 3) := dk_17 48 57 (dk_at dksX0_hasDrawn_1 9 rfl rfl)
theorem dX0_hasDrawn_34 : decode cX0_hasDrawn 34 = .ok (.iadd, 1) := dk_96 (dk_at dksX0_hasDrawn_1 12 rfl rfl)
theorem dX0_hasDrawn_35 : decode cX0_hasDrawn 35 = .ok (.istore 4, 2) := dk_54 4 (dk_at dksX0_hasDrawn_1 13 rfl rfl)
theorem dX0_hasDrawn_37 : decode cX0_hasDrawn 37 = .ok (.iload 4, 2) := dk_21 4 (dk_at dksX0_hasDrawn_1 15 rfl rfl)
theorem dX0_hasDrawn_39 : decode cX0_hasDrawn 39 = .ok (.bipush 9, 2) := dk_16 9 (dk_at dksX0_hasDrawn_1 17 rfl rfl)
theorem dX0_hasDrawn_41 : decode cX0_hasDrawn 41 = .ok (.iushr, 1) := dk_124 (dk_at dksX0_hasDrawn_1 19 rfl rfl)
theorem dX0_hasDrawn_42 : decode cX0_hasDrawn 42 = .ok (.aload_n 0, 1) := dk_42 (dk_at dksX0_hasDrawn_1 20 rfl rfl)
theorem dX0_hasDrawn_43 : decode cX0_hasDrawn 43 = .ok (.getfield 10, 3) := dk_180 0 10 (dk_at dksX0_hasDrawn_1 21 rfl rfl)
theorem dX0_hasDrawn_46 : decode cX0_hasDrawn 46 = .ok (.irem, 1) := dk_112 (dk_at dksX0_hasDrawn_2 0 rfl rfl)
theorem dX0_hasDrawn_47 : decode cX0_hasDrawn 47 = .ok (.istore 6, 2) := dk_54 6 (dk_at dksX0_hasDrawn_2 1 rfl rfl)
theorem dX0_hasDrawn_49 : decode cX0_hasDrawn 49 = .ok (.aload_n 0, 1) := dk_42 (dk_at dksX0_hasDrawn_2 3 rfl rfl)
theorem dX0_hasDrawn_50 : decode cX0_hasDrawn 50 = .ok (.iload 6, 2) := dk_21 6 (dk_at dksX0_hasDrawn_2 4 rfl rfl)
theorem dX0_hasDrawn_52 : decode cX0_hasDrawn 52 = .ok (.iload 6, 2) := dk_21 6 (dk_at dksX0_hasDrawn_2 6 rfl rfl)
theorem dX0_hasDrawn_54 : decode cX0_hasDrawn 54 = .ok (.iconst 1, 1) := dk_4 (dk_at dksX0_hasDrawn_2 8 rfl rfl)
theorem dX0_hasDrawn_55 : decode cX0_hasDrawn 55 = .ok (.iadd, 1) := dk_96 (dk_at dksX0_hasDrawn_2 9 rfl rfl)
theorem dX0_hasDrawn_56 : decode cX0_hasDrawn 56 = .ok (.iload 4, 2) := dk_21 4 (dk_at dksX0_hasDrawn_2 10 rfl rfl)
theorem dX0_hasDrawn_58 : decode cX0_hasDrawn 58 = .ok (.bipush 17, 2) := dk_16 17 (dk_at dksX0_hasDrawn_2 12 rfl rfl)
theorem dX0_hasDrawn_60 : decode cX0_hasDrawn 60 = .ok (.iushr, 1) := dk_124 (dk_at dksX0_hasDrawn_2 14 rfl rfl)
theorem dX0_hasDrawn_61 : decode cX0_hasDrawn 61 = .ok (.aload_n 0, 1) := dk_42 (dk_at dksX0_hasDrawn_2 15 rfl rfl)
theorem dX0_hasDrawn_62 : decode cX0_hasDrawn 62 = .ok (.getfield 10, 3) := dk_180 0 10 (dk_at dksX0_hasDrawn_2 16 rfl rfl)
theorem dX0_hasDrawn_65 : decode cX0_hasDrawn 65 = .ok (.iconst 1, 1) := dk_4 (dk_at dksX0_hasDrawn_2 19 rfl rfl)
theorem dX0_hasDrawn_66 : decode cX0_hasDrawn 66 = .ok (.isub, 1) := dk_100 (dk_at dksX0_hasDrawn_2 20 rfl rfl)
theorem dX0_hasDrawn_67 : decode cX0_hasDrawn 67 = .ok (.irem, 1) := dk_112 (dk_at dksX0_hasDrawn_2 21 rfl rfl)
theorem dX0_hasDrawn_68 : decode cX0_hasDrawn 68 = .ok (.iadd, 1) := dk_96 (dk_at dksX0_hasDrawn_2 22 rfl rfl)
theorem dX0_hasDrawn_69 : decode cX0_hasDrawn 69 = .ok (.aload_n 0, 1) := dk_42 (dk_at dksX0_hasDrawn_2 23 rfl rfl)
theorem dX0_hasDrawn_70 : decode cX0_hasDrawn 70 = .ok (.getfield 10, 3) := dk_180 0 10 (dk_at dksX0_hasDrawn_3 0 rfl rfl)
theorem dX0_hasDrawn_73 : decode cX0_hasDrawn 73 = .ok (.irem, 1) := dk_112 (dk_at dksX0_hasDrawn_3 3 rfl rfl)
theorem dX0_hasDrawn_74 : decode cX0_hasDrawn 74 = .ok (.invokevirtual 375, 3) := dk_182 1 119 (dk_at dksX0_hasDrawn_3 4 rfl rfl)
theorem dX0_hasDrawn_77 : decode cX0_hasDrawn 77 = .ok (.pop, 1) := dk_87 (dk_at dksX0_hasDrawn_3 7 rfl rfl)
theorem dX0_hasDrawn_78 : decode cX0_hasDrawn 78 = .ok (.iinc 5 1, 3) := dk_132 5 1 (dk_at dksX0_hasDrawn_3 8 rfl rfl)
theorem dX0_hasDrawn_81 : decode cX0_hasDrawn 81 = .ok (.goto (-70), 3) := dk_167 255 186 (dk_at dksX0_hasDrawn_3 11 rfl rfl)
theorem dX0_hasDrawn_84 : decode cX0_hasDrawn 84 = .ok (.aload_n 0, 1) := dk_42 (dk_at dksX0_hasDrawn_3 14 rfl rfl)
theorem dX0_hasDrawn_85 : decode cX0_hasDrawn 85 = .ok (.getfield 51, 3) := dk_180 0 51 (dk_at dksX0_hasDrawn_3 15 rfl rfl)
theorem dX0_hasDrawn_88 : decode cX0_hasDrawn 88 = .ok (.iload_n 2, 1) := dk_28 (dk_at dksX0_hasDrawn_3 18 rfl rfl)
theorem dX0_hasDrawn_89 : decode cX0_hasDrawn 89 = .ok (.aaload, 1) := dk_50 (dk_at dksX0_hasDrawn_3 19 rfl rfl)
theorem dX0_hasDrawn_90 : decode cX0_hasDrawn 90 = .ok (.getfield 66, 3) := dk_180 0 66 (dk_at dksX0_hasDrawn_3 20 rfl rfl)
theorem dX0_hasDrawn_93 : decode cX0_hasDrawn 93 = .ok (.istore 5, 2) := dk_54 5 (dk_at dksX0_hasDrawn_4 0 rfl rfl)
theorem dX0_hasDrawn_95 : decode cX0_hasDrawn 95 = .ok (.aload_n 0, 1) := dk_42 (dk_at dksX0_hasDrawn_4 2 rfl rfl)
theorem dX0_hasDrawn_96 : decode cX0_hasDrawn 96 = .ok (.iconst 0, 1) := dk_3 (dk_at dksX0_hasDrawn_4 3 rfl rfl)
theorem dX0_hasDrawn_97 : decode cX0_hasDrawn 97 = .ok (.invokevirtual 376, 3) := dk_182 1 120 (dk_at dksX0_hasDrawn_4 4 rfl rfl)
theorem dX0_hasDrawn_100 : decode cX0_hasDrawn 100 = .ok (.iload 5, 2) := dk_21 5 (dk_at dksX0_hasDrawn_4 7 rfl rfl)
theorem dX0_hasDrawn_102 : decode cX0_hasDrawn 102 = .ok (.ireturn, 1) := dk_172 (dk_at dksX0_hasDrawn_4 9 rfl rfl)
theorem dX0_hasDrawn_103 : decode cX0_hasDrawn 103 = .ok (.astore 7, 2) := dk_58 7 (dk_at dksX0_hasDrawn_4 10 rfl rfl)
theorem dX0_hasDrawn_105 : decode cX0_hasDrawn 105 = .ok (.aload_n 0, 1) := dk_42 (dk_at dksX0_hasDrawn_4 12 rfl rfl)
theorem dX0_hasDrawn_106 : decode cX0_hasDrawn 106 = .ok (.iconst 0, 1) := dk_3 (dk_at dksX0_hasDrawn_4 13 rfl rfl)
theorem dX0_hasDrawn_107 : decode cX0_hasDrawn 107 = .ok (.invokevirtual 376, 3) := dk_182 1 120 (dk_at dksX0_hasDrawn_4 14 rfl rfl)
theorem dX0_hasDrawn_110 : decode cX0_hasDrawn 110 = .ok (.aload 7, 2) := dk_25 7 (dk_at dksX0_hasDrawn_4 17 rfl rfl)
theorem dX0_hasDrawn_112 : decode cX0_hasDrawn 112 = .ok (.athrow, 1) := dk_191 (dk_at dksX0_hasDrawn_4 19 rfl rfl)
abbrev cX0_chance : ByteArray := prog_1_method_80_code
def yX0_chance : MethodName := ⟨RX0, "chance", "(IIIII)J"⟩
def dkwX0_chance_6 : List UInt8 := [133, 22, 8, 109, 173]
abbrev dktX0_chance_6 : List UInt8 := dkwX0_chance_6 ++ []
def dkwX0_chance_5 : List UInt8 := [55, 12, 22, 10, 55, 8, 22, 12, 55, 10, 167, 255, 234, 21, 5, 154, 0, 8, 22, 6, 167, 0, 5, 28]
abbrev dktX0_chance_5 : List UInt8 := dkwX0_chance_5 ++ dktX0_chance_6
def dkwX0_chance_4 : List UInt8 := [167, 255, 218, 22, 6, 55, 8, 28, 133, 55, 10, 22, 10, 9, 148, 153, 0, 21, 22, 8, 22, 10, 113]
abbrev dktX0_chance_4 : List UInt8 := dkwX0_chance_4 ++ dktX0_chance_5
def dkwX0_chance_3 : List UInt8 := [182, 1, 246, 184, 1, 143, 21, 4, 161, 0, 7, 10, 167, 0, 4, 9, 97, 55, 6, 132, 8, 1]
abbrev dktX0_chance_3 : List UInt8 := dkwX0_chance_3 ++ dktX0_chance_4
def dkwX0_chance_2 : List UInt8 := [9, 55, 6, 3, 54, 8, 21, 8, 28, 162, 0, 38, 22, 6, 42, 27, 21, 8, 96, 29, 16, 6]
abbrev dktX0_chance_2 : List UInt8 := dkwX0_chance_2 ++ dktX0_chance_3
def dkwX0_chance_1 : List UInt8 := [20, 1, 156, 184, 0, 16, 153, 0, 14, 21, 5, 133, 9, 10, 184, 0, 16, 154, 0, 7, 20, 1, 251, 173]
abbrev dktX0_chance_1 : List UInt8 := dkwX0_chance_1 ++ dktX0_chance_2
def dkwX0_chance_0 : List UInt8 := [28, 133, 10, 20, 1, 249, 184, 0, 16, 153, 0, 35, 42, 29, 182, 0, 20, 153, 0, 27, 21, 4, 133, 9]
abbrev dktX0_chance_0 : List UInt8 := dkwX0_chance_0 ++ dktX0_chance_1
theorem dksX0_chance_0 : cX0_chance.data.toList.drop 0 = dktX0_chance_0 := by decide +kernel
theorem dksX0_chance_1 : cX0_chance.data.toList.drop 24 = dktX0_chance_1 := dk_seg dksX0_chance_0 24 rfl rfl
theorem dksX0_chance_2 : cX0_chance.data.toList.drop 48 = dktX0_chance_2 := dk_seg dksX0_chance_1 24 rfl rfl
theorem dksX0_chance_3 : cX0_chance.data.toList.drop 70 = dktX0_chance_3 := dk_seg dksX0_chance_2 22 rfl rfl
theorem dksX0_chance_4 : cX0_chance.data.toList.drop 92 = dktX0_chance_4 := dk_seg dksX0_chance_3 22 rfl rfl
theorem dksX0_chance_5 : cX0_chance.data.toList.drop 115 = dktX0_chance_5 := dk_seg dksX0_chance_4 23 rfl rfl
theorem dksX0_chance_6 : cX0_chance.data.toList.drop 139 = dktX0_chance_6 := dk_seg dksX0_chance_5 24 rfl rfl
theorem dX0_chance_0 : decode cX0_chance 0 = .ok (.iload_n 2, 1) := dk_28 (dk_at dksX0_chance_0 0 rfl rfl)
theorem dX0_chance_1 : decode cX0_chance 1 = .ok (.i2l, 1) := dk_133 (dk_at dksX0_chance_0 1 rfl rfl)
theorem dX0_chance_2 : decode cX0_chance 2 = .ok (.lconst 1, 1) := dk_10 (dk_at dksX0_chance_0 2 rfl rfl)
theorem dX0_chance_3 : decode cX0_chance 3 = .ok (.ldc2_w 505, 3) := dk_20 1 249 (dk_at dksX0_chance_0 3 rfl rfl)
theorem dX0_chance_6 : decode cX0_chance 6 = .ok (.invokestatic 16, 3) := dk_184 0 16 (dk_at dksX0_chance_0 6 rfl rfl)
theorem dX0_chance_9 : decode cX0_chance 9 = .ok (.ifCond .eq 35, 3) := dk_153 0 35 (dk_at dksX0_chance_0 9 rfl rfl)
theorem dX0_chance_12 : decode cX0_chance 12 = .ok (.aload_n 0, 1) := dk_42 (dk_at dksX0_chance_0 12 rfl rfl)
theorem dX0_chance_13 : decode cX0_chance 13 = .ok (.iload_n 3, 1) := dk_29 (dk_at dksX0_chance_0 13 rfl rfl)
theorem dX0_chance_14 : decode cX0_chance 14 = .ok (.invokevirtual 20, 3) := dk_182 0 20 (dk_at dksX0_chance_0 14 rfl rfl)
theorem dX0_chance_17 : decode cX0_chance 17 = .ok (.ifCond .eq 27, 3) := dk_153 0 27 (dk_at dksX0_chance_0 17 rfl rfl)
theorem dX0_chance_20 : decode cX0_chance 20 = .ok (.iload 4, 2) := dk_21 4 (dk_at dksX0_chance_0 20 rfl rfl)
theorem dX0_chance_22 : decode cX0_chance 22 = .ok (.i2l, 1) := dk_133 (dk_at dksX0_chance_0 22 rfl rfl)
theorem dX0_chance_23 : decode cX0_chance 23 = .ok (.lconst 0, 1) := dk_9 (dk_at dksX0_chance_0 23 rfl rfl)
theorem dX0_chance_24 : decode cX0_chance 24 = .ok (.ldc2_w 412, 3) := dk_20 1 156 (dk_at dksX0_chance_1 0 rfl rfl)
theorem dX0_chance_27 : decode cX0_chance 27 = .ok (.invokestatic 16, 3) := dk_184 0 16 (dk_at dksX0_chance_1 3 rfl rfl)
theorem dX0_chance_30 : decode cX0_chance 30 = .ok (.ifCond .eq 14, 3) := dk_153 0 14 (dk_at dksX0_chance_1 6 rfl rfl)
theorem dX0_chance_33 : decode cX0_chance 33 = .ok (.iload 5, 2) := dk_21 5 (dk_at dksX0_chance_1 9 rfl rfl)
theorem dX0_chance_35 : decode cX0_chance 35 = .ok (.i2l, 1) := dk_133 (dk_at dksX0_chance_1 11 rfl rfl)
theorem dX0_chance_36 : decode cX0_chance 36 = .ok (.lconst 0, 1) := dk_9 (dk_at dksX0_chance_1 12 rfl rfl)
theorem dX0_chance_37 : decode cX0_chance 37 = .ok (.lconst 1, 1) := dk_10 (dk_at dksX0_chance_1 13 rfl rfl)
theorem dX0_chance_38 : decode cX0_chance 38 = .ok (.invokestatic 16, 3) := dk_184 0 16 (dk_at dksX0_chance_1 14 rfl rfl)
theorem dX0_chance_41 : decode cX0_chance 41 = .ok (.ifCond .ne 7, 3) := dk_154 0 7 (dk_at dksX0_chance_1 17 rfl rfl)
theorem dX0_chance_44 : decode cX0_chance 44 = .ok (.ldc2_w 507, 3) := dk_20 1 251 (dk_at dksX0_chance_1 20 rfl rfl)
theorem dX0_chance_47 : decode cX0_chance 47 = .ok (.lreturn, 1) := dk_173 (dk_at dksX0_chance_1 23 rfl rfl)
theorem dX0_chance_48 : decode cX0_chance 48 = .ok (.lconst 0, 1) := dk_9 (dk_at dksX0_chance_2 0 rfl rfl)
theorem dX0_chance_49 : decode cX0_chance 49 = .ok (.lstore 6, 2) := dk_55 6 (dk_at dksX0_chance_2 1 rfl rfl)
theorem dX0_chance_51 : decode cX0_chance 51 = .ok (.iconst 0, 1) := dk_3 (dk_at dksX0_chance_2 3 rfl rfl)
theorem dX0_chance_52 : decode cX0_chance 52 = .ok (.istore 8, 2) := dk_54 8 (dk_at dksX0_chance_2 4 rfl rfl)
theorem dX0_chance_54 : decode cX0_chance 54 = .ok (.iload 8, 2) := dk_21 8 (dk_at dksX0_chance_2 6 rfl rfl)
theorem dX0_chance_56 : decode cX0_chance 56 = .ok (.iload_n 2, 1) := dk_28 (dk_at dksX0_chance_2 8 rfl rfl)
theorem dX0_chance_57 : decode cX0_chance 57 = .ok (.if_icmp .ge 38, 3) := dk_162 0 38 (dk_at dksX0_chance_2 9 rfl rfl)
theorem dX0_chance_60 : decode cX0_chance 60 = .ok (.lload 6, 2) := dk_22 6 (dk_at dksX0_chance_2 12 rfl rfl)
theorem dX0_chance_62 : decode cX0_chance 62 = .ok (.aload_n 0, 1) := dk_42 (dk_at dksX0_chance_2 14 rfl rfl)
theorem dX0_chance_63 : decode cX0_chance 63 = .ok (.iload_n 1, 1) := dk_27 (dk_at dksX0_chance_2 15 rfl rfl)
theorem dX0_chance_64 : decode cX0_chance 64 = .ok (.iload 8, 2) := dk_21 8 (dk_at dksX0_chance_2 16 rfl rfl)
theorem dX0_chance_66 : decode cX0_chance 66 = .ok (.iadd, 1) := dk_96 (dk_at dksX0_chance_2 18 rfl rfl)
theorem dX0_chance_67 : decode cX0_chance 67 = .ok (.iload_n 3, 1) := dk_29 (dk_at dksX0_chance_2 19 rfl rfl)
theorem dX0_chance_68 : decode cX0_chance 68 = .ok (.bipush 6, 2) := dk_16 6 (dk_at dksX0_chance_2 20 rfl rfl)
theorem dX0_chance_70 : decode cX0_chance 70 = .ok (.invokevirtual 502, 3) := dk_182 1 246 (dk_at dksX0_chance_3 0 rfl rfl)
theorem dX0_chance_73 : decode cX0_chance 73 = .ok (.invokestatic 399, 3) := dk_184 1 143 (dk_at dksX0_chance_3 3 rfl rfl)
theorem dX0_chance_76 : decode cX0_chance 76 = .ok (.iload 4, 2) := dk_21 4 (dk_at dksX0_chance_3 6 rfl rfl)
theorem dX0_chance_78 : decode cX0_chance 78 = .ok (.if_icmp .lt 7, 3) := dk_161 0 7 (dk_at dksX0_chance_3 8 rfl rfl)
theorem dX0_chance_81 : decode cX0_chance 81 = .ok (.lconst 1, 1) := dk_10 (dk_at dksX0_chance_3 11 rfl rfl)
theorem dX0_chance_82 : decode cX0_chance 82 = .ok (.goto 4, 3) := dk_167 0 4 (dk_at dksX0_chance_3 12 rfl rfl)
theorem dX0_chance_85 : decode cX0_chance 85 = .ok (.lconst 0, 1) := dk_9 (dk_at dksX0_chance_3 15 rfl rfl)
theorem dX0_chance_86 : decode cX0_chance 86 = .ok (.ladd, 1) := dk_97 (dk_at dksX0_chance_3 16 rfl rfl)
theorem dX0_chance_87 : decode cX0_chance 87 = .ok (.lstore 6, 2) := dk_55 6 (dk_at dksX0_chance_3 17 rfl rfl)
theorem dX0_chance_89 : decode cX0_chance 89 = .ok (.iinc 8 1, 3) := dk_132 8 1 (dk_at dksX0_chance_3 19 rfl rfl)
theorem dX0_chance_92 : decode cX0_chance 92 = .ok (.goto (-38), 3) := dk_167 255 218 (dk_at dksX0_chance_4 0 rfl rfl)
theorem dX0_chance_95 : decode cX0_chance 95 = .ok (.lload 6, 2) := dk_22 6 (dk_at dksX0_chance_4 3 rfl rfl)
theorem dX0_chance_97 : decode cX0_chance 97 = .ok (.lstore 8, 2) := dk_55 8 (dk_at dksX0_chance_4 5 rfl rfl)
theorem dX0_chance_99 : decode cX0_chance 99 = .ok (.iload_n 2, 1) := dk_28 (dk_at dksX0_chance_4 7 rfl rfl)
theorem dX0_chance_100 : decode cX0_chance 100 = .ok (.i2l, 1) := dk_133 (dk_at dksX0_chance_4 8 rfl rfl)
theorem dX0_chance_101 : decode cX0_chance 101 = .ok (.lstore 10, 2) := dk_55 10 (dk_at dksX0_chance_4 9 rfl rfl)
theorem dX0_chance_103 : decode cX0_chance 103 = .ok (.lload 10, 2) := dk_22 10 (dk_at dksX0_chance_4 11 rfl rfl)
theorem dX0_chance_105 : decode cX0_chance 105 = .ok (.lconst 0, 1) := dk_9 (dk_at dksX0_chance_4 13 rfl rfl)
theorem dX0_chance_106 : decode cX0_chance 106 = .ok (.lcmp, 1) := dk_148 (dk_at dksX0_chance_4 14 rfl rfl)
theorem dX0_chance_107 : decode cX0_chance 107 = .ok (.ifCond .eq 21, 3) := dk_153 0 21 (dk_at dksX0_chance_4 15 rfl rfl)
theorem dX0_chance_110 : decode cX0_chance 110 = .ok (.lload 8, 2) := dk_22 8 (dk_at dksX0_chance_4 18 rfl rfl)
theorem dX0_chance_112 : decode cX0_chance 112 = .ok (.lload 10, 2) := dk_22 10 (dk_at dksX0_chance_4 20 rfl rfl)
theorem dX0_chance_114 : decode cX0_chance 114 = .ok (.lrem, 1) := dk_113 (dk_at dksX0_chance_4 22 rfl rfl)
theorem dX0_chance_115 : decode cX0_chance 115 = .ok (.lstore 12, 2) := dk_55 12 (dk_at dksX0_chance_5 0 rfl rfl)
theorem dX0_chance_117 : decode cX0_chance 117 = .ok (.lload 10, 2) := dk_22 10 (dk_at dksX0_chance_5 2 rfl rfl)
theorem dX0_chance_119 : decode cX0_chance 119 = .ok (.lstore 8, 2) := dk_55 8 (dk_at dksX0_chance_5 4 rfl rfl)
theorem dX0_chance_121 : decode cX0_chance 121 = .ok (.lload 12, 2) := dk_22 12 (dk_at dksX0_chance_5 6 rfl rfl)
theorem dX0_chance_123 : decode cX0_chance 123 = .ok (.lstore 10, 2) := dk_55 10 (dk_at dksX0_chance_5 8 rfl rfl)
theorem dX0_chance_125 : decode cX0_chance 125 = .ok (.goto (-22), 3) := dk_167 255 234 (dk_at dksX0_chance_5 10 rfl rfl)
theorem dX0_chance_128 : decode cX0_chance 128 = .ok (.iload 5, 2) := dk_21 5 (dk_at dksX0_chance_5 13 rfl rfl)
theorem dX0_chance_130 : decode cX0_chance 130 = .ok (.ifCond .ne 8, 3) := dk_154 0 8 (dk_at dksX0_chance_5 15 rfl rfl)
theorem dX0_chance_133 : decode cX0_chance 133 = .ok (.lload 6, 2) := dk_22 6 (dk_at dksX0_chance_5 18 rfl rfl)
theorem dX0_chance_135 : decode cX0_chance 135 = .ok (.goto 5, 3) := dk_167 0 5 (dk_at dksX0_chance_5 20 rfl rfl)
theorem dX0_chance_138 : decode cX0_chance 138 = .ok (.iload_n 2, 1) := dk_28 (dk_at dksX0_chance_5 23 rfl rfl)
theorem dX0_chance_139 : decode cX0_chance 139 = .ok (.i2l, 1) := dk_133 (dk_at dksX0_chance_6 0 rfl rfl)
theorem dX0_chance_140 : decode cX0_chance 140 = .ok (.lload 8, 2) := dk_22 8 (dk_at dksX0_chance_6 1 rfl rfl)
theorem dX0_chance_142 : decode cX0_chance 142 = .ok (.ldiv, 1) := dk_109 (dk_at dksX0_chance_6 3 rfl rfl)
theorem dX0_chance_143 : decode cX0_chance 143 = .ok (.lreturn, 1) := dk_173 (dk_at dksX0_chance_6 4 rfl rfl)
abbrev cX0_image : ByteArray := prog_1_method_81_code
def yX0_image : MethodName := ⟨RX0, "image", "()I"⟩
def dkwX0_image_5 : List UInt8 := [180, 1, 56, 6, 42, 180, 1, 75, 79, 42, 4, 181, 1, 253, 42, 180, 0, 10, 172]
abbrev dktX0_image_5 : List UInt8 := dkwX0_image_5 ++ []
def dkwX0_image_4 : List UInt8 := [79, 42, 180, 1, 56, 4, 42, 180, 0, 73, 79, 42, 180, 1, 56, 5, 42, 180, 0, 76, 79, 42]
abbrev dktX0_image_4 : List UInt8 := dkwX0_image_4 ++ dktX0_image_5
def dkwX0_image_3 : List UInt8 := [180, 0, 51, 27, 50, 180, 0, 66, 79, 132, 1, 1, 167, 255, 177, 42, 180, 1, 56, 3, 42, 180, 0, 10]
abbrev dktX0_image_3 : List UInt8 := dkwX0_image_3 ++ dktX0_image_4
def dkwX0_image_2 : List UInt8 := [180, 1, 53, 5, 50, 27, 42, 180, 0, 51, 27, 50, 180, 0, 104, 79, 42, 180, 1, 53, 6, 50, 27, 42]
abbrev dktX0_image_2 : List UInt8 := dkwX0_image_2 ++ dktX0_image_3
def dkwX0_image_1 : List UInt8 := [180, 0, 83, 79, 42, 180, 1, 53, 4, 50, 27, 42, 180, 0, 51, 27, 50, 180, 0, 86, 79, 42]
abbrev dktX0_image_1 : List UInt8 := dkwX0_image_1 ++ dktX0_image_2
def dkwX0_image_0 : List UInt8 := [3, 60, 27, 42, 180, 0, 10, 162, 0, 77, 42, 180, 1, 53, 3, 50, 27, 42, 180, 0, 51, 27, 50]
abbrev dktX0_image_0 : List UInt8 := dkwX0_image_0 ++ dktX0_image_1
theorem dksX0_image_0 : cX0_image.data.toList.drop 0 = dktX0_image_0 := by decide +kernel
theorem dksX0_image_1 : cX0_image.data.toList.drop 23 = dktX0_image_1 := dk_seg dksX0_image_0 23 rfl rfl
theorem dksX0_image_2 : cX0_image.data.toList.drop 45 = dktX0_image_2 := dk_seg dksX0_image_1 22 rfl rfl
theorem dksX0_image_3 : cX0_image.data.toList.drop 69 = dktX0_image_3 := dk_seg dksX0_image_2 24 rfl rfl
theorem dksX0_image_4 : cX0_image.data.toList.drop 93 = dktX0_image_4 := dk_seg dksX0_image_3 24 rfl rfl
theorem dksX0_image_5 : cX0_image.data.toList.drop 115 = dktX0_image_5 := dk_seg dksX0_image_4 22 rfl rfl
theorem dX0_image_0 : decode cX0_image 0 = .ok (.iconst 0, 1) := dk_3 (dk_at dksX0_image_0 0 rfl rfl)
theorem dX0_image_1 : decode cX0_image 1 = .ok (.istore_n 1, 1) := dk_60 (dk_at dksX0_image_0 1 rfl rfl)
theorem dX0_image_2 : decode cX0_image 2 = .ok (.iload_n 1, 1) := dk_27 (dk_at dksX0_image_0 2 rfl rfl)
theorem dX0_image_3 : decode cX0_image 3 = .ok (.aload_n 0, 1) := dk_42 (dk_at dksX0_image_0 3 rfl rfl)
theorem dX0_image_4 : decode cX0_image 4 = .ok (.getfield 10, 3) := dk_180 0 10 (dk_at dksX0_image_0 4 rfl rfl)
theorem dX0_image_7 : decode cX0_image 7 = .ok (.if_icmp .ge 77, 3) := dk_162 0 77 (dk_at dksX0_image_0 7 rfl rfl)
theorem dX0_image_10 : decode cX0_image 10 = .ok (.aload_n 0, 1) := dk_42 (dk_at dksX0_image_0 10 rfl rfl)
theorem dX0_image_11 : decode cX0_image 11 = .ok (.getfield 309, 3) := dk_180 1 53 (dk_at dksX0_image_0 11 rfl rfl)
theorem dX0_image_14 : decode cX0_image 14 = .ok (.iconst 0, 1) := dk_3 (dk_at dksX0_image_0 14 rfl rfl)
theorem dX0_image_15 : decode cX0_image 15 = .ok (.aaload, 1) := dk_50 (dk_at dksX0_image_0 15 rfl rfl)
theorem dX0_image_16 : decode cX0_image 16 = .ok (.iload_n 1, 1) := dk_27 (dk_at dksX0_image_0 16 rfl rfl)
theorem dX0_image_17 : decode cX0_image 17 = .ok (.aload_n 0, 1) := dk_42 (dk_at dksX0_image_0 17 rfl rfl)
theorem dX0_image_18 : decode cX0_image 18 = .ok (.getfield 51, 3) := dk_180 0 51 (dk_at dksX0_image_0 18 rfl rfl)
theorem dX0_image_21 : decode cX0_image 21 = .ok (.iload_n 1, 1) := dk_27 (dk_at dksX0_image_0 21 rfl rfl)
theorem dX0_image_22 : decode cX0_image 22 = .ok (.aaload, 1) := dk_50 (dk_at dksX0_image_0 22 rfl rfl)
theorem dX0_image_23 : decode cX0_image 23 = .ok (.getfield 83, 3) := dk_180 0 83 (dk_at dksX0_image_1 0 rfl rfl)
theorem dX0_image_26 : decode cX0_image 26 = .ok (.iastore, 1) := dk_79 (dk_at dksX0_image_1 3 rfl rfl)
theorem dX0_image_27 : decode cX0_image 27 = .ok (.aload_n 0, 1) := dk_42 (dk_at dksX0_image_1 4 rfl rfl)
theorem dX0_image_28 : decode cX0_image 28 = .ok (.getfield 309, 3) := dk_180 1 53 (dk_at dksX0_image_1 5 rfl rfl)
theorem dX0_image_31 : decode cX0_image 31 = .ok (.iconst 1, 1) := dk_4 (dk_at dksX0_image_1 8 rfl rfl)
theorem dX0_image_32 : decode cX0_image 32 = .ok (.aaload, 1) := dk_50 (dk_at dksX0_image_1 9 rfl rfl)
theorem dX0_image_33 : decode cX0_image 33 = .ok (.iload_n 1, 1) := dk_27 (dk_at dksX0_image_1 10 rfl rfl)
theorem dX0_image_34 : decode cX0_image 34 = .ok (.aload_n 0, 1) := dk_42 (dk_at dksX0_image_1 11 rfl rfl)
theorem dX0_image_35 : decode cX0_image 35 = .ok (.getfield 51, 3) := dk_180 0 51 (dk_at dksX0_image_1 12 rfl rfl)
theorem dX0_image_38 : decode cX0_image 38 = .ok (.iload_n 1, 1) := dk_27 (dk_at dksX0_image_1 15 rfl rfl)
theorem dX0_image_39 : decode cX0_image 39 = .ok (.aaload, 1) := dk_50 (dk_at dksX0_image_1 16 rfl rfl)
theorem dX0_image_40 : decode cX0_image 40 = .ok (.getfield 86, 3) := dk_180 0 86 (dk_at dksX0_image_1 17 rfl rfl)
theorem dX0_image_43 : decode cX0_image 43 = .ok (.iastore, 1) := dk_79 (dk_at dksX0_image_1 20 rfl rfl)
theorem dX0_image_44 : decode cX0_image 44 = .ok (.aload_n 0, 1) := dk_42 (dk_at dksX0_image_1 21 rfl rfl)
theorem dX0_image_45 : decode cX0_image 45 = .ok (.getfield 309, 3) := dk_180 1 53 (dk_at dksX0_image_2 0 rfl rfl)
theorem dX0_image_48 : decode cX0_image 48 = .ok (.iconst 2, 1) := dk_5 (dk_at dksX0_image_2 3 rfl rfl)
theorem dX0_image_49 : decode cX0_image 49 = .ok (.aaload, 1) := dk_50 (dk_at dksX0_image_2 4 rfl rfl)
theorem dX0_image_50 : decode cX0_image 50 = .ok (.iload_n 1, 1) := dk_27 (dk_at dksX0_image_2 5 rfl rfl)
theorem dX0_image_51 : decode cX0_image 51 = .ok (.aload_n 0, 1) := dk_42 (dk_at dksX0_image_2 6 rfl rfl)
theorem dX0_image_52 : decode cX0_image 52 = .ok (.getfield 51, 3) := dk_180 0 51 (dk_at dksX0_image_2 7 rfl rfl)
theorem dX0_image_55 : decode cX0_image 55 = .ok (.iload_n 1, 1) := dk_27 (dk_at dksX0_image_2 10 rfl rfl)
theorem dX0_image_56 : decode cX0_image 56 = .ok (.aaload, 1) := dk_50 (dk_at dksX0_image_2 11 rfl rfl)
theorem dX0_image_57 : decode cX0_image 57 = .ok (.getfield 104, 3) := dk_180 0 104 (dk_at dksX0_image_2 12 rfl rfl)
theorem dX0_image_60 : decode cX0_image 60 = .ok (.iastore, 1) := dk_79 (dk_at dksX0_image_2 15 rfl rfl)
theorem dX0_image_61 : decode cX0_image 61 = .ok (.aload_n 0, 1) := dk_42 (dk_at dksX0_image_2 16 rfl rfl)
theorem dX0_image_62 : decode cX0_image 62 = .ok (.getfield 309, 3) := dk_180 1 53 (dk_at dksX0_image_2 17 rfl rfl)
theorem dX0_image_65 : decode cX0_image 65 = .ok (.iconst 3, 1) := dk_6 (dk_at dksX0_image_2 20 rfl rfl)
theorem dX0_image_66 : decode cX0_image 66 = .ok (.aaload, 1) := dk_50 (dk_at dksX0_image_2 21 rfl rfl)
theorem dX0_image_67 : decode cX0_image 67 = .ok (.iload_n 1, 1) := dk_27 (dk_at dksX0_image_2 22 rfl rfl)
theorem dX0_image_68 : decode cX0_image 68 = .ok (.aload_n 0, 1) := dk_42 (dk_at dksX0_image_2 23 rfl rfl)
theorem dX0_image_69 : decode cX0_image 69 = .ok (.getfield 51, 3) := dk_180 0 51 (dk_at dksX0_image_3 0 rfl rfl)
theorem dX0_image_72 : decode cX0_image 72 = .ok (.iload_n 1, 1) := dk_27 (dk_at dksX0_image_3 3 rfl rfl)
theorem dX0_image_73 : decode cX0_image 73 = .ok (.aaload, 1) := dk_50 (dk_at dksX0_image_3 4 rfl rfl)
theorem dX0_image_74 : decode cX0_image 74 = .ok (.getfield 66, 3) := dk_180 0 66 (dk_at dksX0_image_3 5 rfl rfl)
theorem dX0_image_77 : decode cX0_image 77 = .ok (.iastore, 1) := dk_79 (dk_at dksX0_image_3 8 rfl rfl)
theorem dX0_image_78 : decode cX0_image 78 = .ok (.iinc 1 1, 3) := dk_132 1 1 (dk_at dksX0_image_3 9 rfl rfl)
theorem dX0_image_81 : decode cX0_image 81 = .ok (.goto (-79), 3) := dk_167 255 177 (dk_at dksX0_image_3 12 rfl rfl)
theorem dX0_image_84 : decode cX0_image 84 = .ok (.aload_n 0, 1) := dk_42 (dk_at dksX0_image_3 15 rfl rfl)
theorem dX0_image_85 : decode cX0_image 85 = .ok (.getfield 312, 3) := dk_180 1 56 (dk_at dksX0_image_3 16 rfl rfl)
theorem dX0_image_88 : decode cX0_image 88 = .ok (.iconst 0, 1) := dk_3 (dk_at dksX0_image_3 19 rfl rfl)
theorem dX0_image_89 : decode cX0_image 89 = .ok (.aload_n 0, 1) := dk_42 (dk_at dksX0_image_3 20 rfl rfl)
theorem dX0_image_90 : decode cX0_image 90 = .ok (.getfield 10, 3) := dk_180 0 10 (dk_at dksX0_image_3 21 rfl rfl)
theorem dX0_image_93 : decode cX0_image 93 = .ok (.iastore, 1) := dk_79 (dk_at dksX0_image_4 0 rfl rfl)
theorem dX0_image_94 : decode cX0_image 94 = .ok (.aload_n 0, 1) := dk_42 (dk_at dksX0_image_4 1 rfl rfl)
theorem dX0_image_95 : decode cX0_image 95 = .ok (.getfield 312, 3) := dk_180 1 56 (dk_at dksX0_image_4 2 rfl rfl)
theorem dX0_image_98 : decode cX0_image 98 = .ok (.iconst 1, 1) := dk_4 (dk_at dksX0_image_4 5 rfl rfl)
theorem dX0_image_99 : decode cX0_image 99 = .ok (.aload_n 0, 1) := dk_42 (dk_at dksX0_image_4 6 rfl rfl)
theorem dX0_image_100 : decode cX0_image 100 = .ok (.getfield 73, 3) := dk_180 0 73 (dk_at dksX0_image_4 7 rfl rfl)
theorem dX0_image_103 : decode cX0_image 103 = .ok (.iastore, 1) := dk_79 (dk_at dksX0_image_4 10 rfl rfl)
theorem dX0_image_104 : decode cX0_image 104 = .ok (.aload_n 0, 1) := dk_42 (dk_at dksX0_image_4 11 rfl rfl)
theorem dX0_image_105 : decode cX0_image 105 = .ok (.getfield 312, 3) := dk_180 1 56 (dk_at dksX0_image_4 12 rfl rfl)
theorem dX0_image_108 : decode cX0_image 108 = .ok (.iconst 2, 1) := dk_5 (dk_at dksX0_image_4 15 rfl rfl)
theorem dX0_image_109 : decode cX0_image 109 = .ok (.aload_n 0, 1) := dk_42 (dk_at dksX0_image_4 16 rfl rfl)
theorem dX0_image_110 : decode cX0_image 110 = .ok (.getfield 76, 3) := dk_180 0 76 (dk_at dksX0_image_4 17 rfl rfl)
theorem dX0_image_113 : decode cX0_image 113 = .ok (.iastore, 1) := dk_79 (dk_at dksX0_image_4 20 rfl rfl)
theorem dX0_image_114 : decode cX0_image 114 = .ok (.aload_n 0, 1) := dk_42 (dk_at dksX0_image_4 21 rfl rfl)
theorem dX0_image_115 : decode cX0_image 115 = .ok (.getfield 312, 3) := dk_180 1 56 (dk_at dksX0_image_5 0 rfl rfl)
theorem dX0_image_118 : decode cX0_image 118 = .ok (.iconst 3, 1) := dk_6 (dk_at dksX0_image_5 3 rfl rfl)
theorem dX0_image_119 : decode cX0_image 119 = .ok (.aload_n 0, 1) := dk_42 (dk_at dksX0_image_5 4 rfl rfl)
theorem dX0_image_120 : decode cX0_image 120 = .ok (.getfield 331, 3) := dk_180 1 75 (dk_at dksX0_image_5 5 rfl rfl)
theorem dX0_image_123 : decode cX0_image 123 = .ok (.iastore, 1) := dk_79 (dk_at dksX0_image_5 8 rfl rfl)
theorem dX0_image_124 : decode cX0_image 124 = .ok (.aload_n 0, 1) := dk_42 (dk_at dksX0_image_5 9 rfl rfl)
theorem dX0_image_125 : decode cX0_image 125 = .ok (.iconst 1, 1) := dk_4 (dk_at dksX0_image_5 10 rfl rfl)
theorem dX0_image_126 : decode cX0_image 126 = .ok (.putfield 509, 3) := dk_181 1 253 (dk_at dksX0_image_5 11 rfl rfl)
theorem dX0_image_129 : decode cX0_image 129 = .ok (.aload_n 0, 1) := dk_42 (dk_at dksX0_image_5 14 rfl rfl)
theorem dX0_image_130 : decode cX0_image 130 = .ok (.getfield 10, 3) := dk_180 0 10 (dk_at dksX0_image_5 15 rfl rfl)
theorem dX0_image_133 : decode cX0_image 133 = .ok (.ireturn, 1) := dk_172 (dk_at dksX0_image_5 18 rfl rfl)
abbrev cX0_back : ByteArray := prog_1_method_82_code
def yX0_back : MethodName := ⟨RX0, "back", "()I"⟩
def dkwX0_back_5 : List UInt8 := [180, 1, 53, 6, 50, 27, 46, 181, 0, 66, 132, 1, 1, 167, 255, 177, 42, 180, 0, 10, 172]
abbrev dktX0_back_5 : List UInt8 := dkwX0_back_5 ++ []
def dkwX0_back_4 : List UInt8 := [42, 180, 0, 51, 27, 50, 42, 180, 1, 53, 5, 50, 27, 46, 181, 0, 104, 42, 180, 0, 51, 27, 50, 42]
abbrev dktX0_back_4 : List UInt8 := dkwX0_back_4 ++ dktX0_back_5
def dkwX0_back_3 : List UInt8 := [3, 50, 27, 46, 181, 0, 83, 42, 180, 0, 51, 27, 50, 42, 180, 1, 53, 4, 50, 27, 46, 181, 0, 86]
abbrev dktX0_back_3 : List UInt8 := dkwX0_back_3 ++ dktX0_back_4
def dkwX0_back_2 : List UInt8 := [46, 181, 1, 75, 3, 60, 27, 42, 180, 0, 10, 162, 0, 77, 42, 180, 0, 51, 27, 50, 42, 180, 1, 53]
abbrev dktX0_back_2 : List UInt8 := dkwX0_back_2 ++ dktX0_back_3
def dkwX0_back_1 : List UInt8 := [180, 1, 56, 4, 46, 181, 0, 73, 42, 42, 180, 1, 56, 5, 46, 181, 0, 76, 42, 42, 180, 1, 56, 6]
abbrev dktX0_back_1 : List UInt8 := dkwX0_back_1 ++ dktX0_back_2
def dkwX0_back_0 : List UInt8 := [42, 180, 1, 253, 154, 0, 6, 16, 253, 172, 42, 42, 180, 1, 56, 3, 46, 181, 0, 10, 42, 42]
abbrev dktX0_back_0 : List UInt8 := dkwX0_back_0 ++ dktX0_back_1
theorem dksX0_back_0 : cX0_back.data.toList.drop 0 = dktX0_back_0 := by decide +kernel
theorem dksX0_back_1 : cX0_back.data.toList.drop 22 = dktX0_back_1 := dk_seg dksX0_back_0 22 rfl rfl
theorem dksX0_back_2 : cX0_back.data.toList.drop 46 = dktX0_back_2 := dk_seg dksX0_back_1 24 rfl rfl
theorem dksX0_back_3 : cX0_back.data.toList.drop 70 = dktX0_back_3 := dk_seg dksX0_back_2 24 rfl rfl
theorem dksX0_back_4 : cX0_back.data.toList.drop 94 = dktX0_back_4 := dk_seg dksX0_back_3 24 rfl rfl
theorem dksX0_back_5 : cX0_back.data.toList.drop 118 = dktX0_back_5 := dk_seg dksX0_back_4 24 rfl rfl
theorem dX0_back_0 : decode cX0_back 0 = .ok (.aload_n 0, 1) := dk_42 (dk_at dksX0_back_0 0 rfl rfl)
theorem dX0_back_1 : decode cX0_back 1 = .ok (.getfield 509, 3) := dk_180 1 253 (dk_at dksX0_back_0 1 rfl rfl)
theorem dX0_back_4 : decode cX0_back 4 = .ok (.ifCond .ne 6, 3) := dk_154 0 6 (dk_at dksX0_back_0 4 rfl rfl)
theorem dX0_back_7 : decode cX0_back 7 = .ok (.bipush (-3), 2) := dk_16 253 (dk_at dksX0_back_0 7 rfl rfl)
theorem dX0_back_9 : decode cX0_back 9 = .ok (.ireturn, 1) := dk_172 (dk_at dksX0_back_0 9 rfl rfl)
theorem dX0_back_10 : decode cX0_back 10 = .ok (.aload_n 0, 1) := dk_42 (dk_at dksX0_back_0 10 rfl rfl)
theorem dX0_back_11 : decode cX0_back 11 = .ok (.aload_n 0, 1) := dk_42 (dk_at dksX0_back_0 11 rfl rfl)
theorem dX0_back_12 : decode cX0_back 12 = .ok (.getfield 312, 3) := dk_180 1 56 (dk_at dksX0_back_0 12 rfl rfl)
theorem dX0_back_15 : decode cX0_back 15 = .ok (.iconst 0, 1) := dk_3 (dk_at dksX0_back_0 15 rfl rfl)
theorem dX0_back_16 : decode cX0_back 16 = .ok (.iaload, 1) := dk_46 (dk_at dksX0_back_0 16 rfl rfl)
theorem dX0_back_17 : decode cX0_back 17 = .ok (.putfield 10, 3) := dk_181 0 10 (dk_at dksX0_back_0 17 rfl rfl)
theorem dX0_back_20 : decode cX0_back 20 = .ok (.aload_n 0, 1) := dk_42 (dk_at dksX0_back_0 20 rfl rfl)
theorem dX0_back_21 : decode cX0_back 21 = .ok (.aload_n 0, 1) := dk_42 (dk_at dksX0_back_0 21 rfl rfl)
theorem dX0_back_22 : decode cX0_back 22 = .ok (.getfield 312, 3) := dk_180 1 56 (dk_at dksX0_back_1 0 rfl rfl)
theorem dX0_back_25 : decode cX0_back 25 = .ok (.iconst 1, 1) := dk_4 (dk_at dksX0_back_1 3 rfl rfl)
theorem dX0_back_26 : decode cX0_back 26 = .ok (.iaload, 1) := dk_46 (dk_at dksX0_back_1 4 rfl rfl)
theorem dX0_back_27 : decode cX0_back 27 = .ok (.putfield 73, 3) := dk_181 0 73 (dk_at dksX0_back_1 5 rfl rfl)
theorem dX0_back_30 : decode cX0_back 30 = .ok (.aload_n 0, 1) := dk_42 (dk_at dksX0_back_1 8 rfl rfl)
theorem dX0_back_31 : decode cX0_back 31 = .ok (.aload_n 0, 1) := dk_42 (dk_at dksX0_back_1 9 rfl rfl)
theorem dX0_back_32 : decode cX0_back 32 = .ok (.getfield 312, 3) := dk_180 1 56 (dk_at dksX0_back_1 10 rfl rfl)
theorem dX0_back_35 : decode cX0_back 35 = .ok (.iconst 2, 1) := dk_5 (dk_at dksX0_back_1 13 rfl rfl)
theorem dX0_back_36 : decode cX0_back 36 = .ok (.iaload, 1) := dk_46 (dk_at dksX0_back_1 14 rfl rfl)
theorem dX0_back_37 : decode cX0_back 37 = .ok (.putfield 76, 3) := dk_181 0 76 (dk_at dksX0_back_1 15 rfl rfl)
theorem dX0_back_40 : decode cX0_back 40 = .ok (.aload_n 0, 1) := dk_42 (dk_at dksX0_back_1 18 rfl rfl)
theorem dX0_back_41 : decode cX0_back 41 = .ok (.aload_n 0, 1) := dk_42 (dk_at dksX0_back_1 19 rfl rfl)
theorem dX0_back_42 : decode cX0_back 42 = .ok (.getfield 312, 3) := dk_180 1 56 (dk_at dksX0_back_1 20 rfl rfl)
theorem dX0_back_45 : decode cX0_back 45 = .ok (.iconst 3, 1) := dk_6 (dk_at dksX0_back_1 23 rfl rfl)
theorem dX0_back_46 : decode cX0_back 46 = .ok (.iaload, 1) := dk_46 (dk_at dksX0_back_2 0 rfl rfl)
theorem dX0_back_47 : decode cX0_back 47 = .ok (.putfield 331, 3) := dk_181 1 75 (dk_at dksX0_back_2 1 rfl rfl)
theorem dX0_back_50 : decode cX0_back 50 = .ok (.iconst 0, 1) := dk_3 (dk_at dksX0_back_2 4 rfl rfl)
theorem dX0_back_51 : decode cX0_back 51 = .ok (.istore_n 1, 1) := dk_60 (dk_at dksX0_back_2 5 rfl rfl)
theorem dX0_back_52 : decode cX0_back 52 = .ok (.iload_n 1, 1) := dk_27 (dk_at dksX0_back_2 6 rfl rfl)
theorem dX0_back_53 : decode cX0_back 53 = .ok (.aload_n 0, 1) := dk_42 (dk_at dksX0_back_2 7 rfl rfl)
theorem dX0_back_54 : decode cX0_back 54 = .ok (.getfield 10, 3) := dk_180 0 10 (dk_at dksX0_back_2 8 rfl rfl)
theorem dX0_back_57 : decode cX0_back 57 = .ok (.if_icmp .ge 77, 3) := dk_162 0 77 (dk_at dksX0_back_2 11 rfl rfl)
theorem dX0_back_60 : decode cX0_back 60 = .ok (.aload_n 0, 1) := dk_42 (dk_at dksX0_back_2 14 rfl rfl)
theorem dX0_back_61 : decode cX0_back 61 = .ok (.getfield 51, 3) := dk_180 0 51 (dk_at dksX0_back_2 15 rfl rfl)
theorem dX0_back_64 : decode cX0_back 64 = .ok (.iload_n 1, 1) := dk_27 (dk_at dksX0_back_2 18 rfl rfl)
theorem dX0_back_65 : decode cX0_back 65 = .ok (.aaload, 1) := dk_50 (dk_at dksX0_back_2 19 rfl rfl)
theorem dX0_back_66 : decode cX0_back 66 = .ok (.aload_n 0, 1) := dk_42 (dk_at dksX0_back_2 20 rfl rfl)
theorem dX0_back_67 : decode cX0_back 67 = .ok (.getfield 309, 3) := dk_180 1 53 (dk_at dksX0_back_2 21 rfl rfl)
theorem dX0_back_70 : decode cX0_back 70 = .ok (.iconst 0, 1) := dk_3 (dk_at dksX0_back_3 0 rfl rfl)
theorem dX0_back_71 : decode cX0_back 71 = .ok (.aaload, 1) := dk_50 (dk_at dksX0_back_3 1 rfl rfl)
theorem dX0_back_72 : decode cX0_back 72 = .ok (.iload_n 1, 1) := dk_27 (dk_at dksX0_back_3 2 rfl rfl)
theorem dX0_back_73 : decode cX0_back 73 = .ok (.iaload, 1) := dk_46 (dk_at dksX0_back_3 3 rfl rfl)
theorem dX0_back_74 : decode cX0_back 74 = .ok (.putfield 83, 3) := dk_181 0 83 (dk_at dksX0_back_3 4 rfl rfl)
theorem dX0_back_77 : decode cX0_back 77 = .ok (.aload_n 0, 1) := dk_42 (dk_at dksX0_back_3 7 rfl rfl)
theorem dX0_back_78 : decode cX0_back 78 = .ok (.getfield 51, 3) := dk_180 0 51 (dk_at dksX0_back_3 8 rfl rfl)
theorem dX0_back_81 : decode cX0_back 81 = .ok (.iload_n 1, 1) := dk_27 (dk_at dksX0_back_3 11 rfl rfl)
theorem dX0_back_82 : decode cX0_back 82 = .ok (.aaload, 1) := dk_50 (dk_at dksX0_back_3 12 rfl rfl)
theorem dX0_back_83 : decode cX0_back 83 = .ok (.aload_n 0, 1) := dk_42 (dk_at dksX0_back_3 13 rfl rfl)
theorem dX0_back_84 : decode cX0_back 84 = .ok (.getfield 309, 3) := dk_180 1 53 (dk_at dksX0_back_3 14 rfl rfl)
theorem dX0_back_87 : decode cX0_back 87 = .ok (.iconst 1, 1) := dk_4 (dk_at dksX0_back_3 17 rfl rfl)
theorem dX0_back_88 : decode cX0_back 88 = .ok (.aaload, 1) := dk_50 (dk_at dksX0_back_3 18 rfl rfl)
theorem dX0_back_89 : decode cX0_back 89 = .ok (.iload_n 1, 1) := dk_27 (dk_at dksX0_back_3 19 rfl rfl)
theorem dX0_back_90 : decode cX0_back 90 = .ok (.iaload, 1) := dk_46 (dk_at dksX0_back_3 20 rfl rfl)
theorem dX0_back_91 : decode cX0_back 91 = .ok (.putfield 86, 3) := dk_181 0 86 (dk_at dksX0_back_3 21 rfl rfl)
theorem dX0_back_94 : decode cX0_back 94 = .ok (.aload_n 0, 1) := dk_42 (dk_at dksX0_back_4 0 rfl rfl)
theorem dX0_back_95 : decode cX0_back 95 = .ok (.getfield 51, 3) := dk_180 0 51 (dk_at dksX0_back_4 1 rfl rfl)
theorem dX0_back_98 : decode cX0_back 98 = .ok (.iload_n 1, 1) := dk_27 (dk_at dksX0_back_4 4 rfl rfl)
theorem dX0_back_99 : decode cX0_back 99 = .ok (.aaload, 1) := dk_50 (dk_at dksX0_back_4 5 rfl rfl)
theorem dX0_back_100 : decode cX0_back 100 = .ok (.aload_n 0, 1) := dk_42 (dk_at dksX0_back_4 6 rfl rfl)
theorem dX0_back_101 : decode cX0_back 101 = .ok (.getfield 309, 3) := dk_180 1 53 (dk_at dksX0_back_4 7 rfl rfl)
theorem dX0_back_104 : decode cX0_back 104 = .ok (.iconst 2, 1) := dk_5 (dk_at dksX0_back_4 10 rfl rfl)
theorem dX0_back_105 : decode cX0_back 105 = .ok (.aaload, 1) := dk_50 (dk_at dksX0_back_4 11 rfl rfl)
theorem dX0_back_106 : decode cX0_back 106 = .ok (.iload_n 1, 1) := dk_27 (dk_at dksX0_back_4 12 rfl rfl)
theorem dX0_back_107 : decode cX0_back 107 = .ok (.iaload, 1) := dk_46 (dk_at dksX0_back_4 13 rfl rfl)
theorem dX0_back_108 : decode cX0_back 108 = .ok (.putfield 104, 3) := dk_181 0 104 (dk_at dksX0_back_4 14 rfl rfl)
theorem dX0_back_111 : decode cX0_back 111 = .ok (.aload_n 0, 1) := dk_42 (dk_at dksX0_back_4 17 rfl rfl)
theorem dX0_back_112 : decode cX0_back 112 = .ok (.getfield 51, 3) := dk_180 0 51 (dk_at dksX0_back_4 18 rfl rfl)
theorem dX0_back_115 : decode cX0_back 115 = .ok (.iload_n 1, 1) := dk_27 (dk_at dksX0_back_4 21 rfl rfl)
theorem dX0_back_116 : decode cX0_back 116 = .ok (.aaload, 1) := dk_50 (dk_at dksX0_back_4 22 rfl rfl)
theorem dX0_back_117 : decode cX0_back 117 = .ok (.aload_n 0, 1) := dk_42 (dk_at dksX0_back_4 23 rfl rfl)
theorem dX0_back_118 : decode cX0_back 118 = .ok (.getfield 309, 3) := dk_180 1 53 (dk_at dksX0_back_5 0 rfl rfl)
theorem dX0_back_121 : decode cX0_back 121 = .ok (.iconst 3, 1) := dk_6 (dk_at dksX0_back_5 3 rfl rfl)
theorem dX0_back_122 : decode cX0_back 122 = .ok (.aaload, 1) := dk_50 (dk_at dksX0_back_5 4 rfl rfl)
theorem dX0_back_123 : decode cX0_back 123 = .ok (.iload_n 1, 1) := dk_27 (dk_at dksX0_back_5 5 rfl rfl)
theorem dX0_back_124 : decode cX0_back 124 = .ok (.iaload, 1) := dk_46 (dk_at dksX0_back_5 6 rfl rfl)
theorem dX0_back_125 : decode cX0_back 125 = .ok (.putfield 66, 3) := dk_181 0 66 (dk_at dksX0_back_5 7 rfl rfl)
theorem dX0_back_128 : decode cX0_back 128 = .ok (.iinc 1 1, 3) := dk_132 1 1 (dk_at dksX0_back_5 10 rfl rfl)
theorem dX0_back_131 : decode cX0_back 131 = .ok (.goto (-79), 3) := dk_167 255 177 (dk_at dksX0_back_5 13 rfl rfl)
theorem dX0_back_134 : decode cX0_back 134 = .ok (.aload_n 0, 1) := dk_42 (dk_at dksX0_back_5 16 rfl rfl)
theorem dX0_back_135 : decode cX0_back 135 = .ok (.getfield 10, 3) := dk_180 0 10 (dk_at dksX0_back_5 17 rfl rfl)
theorem dX0_back_138 : decode cX0_back 138 = .ok (.ireturn, 1) := dk_172 (dk_at dksX0_back_5 20 rfl rfl)
abbrev cX0_count : ByteArray := prog_1_method_83_code
def yX0_count : MethodName := ⟨RX0, "count", "(I)I"⟩
def dkwX0_count_3 : List UInt8 := [180, 0, 246, 172, 42, 180, 1, 75, 172, 16, 254, 172]
abbrev dktX0_count_3 : List UInt8 := dkwX0_count_3 ++ []
def dkwX0_count_2 : List UInt8 := [42, 180, 0, 10, 172, 42, 180, 0, 73, 184, 1, 143, 172, 42, 180, 0, 76, 172, 42, 180, 1, 1, 172, 42]
abbrev dktX0_count_2 : List UInt8 := dkwX0_count_2 ++ dktX0_count_3
def dkwX0_count_1 : List UInt8 := [170, 0, 0, 0, 0, 0, 72, 0, 0, 0, 0, 0, 0, 0, 5, 0, 0, 0, 39, 0, 0, 0, 44, 0, 0, 0, 52, 0, 0, 0, 57, 0, 0, 0, 62, 0, 0, 0, 67]
abbrev dktX0_count_1 : List UInt8 := dkwX0_count_1 ++ dktX0_count_2
def dkwX0_count_0 : List UInt8 := [27]
abbrev dktX0_count_0 : List UInt8 := dkwX0_count_0 ++ dktX0_count_1
theorem dksX0_count_0 : cX0_count.data.toList.drop 0 = dktX0_count_0 := by decide +kernel
theorem dksX0_count_1 : cX0_count.data.toList.drop 1 = dktX0_count_1 := dk_seg dksX0_count_0 1 rfl rfl
theorem dksX0_count_2 : cX0_count.data.toList.drop 40 = dktX0_count_2 := dk_seg dksX0_count_1 39 rfl rfl
theorem dksX0_count_3 : cX0_count.data.toList.drop 64 = dktX0_count_3 := dk_seg dksX0_count_2 24 rfl rfl
theorem dX0_count_0 : decode cX0_count 0 = .ok (.iload_n 1, 1) := dk_27 (dk_at dksX0_count_0 0 rfl rfl)
theorem dX0_count_1 : decode cX0_count 1 = .ok (.tableswitch 72 0 5 #[39, 44, 52, 57, 62, 67], 39) := by decide +kernel
theorem dX0_count_40 : decode cX0_count 40 = .ok (.aload_n 0, 1) := dk_42 (dk_at dksX0_count_2 0 rfl rfl)
theorem dX0_count_41 : decode cX0_count 41 = .ok (.getfield 10, 3) := dk_180 0 10 (dk_at dksX0_count_2 1 rfl rfl)
theorem dX0_count_44 : decode cX0_count 44 = .ok (.ireturn, 1) := dk_172 (dk_at dksX0_count_2 4 rfl rfl)
theorem dX0_count_45 : decode cX0_count 45 = .ok (.aload_n 0, 1) := dk_42 (dk_at dksX0_count_2 5 rfl rfl)
theorem dX0_count_46 : decode cX0_count 46 = .ok (.getfield 73, 3) := dk_180 0 73 (dk_at dksX0_count_2 6 rfl rfl)
theorem dX0_count_49 : decode cX0_count 49 = .ok (.invokestatic 399, 3) := dk_184 1 143 (dk_at dksX0_count_2 9 rfl rfl)
theorem dX0_count_52 : decode cX0_count 52 = .ok (.ireturn, 1) := dk_172 (dk_at dksX0_count_2 12 rfl rfl)
theorem dX0_count_53 : decode cX0_count 53 = .ok (.aload_n 0, 1) := dk_42 (dk_at dksX0_count_2 13 rfl rfl)
theorem dX0_count_54 : decode cX0_count 54 = .ok (.getfield 76, 3) := dk_180 0 76 (dk_at dksX0_count_2 14 rfl rfl)
theorem dX0_count_57 : decode cX0_count 57 = .ok (.ireturn, 1) := dk_172 (dk_at dksX0_count_2 17 rfl rfl)
theorem dX0_count_58 : decode cX0_count 58 = .ok (.aload_n 0, 1) := dk_42 (dk_at dksX0_count_2 18 rfl rfl)
theorem dX0_count_59 : decode cX0_count 59 = .ok (.getfield 257, 3) := dk_180 1 1 (dk_at dksX0_count_2 19 rfl rfl)
theorem dX0_count_62 : decode cX0_count 62 = .ok (.ireturn, 1) := dk_172 (dk_at dksX0_count_2 22 rfl rfl)
theorem dX0_count_63 : decode cX0_count 63 = .ok (.aload_n 0, 1) := dk_42 (dk_at dksX0_count_2 23 rfl rfl)
theorem dX0_count_64 : decode cX0_count 64 = .ok (.getfield 246, 3) := dk_180 0 246 (dk_at dksX0_count_3 0 rfl rfl)
theorem dX0_count_67 : decode cX0_count 67 = .ok (.ireturn, 1) := dk_172 (dk_at dksX0_count_3 3 rfl rfl)
theorem dX0_count_68 : decode cX0_count 68 = .ok (.aload_n 0, 1) := dk_42 (dk_at dksX0_count_3 4 rfl rfl)
theorem dX0_count_69 : decode cX0_count 69 = .ok (.getfield 331, 3) := dk_180 1 75 (dk_at dksX0_count_3 5 rfl rfl)
theorem dX0_count_72 : decode cX0_count 72 = .ok (.ireturn, 1) := dk_172 (dk_at dksX0_count_3 8 rfl rfl)
theorem dX0_count_73 : decode cX0_count 73 = .ok (.bipush (-2), 2) := dk_16 254 (dk_at dksX0_count_3 9 rfl rfl)
theorem dX0_count_75 : decode cX0_count 75 = .ok (.ireturn, 1) := dk_172 (dk_at dksX0_count_3 11 rfl rfl)
abbrev cX0_copy : ByteArray := prog_1_method_93_code
def yX0_copy : MethodName := ⟨RX0, "copy", "(IIIII)I"⟩
def dkwX0_copy_6 : List UInt8 := [172, 25, 6, 28, 25, 7, 21, 4, 21, 5, 184, 2, 24, 21, 5, 172]
abbrev dktX0_copy_6 : List UInt8 := dkwX0_copy_6 ++ []
def dkwX0_copy_5 : List UInt8 := [163, 0, 22, 21, 5, 21, 8, 28, 100, 163, 0, 13, 21, 5, 21, 9, 21, 4, 100, 164, 0, 6, 16, 244]
abbrev dktX0_copy_5 : List UInt8 := dkwX0_copy_5 ++ dktX0_copy_6
def dkwX0_copy_4 : List UInt8 := [155, 0, 44, 28, 155, 0, 40, 21, 4, 155, 0, 35, 28, 21, 8, 163, 0, 29, 21, 4, 21, 9]
abbrev dktX0_copy_4 : List UInt8 := dkwX0_copy_4 ++ dktX0_copy_5
def dkwX0_copy_3 : List UInt8 := [25, 6, 184, 1, 129, 184, 1, 133, 54, 8, 25, 7, 25, 7, 184, 1, 129, 184, 1, 133, 54, 9, 21, 5]
abbrev dktX0_copy_3 : List UInt8 := dkwX0_copy_3 ++ dktX0_copy_4
def dkwX0_copy_2 : List UInt8 := [199, 0, 6, 16, 245, 172, 25, 6, 184, 1, 129, 25, 7, 184, 1, 129, 159, 0, 6, 16, 243, 172, 25, 6]
abbrev dktX0_copy_2 : List UInt8 := dkwX0_copy_2 ++ dktX0_copy_3
def dkwX0_copy_1 : List UInt8 := [180, 1, 158, 58, 6, 42, 180, 1, 62, 29, 50, 180, 1, 158, 58, 7, 25, 6, 198, 0, 8, 25, 7]
abbrev dktX0_copy_1 : List UInt8 := dkwX0_copy_1 ++ dktX0_copy_2
def dkwX0_copy_0 : List UInt8 := [27, 184, 1, 151, 153, 0, 10, 29, 184, 1, 151, 154, 0, 6, 16, 254, 172, 42, 180, 1, 62, 27, 50]
abbrev dktX0_copy_0 : List UInt8 := dkwX0_copy_0 ++ dktX0_copy_1
theorem dksX0_copy_0 : cX0_copy.data.toList.drop 0 = dktX0_copy_0 := by decide +kernel
theorem dksX0_copy_1 : cX0_copy.data.toList.drop 23 = dktX0_copy_1 := dk_seg dksX0_copy_0 23 rfl rfl
theorem dksX0_copy_2 : cX0_copy.data.toList.drop 46 = dktX0_copy_2 := dk_seg dksX0_copy_1 23 rfl rfl
theorem dksX0_copy_3 : cX0_copy.data.toList.drop 70 = dktX0_copy_3 := dk_seg dksX0_copy_2 24 rfl rfl
theorem dksX0_copy_4 : cX0_copy.data.toList.drop 94 = dktX0_copy_4 := dk_seg dksX0_copy_3 24 rfl rfl
theorem dksX0_copy_5 : cX0_copy.data.toList.drop 116 = dktX0_copy_5 := dk_seg dksX0_copy_4 22 rfl rfl
theorem dksX0_copy_6 : cX0_copy.data.toList.drop 140 = dktX0_copy_6 := dk_seg dksX0_copy_5 24 rfl rfl
theorem dX0_copy_0 : decode cX0_copy 0 = .ok (.iload_n 1, 1) := dk_27 (dk_at dksX0_copy_0 0 rfl rfl)
theorem dX0_copy_1 : decode cX0_copy 1 = .ok (.invokestatic 407, 3) := dk_184 1 151 (dk_at dksX0_copy_0 1 rfl rfl)
theorem dX0_copy_4 : decode cX0_copy 4 = .ok (.ifCond .eq 10, 3) := dk_153 0 10 (dk_at dksX0_copy_0 4 rfl rfl)
theorem dX0_copy_7 : decode cX0_copy 7 = .ok (.iload_n 3, 1) := dk_29 (dk_at dksX0_copy_0 7 rfl rfl)
theorem dX0_copy_8 : decode cX0_copy 8 = .ok (.invokestatic 407, 3) := dk_184 1 151 (dk_at dksX0_copy_0 8 rfl rfl)
theorem dX0_copy_11 : decode cX0_copy 11 = .ok (.ifCond .ne 6, 3) := dk_154 0 6 (dk_at dksX0_copy_0 11 rfl rfl)
theorem dX0_copy_14 : decode cX0_copy 14 = .ok (.bipush (-2), 2) := dk_16 254 (dk_at dksX0_copy_0 14 rfl rfl)
theorem dX0_copy_16 : decode cX0_copy 16 = .ok (.ireturn, 1) := dk_172 (dk_at dksX0_copy_0 16 rfl rfl)
theorem dX0_copy_17 : decode cX0_copy 17 = .ok (.aload_n 0, 1) := dk_42 (dk_at dksX0_copy_0 17 rfl rfl)
theorem dX0_copy_18 : decode cX0_copy 18 = .ok (.getfield 318, 3) := dk_180 1 62 (dk_at dksX0_copy_0 18 rfl rfl)
theorem dX0_copy_21 : decode cX0_copy 21 = .ok (.iload_n 1, 1) := dk_27 (dk_at dksX0_copy_0 21 rfl rfl)
theorem dX0_copy_22 : decode cX0_copy 22 = .ok (.aaload, 1) := dk_50 (dk_at dksX0_copy_0 22 rfl rfl)
theorem dX0_copy_23 : decode cX0_copy 23 = .ok (.getfield 414, 3) := dk_180 1 158 (dk_at dksX0_copy_1 0 rfl rfl)
theorem dX0_copy_26 : decode cX0_copy 26 = .ok (.astore 6, 2) := dk_58 6 (dk_at dksX0_copy_1 3 rfl rfl)
theorem dX0_copy_28 : decode cX0_copy 28 = .ok (.aload_n 0, 1) := dk_42 (dk_at dksX0_copy_1 5 rfl rfl)
theorem dX0_copy_29 : decode cX0_copy 29 = .ok (.getfield 318, 3) := dk_180 1 62 (dk_at dksX0_copy_1 6 rfl rfl)
theorem dX0_copy_32 : decode cX0_copy 32 = .ok (.iload_n 3, 1) := dk_29 (dk_at dksX0_copy_1 9 rfl rfl)
theorem dX0_copy_33 : decode cX0_copy 33 = .ok (.aaload, 1) := dk_50 (dk_at dksX0_copy_1 10 rfl rfl)
theorem dX0_copy_34 : decode cX0_copy 34 = .ok (.getfield 414, 3) := dk_180 1 158 (dk_at dksX0_copy_1 11 rfl rfl)
theorem dX0_copy_37 : decode cX0_copy 37 = .ok (.astore 7, 2) := dk_58 7 (dk_at dksX0_copy_1 14 rfl rfl)
theorem dX0_copy_39 : decode cX0_copy 39 = .ok (.aload 6, 2) := dk_25 6 (dk_at dksX0_copy_1 16 rfl rfl)
theorem dX0_copy_41 : decode cX0_copy 41 = .ok (.ifnull 8, 3) := dk_198 0 8 (dk_at dksX0_copy_1 18 rfl rfl)
theorem dX0_copy_44 : decode cX0_copy 44 = .ok (.aload 7, 2) := dk_25 7 (dk_at dksX0_copy_1 21 rfl rfl)
theorem dX0_copy_46 : decode cX0_copy 46 = .ok (.ifnonnull 6, 3) := dk_199 0 6 (dk_at dksX0_copy_2 0 rfl rfl)
theorem dX0_copy_49 : decode cX0_copy 49 = .ok (.bipush (-11), 2) := dk_16 245 (dk_at dksX0_copy_2 3 rfl rfl)
theorem dX0_copy_51 : decode cX0_copy 51 = .ok (.ireturn, 1) := dk_172 (dk_at dksX0_copy_2 5 rfl rfl)
theorem dX0_copy_52 : decode cX0_copy 52 = .ok (.aload 6, 2) := dk_25 6 (dk_at dksX0_copy_2 6 rfl rfl)
theorem dX0_copy_54 : decode cX0_copy 54 = .ok (.invokestatic 385, 3) := dk_184 1 129 (dk_at dksX0_copy_2 8 rfl rfl)
theorem dX0_copy_57 : decode cX0_copy 57 = .ok (.aload 7, 2) := dk_25 7 (dk_at dksX0_copy_2 11 rfl rfl)
theorem dX0_copy_59 : decode cX0_copy 59 = .ok (.invokestatic 385, 3) := dk_184 1 129 (dk_at dksX0_copy_2 13 rfl rfl)
theorem dX0_copy_62 : decode cX0_copy 62 = .ok (.if_icmp .eq 6, 3) := dk_159 0 6 (dk_at dksX0_copy_2 16 rfl rfl)
theorem dX0_copy_65 : decode cX0_copy 65 = .ok (.bipush (-13), 2) := dk_16 243 (dk_at dksX0_copy_2 19 rfl rfl)
theorem dX0_copy_67 : decode cX0_copy 67 = .ok (.ireturn, 1) := dk_172 (dk_at dksX0_copy_2 21 rfl rfl)
theorem dX0_copy_68 : decode cX0_copy 68 = .ok (.aload 6, 2) := dk_25 6 (dk_at dksX0_copy_2 22 rfl rfl)
theorem dX0_copy_70 : decode cX0_copy 70 = .ok (.aload 6, 2) := dk_25 6 (dk_at dksX0_copy_3 0 rfl rfl)
theorem dX0_copy_72 : decode cX0_copy 72 = .ok (.invokestatic 385, 3) := dk_184 1 129 (dk_at dksX0_copy_3 2 rfl rfl)
theorem dX0_copy_75 : decode cX0_copy 75 = .ok (.invokestatic 389, 3) := dk_184 1 133 (dk_at dksX0_copy_3 5 rfl rfl)
theorem dX0_copy_78 : decode cX0_copy 78 = .ok (.istore 8, 2) := dk_54 8 (dk_at dksX0_copy_3 8 rfl rfl)
theorem dX0_copy_80 : decode cX0_copy 80 = .ok (.aload 7, 2) := dk_25 7 (dk_at dksX0_copy_3 10 rfl rfl)
theorem dX0_copy_82 : decode cX0_copy 82 = .ok (.aload 7, 2) := dk_25 7 (dk_at dksX0_copy_3 12 rfl rfl)
theorem dX0_copy_84 : decode cX0_copy 84 = .ok (.invokestatic 385, 3) := dk_184 1 129 (dk_at dksX0_copy_3 14 rfl rfl)
theorem dX0_copy_87 : decode cX0_copy 87 = .ok (.invokestatic 389, 3) := dk_184 1 133 (dk_at dksX0_copy_3 17 rfl rfl)
theorem dX0_copy_90 : decode cX0_copy 90 = .ok (.istore 9, 2) := dk_54 9 (dk_at dksX0_copy_3 20 rfl rfl)
theorem dX0_copy_92 : decode cX0_copy 92 = .ok (.iload 5, 2) := dk_21 5 (dk_at dksX0_copy_3 22 rfl rfl)
theorem dX0_copy_94 : decode cX0_copy 94 = .ok (.ifCond .lt 44, 3) := dk_155 0 44 (dk_at dksX0_copy_4 0 rfl rfl)
theorem dX0_copy_97 : decode cX0_copy 97 = .ok (.iload_n 2, 1) := dk_28 (dk_at dksX0_copy_4 3 rfl rfl)
theorem dX0_copy_98 : decode cX0_copy 98 = .ok (.ifCond .lt 40, 3) := dk_155 0 40 (dk_at dksX0_copy_4 4 rfl rfl)
theorem dX0_copy_101 : decode cX0_copy 101 = .ok (.iload 4, 2) := dk_21 4 (dk_at dksX0_copy_4 7 rfl rfl)
theorem dX0_copy_103 : decode cX0_copy 103 = .ok (.ifCond .lt 35, 3) := dk_155 0 35 (dk_at dksX0_copy_4 9 rfl rfl)
theorem dX0_copy_106 : decode cX0_copy 106 = .ok (.iload_n 2, 1) := dk_28 (dk_at dksX0_copy_4 12 rfl rfl)
theorem dX0_copy_107 : decode cX0_copy 107 = .ok (.iload 8, 2) := dk_21 8 (dk_at dksX0_copy_4 13 rfl rfl)
theorem dX0_copy_109 : decode cX0_copy 109 = .ok (.if_icmp .gt 29, 3) := dk_163 0 29 (dk_at dksX0_copy_4 15 rfl rfl)
theorem dX0_copy_112 : decode cX0_copy 112 = .ok (.iload 4, 2) := dk_21 4 (dk_at dksX0_copy_4 18 rfl rfl)
theorem dX0_copy_114 : decode cX0_copy 114 = .ok (.iload 9, 2) := dk_21 9 (dk_at dksX0_copy_4 20 rfl rfl)
theorem dX0_copy_116 : decode cX0_copy 116 = .ok (.if_icmp .gt 22, 3) := dk_163 0 22 (dk_at dksX0_copy_5 0 rfl rfl)
theorem dX0_copy_119 : decode cX0_copy 119 = .ok (.iload 5, 2) := dk_21 5 (dk_at dksX0_copy_5 3 rfl rfl)
theorem dX0_copy_121 : decode cX0_copy 121 = .ok (.iload 8, 2) := dk_21 8 (dk_at dksX0_copy_5 5 rfl rfl)
theorem dX0_copy_123 : decode cX0_copy 123 = .ok (.iload_n 2, 1) := dk_28 (dk_at dksX0_copy_5 7 rfl rfl)
theorem dX0_copy_124 : decode cX0_copy 124 = .ok (.isub, 1) := dk_100 (dk_at dksX0_copy_5 8 rfl rfl)
theorem dX0_copy_125 : decode cX0_copy 125 = .ok (.if_icmp .gt 13, 3) := dk_163 0 13 (dk_at dksX0_copy_5 9 rfl rfl)
theorem dX0_copy_128 : decode cX0_copy 128 = .ok (.iload 5, 2) := dk_21 5 (dk_at dksX0_copy_5 12 rfl rfl)
theorem dX0_copy_130 : decode cX0_copy 130 = .ok (.iload 9, 2) := dk_21 9 (dk_at dksX0_copy_5 14 rfl rfl)
theorem dX0_copy_132 : decode cX0_copy 132 = .ok (.iload 4, 2) := dk_21 4 (dk_at dksX0_copy_5 16 rfl rfl)
theorem dX0_copy_134 : decode cX0_copy 134 = .ok (.isub, 1) := dk_100 (dk_at dksX0_copy_5 18 rfl rfl)
theorem dX0_copy_135 : decode cX0_copy 135 = .ok (.if_icmp .le 6, 3) := dk_164 0 6 (dk_at dksX0_copy_5 19 rfl rfl)
theorem dX0_copy_138 : decode cX0_copy 138 = .ok (.bipush (-12), 2) := dk_16 244 (dk_at dksX0_copy_5 22 rfl rfl)
theorem dX0_copy_140 : decode cX0_copy 140 = .ok (.ireturn, 1) := dk_172 (dk_at dksX0_copy_6 0 rfl rfl)
theorem dX0_copy_141 : decode cX0_copy 141 = .ok (.aload 6, 2) := dk_25 6 (dk_at dksX0_copy_6 1 rfl rfl)
theorem dX0_copy_143 : decode cX0_copy 143 = .ok (.iload_n 2, 1) := dk_28 (dk_at dksX0_copy_6 3 rfl rfl)
theorem dX0_copy_144 : decode cX0_copy 144 = .ok (.aload 7, 2) := dk_25 7 (dk_at dksX0_copy_6 4 rfl rfl)
theorem dX0_copy_146 : decode cX0_copy 146 = .ok (.iload 4, 2) := dk_21 4 (dk_at dksX0_copy_6 6 rfl rfl)
theorem dX0_copy_148 : decode cX0_copy 148 = .ok (.iload 5, 2) := dk_21 5 (dk_at dksX0_copy_6 8 rfl rfl)
theorem dX0_copy_150 : decode cX0_copy 150 = .ok (.invokestatic 536, 3) := dk_184 2 24 (dk_at dksX0_copy_6 10 rfl rfl)
theorem dX0_copy_153 : decode cX0_copy 153 = .ok (.iload 5, 2) := dk_21 5 (dk_at dksX0_copy_6 13 rfl rfl)
theorem dX0_copy_155 : decode cX0_copy 155 = .ok (.ireturn, 1) := dk_172 (dk_at dksX0_copy_6 15 rfl rfl)
abbrev cX0_players : ByteArray := prog_1_method_95_code
def yX0_players : MethodName := ⟨RX0, "players", "(IIII)I"⟩
def dkwX0_players_2 : List UInt8 := [21, 4, 182, 2, 33, 172, 58, 5, 16, 243, 172, 58, 5, 16, 245, 172, 58, 5, 16, 244, 172]
abbrev dktX0_players_2 : List UInt8 := dkwX0_players_2 ++ []
def dkwX0_players_1 : List UInt8 := [20, 1, 154, 184, 0, 16, 154, 0, 6, 16, 254, 172, 42, 42, 180, 1, 62, 27, 50, 180, 1, 158, 28, 29]
abbrev dktX0_players_1 : List UInt8 := dkwX0_players_1 ++ dktX0_players_2
def dkwX0_players_0 : List UInt8 := [27, 184, 1, 151, 153, 0, 28, 28, 133, 9, 20, 0, 114, 184, 0, 16, 153, 0, 16, 21, 4, 133, 9]
abbrev dktX0_players_0 : List UInt8 := dkwX0_players_0 ++ dktX0_players_1
theorem dksX0_players_0 : cX0_players.data.toList.drop 0 = dktX0_players_0 := by decide +kernel
theorem dksX0_players_1 : cX0_players.data.toList.drop 23 = dktX0_players_1 := dk_seg dksX0_players_0 23 rfl rfl
theorem dksX0_players_2 : cX0_players.data.toList.drop 47 = dktX0_players_2 := dk_seg dksX0_players_1 24 rfl rfl
theorem dX0_players_0 : decode cX0_players 0 = .ok (.iload_n 1, 1) := dk_27 (dk_at dksX0_players_0 0 rfl rfl)
theorem dX0_players_1 : decode cX0_players 1 = .ok (.invokestatic 407, 3) := dk_184 1 151 (dk_at dksX0_players_0 1 rfl rfl)
theorem dX0_players_4 : decode cX0_players 4 = .ok (.ifCond .eq 28, 3) := dk_153 0 28 (dk_at dksX0_players_0 4 rfl rfl)
theorem dX0_players_7 : decode cX0_players 7 = .ok (.iload_n 2, 1) := dk_28 (dk_at dksX0_players_0 7 rfl rfl)
theorem dX0_players_8 : decode cX0_players 8 = .ok (.i2l, 1) := dk_133 (dk_at dksX0_players_0 8 rfl rfl)
theorem dX0_players_9 : decode cX0_players 9 = .ok (.lconst 0, 1) := dk_9 (dk_at dksX0_players_0 9 rfl rfl)
theorem dX0_players_10 : decode cX0_players 10 = .ok (.ldc2_w 114, 3) := dk_20 0 114 (dk_at dksX0_players_0 10 rfl rfl)
theorem dX0_players_13 : decode cX0_players 13 = .ok (.invokestatic 16, 3) := dk_184 0 16 (dk_at dksX0_players_0 13 rfl rfl)
theorem dX0_players_16 : decode cX0_players 16 = .ok (.ifCond .eq 16, 3) := dk_153 0 16 (dk_at dksX0_players_0 16 rfl rfl)
theorem dX0_players_19 : decode cX0_players 19 = .ok (.iload 4, 2) := dk_21 4 (dk_at dksX0_players_0 19 rfl rfl)
theorem dX0_players_21 : decode cX0_players 21 = .ok (.i2l, 1) := dk_133 (dk_at dksX0_players_0 21 rfl rfl)
theorem dX0_players_22 : decode cX0_players 22 = .ok (.lconst 0, 1) := dk_9 (dk_at dksX0_players_0 22 rfl rfl)
theorem dX0_players_23 : decode cX0_players 23 = .ok (.ldc2_w 410, 3) := dk_20 1 154 (dk_at dksX0_players_1 0 rfl rfl)
theorem dX0_players_26 : decode cX0_players 26 = .ok (.invokestatic 16, 3) := dk_184 0 16 (dk_at dksX0_players_1 3 rfl rfl)
theorem dX0_players_29 : decode cX0_players 29 = .ok (.ifCond .ne 6, 3) := dk_154 0 6 (dk_at dksX0_players_1 6 rfl rfl)
theorem dX0_players_32 : decode cX0_players 32 = .ok (.bipush (-2), 2) := dk_16 254 (dk_at dksX0_players_1 9 rfl rfl)
theorem dX0_players_34 : decode cX0_players 34 = .ok (.ireturn, 1) := dk_172 (dk_at dksX0_players_1 11 rfl rfl)
theorem dX0_players_35 : decode cX0_players 35 = .ok (.aload_n 0, 1) := dk_42 (dk_at dksX0_players_1 12 rfl rfl)
theorem dX0_players_36 : decode cX0_players 36 = .ok (.aload_n 0, 1) := dk_42 (dk_at dksX0_players_1 13 rfl rfl)
theorem dX0_players_37 : decode cX0_players 37 = .ok (.getfield 318, 3) := dk_180 1 62 (dk_at dksX0_players_1 14 rfl rfl)
theorem dX0_players_40 : decode cX0_players 40 = .ok (.iload_n 1, 1) := dk_27 (dk_at dksX0_players_1 17 rfl rfl)
theorem dX0_players_41 : decode cX0_players 41 = .ok (.aaload, 1) := dk_50 (dk_at dksX0_players_1 18 rfl rfl)
theorem dX0_players_42 : decode cX0_players 42 = .ok (.getfield 414, 3) := dk_180 1 158 (dk_at dksX0_players_1 19 rfl rfl)
theorem dX0_players_45 : decode cX0_players 45 = .ok (.iload_n 2, 1) := dk_28 (dk_at dksX0_players_1 22 rfl rfl)
theorem dX0_players_46 : decode cX0_players 46 = .ok (.iload_n 3, 1) := dk_29 (dk_at dksX0_players_1 23 rfl rfl)
theorem dX0_players_47 : decode cX0_players 47 = .ok (.iload 4, 2) := dk_21 4 (dk_at dksX0_players_2 0 rfl rfl)
theorem dX0_players_49 : decode cX0_players 49 = .ok (.invokevirtual 545, 3) := dk_182 2 33 (dk_at dksX0_players_2 2 rfl rfl)
theorem dX0_players_52 : decode cX0_players 52 = .ok (.ireturn, 1) := dk_172 (dk_at dksX0_players_2 5 rfl rfl)
theorem dX0_players_53 : decode cX0_players 53 = .ok (.astore 5, 2) := dk_58 5 (dk_at dksX0_players_2 6 rfl rfl)
theorem dX0_players_55 : decode cX0_players 55 = .ok (.bipush (-13), 2) := dk_16 243 (dk_at dksX0_players_2 8 rfl rfl)
theorem dX0_players_57 : decode cX0_players 57 = .ok (.ireturn, 1) := dk_172 (dk_at dksX0_players_2 10 rfl rfl)
theorem dX0_players_58 : decode cX0_players 58 = .ok (.astore 5, 2) := dk_58 5 (dk_at dksX0_players_2 11 rfl rfl)
theorem dX0_players_60 : decode cX0_players 60 = .ok (.bipush (-11), 2) := dk_16 245 (dk_at dksX0_players_2 13 rfl rfl)
theorem dX0_players_62 : decode cX0_players 62 = .ok (.ireturn, 1) := dk_172 (dk_at dksX0_players_2 15 rfl rfl)
theorem dX0_players_63 : decode cX0_players 63 = .ok (.astore 5, 2) := dk_58 5 (dk_at dksX0_players_2 16 rfl rfl)
theorem dX0_players_65 : decode cX0_players 65 = .ok (.bipush (-12), 2) := dk_16 244 (dk_at dksX0_players_2 18 rfl rfl)
theorem dX0_players_67 : decode cX0_players 67 = .ok (.ireturn, 1) := dk_172 (dk_at dksX0_players_2 20 rfl rfl)
abbrev cX0_came : ByteArray := prog_1_method_94_code
def yX0_came : MethodName := ⟨RX0, "came", "(Ljava/lang/Object;III)I"⟩
def dkwX0_came_3 : List UInt8 := [21, 6, 172]
abbrev dktX0_came_3 : List UInt8 := dkwX0_came_3 ++ []
def dkwX0_came_2 : List UInt8 := [184, 1, 137, 182, 2, 30, 155, 0, 7, 4, 167, 0, 4, 3, 96, 54, 6, 132, 7, 1, 167, 255, 201]
abbrev dktX0_came_2 : List UInt8 := dkwX0_came_2 ++ dktX0_came_3
def dkwX0_came_1 : List UInt8 := [21, 7, 104, 96, 184, 1, 137, 54, 8, 21, 6, 42, 21, 8, 43, 28, 29, 5, 21, 7, 104, 96, 4, 96]
abbrev dktX0_came_1 : List UInt8 := dkwX0_came_1 ++ dktX0_came_2
def dkwX0_came_0 : List UInt8 := [43, 28, 184, 1, 133, 54, 5, 3, 54, 6, 3, 54, 7, 21, 7, 21, 4, 162, 0, 54, 43, 28, 29, 5]
abbrev dktX0_came_0 : List UInt8 := dkwX0_came_0 ++ dktX0_came_1
theorem dksX0_came_0 : cX0_came.data.toList.drop 0 = dktX0_came_0 := by decide +kernel
theorem dksX0_came_1 : cX0_came.data.toList.drop 24 = dktX0_came_1 := dk_seg dksX0_came_0 24 rfl rfl
theorem dksX0_came_2 : cX0_came.data.toList.drop 48 = dktX0_came_2 := dk_seg dksX0_came_1 24 rfl rfl
theorem dksX0_came_3 : cX0_came.data.toList.drop 71 = dktX0_came_3 := dk_seg dksX0_came_2 23 rfl rfl
theorem dX0_came_0 : decode cX0_came 0 = .ok (.aload_n 1, 1) := dk_43 (dk_at dksX0_came_0 0 rfl rfl)
theorem dX0_came_1 : decode cX0_came 1 = .ok (.iload_n 2, 1) := dk_28 (dk_at dksX0_came_0 1 rfl rfl)
theorem dX0_came_2 : decode cX0_came 2 = .ok (.invokestatic 389, 3) := dk_184 1 133 (dk_at dksX0_came_0 2 rfl rfl)
theorem dX0_came_5 : decode cX0_came 5 = .ok (.istore 5, 2) := dk_54 5 (dk_at dksX0_came_0 5 rfl rfl)
theorem dX0_came_7 : decode cX0_came 7 = .ok (.iconst 0, 1) := dk_3 (dk_at dksX0_came_0 7 rfl rfl)
theorem dX0_came_8 : decode cX0_came 8 = .ok (.istore 6, 2) := dk_54 6 (dk_at dksX0_came_0 8 rfl rfl)
theorem dX0_came_10 : decode cX0_came 10 = .ok (.iconst 0, 1) := dk_3 (dk_at dksX0_came_0 10 rfl rfl)
theorem dX0_came_11 : decode cX0_came 11 = .ok (.istore 7, 2) := dk_54 7 (dk_at dksX0_came_0 11 rfl rfl)
theorem dX0_came_13 : decode cX0_came 13 = .ok (.iload 7, 2) := dk_21 7 (dk_at dksX0_came_0 13 rfl rfl)
theorem dX0_came_15 : decode cX0_came 15 = .ok (.iload 4, 2) := dk_21 4 (dk_at dksX0_came_0 15 rfl rfl)
theorem dX0_came_17 : decode cX0_came 17 = .ok (.if_icmp .ge 54, 3) := dk_162 0 54 (dk_at dksX0_came_0 17 rfl rfl)
theorem dX0_came_20 : decode cX0_came 20 = .ok (.aload_n 1, 1) := dk_43 (dk_at dksX0_came_0 20 rfl rfl)
theorem dX0_came_21 : decode cX0_came 21 = .ok (.iload_n 2, 1) := dk_28 (dk_at dksX0_came_0 21 rfl rfl)
theorem dX0_came_22 : decode cX0_came 22 = .ok (.iload_n 3, 1) := dk_29 (dk_at dksX0_came_0 22 rfl rfl)
theorem dX0_came_23 : decode cX0_came 23 = .ok (.iconst 2, 1) := dk_5 (dk_at dksX0_came_0 23 rfl rfl)
theorem dX0_came_24 : decode cX0_came 24 = .ok (.iload 7, 2) := dk_21 7 (dk_at dksX0_came_1 0 rfl rfl)
theorem dX0_came_26 : decode cX0_came 26 = .ok (.imul, 1) := dk_104 (dk_at dksX0_came_1 2 rfl rfl)
theorem dX0_came_27 : decode cX0_came 27 = .ok (.iadd, 1) := dk_96 (dk_at dksX0_came_1 3 rfl rfl)
theorem dX0_came_28 : decode cX0_came 28 = .ok (.invokestatic 393, 3) := dk_184 1 137 (dk_at dksX0_came_1 4 rfl rfl)
theorem dX0_came_31 : decode cX0_came 31 = .ok (.istore 8, 2) := dk_54 8 (dk_at dksX0_came_1 7 rfl rfl)
theorem dX0_came_33 : decode cX0_came 33 = .ok (.iload 6, 2) := dk_21 6 (dk_at dksX0_came_1 9 rfl rfl)
theorem dX0_came_35 : decode cX0_came 35 = .ok (.aload_n 0, 1) := dk_42 (dk_at dksX0_came_1 11 rfl rfl)
theorem dX0_came_36 : decode cX0_came 36 = .ok (.iload 8, 2) := dk_21 8 (dk_at dksX0_came_1 12 rfl rfl)
theorem dX0_came_38 : decode cX0_came 38 = .ok (.aload_n 1, 1) := dk_43 (dk_at dksX0_came_1 14 rfl rfl)
theorem dX0_came_39 : decode cX0_came 39 = .ok (.iload_n 2, 1) := dk_28 (dk_at dksX0_came_1 15 rfl rfl)
theorem dX0_came_40 : decode cX0_came 40 = .ok (.iload_n 3, 1) := dk_29 (dk_at dksX0_came_1 16 rfl rfl)
theorem dX0_came_41 : decode cX0_came 41 = .ok (.iconst 2, 1) := dk_5 (dk_at dksX0_came_1 17 rfl rfl)
theorem dX0_came_42 : decode cX0_came 42 = .ok (.iload 7, 2) := dk_21 7 (dk_at dksX0_came_1 18 rfl rfl)
theorem dX0_came_44 : decode cX0_came 44 = .ok (.imul, 1) := dk_104 (dk_at dksX0_came_1 20 rfl rfl)
theorem dX0_came_45 : decode cX0_came 45 = .ok (.iadd, 1) := dk_96 (dk_at dksX0_came_1 21 rfl rfl)
theorem dX0_came_46 : decode cX0_came 46 = .ok (.iconst 1, 1) := dk_4 (dk_at dksX0_came_1 22 rfl rfl)
theorem dX0_came_47 : decode cX0_came 47 = .ok (.iadd, 1) := dk_96 (dk_at dksX0_came_1 23 rfl rfl)
theorem dX0_came_48 : decode cX0_came 48 = .ok (.invokestatic 393, 3) := dk_184 1 137 (dk_at dksX0_came_2 0 rfl rfl)
theorem dX0_came_51 : decode cX0_came 51 = .ok (.invokevirtual 542, 3) := dk_182 2 30 (dk_at dksX0_came_2 3 rfl rfl)
theorem dX0_came_54 : decode cX0_came 54 = .ok (.ifCond .lt 7, 3) := dk_155 0 7 (dk_at dksX0_came_2 6 rfl rfl)
theorem dX0_came_57 : decode cX0_came 57 = .ok (.iconst 1, 1) := dk_4 (dk_at dksX0_came_2 9 rfl rfl)
theorem dX0_came_58 : decode cX0_came 58 = .ok (.goto 4, 3) := dk_167 0 4 (dk_at dksX0_came_2 10 rfl rfl)
theorem dX0_came_61 : decode cX0_came 61 = .ok (.iconst 0, 1) := dk_3 (dk_at dksX0_came_2 13 rfl rfl)
theorem dX0_came_62 : decode cX0_came 62 = .ok (.iadd, 1) := dk_96 (dk_at dksX0_came_2 14 rfl rfl)
theorem dX0_came_63 : decode cX0_came 63 = .ok (.istore 6, 2) := dk_54 6 (dk_at dksX0_came_2 15 rfl rfl)
theorem dX0_came_65 : decode cX0_came 65 = .ok (.iinc 7 1, 3) := dk_132 7 1 (dk_at dksX0_came_2 17 rfl rfl)
theorem dX0_came_68 : decode cX0_came 68 = .ok (.goto (-55), 3) := dk_167 255 201 (dk_at dksX0_came_2 20 rfl rfl)
theorem dX0_came_71 : decode cX0_came 71 = .ok (.iload 6, 2) := dk_21 6 (dk_at dksX0_came_3 0 rfl rfl)
theorem dX0_came_73 : decode cX0_came 73 = .ok (.ireturn, 1) := dk_172 (dk_at dksX0_came_3 2 rfl rfl)
abbrev cX0_taken : ByteArray := prog_1_method_97_code
def yX0_taken : MethodName := ⟨RX0, "taken", "(II)I"⟩
def dkwX0_taken_2 : List UInt8 := [172]
abbrev dktX0_taken_2 : List UInt8 := dkwX0_taken_2 ++ []
def dkwX0_taken_1 : List UInt8 := [180, 0, 51, 27, 50, 167, 0, 4, 1, 28, 184, 2, 39, 180, 0, 83, 172, 78, 16, 245, 172, 78, 16, 243]
abbrev dktX0_taken_1 : List UInt8 := dkwX0_taken_1 ++ dktX0_taken_2
def dkwX0_taken_0 : List UInt8 := [28, 133, 9, 20, 0, 47, 184, 0, 16, 154, 0, 6, 16, 254, 172, 42, 27, 182, 0, 20, 153, 0, 12, 42]
abbrev dktX0_taken_0 : List UInt8 := dkwX0_taken_0 ++ dktX0_taken_1
theorem dksX0_taken_0 : cX0_taken.data.toList.drop 0 = dktX0_taken_0 := by decide +kernel
theorem dksX0_taken_1 : cX0_taken.data.toList.drop 24 = dktX0_taken_1 := dk_seg dksX0_taken_0 24 rfl rfl
theorem dksX0_taken_2 : cX0_taken.data.toList.drop 48 = dktX0_taken_2 := dk_seg dksX0_taken_1 24 rfl rfl
theorem dX0_taken_0 : decode cX0_taken 0 = .ok (.iload_n 2, 1) := dk_28 (dk_at dksX0_taken_0 0 rfl rfl)
theorem dX0_taken_1 : decode cX0_taken 1 = .ok (.i2l, 1) := dk_133 (dk_at dksX0_taken_0 1 rfl rfl)
theorem dX0_taken_2 : decode cX0_taken 2 = .ok (.lconst 0, 1) := dk_9 (dk_at dksX0_taken_0 2 rfl rfl)
theorem dX0_taken_3 : decode cX0_taken 3 = .ok (.ldc2_w 47, 3) := dk_20 0 47 (dk_at dksX0_taken_0 3 rfl rfl)
theorem dX0_taken_6 : decode cX0_taken 6 = .ok (.invokestatic 16, 3) := dk_184 0 16 (dk_at dksX0_taken_0 6 rfl rfl)
theorem dX0_taken_9 : decode cX0_taken 9 = .ok (.ifCond .ne 6, 3) := dk_154 0 6 (dk_at dksX0_taken_0 9 rfl rfl)
theorem dX0_taken_12 : decode cX0_taken 12 = .ok (.bipush (-2), 2) := dk_16 254 (dk_at dksX0_taken_0 12 rfl rfl)
theorem dX0_taken_14 : decode cX0_taken 14 = .ok (.ireturn, 1) := dk_172 (dk_at dksX0_taken_0 14 rfl rfl)
theorem dX0_taken_15 : decode cX0_taken 15 = .ok (.aload_n 0, 1) := dk_42 (dk_at dksX0_taken_0 15 rfl rfl)
theorem dX0_taken_16 : decode cX0_taken 16 = .ok (.iload_n 1, 1) := dk_27 (dk_at dksX0_taken_0 16 rfl rfl)
theorem dX0_taken_17 : decode cX0_taken 17 = .ok (.invokevirtual 20, 3) := dk_182 0 20 (dk_at dksX0_taken_0 17 rfl rfl)
theorem dX0_taken_20 : decode cX0_taken 20 = .ok (.ifCond .eq 12, 3) := dk_153 0 12 (dk_at dksX0_taken_0 20 rfl rfl)
theorem dX0_taken_23 : decode cX0_taken 23 = .ok (.aload_n 0, 1) := dk_42 (dk_at dksX0_taken_0 23 rfl rfl)
theorem dX0_taken_24 : decode cX0_taken 24 = .ok (.getfield 51, 3) := dk_180 0 51 (dk_at dksX0_taken_1 0 rfl rfl)
theorem dX0_taken_27 : decode cX0_taken 27 = .ok (.iload_n 1, 1) := dk_27 (dk_at dksX0_taken_1 3 rfl rfl)
theorem dX0_taken_28 : decode cX0_taken 28 = .ok (.aaload, 1) := dk_50 (dk_at dksX0_taken_1 4 rfl rfl)
theorem dX0_taken_29 : decode cX0_taken 29 = .ok (.goto 4, 3) := dk_167 0 4 (dk_at dksX0_taken_1 5 rfl rfl)
theorem dX0_taken_32 : decode cX0_taken 32 = .ok (.aconst_null, 1) := dk_1 (dk_at dksX0_taken_1 8 rfl rfl)
theorem dX0_taken_33 : decode cX0_taken 33 = .ok (.iload_n 2, 1) := dk_28 (dk_at dksX0_taken_1 9 rfl rfl)
theorem dX0_taken_34 : decode cX0_taken 34 = .ok (.invokestatic 551, 3) := dk_184 2 39 (dk_at dksX0_taken_1 10 rfl rfl)
theorem dX0_taken_37 : decode cX0_taken 37 = .ok (.getfield 83, 3) := dk_180 0 83 (dk_at dksX0_taken_1 13 rfl rfl)
theorem dX0_taken_40 : decode cX0_taken 40 = .ok (.ireturn, 1) := dk_172 (dk_at dksX0_taken_1 16 rfl rfl)
theorem dX0_taken_41 : decode cX0_taken 41 = .ok (.astore_n 3, 1) := dk_78 (dk_at dksX0_taken_1 17 rfl rfl)
theorem dX0_taken_42 : decode cX0_taken 42 = .ok (.bipush (-11), 2) := dk_16 245 (dk_at dksX0_taken_1 18 rfl rfl)
theorem dX0_taken_44 : decode cX0_taken 44 = .ok (.ireturn, 1) := dk_172 (dk_at dksX0_taken_1 20 rfl rfl)
theorem dX0_taken_45 : decode cX0_taken 45 = .ok (.astore_n 3, 1) := dk_78 (dk_at dksX0_taken_1 21 rfl rfl)
theorem dX0_taken_46 : decode cX0_taken 46 = .ok (.bipush (-13), 2) := dk_16 243 (dk_at dksX0_taken_1 22 rfl rfl)
theorem dX0_taken_48 : decode cX0_taken 48 = .ok (.ireturn, 1) := dk_172 (dk_at dksX0_taken_2 0 rfl rfl)
abbrev cX0_as : ByteArray := prog_1_method_96_code
def yX0_as : MethodName := ⟨RX0, "as", "(LLoserKeepsTheBoard$Player;I)LLoserKeepsTheBoard$Player;"⟩
def dkwX0_as_3 : List UInt8 := [176, 42, 176]
abbrev dktX0_as_3 : List UInt8 := dkwX0_as_3 ++ []
def dkwX0_as_2 : List UInt8 := [42, 192, 0, 26, 176, 42, 192, 0, 32, 176, 42, 192, 0, 35, 176, 42, 192, 0, 38, 176, 42, 192, 0, 41]
abbrev dktX0_as_2 : List UInt8 := dkwX0_as_2 ++ dktX0_as_3
def dkwX0_as_1 : List UInt8 := [170, 0, 0, 0, 0, 0, 60, 0, 0, 0, 1, 0, 0, 0, 5, 0, 0, 0, 35, 0, 0, 0, 40, 0, 0, 0, 45, 0, 0, 0, 50, 0, 0, 0, 55]
abbrev dktX0_as_1 : List UInt8 := dkwX0_as_1 ++ dktX0_as_2
def dkwX0_as_0 : List UInt8 := [27]
abbrev dktX0_as_0 : List UInt8 := dkwX0_as_0 ++ dktX0_as_1
theorem dksX0_as_0 : cX0_as.data.toList.drop 0 = dktX0_as_0 := by decide +kernel
theorem dksX0_as_1 : cX0_as.data.toList.drop 1 = dktX0_as_1 := dk_seg dksX0_as_0 1 rfl rfl
theorem dksX0_as_2 : cX0_as.data.toList.drop 36 = dktX0_as_2 := dk_seg dksX0_as_1 35 rfl rfl
theorem dksX0_as_3 : cX0_as.data.toList.drop 60 = dktX0_as_3 := dk_seg dksX0_as_2 24 rfl rfl
theorem dX0_as_0 : decode cX0_as 0 = .ok (.iload_n 1, 1) := dk_27 (dk_at dksX0_as_0 0 rfl rfl)
theorem dX0_as_1 : decode cX0_as 1 = .ok (.tableswitch 60 1 5 #[35, 40, 45, 50, 55], 35) := by decide +kernel
theorem dX0_as_36 : decode cX0_as 36 = .ok (.aload_n 0, 1) := dk_42 (dk_at dksX0_as_2 0 rfl rfl)
theorem dX0_as_37 : decode cX0_as 37 = .ok (.checkcast 26, 3) := dk_192 0 26 (dk_at dksX0_as_2 1 rfl rfl)
theorem dX0_as_40 : decode cX0_as 40 = .ok (.areturn, 1) := dk_176 (dk_at dksX0_as_2 4 rfl rfl)
theorem dX0_as_41 : decode cX0_as 41 = .ok (.aload_n 0, 1) := dk_42 (dk_at dksX0_as_2 5 rfl rfl)
theorem dX0_as_42 : decode cX0_as 42 = .ok (.checkcast 32, 3) := dk_192 0 32 (dk_at dksX0_as_2 6 rfl rfl)
theorem dX0_as_45 : decode cX0_as 45 = .ok (.areturn, 1) := dk_176 (dk_at dksX0_as_2 9 rfl rfl)
theorem dX0_as_46 : decode cX0_as 46 = .ok (.aload_n 0, 1) := dk_42 (dk_at dksX0_as_2 10 rfl rfl)
theorem dX0_as_47 : decode cX0_as 47 = .ok (.checkcast 35, 3) := dk_192 0 35 (dk_at dksX0_as_2 11 rfl rfl)
theorem dX0_as_50 : decode cX0_as 50 = .ok (.areturn, 1) := dk_176 (dk_at dksX0_as_2 14 rfl rfl)
theorem dX0_as_51 : decode cX0_as 51 = .ok (.aload_n 0, 1) := dk_42 (dk_at dksX0_as_2 15 rfl rfl)
theorem dX0_as_52 : decode cX0_as 52 = .ok (.checkcast 38, 3) := dk_192 0 38 (dk_at dksX0_as_2 16 rfl rfl)
theorem dX0_as_55 : decode cX0_as 55 = .ok (.areturn, 1) := dk_176 (dk_at dksX0_as_2 19 rfl rfl)
theorem dX0_as_56 : decode cX0_as 56 = .ok (.aload_n 0, 1) := dk_42 (dk_at dksX0_as_2 20 rfl rfl)
theorem dX0_as_57 : decode cX0_as 57 = .ok (.checkcast 41, 3) := dk_192 0 41 (dk_at dksX0_as_2 21 rfl rfl)
theorem dX0_as_60 : decode cX0_as 60 = .ok (.areturn, 1) := dk_176 (dk_at dksX0_as_3 0 rfl rfl)
theorem dX0_as_61 : decode cX0_as 61 = .ok (.aload_n 0, 1) := dk_42 (dk_at dksX0_as_3 1 rfl rfl)
theorem dX0_as_62 : decode cX0_as 62 = .ok (.areturn, 1) := dk_176 (dk_at dksX0_as_3 2 rfl rfl)
theorem q105 : (Jvm.Cond.initialized "LoserKeepsTheBoard") ∈ lw_all := lw_g (lw_at lw_m1 1 rfl) rfl
theorem q137 : (Jvm.Cond.instanceMethod ({ cls := "LoserKeepsTheBoard", name := "player", desc := "(II)I" } : Jvm.MethodName)) ∈ lw_all := lw_g (lw_at lw_m1 33 rfl) rfl
theorem q138 : (Jvm.Cond.selects "LoserKeepsTheBoard" ({ cls := "LoserKeepsTheBoard", name := "player", desc := "(II)I" } : Jvm.MethodName) ({ cls := "LoserKeepsTheBoard", name := "player", desc := "(II)I" } : Jvm.MethodName)) ∈ lw_all := lw_g (lw_at lw_m1 34 rfl) rfl
theorem q139 : (Jvm.Cond.code ({ cls := "LoserKeepsTheBoard", name := "player", desc := "(II)I" } : Jvm.MethodName) prog_1_method_8_code (3 : Nat) (Option.some Jvm.ClassFile.FieldType.int)) ∈ lw_all := lw_g (lw_at lw_m1 35 rfl) rfl
theorem q140 : (Jvm.Cond.constantLong "LoserKeepsTheBoard" (47 : Nat) (5 : Int64)) ∈ lw_all := lw_g (lw_at lw_m1 36 rfl) rfl
theorem q141 : (Jvm.Cond.methodLink "LoserKeepsTheBoard" (16 : Nat) ({ cls := "LoserKeepsTheBoard", name := "in", desc := "(JJJ)Z" } : Jvm.MethodName)) ∈ lw_all := lw_g (lw_at lw_m1 37 rfl) rfl
theorem q142 : (Jvm.Cond.static ({ cls := "LoserKeepsTheBoard", name := "in", desc := "(JJJ)Z" } : Jvm.MethodName)) ∈ lw_all := lw_g (lw_at lw_m1 38 rfl) rfl
theorem q143 : (Jvm.Cond.code ({ cls := "LoserKeepsTheBoard", name := "in", desc := "(JJJ)Z" } : Jvm.MethodName) prog_1_method_1_code (6 : Nat) (Option.some Jvm.ClassFile.FieldType.boolean)) ∈ lw_all := lw_g (lw_at lw_m1 39 rfl) rfl
theorem q144 : (Jvm.Cond.constantLong "LoserKeepsTheBoard" (49 : Nat) (9 : Int64)) ∈ lw_all := lw_g (lw_at lw_m1 40 rfl) rfl
theorem q145 : (Jvm.Cond.methodLink "LoserKeepsTheBoard" (55 : Nat) ({ cls := "LoserKeepsTheBoard", name := "made", desc := "(II)LLoserKeepsTheBoard$Player;" } : Jvm.MethodName)) ∈ lw_all := lw_g (lw_at lw_m1 41 rfl) rfl
theorem q146 : (Jvm.Cond.static ({ cls := "LoserKeepsTheBoard", name := "made", desc := "(II)LLoserKeepsTheBoard$Player;" } : Jvm.MethodName)) ∈ lw_all := lw_g (lw_at lw_m1 42 rfl) rfl
theorem q147 : (Jvm.Cond.code ({ cls := "LoserKeepsTheBoard", name := "made", desc := "(II)LLoserKeepsTheBoard$Player;" } : Jvm.MethodName) prog_1_method_7_code (2 : Nat) (Option.some (Jvm.ClassFile.FieldType.object "LoserKeepsTheBoard$Player"))) ∈ lw_all := lw_g (lw_at lw_m1 43 rfl) rfl
theorem q148 : (Jvm.Cond.classLink "LoserKeepsTheBoard" (26 : Nat) "LoserKeepsTheBoard$Master") ∈ lw_all := lw_g (lw_at lw_m1 44 rfl) rfl
theorem q150 : (Jvm.Cond.methodLink "LoserKeepsTheBoard" (28 : Nat) ({ cls := "LoserKeepsTheBoard$Master", name := "<init>", desc := "(I)V" } : Jvm.MethodName)) ∈ lw_all := lw_g (lw_at lw_m1 46 rfl) rfl
theorem q165 : (Jvm.Cond.fieldLink "LoserKeepsTheBoard" (83 : Nat) "LoserKeepsTheBoard$Player" "number" "I") ∈ lw_all := lw_g (lw_at lw_m1 61 rfl) rfl
theorem q168 : (Jvm.Cond.fieldLink "LoserKeepsTheBoard" (86 : Nat) "LoserKeepsTheBoard$Player" "strong" "I") ∈ lw_all := lw_g (lw_at lw_m1 64 rfl) rfl
theorem q170 : (Jvm.Cond.fieldLink "LoserKeepsTheBoard" (104 : Nat) "LoserKeepsTheBoard$Player" "won" "I") ∈ lw_all := lw_g (lw_at lw_m1 66 rfl) rfl
theorem q175 : (Jvm.Cond.fieldLink "LoserKeepsTheBoard" (66 : Nat) "LoserKeepsTheBoard$Player" "has" "I") ∈ lw_all := lw_g (lw_at lw_m1 71 rfl) rfl
theorem q185 : (Jvm.Cond.classLink "LoserKeepsTheBoard" (32 : Nat) "LoserKeepsTheBoard$Boy") ∈ lw_all := lw_g (lw_at lw_m1 81 rfl) rfl
theorem q187 : (Jvm.Cond.methodLink "LoserKeepsTheBoard" (34 : Nat) ({ cls := "LoserKeepsTheBoard$Boy", name := "<init>", desc := "(I)V" } : Jvm.MethodName)) ∈ lw_all := lw_g (lw_at lw_m1 83 rfl) rfl
theorem q196 : (Jvm.Cond.classLink "LoserKeepsTheBoard" (35 : Nat) "LoserKeepsTheBoard$Champion") ∈ lw_all := lw_g (lw_at lw_m1 92 rfl) rfl
theorem q198 : (Jvm.Cond.methodLink "LoserKeepsTheBoard" (37 : Nat) ({ cls := "LoserKeepsTheBoard$Champion", name := "<init>", desc := "(I)V" } : Jvm.MethodName)) ∈ lw_all := lw_g (lw_at lw_m1 94 rfl) rfl
theorem q207 : (Jvm.Cond.classLink "LoserKeepsTheBoard" (38 : Nat) "LoserKeepsTheBoard$Groom") ∈ lw_all := lw_g (lw_at lw_m1 103 rfl) rfl
theorem q209 : (Jvm.Cond.methodLink "LoserKeepsTheBoard" (40 : Nat) ({ cls := "LoserKeepsTheBoard$Groom", name := "<init>", desc := "(I)V" } : Jvm.MethodName)) ∈ lw_all := lw_g (lw_at lw_m1 105 rfl) rfl
theorem q218 : (Jvm.Cond.classLink "LoserKeepsTheBoard" (41 : Nat) "LoserKeepsTheBoard$Widow") ∈ lw_all := lw_g (lw_at lw_m1 114 rfl) rfl
theorem q220 : (Jvm.Cond.methodLink "LoserKeepsTheBoard" (43 : Nat) ({ cls := "LoserKeepsTheBoard$Widow", name := "<init>", desc := "(I)V" } : Jvm.MethodName)) ∈ lw_all := lw_g (lw_at lw_m1 116 rfl) rfl
theorem q229 : (Jvm.Cond.classLink "LoserKeepsTheBoard" (44 : Nat) "LoserKeepsTheBoard$Player") ∈ lw_all := lw_g (lw_at lw_m1 125 rfl) rfl
theorem q231 : (Jvm.Cond.methodLink "LoserKeepsTheBoard" (46 : Nat) ({ cls := "LoserKeepsTheBoard$Player", name := "<init>", desc := "(I)V" } : Jvm.MethodName)) ∈ lw_all := lw_g (lw_at lw_m1 127 rfl) rfl
theorem q238 : (Jvm.Cond.instanceMethod ({ cls := "LoserKeepsTheBoard", name := "set", desc := "(III)I" } : Jvm.MethodName)) ∈ lw_all := lw_g (lw_at lw_m1 134 rfl) rfl
theorem q239 : (Jvm.Cond.selects "LoserKeepsTheBoard" ({ cls := "LoserKeepsTheBoard", name := "set", desc := "(III)I" } : Jvm.MethodName) ({ cls := "LoserKeepsTheBoard", name := "set", desc := "(III)I" } : Jvm.MethodName)) ∈ lw_all := lw_g (lw_at lw_m1 135 rfl) rfl
theorem q240 : (Jvm.Cond.code ({ cls := "LoserKeepsTheBoard", name := "set", desc := "(III)I" } : Jvm.MethodName) prog_1_method_13_code (5 : Nat) (Option.some Jvm.ClassFile.FieldType.int)) ∈ lw_all := lw_g (lw_at lw_m1 136 rfl) rfl
theorem q241 : (Jvm.Cond.methodLink "LoserKeepsTheBoard" (89 : Nat) ({ cls := "LoserKeepsTheBoard", name := "isSo", desc := "(III)Z" } : Jvm.MethodName)) ∈ lw_all := lw_g (lw_at lw_m1 137 rfl) rfl
theorem q242 : (Jvm.Cond.privateMethod ({ cls := "LoserKeepsTheBoard", name := "isSo", desc := "(III)Z" } : Jvm.MethodName)) ∈ lw_tbl := lw_at lw_m1 138 rfl
theorem q243 : (Jvm.Cond.instanceMethod ({ cls := "LoserKeepsTheBoard", name := "isSo", desc := "(III)Z" } : Jvm.MethodName)) ∈ lw_all := lw_g (lw_at lw_m1 139 rfl) rfl
theorem q244 : (Jvm.Cond.instantiable "LoserKeepsTheBoard" (33 : Nat)) ∈ lw_all := lw_g (lw_at lw_m1 140 rfl) rfl
theorem q245 : (Jvm.Cond.code ({ cls := "LoserKeepsTheBoard", name := "isSo", desc := "(III)Z" } : Jvm.MethodName) prog_1_method_9_code (4 : Nat) (Option.some Jvm.ClassFile.FieldType.boolean)) ∈ lw_all := lw_g (lw_at lw_m1 141 rfl) rfl
theorem q246 : (Jvm.Cond.constantLong "LoserKeepsTheBoard" (59 : Nat) (999 : Int64)) ∈ lw_all := lw_g (lw_at lw_m1 142 rfl) rfl
theorem q247 : (Jvm.Cond.methodLink "LoserKeepsTheBoard" (61 : Nat) ({ cls := "LoserKeepsTheBoard", name := "isThing", desc := "(I)Z" } : Jvm.MethodName)) ∈ lw_all := lw_g (lw_at lw_m1 143 rfl) rfl
theorem q248 : (Jvm.Cond.static ({ cls := "LoserKeepsTheBoard", name := "isThing", desc := "(I)Z" } : Jvm.MethodName)) ∈ lw_all := lw_g (lw_at lw_m1 144 rfl) rfl
theorem q249 : (Jvm.Cond.code ({ cls := "LoserKeepsTheBoard", name := "isThing", desc := "(I)Z" } : Jvm.MethodName) prog_1_method_6_code (1 : Nat) (Option.some Jvm.ClassFile.FieldType.boolean)) ∈ lw_all := lw_g (lw_at lw_m1 145 rfl) rfl
theorem q250 : (Jvm.Cond.constantLong "LoserKeepsTheBoard" (24 : Nat) (7 : Int64)) ∈ lw_all := lw_g (lw_at lw_m1 146 rfl) rfl
theorem q251 : (Jvm.Cond.methodLink "LoserKeepsTheBoard" (20 : Nat) ({ cls := "LoserKeepsTheBoard", name := "isOne", desc := "(I)Z" } : Jvm.MethodName)) ∈ lw_all := lw_g (lw_at lw_m1 147 rfl) rfl
theorem q252 : (Jvm.Cond.privateMethod ({ cls := "LoserKeepsTheBoard", name := "isOne", desc := "(I)Z" } : Jvm.MethodName)) ∈ lw_tbl := lw_at lw_m1 148 rfl
theorem q253 : (Jvm.Cond.instanceMethod ({ cls := "LoserKeepsTheBoard", name := "isOne", desc := "(I)Z" } : Jvm.MethodName)) ∈ lw_all := lw_g (lw_at lw_m1 149 rfl) rfl
theorem q254 : (Jvm.Cond.code ({ cls := "LoserKeepsTheBoard", name := "isOne", desc := "(I)Z" } : Jvm.MethodName) prog_1_method_4_code (2 : Nat) (Option.some Jvm.ClassFile.FieldType.boolean)) ∈ lw_all := lw_g (lw_at lw_m1 150 rfl) rfl
theorem q255 : (Jvm.Cond.constantLong "LoserKeepsTheBoard" (64 : Nat) (99 : Int64)) ∈ lw_all := lw_g (lw_at lw_m1 151 rfl) rfl
theorem q256 : (Jvm.Cond.methodLink "LoserKeepsTheBoard" (93 : Nat) ({ cls := "LoserKeepsTheBoard", name := "told", desc := "(II)I" } : Jvm.MethodName)) ∈ lw_all := lw_g (lw_at lw_m1 152 rfl) rfl
theorem q257 : (Jvm.Cond.instanceMethod ({ cls := "LoserKeepsTheBoard", name := "told", desc := "(II)I" } : Jvm.MethodName)) ∈ lw_all := lw_g (lw_at lw_m1 153 rfl) rfl
theorem q258 : (Jvm.Cond.selects "LoserKeepsTheBoard" ({ cls := "LoserKeepsTheBoard", name := "told", desc := "(II)I" } : Jvm.MethodName) ({ cls := "LoserKeepsTheBoard", name := "told", desc := "(II)I" } : Jvm.MethodName)) ∈ lw_all := lw_g (lw_at lw_m1 154 rfl) rfl
theorem q259 : (Jvm.Cond.code ({ cls := "LoserKeepsTheBoard", name := "told", desc := "(II)I" } : Jvm.MethodName) prog_1_method_15_code (3 : Nat) (Option.some Jvm.ClassFile.FieldType.int)) ∈ lw_all := lw_g (lw_at lw_m1 155 rfl) rfl
theorem q260 : (Jvm.Cond.methodLink "LoserKeepsTheBoard" (110 : Nat) ({ cls := "LoserKeepsTheBoard", name := "whereIs", desc := "(I)I" } : Jvm.MethodName)) ∈ lw_all := lw_g (lw_at lw_m1 156 rfl) rfl
theorem q261 : (Jvm.Cond.privateMethod ({ cls := "LoserKeepsTheBoard", name := "whereIs", desc := "(I)I" } : Jvm.MethodName)) ∈ lw_tbl := lw_at lw_m1 157 rfl
theorem q262 : (Jvm.Cond.instanceMethod ({ cls := "LoserKeepsTheBoard", name := "whereIs", desc := "(I)I" } : Jvm.MethodName)) ∈ lw_all := lw_g (lw_at lw_m1 158 rfl) rfl
theorem q263 : (Jvm.Cond.code ({ cls := "LoserKeepsTheBoard", name := "whereIs", desc := "(I)I" } : Jvm.MethodName) prog_1_method_10_code (3 : Nat) (Option.some Jvm.ClassFile.FieldType.int)) ∈ lw_all := lw_g (lw_at lw_m1 159 rfl) rfl
theorem q264 : (Jvm.Cond.methodLink "LoserKeepsTheBoard" (69 : Nat) ({ cls := "LoserKeepsTheBoard", name := "isIn", desc := "(II)Z" } : Jvm.MethodName)) ∈ lw_all := lw_g (lw_at lw_m1 160 rfl) rfl
theorem q265 : (Jvm.Cond.static ({ cls := "LoserKeepsTheBoard", name := "isIn", desc := "(II)Z" } : Jvm.MethodName)) ∈ lw_all := lw_g (lw_at lw_m1 161 rfl) rfl
theorem q266 : (Jvm.Cond.code ({ cls := "LoserKeepsTheBoard", name := "isIn", desc := "(II)Z" } : Jvm.MethodName) prog_1_method_3_code (2 : Nat) (Option.some Jvm.ClassFile.FieldType.boolean)) ∈ lw_all := lw_g (lw_at lw_m1 162 rfl) rfl
theorem q267 : (Jvm.Cond.constantLong "LoserKeepsTheBoard" (114 : Nat) (2 : Int64)) ∈ lw_all := lw_g (lw_at lw_m1 163 rfl) rfl
theorem q268 : (Jvm.Cond.methodLink "LoserKeepsTheBoard" (116 : Nat) ({ cls := "LoserKeepsTheBoard", name := "toldOf", desc := "(II)I" } : Jvm.MethodName)) ∈ lw_all := lw_g (lw_at lw_m1 164 rfl) rfl
theorem q269 : (Jvm.Cond.privateMethod ({ cls := "LoserKeepsTheBoard", name := "toldOf", desc := "(II)I" } : Jvm.MethodName)) ∈ lw_tbl := lw_at lw_m1 165 rfl
theorem q270 : (Jvm.Cond.instanceMethod ({ cls := "LoserKeepsTheBoard", name := "toldOf", desc := "(II)I" } : Jvm.MethodName)) ∈ lw_all := lw_g (lw_at lw_m1 166 rfl) rfl
theorem q271 : (Jvm.Cond.code ({ cls := "LoserKeepsTheBoard", name := "toldOf", desc := "(II)I" } : Jvm.MethodName) prog_1_method_14_code (3 : Nat) (Option.some Jvm.ClassFile.FieldType.int)) ∈ lw_all := lw_g (lw_at lw_m1 167 rfl) rfl
theorem q272 : (Jvm.Cond.methodLink "LoserKeepsTheBoard" (100 : Nat) ({ cls := "LoserKeepsTheBoard$Player", name := "kind", desc := "()I" } : Jvm.MethodName)) ∈ lw_all := lw_g (lw_at lw_m1 168 rfl) rfl
theorem q297 : (Jvm.Cond.methodLink "LoserKeepsTheBoard" (107 : Nat) ({ cls := "LoserKeepsTheBoard$Player", name := "hasMany", desc := "()I" } : Jvm.MethodName)) ∈ lw_all := lw_g (lw_at lw_m1 193 rfl) rfl
theorem q313 : (Jvm.Cond.methodLink "LoserKeepsTheBoard" (96 : Nat) ({ cls := "LoserKeepsTheBoard", name := "becomes", desc := "(III)V" } : Jvm.MethodName)) ∈ lw_all := lw_g (lw_at lw_m1 209 rfl) rfl
theorem q314 : (Jvm.Cond.privateMethod ({ cls := "LoserKeepsTheBoard", name := "becomes", desc := "(III)V" } : Jvm.MethodName)) ∈ lw_tbl := lw_at lw_m1 210 rfl
theorem q315 : (Jvm.Cond.instanceMethod ({ cls := "LoserKeepsTheBoard", name := "becomes", desc := "(III)V" } : Jvm.MethodName)) ∈ lw_all := lw_g (lw_at lw_m1 211 rfl) rfl
theorem q316 : (Jvm.Cond.code ({ cls := "LoserKeepsTheBoard", name := "becomes", desc := "(III)V" } : Jvm.MethodName) prog_1_method_12_code (4 : Nat) (Option.none : Option Jvm.ClassFile.FieldType)) ∈ lw_all := lw_g (lw_at lw_m1 212 rfl) rfl
theorem q317 : (Jvm.Cond.methodLink "LoserKeepsTheBoard" (79 : Nat) ({ cls := "LoserKeepsTheBoard", name := "goesTo", desc := "(II)V" } : Jvm.MethodName)) ∈ lw_all := lw_g (lw_at lw_m1 213 rfl) rfl
theorem q318 : (Jvm.Cond.privateMethod ({ cls := "LoserKeepsTheBoard", name := "goesTo", desc := "(II)V" } : Jvm.MethodName)) ∈ lw_tbl := lw_at lw_m1 214 rfl
theorem q319 : (Jvm.Cond.instanceMethod ({ cls := "LoserKeepsTheBoard", name := "goesTo", desc := "(II)V" } : Jvm.MethodName)) ∈ lw_all := lw_g (lw_at lw_m1 215 rfl) rfl
theorem q320 : (Jvm.Cond.code ({ cls := "LoserKeepsTheBoard", name := "goesTo", desc := "(II)V" } : Jvm.MethodName) prog_1_method_11_code (4 : Nat) (Option.none : Option Jvm.ClassFile.FieldType)) ∈ lw_all := lw_g (lw_at lw_m1 216 rfl) rfl
theorem q323 : (Jvm.Cond.instanceMethod ({ cls := "LoserKeepsTheBoard", name := "feed", desc := "(I)I" } : Jvm.MethodName)) ∈ lw_all := lw_g (lw_at lw_m1 219 rfl) rfl
theorem q324 : (Jvm.Cond.selects "LoserKeepsTheBoard" ({ cls := "LoserKeepsTheBoard", name := "feed", desc := "(I)I" } : Jvm.MethodName) ({ cls := "LoserKeepsTheBoard", name := "feed", desc := "(I)I" } : Jvm.MethodName)) ∈ lw_all := lw_g (lw_at lw_m1 220 rfl) rfl
theorem q325 : (Jvm.Cond.code ({ cls := "LoserKeepsTheBoard", name := "feed", desc := "(I)I" } : Jvm.MethodName) prog_1_method_35_code (2 : Nat) (Option.some Jvm.ClassFile.FieldType.int)) ∈ lw_all := lw_g (lw_at lw_m1 221 rfl) rfl
theorem q326 : (Jvm.Cond.constantLong "LoserKeepsTheBoard" (263 : Nat) (255 : Int64)) ∈ lw_all := lw_g (lw_at lw_m1 222 rfl) rfl
theorem q328 : (Jvm.Cond.instanceMethod ({ cls := "LoserKeepsTheBoard", name := "text", desc := "()I" } : Jvm.MethodName)) ∈ lw_all := lw_g (lw_at lw_m1 224 rfl) rfl
theorem q329 : (Jvm.Cond.selects "LoserKeepsTheBoard" ({ cls := "LoserKeepsTheBoard", name := "text", desc := "()I" } : Jvm.MethodName) ({ cls := "LoserKeepsTheBoard", name := "text", desc := "()I" } : Jvm.MethodName)) ∈ lw_all := lw_g (lw_at lw_m1 225 rfl) rfl
theorem q330 : (Jvm.Cond.code ({ cls := "LoserKeepsTheBoard", name := "text", desc := "()I" } : Jvm.MethodName) prog_1_method_36_code (1 : Nat) (Option.some Jvm.ClassFile.FieldType.int)) ∈ lw_all := lw_g (lw_at lw_m1 226 rfl) rfl
theorem q331 : (Jvm.Cond.methodLink "LoserKeepsTheBoard" (260 : Nat) ({ cls := "LoserKeepsTheBoard", name := "newText", desc := "()I" } : Jvm.MethodName)) ∈ lw_all := lw_g (lw_at lw_m1 227 rfl) rfl
theorem q332 : (Jvm.Cond.privateMethod ({ cls := "LoserKeepsTheBoard", name := "newText", desc := "()I" } : Jvm.MethodName)) ∈ lw_tbl := lw_at lw_m1 228 rfl
theorem q333 : (Jvm.Cond.instanceMethod ({ cls := "LoserKeepsTheBoard", name := "newText", desc := "()I" } : Jvm.MethodName)) ∈ lw_all := lw_g (lw_at lw_m1 229 rfl) rfl
theorem q334 : (Jvm.Cond.codeWith ({ cls := "LoserKeepsTheBoard", name := "newText", desc := "()I" } : Jvm.MethodName) prog_1_method_33_code (3 : Nat) (Option.some Jvm.ClassFile.FieldType.int) [((28 : Nat), (83 : Nat), (86 : Nat), (251 : Nat))]) ∈ lw_all := lw_g (lw_at lw_m1 230 rfl) rfl
theorem q335 : (Jvm.Cond.classLink "LoserKeepsTheBoard" (251 : Nat) "LoserKeepsTheBoard$Faulty") ∈ lw_all := lw_g (lw_at lw_m1 231 rfl) rfl
theorem q336 : (Jvm.Cond.classLink "LoserKeepsTheBoard" (249 : Nat) "LoserKeepsTheBoard$Node") ∈ lw_all := lw_g (lw_at lw_m1 232 rfl) rfl
theorem q338 : (Jvm.Cond.methodLink "LoserKeepsTheBoard" (190 : Nat) ({ cls := "LoserKeepsTheBoard", name := "next", desc := "()V" } : Jvm.MethodName)) ∈ lw_all := lw_g (lw_at lw_m1 234 rfl) rfl
theorem q339 : (Jvm.Cond.privateMethod ({ cls := "LoserKeepsTheBoard", name := "next", desc := "()V" } : Jvm.MethodName)) ∈ lw_tbl := lw_at lw_m1 235 rfl
theorem q340 : (Jvm.Cond.instanceMethod ({ cls := "LoserKeepsTheBoard", name := "next", desc := "()V" } : Jvm.MethodName)) ∈ lw_all := lw_g (lw_at lw_m1 236 rfl) rfl
theorem q341 : (Jvm.Cond.code ({ cls := "LoserKeepsTheBoard", name := "next", desc := "()V" } : Jvm.MethodName) prog_1_method_19_code (2 : Nat) (Option.none : Option Jvm.ClassFile.FieldType)) ∈ lw_all := lw_g (lw_at lw_m1 237 rfl) rfl
theorem q342 : (Jvm.Cond.methodLink "LoserKeepsTheBoard" (137 : Nat) ({ cls := "LoserKeepsTheBoard", name := "byteAt", desc := "(I)I" } : Jvm.MethodName)) ∈ lw_all := lw_g (lw_at lw_m1 238 rfl) rfl
theorem q343 : (Jvm.Cond.privateMethod ({ cls := "LoserKeepsTheBoard", name := "byteAt", desc := "(I)I" } : Jvm.MethodName)) ∈ lw_tbl := lw_at lw_m1 239 rfl
theorem q344 : (Jvm.Cond.instanceMethod ({ cls := "LoserKeepsTheBoard", name := "byteAt", desc := "(I)I" } : Jvm.MethodName)) ∈ lw_all := lw_g (lw_at lw_m2 0 rfl) rfl
theorem q345 : (Jvm.Cond.code ({ cls := "LoserKeepsTheBoard", name := "byteAt", desc := "(I)I" } : Jvm.MethodName) prog_1_method_16_code (2 : Nat) (Option.some Jvm.ClassFile.FieldType.int)) ∈ lw_all := lw_g (lw_at lw_m2 1 rfl) rfl
theorem q346 : (Jvm.Cond.methodLink "LoserKeepsTheBoard" (146 : Nat) ({ cls := "LoserKeepsTheBoard", name := "isLetter", desc := "(I)Z" } : Jvm.MethodName)) ∈ lw_all := lw_g (lw_at lw_m2 2 rfl) rfl
theorem q347 : (Jvm.Cond.static ({ cls := "LoserKeepsTheBoard", name := "isLetter", desc := "(I)Z" } : Jvm.MethodName)) ∈ lw_all := lw_g (lw_at lw_m2 3 rfl) rfl
theorem q348 : (Jvm.Cond.code ({ cls := "LoserKeepsTheBoard", name := "isLetter", desc := "(I)Z" } : Jvm.MethodName) prog_1_method_17_code (1 : Nat) (Option.some Jvm.ClassFile.FieldType.boolean)) ∈ lw_all := lw_g (lw_at lw_m2 4 rfl) rfl
theorem q349 : (Jvm.Cond.constantLong "LoserKeepsTheBoard" (126 : Nat) (97 : Int64)) ∈ lw_all := lw_g (lw_at lw_m2 5 rfl) rfl
theorem q350 : (Jvm.Cond.constantLong "LoserKeepsTheBoard" (128 : Nat) (122 : Int64)) ∈ lw_all := lw_g (lw_at lw_m2 6 rfl) rfl
theorem q351 : (Jvm.Cond.methodLink "LoserKeepsTheBoard" (149 : Nat) ({ cls := "LoserKeepsTheBoard", name := "word", desc := "()V" } : Jvm.MethodName)) ∈ lw_all := lw_g (lw_at lw_m2 7 rfl) rfl
theorem q352 : (Jvm.Cond.privateMethod ({ cls := "LoserKeepsTheBoard", name := "word", desc := "()V" } : Jvm.MethodName)) ∈ lw_tbl := lw_at lw_m2 8 rfl
theorem q353 : (Jvm.Cond.instanceMethod ({ cls := "LoserKeepsTheBoard", name := "word", desc := "()V" } : Jvm.MethodName)) ∈ lw_all := lw_g (lw_at lw_m2 9 rfl) rfl
theorem q354 : (Jvm.Cond.code ({ cls := "LoserKeepsTheBoard", name := "word", desc := "()V" } : Jvm.MethodName) prog_1_method_21_code (2 : Nat) (Option.none : Option Jvm.ClassFile.FieldType)) ∈ lw_all := lw_g (lw_at lw_m2 10 rfl) rfl
theorem q355 : (Jvm.Cond.methodLink "LoserKeepsTheBoard" (183 : Nat) ({ cls := "LoserKeepsTheBoard", name := "placeIn", desc := "([Ljava/lang/String;)I" } : Jvm.MethodName)) ∈ lw_all := lw_g (lw_at lw_m2 11 rfl) rfl
theorem q356 : (Jvm.Cond.privateMethod ({ cls := "LoserKeepsTheBoard", name := "placeIn", desc := "([Ljava/lang/String;)I" } : Jvm.MethodName)) ∈ lw_tbl := lw_at lw_m2 12 rfl
theorem q357 : (Jvm.Cond.instanceMethod ({ cls := "LoserKeepsTheBoard", name := "placeIn", desc := "([Ljava/lang/String;)I" } : Jvm.MethodName)) ∈ lw_all := lw_g (lw_at lw_m2 13 rfl) rfl
theorem q358 : (Jvm.Cond.code ({ cls := "LoserKeepsTheBoard", name := "placeIn", desc := "([Ljava/lang/String;)I" } : Jvm.MethodName) prog_1_method_20_code (5 : Nat) (Option.some Jvm.ClassFile.FieldType.int)) ∈ lw_all := lw_g (lw_at lw_m2 14 rfl) rfl
theorem q359 : (Jvm.Cond.methodLink "LoserKeepsTheBoard" (173 : Nat) ({ cls := "java/lang/String", name := "length", desc := "()I" } : Jvm.MethodName)) ∈ lw_all := lw_g (lw_at lw_m2 15 rfl) rfl
theorem q369 : (Jvm.Cond.methodLink "LoserKeepsTheBoard" (175 : Nat) ({ cls := "java/lang/String", name := "charAt", desc := "(I)C" } : Jvm.MethodName)) ∈ lw_all := lw_g (lw_at lw_m2 25 rfl) rfl
theorem q407 : (Jvm.Cond.methodLink "LoserKeepsTheBoard" (153 : Nat) ({ cls := "LoserKeepsTheBoard", name := "isDigit", desc := "(I)Z" } : Jvm.MethodName)) ∈ lw_all := lw_g (lw_at lw_m2 63 rfl) rfl
theorem q408 : (Jvm.Cond.static ({ cls := "LoserKeepsTheBoard", name := "isDigit", desc := "(I)Z" } : Jvm.MethodName)) ∈ lw_all := lw_g (lw_at lw_m2 64 rfl) rfl
theorem q409 : (Jvm.Cond.code ({ cls := "LoserKeepsTheBoard", name := "isDigit", desc := "(I)Z" } : Jvm.MethodName) prog_1_method_18_code (1 : Nat) (Option.some Jvm.ClassFile.FieldType.boolean)) ∈ lw_all := lw_g (lw_at lw_m2 65 rfl) rfl
theorem q410 : (Jvm.Cond.constantLong "LoserKeepsTheBoard" (130 : Nat) (48 : Int64)) ∈ lw_all := lw_g (lw_at lw_m2 66 rfl) rfl
theorem q411 : (Jvm.Cond.constantLong "LoserKeepsTheBoard" (132 : Nat) (57 : Int64)) ∈ lw_all := lw_g (lw_at lw_m2 67 rfl) rfl
theorem q412 : (Jvm.Cond.methodLink "LoserKeepsTheBoard" (156 : Nat) ({ cls := "LoserKeepsTheBoard", name := "digits", desc := "()V" } : Jvm.MethodName)) ∈ lw_all := lw_g (lw_at lw_m2 68 rfl) rfl
theorem q413 : (Jvm.Cond.privateMethod ({ cls := "LoserKeepsTheBoard", name := "digits", desc := "()V" } : Jvm.MethodName)) ∈ lw_tbl := lw_at lw_m2 69 rfl
theorem q414 : (Jvm.Cond.instanceMethod ({ cls := "LoserKeepsTheBoard", name := "digits", desc := "()V" } : Jvm.MethodName)) ∈ lw_all := lw_g (lw_at lw_m2 70 rfl) rfl
theorem q415 : (Jvm.Cond.code ({ cls := "LoserKeepsTheBoard", name := "digits", desc := "()V" } : Jvm.MethodName) prog_1_method_22_code (1 : Nat) (Option.none : Option Jvm.ClassFile.FieldType)) ∈ lw_all := lw_g (lw_at lw_m2 71 rfl) rfl
theorem q416 : (Jvm.Cond.stringRef "LoserKeepsTheBoard" (162 : Nat) "();+-*<=") ∈ lw_tbl := lw_at lw_m2 72 rfl
theorem q417 : (Jvm.Cond.methodLink "LoserKeepsTheBoard" (164 : Nat) ({ cls := "java/lang/String", name := "indexOf", desc := "(I)I" } : Jvm.MethodName)) ∈ lw_all := lw_g (lw_at lw_m2 73 rfl) rfl
theorem q476 : (Jvm.Cond.methodLink "LoserKeepsTheBoard" (204 : Nat) ({ cls := "LoserKeepsTheBoard", name := "isKey", desc := "(I)Z" } : Jvm.MethodName)) ∈ lw_all := lw_g (lw_at lw_m2 132 rfl) rfl
theorem q477 : (Jvm.Cond.privateMethod ({ cls := "LoserKeepsTheBoard", name := "isKey", desc := "(I)Z" } : Jvm.MethodName)) ∈ lw_tbl := lw_at lw_m2 133 rfl
theorem q478 : (Jvm.Cond.instanceMethod ({ cls := "LoserKeepsTheBoard", name := "isKey", desc := "(I)Z" } : Jvm.MethodName)) ∈ lw_all := lw_g (lw_at lw_m2 134 rfl) rfl
theorem q479 : (Jvm.Cond.code ({ cls := "LoserKeepsTheBoard", name := "isKey", desc := "(I)Z" } : Jvm.MethodName) prog_1_method_24_code (2 : Nat) (Option.some Jvm.ClassFile.FieldType.boolean)) ∈ lw_all := lw_g (lw_at lw_m2 135 rfl) rfl
theorem q480 : (Jvm.Cond.methodLink "LoserKeepsTheBoard" (196 : Nat) ({ cls := "LoserKeepsTheBoard", name := "need", desc := "(Z)V" } : Jvm.MethodName)) ∈ lw_all := lw_g (lw_at lw_m2 136 rfl) rfl
theorem q481 : (Jvm.Cond.privateMethod ({ cls := "LoserKeepsTheBoard", name := "need", desc := "(Z)V" } : Jvm.MethodName)) ∈ lw_tbl := lw_at lw_m2 137 rfl
theorem q482 : (Jvm.Cond.instanceMethod ({ cls := "LoserKeepsTheBoard", name := "need", desc := "(Z)V" } : Jvm.MethodName)) ∈ lw_all := lw_g (lw_at lw_m2 138 rfl) rfl
theorem q483 : (Jvm.Cond.code ({ cls := "LoserKeepsTheBoard", name := "need", desc := "(Z)V" } : Jvm.MethodName) prog_1_method_25_code (2 : Nat) (Option.none : Option Jvm.ClassFile.FieldType)) ∈ lw_all := lw_g (lw_at lw_m2 139 rfl) rfl
theorem q484 : (Jvm.Cond.methodLink "LoserKeepsTheBoard" (243 : Nat) ({ cls := "LoserKeepsTheBoard", name := "either", desc := "()LLoserKeepsTheBoard$Node;" } : Jvm.MethodName)) ∈ lw_all := lw_g (lw_at lw_m2 140 rfl) rfl
theorem q485 : (Jvm.Cond.privateMethod ({ cls := "LoserKeepsTheBoard", name := "either", desc := "()LLoserKeepsTheBoard$Node;" } : Jvm.MethodName)) ∈ lw_tbl := lw_at lw_m2 141 rfl
theorem q486 : (Jvm.Cond.instanceMethod ({ cls := "LoserKeepsTheBoard", name := "either", desc := "()LLoserKeepsTheBoard$Node;" } : Jvm.MethodName)) ∈ lw_all := lw_g (lw_at lw_m2 142 rfl) rfl
theorem q487 : (Jvm.Cond.code ({ cls := "LoserKeepsTheBoard", name := "either", desc := "()LLoserKeepsTheBoard$Node;" } : Jvm.MethodName) prog_1_method_27_code (2 : Nat) (Option.some (Jvm.ClassFile.FieldType.object "LoserKeepsTheBoard$Node"))) ∈ lw_all := lw_g (lw_at lw_m2 143 rfl) rfl
theorem q488 : (Jvm.Cond.methodLink "LoserKeepsTheBoard" (200 : Nat) ({ cls := "LoserKeepsTheBoard", name := "both", desc := "()LLoserKeepsTheBoard$Node;" } : Jvm.MethodName)) ∈ lw_all := lw_g (lw_at lw_m2 144 rfl) rfl
theorem q489 : (Jvm.Cond.privateMethod ({ cls := "LoserKeepsTheBoard", name := "both", desc := "()LLoserKeepsTheBoard$Node;" } : Jvm.MethodName)) ∈ lw_tbl := lw_at lw_m2 145 rfl
theorem q490 : (Jvm.Cond.instanceMethod ({ cls := "LoserKeepsTheBoard", name := "both", desc := "()LLoserKeepsTheBoard$Node;" } : Jvm.MethodName)) ∈ lw_all := lw_g (lw_at lw_m2 146 rfl) rfl
theorem q491 : (Jvm.Cond.code ({ cls := "LoserKeepsTheBoard", name := "both", desc := "()LLoserKeepsTheBoard$Node;" } : Jvm.MethodName) prog_1_method_28_code (2 : Nat) (Option.some (Jvm.ClassFile.FieldType.object "LoserKeepsTheBoard$Node"))) ∈ lw_all := lw_g (lw_at lw_m2 147 rfl) rfl
theorem q492 : (Jvm.Cond.methodLink "LoserKeepsTheBoard" (212 : Nat) ({ cls := "LoserKeepsTheBoard", name := "not", desc := "()LLoserKeepsTheBoard$Node;" } : Jvm.MethodName)) ∈ lw_all := lw_g (lw_at lw_m2 148 rfl) rfl
theorem q493 : (Jvm.Cond.privateMethod ({ cls := "LoserKeepsTheBoard", name := "not", desc := "()LLoserKeepsTheBoard$Node;" } : Jvm.MethodName)) ∈ lw_tbl := lw_at lw_m2 149 rfl
theorem q494 : (Jvm.Cond.instanceMethod ({ cls := "LoserKeepsTheBoard", name := "not", desc := "()LLoserKeepsTheBoard$Node;" } : Jvm.MethodName)) ∈ lw_all := lw_g (lw_at lw_m2 150 rfl) rfl
theorem q495 : (Jvm.Cond.code ({ cls := "LoserKeepsTheBoard", name := "not", desc := "()LLoserKeepsTheBoard$Node;" } : Jvm.MethodName) prog_1_method_29_code (3 : Nat) (Option.some (Jvm.ClassFile.FieldType.object "LoserKeepsTheBoard$Node"))) ∈ lw_all := lw_g (lw_at lw_m2 151 rfl) rfl
theorem q496 : (Jvm.Cond.methodLink "LoserKeepsTheBoard" (215 : Nat) ({ cls := "LoserKeepsTheBoard", name := "openOne", desc := "()V" } : Jvm.MethodName)) ∈ lw_all := lw_g (lw_at lw_m2 152 rfl) rfl
theorem q497 : (Jvm.Cond.privateMethod ({ cls := "LoserKeepsTheBoard", name := "openOne", desc := "()V" } : Jvm.MethodName)) ∈ lw_tbl := lw_at lw_m2 153 rfl
theorem q498 : (Jvm.Cond.instanceMethod ({ cls := "LoserKeepsTheBoard", name := "openOne", desc := "()V" } : Jvm.MethodName)) ∈ lw_all := lw_g (lw_at lw_m2 154 rfl) rfl
theorem q499 : (Jvm.Cond.code ({ cls := "LoserKeepsTheBoard", name := "openOne", desc := "()V" } : Jvm.MethodName) prog_1_method_26_code (1 : Nat) (Option.none : Option Jvm.ClassFile.FieldType)) ∈ lw_all := lw_g (lw_at lw_m2 155 rfl) rfl
theorem q500 : (Jvm.Cond.classLink "LoserKeepsTheBoard" (218 : Nat) "LoserKeepsTheBoard$Turned") ∈ lw_all := lw_g (lw_at lw_m2 156 rfl) rfl
theorem q502 : (Jvm.Cond.methodLink "LoserKeepsTheBoard" (220 : Nat) ({ cls := "LoserKeepsTheBoard$Turned", name := "<init>", desc := "(LLoserKeepsTheBoard$Node;Z)V" } : Jvm.MethodName)) ∈ lw_all := lw_g (lw_at lw_m2 158 rfl) rfl
theorem q517 : (Jvm.Cond.methodLink "LoserKeepsTheBoard" (223 : Nat) ({ cls := "LoserKeepsTheBoard", name := "plus", desc := "()LLoserKeepsTheBoard$Node;" } : Jvm.MethodName)) ∈ lw_all := lw_g (lw_at lw_m2 173 rfl) rfl
theorem q518 : (Jvm.Cond.privateMethod ({ cls := "LoserKeepsTheBoard", name := "plus", desc := "()LLoserKeepsTheBoard$Node;" } : Jvm.MethodName)) ∈ lw_tbl := lw_at lw_m2 174 rfl
theorem q519 : (Jvm.Cond.instanceMethod ({ cls := "LoserKeepsTheBoard", name := "plus", desc := "()LLoserKeepsTheBoard$Node;" } : Jvm.MethodName)) ∈ lw_all := lw_g (lw_at lw_m2 175 rfl) rfl
theorem q520 : (Jvm.Cond.code ({ cls := "LoserKeepsTheBoard", name := "plus", desc := "()LLoserKeepsTheBoard$Node;" } : Jvm.MethodName) prog_1_method_30_code (3 : Nat) (Option.some (Jvm.ClassFile.FieldType.object "LoserKeepsTheBoard$Node"))) ∈ lw_all := lw_g (lw_at lw_m2 176 rfl) rfl
theorem q521 : (Jvm.Cond.methodLink "LoserKeepsTheBoard" (229 : Nat) ({ cls := "LoserKeepsTheBoard", name := "times", desc := "()LLoserKeepsTheBoard$Node;" } : Jvm.MethodName)) ∈ lw_all := lw_g (lw_at lw_m2 177 rfl) rfl
theorem q522 : (Jvm.Cond.privateMethod ({ cls := "LoserKeepsTheBoard", name := "times", desc := "()LLoserKeepsTheBoard$Node;" } : Jvm.MethodName)) ∈ lw_tbl := lw_at lw_m2 178 rfl
theorem q523 : (Jvm.Cond.instanceMethod ({ cls := "LoserKeepsTheBoard", name := "times", desc := "()LLoserKeepsTheBoard$Node;" } : Jvm.MethodName)) ∈ lw_all := lw_g (lw_at lw_m2 179 rfl) rfl
theorem q524 : (Jvm.Cond.code ({ cls := "LoserKeepsTheBoard", name := "times", desc := "()LLoserKeepsTheBoard$Node;" } : Jvm.MethodName) prog_1_method_31_code (2 : Nat) (Option.some (Jvm.ClassFile.FieldType.object "LoserKeepsTheBoard$Node"))) ∈ lw_all := lw_g (lw_at lw_m2 180 rfl) rfl
theorem q525 : (Jvm.Cond.methodLink "LoserKeepsTheBoard" (232 : Nat) ({ cls := "LoserKeepsTheBoard", name := "one", desc := "()LLoserKeepsTheBoard$Node;" } : Jvm.MethodName)) ∈ lw_all := lw_g (lw_at lw_m2 181 rfl) rfl
theorem q526 : (Jvm.Cond.privateMethod ({ cls := "LoserKeepsTheBoard", name := "one", desc := "()LLoserKeepsTheBoard$Node;" } : Jvm.MethodName)) ∈ lw_tbl := lw_at lw_m2 182 rfl
theorem q527 : (Jvm.Cond.instanceMethod ({ cls := "LoserKeepsTheBoard", name := "one", desc := "()LLoserKeepsTheBoard$Node;" } : Jvm.MethodName)) ∈ lw_all := lw_g (lw_at lw_m2 183 rfl) rfl
theorem q528 : (Jvm.Cond.code ({ cls := "LoserKeepsTheBoard", name := "one", desc := "()LLoserKeepsTheBoard$Node;" } : Jvm.MethodName) prog_1_method_32_code (3 : Nat) (Option.some (Jvm.ClassFile.FieldType.object "LoserKeepsTheBoard$Node"))) ∈ lw_all := lw_g (lw_at lw_m2 184 rfl) rfl
theorem q529 : (Jvm.Cond.classLink "LoserKeepsTheBoard" (235 : Nat) "LoserKeepsTheBoard$Number") ∈ lw_all := lw_g (lw_at lw_m2 185 rfl) rfl
theorem q531 : (Jvm.Cond.methodLink "LoserKeepsTheBoard" (237 : Nat) ({ cls := "LoserKeepsTheBoard$Number", name := "<init>", desc := "(I)V" } : Jvm.MethodName)) ∈ lw_all := lw_g (lw_at lw_m2 187 rfl) rfl
theorem q539 : (Jvm.Cond.classLink "LoserKeepsTheBoard" (238 : Nat) "LoserKeepsTheBoard$Name") ∈ lw_all := lw_g (lw_at lw_m2 195 rfl) rfl
theorem q541 : (Jvm.Cond.methodLink "LoserKeepsTheBoard" (240 : Nat) ({ cls := "LoserKeepsTheBoard$Name", name := "<init>", desc := "(LLoserKeepsTheBoard;I)V" } : Jvm.MethodName)) ∈ lw_all := lw_g (lw_at lw_m2 197 rfl) rfl
theorem q552 : (Jvm.Cond.methodLink "LoserKeepsTheBoard" (226 : Nat) ({ cls := "LoserKeepsTheBoard", name := "isSign", desc := "(I)Z" } : Jvm.MethodName)) ∈ lw_all := lw_g (lw_at lw_m2 208 rfl) rfl
theorem q553 : (Jvm.Cond.privateMethod ({ cls := "LoserKeepsTheBoard", name := "isSign", desc := "(I)Z" } : Jvm.MethodName)) ∈ lw_tbl := lw_at lw_m2 209 rfl
theorem q554 : (Jvm.Cond.instanceMethod ({ cls := "LoserKeepsTheBoard", name := "isSign", desc := "(I)Z" } : Jvm.MethodName)) ∈ lw_all := lw_g (lw_at lw_m2 210 rfl) rfl
theorem q555 : (Jvm.Cond.code ({ cls := "LoserKeepsTheBoard", name := "isSign", desc := "(I)Z" } : Jvm.MethodName) prog_1_method_23_code (2 : Nat) (Option.some Jvm.ClassFile.FieldType.boolean)) ∈ lw_all := lw_g (lw_at lw_m2 211 rfl) rfl
theorem q556 : (Jvm.Cond.classLink "LoserKeepsTheBoard" (207 : Nat) "LoserKeepsTheBoard$Two") ∈ lw_all := lw_g (lw_at lw_m2 212 rfl) rfl
theorem q558 : (Jvm.Cond.methodLink "LoserKeepsTheBoard" (209 : Nat) ({ cls := "LoserKeepsTheBoard$Two", name := "<init>", desc := "(ILLoserKeepsTheBoard$Node;LLoserKeepsTheBoard$Node;)V" } : Jvm.MethodName)) ∈ lw_all := lw_g (lw_at lw_m2 214 rfl) rfl
theorem q574 : (Jvm.Cond.instanceMethod ({ cls := "LoserKeepsTheBoard", name := "<init>", desc := "()V" } : Jvm.MethodName)) ∈ lw_all := lw_g (lw_at lw_m2 230 rfl) rfl
theorem q575 : (Jvm.Cond.code ({ cls := "LoserKeepsTheBoard", name := "<init>", desc := "()V" } : Jvm.MethodName) prog_1_method_38_code (1 : Nat) (Option.none : Option Jvm.ClassFile.FieldType)) ∈ lw_all := lw_g (lw_at lw_m2 231 rfl) rfl
theorem q576 : (Jvm.Cond.methodLink "LoserKeepsTheBoard" (265 : Nat) ({ cls := "java/lang/Object", name := "<init>", desc := "()V" } : Jvm.MethodName)) ∈ lw_all := lw_g (lw_at lw_m2 232 rfl) rfl
theorem q634 : (Jvm.Cond.methodLink "LoserKeepsTheBoard" (269 : Nat) ({ cls := "LoserKeepsTheBoard$Faulty", name := "<init>", desc := "()V" } : Jvm.MethodName)) ∈ lw_all := lw_g (lw_at lw_m3 50 rfl) rfl
theorem q659 : (Jvm.Cond.classLink "LoserKeepsTheBoard" (270 : Nat) "[LLoserKeepsTheBoard$Node;") ∈ lw_all := lw_g (lw_at lw_m3 75 rfl) rfl
theorem q661 : (Jvm.Cond.classLink "LoserKeepsTheBoard" (165 : Nat) "java/lang/String") ∈ lw_all := lw_g (lw_at lw_m3 77 rfl) rfl
theorem q663 : (Jvm.Cond.stringRef "LoserKeepsTheBoard" (272 : Nat) "plays") ∈ lw_tbl := lw_at lw_m3 79 rfl
theorem q664 : (Jvm.Cond.stringRef "LoserKeepsTheBoard" (274 : Nat) "throws") ∈ lw_tbl := lw_at lw_m3 80 rfl
theorem q665 : (Jvm.Cond.stringRef "LoserKeepsTheBoard" (276 : Nat) "tires") ∈ lw_tbl := lw_at lw_m3 81 rfl
theorem q666 : (Jvm.Cond.stringRef "LoserKeepsTheBoard" (278 : Nat) "or") ∈ lw_tbl := lw_at lw_m3 82 rfl
theorem q667 : (Jvm.Cond.stringRef "LoserKeepsTheBoard" (280 : Nat) "and") ∈ lw_tbl := lw_at lw_m3 83 rfl
theorem q668 : (Jvm.Cond.stringRef "LoserKeepsTheBoard" (282 : Nat) "not") ∈ lw_tbl := lw_at lw_m3 84 rfl
theorem q669 : (Jvm.Cond.stringRef "LoserKeepsTheBoard" (283 : Nat) "strong") ∈ lw_tbl := lw_at lw_m3 85 rfl
theorem q670 : (Jvm.Cond.stringRef "LoserKeepsTheBoard" (284 : Nat) "has") ∈ lw_tbl := lw_at lw_m3 86 rfl
theorem q671 : (Jvm.Cond.stringRef "LoserKeepsTheBoard" (285 : Nat) "number") ∈ lw_tbl := lw_at lw_m3 87 rfl
theorem q672 : (Jvm.Cond.stringRef "LoserKeepsTheBoard" (286 : Nat) "theirs") ∈ lw_tbl := lw_at lw_m3 88 rfl
theorem q673 : (Jvm.Cond.stringRef "LoserKeepsTheBoard" (288 : Nat) "round") ∈ lw_tbl := lw_at lw_m3 89 rfl
theorem q674 : (Jvm.Cond.stringRef "LoserKeepsTheBoard" (289 : Nat) "stake") ∈ lw_tbl := lw_at lw_m3 90 rfl
theorem q675 : (Jvm.Cond.classLink "LoserKeepsTheBoard" (291 : Nat) "[[I") ∈ lw_all := lw_g (lw_at lw_m3 91 rfl) rfl
theorem q677 : (Jvm.Cond.classLink "LoserKeepsTheBoard" (315 : Nat) "LoserKeepsTheBoard$Sheet") ∈ lw_all := lw_g (lw_at lw_m3 93 rfl) rfl
theorem q680 : (Jvm.Cond.methodLinkNest "LoserKeepsTheBoard" (317 : Nat) ({ cls := "LoserKeepsTheBoard$Sheet", name := "<init>", desc := "()V" } : Jvm.MethodName) "LoserKeepsTheBoard") ∈ lw_tbl := lw_at lw_m3 96 rfl
theorem q684 : (Jvm.Cond.fieldLinkNest "LoserKeepsTheBoard" (414 : Nat) "LoserKeepsTheBoard$Sheet" "row" "Ljava/lang/Object;" "LoserKeepsTheBoard") ∈ lw_tbl := lw_at lw_m3 100 rfl
theorem q689 : (Jvm.Cond.stringRef "LoserKeepsTheBoard" (322 : Nat) "plays strong ; throws has < 1 ; tires 1 ;") ∈ lw_tbl := lw_at lw_m3 105 rfl
theorem q690 : (Jvm.Cond.methodLink "LoserKeepsTheBoard" (324 : Nat) ({ cls := "LoserKeepsTheBoard", name := "firstText", desc := "(Ljava/lang/String;)V" } : Jvm.MethodName)) ∈ lw_all := lw_g (lw_at lw_m3 106 rfl) rfl
theorem q691 : (Jvm.Cond.privateMethod ({ cls := "LoserKeepsTheBoard", name := "firstText", desc := "(Ljava/lang/String;)V" } : Jvm.MethodName)) ∈ lw_tbl := lw_at lw_m3 107 rfl
theorem q692 : (Jvm.Cond.instanceMethod ({ cls := "LoserKeepsTheBoard", name := "firstText", desc := "(Ljava/lang/String;)V" } : Jvm.MethodName)) ∈ lw_all := lw_g (lw_at lw_m3 108 rfl) rfl
theorem q693 : (Jvm.Cond.code ({ cls := "LoserKeepsTheBoard", name := "firstText", desc := "(Ljava/lang/String;)V" } : Jvm.MethodName) prog_1_method_34_code (3 : Nat) (Option.none : Option Jvm.ClassFile.FieldType)) ∈ lw_all := lw_g (lw_at lw_m3 109 rfl) rfl
theorem q695 : (Jvm.Cond.fieldLink "LoserKeepsTheBoard" (51 : Nat) "LoserKeepsTheBoard" "folk" "[LLoserKeepsTheBoard$Player;") ∈ lw_all := lw_g (lw_at lw_m3 111 rfl) rfl
theorem q696 : (Jvm.Cond.fieldLink "LoserKeepsTheBoard" (10 : Nat) "LoserKeepsTheBoard" "many" "I") ∈ lw_all := lw_g (lw_at lw_m3 112 rfl) rfl
theorem q698 : (Jvm.Cond.fieldLink "LoserKeepsTheBoard" (76 : Nat) "LoserKeepsTheBoard" "round" "I") ∈ lw_all := lw_g (lw_at lw_m3 114 rfl) rfl
theorem q700 : (Jvm.Cond.fieldLink "LoserKeepsTheBoard" (73 : Nat) "LoserKeepsTheBoard" "hall" "I") ∈ lw_all := lw_g (lw_at lw_m3 116 rfl) rfl
theorem q701 : (Jvm.Cond.fieldLink "LoserKeepsTheBoard" (169 : Nat) "LoserKeepsTheBoard" "faulty" "LLoserKeepsTheBoard$Faulty;") ∈ lw_all := lw_g (lw_at lw_m3 117 rfl) rfl
theorem q703 : (Jvm.Cond.fieldLink "LoserKeepsTheBoard" (334 : Nat) "LoserKeepsTheBoard" "forOne" "I") ∈ lw_all := lw_g (lw_at lw_m3 119 rfl) rfl
theorem q705 : (Jvm.Cond.fieldLink "LoserKeepsTheBoard" (337 : Nat) "LoserKeepsTheBoard" "forOther" "I") ∈ lw_all := lw_g (lw_at lw_m3 121 rfl) rfl
theorem q706 : (Jvm.Cond.fieldLink "LoserKeepsTheBoard" (253 : Nat) "LoserKeepsTheBoard" "texts" "[[LLoserKeepsTheBoard$Node;") ∈ lw_all := lw_g (lw_at lw_m3 122 rfl) rfl
theorem q707 : (Jvm.Cond.fieldLink "LoserKeepsTheBoard" (257 : Nat) "LoserKeepsTheBoard" "textMany" "I") ∈ lw_all := lw_g (lw_at lw_m3 123 rfl) rfl
theorem q708 : (Jvm.Cond.fieldLink "LoserKeepsTheBoard" (179 : Nat) "LoserKeepsTheBoard" "keys" "[Ljava/lang/String;") ∈ lw_all := lw_g (lw_at lw_m3 124 rfl) rfl
theorem q709 : (Jvm.Cond.fieldLink "LoserKeepsTheBoard" (187 : Nat) "LoserKeepsTheBoard" "names" "[Ljava/lang/String;") ∈ lw_all := lw_g (lw_at lw_m3 125 rfl) rfl
theorem q710 : (Jvm.Cond.fieldLink "LoserKeepsTheBoard" (122 : Nat) "LoserKeepsTheBoard" "tape" "[B") ∈ lw_all := lw_g (lw_at lw_m3 126 rfl) rfl
theorem q711 : (Jvm.Cond.fieldLink "LoserKeepsTheBoard" (246 : Nat) "LoserKeepsTheBoard" "taped" "I") ∈ lw_all := lw_g (lw_at lw_m3 127 rfl) rfl
theorem q712 : (Jvm.Cond.fieldLink "LoserKeepsTheBoard" (119 : Nat) "LoserKeepsTheBoard" "length" "I") ∈ lw_all := lw_g (lw_at lw_m3 128 rfl) rfl
theorem q713 : (Jvm.Cond.fieldLink "LoserKeepsTheBoard" (134 : Nat) "LoserKeepsTheBoard" "at" "I") ∈ lw_all := lw_g (lw_at lw_m3 129 rfl) rfl
theorem q714 : (Jvm.Cond.fieldLink "LoserKeepsTheBoard" (140 : Nat) "LoserKeepsTheBoard" "begin" "I") ∈ lw_all := lw_g (lw_at lw_m3 130 rfl) rfl
theorem q715 : (Jvm.Cond.fieldLink "LoserKeepsTheBoard" (143 : Nat) "LoserKeepsTheBoard" "token" "I") ∈ lw_all := lw_g (lw_at lw_m3 131 rfl) rfl
theorem q716 : (Jvm.Cond.fieldLink "LoserKeepsTheBoard" (159 : Nat) "LoserKeepsTheBoard" "value" "I") ∈ lw_all := lw_g (lw_at lw_m3 132 rfl) rfl
theorem q717 : (Jvm.Cond.fieldLink "LoserKeepsTheBoard" (193 : Nat) "LoserKeepsTheBoard" "opens" "I") ∈ lw_all := lw_g (lw_at lw_m3 133 rfl) rfl
theorem q718 : (Jvm.Cond.fieldLink "LoserKeepsTheBoard" (331 : Nat) "LoserKeepsTheBoard" "rule" "I") ∈ lw_all := lw_g (lw_at lw_m3 134 rfl) rfl
theorem q719 : (Jvm.Cond.fieldLink "LoserKeepsTheBoard" (369 : Nat) "LoserKeepsTheBoard" "draws" "I") ∈ lw_all := lw_g (lw_at lw_m3 135 rfl) rfl
theorem q720 : (Jvm.Cond.fieldLink "LoserKeepsTheBoard" (293 : Nat) "LoserKeepsTheBoard" "keptHas" "[[I") ∈ lw_all := lw_g (lw_at lw_m3 136 rfl) rfl
theorem q721 : (Jvm.Cond.fieldLink "LoserKeepsTheBoard" (296 : Nat) "LoserKeepsTheBoard" "keptStrong" "[[I") ∈ lw_all := lw_g (lw_at lw_m3 137 rfl) rfl
theorem q722 : (Jvm.Cond.fieldLink "LoserKeepsTheBoard" (299 : Nat) "LoserKeepsTheBoard" "keptWon" "[[I") ∈ lw_all := lw_g (lw_at lw_m3 138 rfl) rfl
theorem q723 : (Jvm.Cond.fieldLink "LoserKeepsTheBoard" (302 : Nat) "LoserKeepsTheBoard" "keptHall" "[I") ∈ lw_all := lw_g (lw_at lw_m3 139 rfl) rfl
theorem q724 : (Jvm.Cond.fieldLink "LoserKeepsTheBoard" (306 : Nat) "LoserKeepsTheBoard" "keptRound" "[I") ∈ lw_all := lw_g (lw_at lw_m3 140 rfl) rfl
theorem q725 : (Jvm.Cond.fieldLink "LoserKeepsTheBoard" (444 : Nat) "LoserKeepsTheBoard" "bestMany" "I") ∈ lw_all := lw_g (lw_at lw_m3 141 rfl) rfl
theorem q726 : (Jvm.Cond.fieldLink "LoserKeepsTheBoard" (447 : Nat) "LoserKeepsTheBoard" "bestDigits" "I") ∈ lw_all := lw_g (lw_at lw_m3 142 rfl) rfl
theorem q727 : (Jvm.Cond.fieldLink "LoserKeepsTheBoard" (454 : Nat) "LoserKeepsTheBoard" "allSet" "I") ∈ lw_all := lw_g (lw_at lw_m3 143 rfl) rfl
theorem q728 : (Jvm.Cond.fieldLink "LoserKeepsTheBoard" (509 : Nat) "LoserKeepsTheBoard" "hasImage" "Z") ∈ lw_all := lw_g (lw_at lw_m3 144 rfl) rfl
theorem q729 : (Jvm.Cond.fieldLink "LoserKeepsTheBoard" (309 : Nat) "LoserKeepsTheBoard" "imageFolk" "[[I") ∈ lw_all := lw_g (lw_at lw_m3 145 rfl) rfl
theorem q730 : (Jvm.Cond.fieldLink "LoserKeepsTheBoard" (312 : Nat) "LoserKeepsTheBoard" "imageNumbers" "[I") ∈ lw_all := lw_g (lw_at lw_m3 146 rfl) rfl
theorem q731 : (Jvm.Cond.fieldLink "LoserKeepsTheBoard" (318 : Nat) "LoserKeepsTheBoard" "sheets" "[LLoserKeepsTheBoard$Sheet;") ∈ lw_all := lw_g (lw_at lw_m3 147 rfl) rfl
theorem q732 : (Jvm.Cond.laysFinal "LoserKeepsTheBoard" "LoserKeepsTheBoard" "folk" "[LLoserKeepsTheBoard$Player;") ∈ lw_all := lw_g (lw_at lw_m3 148 rfl) rfl
theorem q733 : (Jvm.Cond.soleField "LoserKeepsTheBoard" "folk") ∈ lw_all := lw_g (lw_at lw_m3 149 rfl) rfl
theorem q734 : (Jvm.Cond.lays "LoserKeepsTheBoard" "LoserKeepsTheBoard" "many" "I") ∈ lw_all := lw_g (lw_at lw_m3 150 rfl) rfl
theorem q735 : (Jvm.Cond.soleField "LoserKeepsTheBoard" "many") ∈ lw_all := lw_g (lw_at lw_m3 151 rfl) rfl
theorem q736 : (Jvm.Cond.lays "LoserKeepsTheBoard" "LoserKeepsTheBoard" "round" "I") ∈ lw_all := lw_g (lw_at lw_m3 152 rfl) rfl
theorem q737 : (Jvm.Cond.soleField "LoserKeepsTheBoard" "round") ∈ lw_all := lw_g (lw_at lw_m3 153 rfl) rfl
theorem q738 : (Jvm.Cond.lays "LoserKeepsTheBoard" "LoserKeepsTheBoard" "hall" "I") ∈ lw_all := lw_g (lw_at lw_m3 154 rfl) rfl
theorem q739 : (Jvm.Cond.soleField "LoserKeepsTheBoard" "hall") ∈ lw_all := lw_g (lw_at lw_m3 155 rfl) rfl
theorem q740 : (Jvm.Cond.laysFinal "LoserKeepsTheBoard" "LoserKeepsTheBoard" "faulty" "LLoserKeepsTheBoard$Faulty;") ∈ lw_all := lw_g (lw_at lw_m3 156 rfl) rfl
theorem q741 : (Jvm.Cond.soleField "LoserKeepsTheBoard" "faulty") ∈ lw_all := lw_g (lw_at lw_m3 157 rfl) rfl
theorem q742 : (Jvm.Cond.lays "LoserKeepsTheBoard" "LoserKeepsTheBoard" "forOne" "I") ∈ lw_all := lw_g (lw_at lw_m3 158 rfl) rfl
theorem q743 : (Jvm.Cond.soleField "LoserKeepsTheBoard" "forOne") ∈ lw_all := lw_g (lw_at lw_m3 159 rfl) rfl
theorem q744 : (Jvm.Cond.lays "LoserKeepsTheBoard" "LoserKeepsTheBoard" "forOther" "I") ∈ lw_all := lw_g (lw_at lw_m3 160 rfl) rfl
theorem q745 : (Jvm.Cond.soleField "LoserKeepsTheBoard" "forOther") ∈ lw_all := lw_g (lw_at lw_m3 161 rfl) rfl
theorem q746 : (Jvm.Cond.laysFinal "LoserKeepsTheBoard" "LoserKeepsTheBoard" "texts" "[[LLoserKeepsTheBoard$Node;") ∈ lw_all := lw_g (lw_at lw_m3 162 rfl) rfl
theorem q747 : (Jvm.Cond.soleField "LoserKeepsTheBoard" "texts") ∈ lw_all := lw_g (lw_at lw_m3 163 rfl) rfl
theorem q748 : (Jvm.Cond.lays "LoserKeepsTheBoard" "LoserKeepsTheBoard" "textMany" "I") ∈ lw_all := lw_g (lw_at lw_m3 164 rfl) rfl
theorem q749 : (Jvm.Cond.soleField "LoserKeepsTheBoard" "textMany") ∈ lw_all := lw_g (lw_at lw_m3 165 rfl) rfl
theorem q750 : (Jvm.Cond.laysFinal "LoserKeepsTheBoard" "LoserKeepsTheBoard" "keys" "[Ljava/lang/String;") ∈ lw_all := lw_g (lw_at lw_m3 166 rfl) rfl
theorem q751 : (Jvm.Cond.soleField "LoserKeepsTheBoard" "keys") ∈ lw_all := lw_g (lw_at lw_m3 167 rfl) rfl
theorem q752 : (Jvm.Cond.laysFinal "LoserKeepsTheBoard" "LoserKeepsTheBoard" "names" "[Ljava/lang/String;") ∈ lw_all := lw_g (lw_at lw_m3 168 rfl) rfl
theorem q753 : (Jvm.Cond.soleField "LoserKeepsTheBoard" "names") ∈ lw_all := lw_g (lw_at lw_m3 169 rfl) rfl
theorem q754 : (Jvm.Cond.laysFinal "LoserKeepsTheBoard" "LoserKeepsTheBoard" "tape" "[B") ∈ lw_all := lw_g (lw_at lw_m3 170 rfl) rfl
theorem q755 : (Jvm.Cond.soleField "LoserKeepsTheBoard" "tape") ∈ lw_all := lw_g (lw_at lw_m3 171 rfl) rfl
theorem q756 : (Jvm.Cond.lays "LoserKeepsTheBoard" "LoserKeepsTheBoard" "taped" "I") ∈ lw_all := lw_g (lw_at lw_m3 172 rfl) rfl
theorem q757 : (Jvm.Cond.soleField "LoserKeepsTheBoard" "taped") ∈ lw_all := lw_g (lw_at lw_m3 173 rfl) rfl
theorem q758 : (Jvm.Cond.lays "LoserKeepsTheBoard" "LoserKeepsTheBoard" "length" "I") ∈ lw_all := lw_g (lw_at lw_m3 174 rfl) rfl
theorem q759 : (Jvm.Cond.soleField "LoserKeepsTheBoard" "length") ∈ lw_all := lw_g (lw_at lw_m3 175 rfl) rfl
theorem q760 : (Jvm.Cond.lays "LoserKeepsTheBoard" "LoserKeepsTheBoard" "at" "I") ∈ lw_all := lw_g (lw_at lw_m3 176 rfl) rfl
theorem q761 : (Jvm.Cond.soleField "LoserKeepsTheBoard" "at") ∈ lw_all := lw_g (lw_at lw_m3 177 rfl) rfl
theorem q762 : (Jvm.Cond.lays "LoserKeepsTheBoard" "LoserKeepsTheBoard" "begin" "I") ∈ lw_all := lw_g (lw_at lw_m3 178 rfl) rfl
theorem q763 : (Jvm.Cond.soleField "LoserKeepsTheBoard" "begin") ∈ lw_all := lw_g (lw_at lw_m3 179 rfl) rfl
theorem q764 : (Jvm.Cond.lays "LoserKeepsTheBoard" "LoserKeepsTheBoard" "token" "I") ∈ lw_all := lw_g (lw_at lw_m3 180 rfl) rfl
theorem q765 : (Jvm.Cond.soleField "LoserKeepsTheBoard" "token") ∈ lw_all := lw_g (lw_at lw_m3 181 rfl) rfl
theorem q766 : (Jvm.Cond.lays "LoserKeepsTheBoard" "LoserKeepsTheBoard" "value" "I") ∈ lw_all := lw_g (lw_at lw_m3 182 rfl) rfl
theorem q767 : (Jvm.Cond.soleField "LoserKeepsTheBoard" "value") ∈ lw_all := lw_g (lw_at lw_m3 183 rfl) rfl
theorem q768 : (Jvm.Cond.lays "LoserKeepsTheBoard" "LoserKeepsTheBoard" "opens" "I") ∈ lw_all := lw_g (lw_at lw_m3 184 rfl) rfl
theorem q769 : (Jvm.Cond.soleField "LoserKeepsTheBoard" "opens") ∈ lw_all := lw_g (lw_at lw_m3 185 rfl) rfl
theorem q770 : (Jvm.Cond.lays "LoserKeepsTheBoard" "LoserKeepsTheBoard" "rule" "I") ∈ lw_all := lw_g (lw_at lw_m3 186 rfl) rfl
theorem q771 : (Jvm.Cond.soleField "LoserKeepsTheBoard" "rule") ∈ lw_all := lw_g (lw_at lw_m3 187 rfl) rfl
theorem q772 : (Jvm.Cond.lays "LoserKeepsTheBoard" "LoserKeepsTheBoard" "draws" "I") ∈ lw_all := lw_g (lw_at lw_m3 188 rfl) rfl
theorem q773 : (Jvm.Cond.soleField "LoserKeepsTheBoard" "draws") ∈ lw_all := lw_g (lw_at lw_m3 189 rfl) rfl
theorem q774 : (Jvm.Cond.laysFinal "LoserKeepsTheBoard" "LoserKeepsTheBoard" "keptHas" "[[I") ∈ lw_all := lw_g (lw_at lw_m3 190 rfl) rfl
theorem q775 : (Jvm.Cond.soleField "LoserKeepsTheBoard" "keptHas") ∈ lw_all := lw_g (lw_at lw_m3 191 rfl) rfl
theorem q776 : (Jvm.Cond.laysFinal "LoserKeepsTheBoard" "LoserKeepsTheBoard" "keptStrong" "[[I") ∈ lw_all := lw_g (lw_at lw_m3 192 rfl) rfl
theorem q777 : (Jvm.Cond.soleField "LoserKeepsTheBoard" "keptStrong") ∈ lw_all := lw_g (lw_at lw_m3 193 rfl) rfl
theorem q778 : (Jvm.Cond.laysFinal "LoserKeepsTheBoard" "LoserKeepsTheBoard" "keptWon" "[[I") ∈ lw_all := lw_g (lw_at lw_m3 194 rfl) rfl
theorem q779 : (Jvm.Cond.soleField "LoserKeepsTheBoard" "keptWon") ∈ lw_all := lw_g (lw_at lw_m3 195 rfl) rfl
theorem q780 : (Jvm.Cond.laysFinal "LoserKeepsTheBoard" "LoserKeepsTheBoard" "keptHall" "[I") ∈ lw_all := lw_g (lw_at lw_m3 196 rfl) rfl
theorem q781 : (Jvm.Cond.soleField "LoserKeepsTheBoard" "keptHall") ∈ lw_all := lw_g (lw_at lw_m3 197 rfl) rfl
theorem q782 : (Jvm.Cond.laysFinal "LoserKeepsTheBoard" "LoserKeepsTheBoard" "keptRound" "[I") ∈ lw_all := lw_g (lw_at lw_m3 198 rfl) rfl
theorem q783 : (Jvm.Cond.soleField "LoserKeepsTheBoard" "keptRound") ∈ lw_all := lw_g (lw_at lw_m3 199 rfl) rfl
theorem q784 : (Jvm.Cond.lays "LoserKeepsTheBoard" "LoserKeepsTheBoard" "bestMany" "I") ∈ lw_all := lw_g (lw_at lw_m3 200 rfl) rfl
theorem q785 : (Jvm.Cond.soleField "LoserKeepsTheBoard" "bestMany") ∈ lw_all := lw_g (lw_at lw_m3 201 rfl) rfl
theorem q786 : (Jvm.Cond.lays "LoserKeepsTheBoard" "LoserKeepsTheBoard" "bestDigits" "I") ∈ lw_all := lw_g (lw_at lw_m3 202 rfl) rfl
theorem q787 : (Jvm.Cond.soleField "LoserKeepsTheBoard" "bestDigits") ∈ lw_all := lw_g (lw_at lw_m3 203 rfl) rfl
theorem q788 : (Jvm.Cond.lays "LoserKeepsTheBoard" "LoserKeepsTheBoard" "allSet" "I") ∈ lw_all := lw_g (lw_at lw_m3 204 rfl) rfl
theorem q789 : (Jvm.Cond.soleField "LoserKeepsTheBoard" "allSet") ∈ lw_all := lw_g (lw_at lw_m3 205 rfl) rfl
theorem q790 : (Jvm.Cond.lays "LoserKeepsTheBoard" "LoserKeepsTheBoard" "hasImage" "Z") ∈ lw_all := lw_g (lw_at lw_m3 206 rfl) rfl
theorem q791 : (Jvm.Cond.soleField "LoserKeepsTheBoard" "hasImage") ∈ lw_all := lw_g (lw_at lw_m3 207 rfl) rfl
theorem q792 : (Jvm.Cond.laysFinal "LoserKeepsTheBoard" "LoserKeepsTheBoard" "imageFolk" "[[I") ∈ lw_all := lw_g (lw_at lw_m3 208 rfl) rfl
theorem q793 : (Jvm.Cond.soleField "LoserKeepsTheBoard" "imageFolk") ∈ lw_all := lw_g (lw_at lw_m3 209 rfl) rfl
theorem q794 : (Jvm.Cond.laysFinal "LoserKeepsTheBoard" "LoserKeepsTheBoard" "imageNumbers" "[I") ∈ lw_all := lw_g (lw_at lw_m3 210 rfl) rfl
theorem q795 : (Jvm.Cond.soleField "LoserKeepsTheBoard" "imageNumbers") ∈ lw_all := lw_g (lw_at lw_m3 211 rfl) rfl
theorem q796 : (Jvm.Cond.laysFinal "LoserKeepsTheBoard" "LoserKeepsTheBoard" "sheets" "[LLoserKeepsTheBoard$Sheet;") ∈ lw_all := lw_g (lw_at lw_m3 212 rfl) rfl
theorem q797 : (Jvm.Cond.soleField "LoserKeepsTheBoard" "sheets") ∈ lw_all := lw_g (lw_at lw_m3 213 rfl) rfl
theorem q798 : (Jvm.Cond.superclass "LoserKeepsTheBoard" "java/lang/Object") ∈ lw_all := lw_g (lw_at lw_m3 214 rfl) rfl
theorem q800 : (Jvm.Cond.instanceMethod ({ cls := "LoserKeepsTheBoard", name := "force", desc := "(I)I" } : Jvm.MethodName)) ∈ lw_all := lw_g (lw_at lw_m3 216 rfl) rfl
theorem q801 : (Jvm.Cond.selects "LoserKeepsTheBoard" ({ cls := "LoserKeepsTheBoard", name := "force", desc := "(I)I" } : Jvm.MethodName) ({ cls := "LoserKeepsTheBoard", name := "force", desc := "(I)I" } : Jvm.MethodName)) ∈ lw_all := lw_g (lw_at lw_m3 217 rfl) rfl
theorem q802 : (Jvm.Cond.code ({ cls := "LoserKeepsTheBoard", name := "force", desc := "(I)I" } : Jvm.MethodName) prog_1_method_39_code (3 : Nat) (Option.some Jvm.ClassFile.FieldType.int)) ∈ lw_all := lw_g (lw_at lw_m3 218 rfl) rfl
theorem q803 : (Jvm.Cond.methodLink "LoserKeepsTheBoard" (328 : Nat) ({ cls := "LoserKeepsTheBoard", name := "isText", desc := "(I)Z" } : Jvm.MethodName)) ∈ lw_all := lw_g (lw_at lw_m3 219 rfl) rfl
theorem q804 : (Jvm.Cond.privateMethod ({ cls := "LoserKeepsTheBoard", name := "isText", desc := "(I)Z" } : Jvm.MethodName)) ∈ lw_tbl := lw_at lw_m3 220 rfl
theorem q805 : (Jvm.Cond.instanceMethod ({ cls := "LoserKeepsTheBoard", name := "isText", desc := "(I)Z" } : Jvm.MethodName)) ∈ lw_all := lw_g (lw_at lw_m3 221 rfl) rfl
theorem q806 : (Jvm.Cond.code ({ cls := "LoserKeepsTheBoard", name := "isText", desc := "(I)Z" } : Jvm.MethodName) prog_1_method_37_code (2 : Nat) (Option.some Jvm.ClassFile.FieldType.boolean)) ∈ lw_all := lw_g (lw_at lw_m3 222 rfl) rfl
theorem q808 : (Jvm.Cond.instanceMethod ({ cls := "LoserKeepsTheBoard", name := "asks", desc := "(III)I" } : Jvm.MethodName)) ∈ lw_all := lw_g (lw_at lw_m3 224 rfl) rfl
theorem q809 : (Jvm.Cond.selects "LoserKeepsTheBoard" ({ cls := "LoserKeepsTheBoard", name := "asks", desc := "(III)I" } : Jvm.MethodName) ({ cls := "LoserKeepsTheBoard", name := "asks", desc := "(III)I" } : Jvm.MethodName)) ∈ lw_all := lw_g (lw_at lw_m3 225 rfl) rfl
theorem q810 : (Jvm.Cond.code ({ cls := "LoserKeepsTheBoard", name := "asks", desc := "(III)I" } : Jvm.MethodName) prog_1_method_48_code (4 : Nat) (Option.some Jvm.ClassFile.FieldType.int)) ∈ lw_all := lw_g (lw_at lw_m3 226 rfl) rfl
theorem q811 : (Jvm.Cond.methodLink "LoserKeepsTheBoard" (379 : Nat) ({ cls := "LoserKeepsTheBoard", name := "areTwo", desc := "(II)Z" } : Jvm.MethodName)) ∈ lw_all := lw_g (lw_at lw_m3 227 rfl) rfl
theorem q812 : (Jvm.Cond.privateMethod ({ cls := "LoserKeepsTheBoard", name := "areTwo", desc := "(II)Z" } : Jvm.MethodName)) ∈ lw_tbl := lw_at lw_m3 228 rfl
theorem q813 : (Jvm.Cond.instanceMethod ({ cls := "LoserKeepsTheBoard", name := "areTwo", desc := "(II)Z" } : Jvm.MethodName)) ∈ lw_all := lw_g (lw_at lw_m3 229 rfl) rfl
theorem q814 : (Jvm.Cond.code ({ cls := "LoserKeepsTheBoard", name := "areTwo", desc := "(II)Z" } : Jvm.MethodName) prog_1_method_5_code (3 : Nat) (Option.some Jvm.ClassFile.FieldType.boolean)) ∈ lw_all := lw_g (lw_at lw_m3 230 rfl) rfl
theorem q815 : (Jvm.Cond.methodLink "LoserKeepsTheBoard" (359 : Nat) ({ cls := "LoserKeepsTheBoard", name := "powerOf", desc := "(II)I" } : Jvm.MethodName)) ∈ lw_all := lw_g (lw_at lw_m3 231 rfl) rfl
theorem q816 : (Jvm.Cond.privateMethod ({ cls := "LoserKeepsTheBoard", name := "powerOf", desc := "(II)I" } : Jvm.MethodName)) ∈ lw_tbl := lw_at lw_m3 232 rfl
theorem q817 : (Jvm.Cond.instanceMethod ({ cls := "LoserKeepsTheBoard", name := "powerOf", desc := "(II)I" } : Jvm.MethodName)) ∈ lw_all := lw_g (lw_at lw_m3 233 rfl) rfl
theorem q818 : (Jvm.Cond.code ({ cls := "LoserKeepsTheBoard", name := "powerOf", desc := "(II)I" } : Jvm.MethodName) prog_1_method_41_code (3 : Nat) (Option.some Jvm.ClassFile.FieldType.int)) ∈ lw_all := lw_g (lw_at lw_m3 234 rfl) rfl
theorem q819 : (Jvm.Cond.methodLink "LoserKeepsTheBoard" (343 : Nat) ({ cls := "LoserKeepsTheBoard", name := "says", desc := "(III)I" } : Jvm.MethodName)) ∈ lw_all := lw_g (lw_at lw_m3 235 rfl) rfl
theorem q820 : (Jvm.Cond.privateMethod ({ cls := "LoserKeepsTheBoard", name := "says", desc := "(III)I" } : Jvm.MethodName)) ∈ lw_tbl := lw_at lw_m3 236 rfl
theorem q821 : (Jvm.Cond.instanceMethod ({ cls := "LoserKeepsTheBoard", name := "says", desc := "(III)I" } : Jvm.MethodName)) ∈ lw_all := lw_g (lw_at lw_m3 237 rfl) rfl
theorem q822 : (Jvm.Cond.code ({ cls := "LoserKeepsTheBoard", name := "says", desc := "(III)I" } : Jvm.MethodName) prog_1_method_40_code (4 : Nat) (Option.some Jvm.ClassFile.FieldType.int)) ∈ lw_all := lw_g (lw_at lw_m3 238 rfl) rfl
theorem q823 : (Jvm.Cond.methodLink "LoserKeepsTheBoard" (340 : Nat) ({ cls := "LoserKeepsTheBoard$Node", name := "worth", desc := "()I" } : Jvm.MethodName)) ∈ lw_all := lw_g (lw_at lw_m3 239 rfl) rfl
theorem q842 : (Jvm.Cond.methodLink "LoserKeepsTheBoard" (347 : Nat) ({ cls := "LoserKeepsTheBoard$Player", name := "doesThrow", desc := "(ZLLoserKeepsTheBoard$Player;)Z" } : Jvm.MethodName)) ∈ lw_all := lw_g (lw_at lw_m4 18 rfl) rfl
theorem q865 : (Jvm.Cond.methodLink "LoserKeepsTheBoard" (351 : Nat) ({ cls := "LoserKeepsTheBoard", name := "held", desc := "(III)I" } : Jvm.MethodName)) ∈ lw_all := lw_g (lw_at lw_m4 41 rfl) rfl
theorem q866 : (Jvm.Cond.static ({ cls := "LoserKeepsTheBoard", name := "held", desc := "(III)I" } : Jvm.MethodName)) ∈ lw_all := lw_g (lw_at lw_m4 42 rfl) rfl
theorem q867 : (Jvm.Cond.code ({ cls := "LoserKeepsTheBoard", name := "held", desc := "(III)I" } : Jvm.MethodName) prog_1_method_2_code (3 : Nat) (Option.some Jvm.ClassFile.FieldType.int)) ∈ lw_all := lw_g (lw_at lw_m4 43 rfl) rfl
theorem q868 : (Jvm.Cond.methodLink "LoserKeepsTheBoard" (1 : Nat) ({ cls := "java/lang/Math", name := "min", desc := "(II)I" } : Jvm.MethodName)) ∈ lw_all := lw_g (lw_at lw_m4 44 rfl) rfl
theorem q869 : (Jvm.Cond.methodLink "LoserKeepsTheBoard" (7 : Nat) ({ cls := "java/lang/Math", name := "max", desc := "(II)I" } : Jvm.MethodName)) ∈ lw_all := lw_g (lw_at lw_m4 45 rfl) rfl
theorem q870 : (Jvm.Cond.methodLink "LoserKeepsTheBoard" (354 : Nat) ({ cls := "LoserKeepsTheBoard$Player", name := "plays", desc := "(II)I" } : Jvm.MethodName)) ∈ lw_all := lw_g (lw_at lw_m4 46 rfl) rfl
theorem q894 : (Jvm.Cond.methodLink "LoserKeepsTheBoard" (365 : Nat) ({ cls := "LoserKeepsTheBoard", name := "tiresOf", desc := "(IIZ)I" } : Jvm.MethodName)) ∈ lw_all := lw_g (lw_at lw_m4 70 rfl) rfl
theorem q895 : (Jvm.Cond.privateMethod ({ cls := "LoserKeepsTheBoard", name := "tiresOf", desc := "(IIZ)I" } : Jvm.MethodName)) ∈ lw_tbl := lw_at lw_m4 71 rfl
theorem q896 : (Jvm.Cond.instanceMethod ({ cls := "LoserKeepsTheBoard", name := "tiresOf", desc := "(IIZ)I" } : Jvm.MethodName)) ∈ lw_all := lw_g (lw_at lw_m4 72 rfl) rfl
theorem q897 : (Jvm.Cond.code ({ cls := "LoserKeepsTheBoard", name := "tiresOf", desc := "(IIZ)I" } : Jvm.MethodName) prog_1_method_42_code (4 : Nat) (Option.some Jvm.ClassFile.FieldType.int)) ∈ lw_all := lw_g (lw_at lw_m4 73 rfl) rfl
theorem q898 : (Jvm.Cond.methodLink "LoserKeepsTheBoard" (356 : Nat) ({ cls := "LoserKeepsTheBoard$Player", name := "tires", desc := "(IZ)I" } : Jvm.MethodName)) ∈ lw_all := lw_g (lw_at lw_m4 74 rfl) rfl
theorem q922 : (Jvm.Cond.methodLink "LoserKeepsTheBoard" (362 : Nat) ({ cls := "LoserKeepsTheBoard", name := "winnerOf", desc := "(II)I" } : Jvm.MethodName)) ∈ lw_all := lw_g (lw_at lw_m4 98 rfl) rfl
theorem q923 : (Jvm.Cond.privateMethod ({ cls := "LoserKeepsTheBoard", name := "winnerOf", desc := "(II)I" } : Jvm.MethodName)) ∈ lw_tbl := lw_at lw_m4 99 rfl
theorem q924 : (Jvm.Cond.instanceMethod ({ cls := "LoserKeepsTheBoard", name := "winnerOf", desc := "(II)I" } : Jvm.MethodName)) ∈ lw_all := lw_g (lw_at lw_m4 100 rfl) rfl
theorem q925 : (Jvm.Cond.code ({ cls := "LoserKeepsTheBoard", name := "winnerOf", desc := "(II)I" } : Jvm.MethodName) prog_1_method_43_code (5 : Nat) (Option.some Jvm.ClassFile.FieldType.int)) ∈ lw_all := lw_g (lw_at lw_m4 101 rfl) rfl
theorem q926 : (Jvm.Cond.methodLink "LoserKeepsTheBoard" (382 : Nat) ({ cls := "LoserKeepsTheBoard", name := "hasPlayed", desc := "(II)I" } : Jvm.MethodName)) ∈ lw_all := lw_g (lw_at lw_m4 102 rfl) rfl
theorem q927 : (Jvm.Cond.privateMethod ({ cls := "LoserKeepsTheBoard", name := "hasPlayed", desc := "(II)I" } : Jvm.MethodName)) ∈ lw_tbl := lw_at lw_m4 103 rfl
theorem q928 : (Jvm.Cond.instanceMethod ({ cls := "LoserKeepsTheBoard", name := "hasPlayed", desc := "(II)I" } : Jvm.MethodName)) ∈ lw_all := lw_g (lw_at lw_m4 104 rfl) rfl
theorem q929 : (Jvm.Cond.codeWith ({ cls := "LoserKeepsTheBoard", name := "hasPlayed", desc := "(II)I" } : Jvm.MethodName) prog_1_method_47_code (5 : Nat) (Option.some Jvm.ClassFile.FieldType.int) [((5 : Nat), (22 : Nat), (29 : Nat), (0 : Nat)), ((29 : Nat), (31 : Nat), (29 : Nat), (0 : Nat))]) ∈ lw_all := lw_g (lw_at lw_m4 105 rfl) rfl
theorem q930 : (Jvm.Cond.methodLink "LoserKeepsTheBoard" (372 : Nat) ({ cls := "LoserKeepsTheBoard", name := "keeps", desc := "(I)V" } : Jvm.MethodName)) ∈ lw_all := lw_g (lw_at lw_m4 106 rfl) rfl
theorem q931 : (Jvm.Cond.privateMethod ({ cls := "LoserKeepsTheBoard", name := "keeps", desc := "(I)V" } : Jvm.MethodName)) ∈ lw_tbl := lw_at lw_m4 107 rfl
theorem q932 : (Jvm.Cond.instanceMethod ({ cls := "LoserKeepsTheBoard", name := "keeps", desc := "(I)V" } : Jvm.MethodName)) ∈ lw_all := lw_g (lw_at lw_m4 108 rfl) rfl
theorem q933 : (Jvm.Cond.code ({ cls := "LoserKeepsTheBoard", name := "keeps", desc := "(I)V" } : Jvm.MethodName) prog_1_method_45_code (3 : Nat) (Option.none : Option Jvm.ClassFile.FieldType)) ∈ lw_all := lw_g (lw_at lw_m4 109 rfl) rfl
theorem q934 : (Jvm.Cond.methodLink "LoserKeepsTheBoard" (375 : Nat) ({ cls := "LoserKeepsTheBoard", name := "plays", desc := "(II)I" } : Jvm.MethodName)) ∈ lw_all := lw_g (lw_at lw_m4 110 rfl) rfl
theorem q935 : (Jvm.Cond.privateMethod ({ cls := "LoserKeepsTheBoard", name := "plays", desc := "(II)I" } : Jvm.MethodName)) ∈ lw_tbl := lw_at lw_m4 111 rfl
theorem q936 : (Jvm.Cond.instanceMethod ({ cls := "LoserKeepsTheBoard", name := "plays", desc := "(II)I" } : Jvm.MethodName)) ∈ lw_all := lw_g (lw_at lw_m4 112 rfl) rfl
theorem q937 : (Jvm.Cond.code ({ cls := "LoserKeepsTheBoard", name := "plays", desc := "(II)I" } : Jvm.MethodName) prog_1_method_44_code (7 : Nat) (Option.some Jvm.ClassFile.FieldType.int)) ∈ lw_all := lw_g (lw_at lw_m4 113 rfl) rfl
theorem q938 : (Jvm.Cond.methodLink "LoserKeepsTheBoard" (376 : Nat) ({ cls := "LoserKeepsTheBoard", name := "laysBack", desc := "(I)V" } : Jvm.MethodName)) ∈ lw_all := lw_g (lw_at lw_m4 114 rfl) rfl
theorem q939 : (Jvm.Cond.privateMethod ({ cls := "LoserKeepsTheBoard", name := "laysBack", desc := "(I)V" } : Jvm.MethodName)) ∈ lw_tbl := lw_at lw_m4 115 rfl
theorem q940 : (Jvm.Cond.instanceMethod ({ cls := "LoserKeepsTheBoard", name := "laysBack", desc := "(I)V" } : Jvm.MethodName)) ∈ lw_all := lw_g (lw_at lw_m4 116 rfl) rfl
theorem q941 : (Jvm.Cond.code ({ cls := "LoserKeepsTheBoard", name := "laysBack", desc := "(I)V" } : Jvm.MethodName) prog_1_method_46_code (3 : Nat) (Option.none : Option Jvm.ClassFile.FieldType)) ∈ lw_all := lw_g (lw_at lw_m4 117 rfl) rfl
theorem q943 : (Jvm.Cond.instanceMethod ({ cls := "LoserKeepsTheBoard", name := "game", desc := "(II)I" } : Jvm.MethodName)) ∈ lw_all := lw_g (lw_at lw_m4 119 rfl) rfl
theorem q944 : (Jvm.Cond.selects "LoserKeepsTheBoard" ({ cls := "LoserKeepsTheBoard", name := "game", desc := "(II)I" } : Jvm.MethodName) ({ cls := "LoserKeepsTheBoard", name := "game", desc := "(II)I" } : Jvm.MethodName)) ∈ lw_all := lw_g (lw_at lw_m4 120 rfl) rfl
theorem q945 : (Jvm.Cond.code ({ cls := "LoserKeepsTheBoard", name := "game", desc := "(II)I" } : Jvm.MethodName) prog_1_method_49_code (3 : Nat) (Option.some Jvm.ClassFile.FieldType.int)) ∈ lw_all := lw_g (lw_at lw_m4 121 rfl) rfl
theorem q947 : (Jvm.Cond.instanceMethod ({ cls := "LoserKeepsTheBoard", name := "evening", desc := "(II)I" } : Jvm.MethodName)) ∈ lw_all := lw_g (lw_at lw_m4 123 rfl) rfl
theorem q948 : (Jvm.Cond.selects "LoserKeepsTheBoard" ({ cls := "LoserKeepsTheBoard", name := "evening", desc := "(II)I" } : Jvm.MethodName) ({ cls := "LoserKeepsTheBoard", name := "evening", desc := "(II)I" } : Jvm.MethodName)) ∈ lw_all := lw_g (lw_at lw_m4 124 rfl) rfl
theorem q949 : (Jvm.Cond.codeWith ({ cls := "LoserKeepsTheBoard", name := "evening", desc := "(II)I" } : Jvm.MethodName) prog_1_method_54_code (6 : Nat) (Option.some Jvm.ClassFile.FieldType.int) [((65 : Nat), (77 : Nat), (85 : Nat), (0 : Nat)), ((85 : Nat), (87 : Nat), (85 : Nat), (0 : Nat))]) ∈ lw_all := lw_g (lw_at lw_m4 125 rfl) rfl
theorem q950 : (Jvm.Cond.methodLink "LoserKeepsTheBoard" (407 : Nat) ({ cls := "LoserKeepsTheBoard", name := "isSheet", desc := "(I)Z" } : Jvm.MethodName)) ∈ lw_all := lw_g (lw_at lw_m4 126 rfl) rfl
theorem q951 : (Jvm.Cond.static ({ cls := "LoserKeepsTheBoard", name := "isSheet", desc := "(I)Z" } : Jvm.MethodName)) ∈ lw_all := lw_g (lw_at lw_m4 127 rfl) rfl
theorem q952 : (Jvm.Cond.code ({ cls := "LoserKeepsTheBoard", name := "isSheet", desc := "(I)Z" } : Jvm.MethodName) prog_1_method_84_code (1 : Nat) (Option.some Jvm.ClassFile.FieldType.boolean)) ∈ lw_all := lw_g (lw_at lw_m4 128 rfl) rfl
theorem q953 : (Jvm.Cond.constantLong "LoserKeepsTheBoard" (460 : Nat) (3 : Int64)) ∈ lw_all := lw_g (lw_at lw_m4 129 rfl) rfl
theorem q954 : (Jvm.Cond.constantLong "LoserKeepsTheBoard" (410 : Nat) (6 : Int64)) ∈ lw_all := lw_g (lw_at lw_m4 130 rfl) rfl
theorem q955 : (Jvm.Cond.constantLong "LoserKeepsTheBoard" (412 : Nat) (8 : Int64)) ∈ lw_all := lw_g (lw_at lw_m4 131 rfl) rfl
theorem q956 : (Jvm.Cond.methodLink "LoserKeepsTheBoard" (418 : Nat) ({ cls := "LoserKeepsTheBoard", name := "areGames", desc := "(Ljava/lang/Object;)Z" } : Jvm.MethodName)) ∈ lw_all := lw_g (lw_at lw_m4 132 rfl) rfl
theorem q957 : (Jvm.Cond.privateMethod ({ cls := "LoserKeepsTheBoard", name := "areGames", desc := "(Ljava/lang/Object;)Z" } : Jvm.MethodName)) ∈ lw_tbl := lw_at lw_m4 133 rfl
theorem q958 : (Jvm.Cond.instanceMethod ({ cls := "LoserKeepsTheBoard", name := "areGames", desc := "(Ljava/lang/Object;)Z" } : Jvm.MethodName)) ∈ lw_all := lw_g (lw_at lw_m4 134 rfl) rfl
theorem q959 : (Jvm.Cond.code ({ cls := "LoserKeepsTheBoard", name := "areGames", desc := "(Ljava/lang/Object;)Z" } : Jvm.MethodName) prog_1_method_50_code (4 : Nat) (Option.some Jvm.ClassFile.FieldType.boolean)) ∈ lw_all := lw_g (lw_at lw_m4 135 rfl) rfl
theorem q960 : (Jvm.Cond.methodLink "LoserKeepsTheBoard" (385 : Nat) ({ cls := "LoserKeepsTheBoard", name := "sortOf", desc := "(Ljava/lang/Object;)I" } : Jvm.MethodName)) ∈ lw_all := lw_g (lw_at lw_m4 136 rfl) rfl
theorem q961 : (Jvm.Cond.static ({ cls := "LoserKeepsTheBoard", name := "sortOf", desc := "(Ljava/lang/Object;)I" } : Jvm.MethodName)) ∈ lw_all := lw_g (lw_at lw_m4 137 rfl) rfl
theorem q962 : (Jvm.Cond.code ({ cls := "LoserKeepsTheBoard", name := "sortOf", desc := "(Ljava/lang/Object;)I" } : Jvm.MethodName) prog_1_method_92_code (1 : Nat) (Option.some Jvm.ClassFile.FieldType.int)) ∈ lw_all := lw_g (lw_at lw_m4 138 rfl) rfl
theorem q963 : (Jvm.Cond.classLink "LoserKeepsTheBoard" (521 : Nat) "[B") ∈ lw_all := lw_g (lw_at lw_m4 139 rfl) rfl
theorem q964 : (Jvm.Cond.classLink "LoserKeepsTheBoard" (525 : Nat) "[S") ∈ lw_all := lw_g (lw_at lw_m4 140 rfl) rfl
theorem q965 : (Jvm.Cond.methodLink "LoserKeepsTheBoard" (389 : Nat) ({ cls := "LoserKeepsTheBoard", name := "lengthOf", desc := "(Ljava/lang/Object;I)I" } : Jvm.MethodName)) ∈ lw_all := lw_g (lw_at lw_m4 141 rfl) rfl
theorem q966 : (Jvm.Cond.static ({ cls := "LoserKeepsTheBoard", name := "lengthOf", desc := "(Ljava/lang/Object;I)I" } : Jvm.MethodName)) ∈ lw_all := lw_g (lw_at lw_m4 142 rfl) rfl
theorem q967 : (Jvm.Cond.code ({ cls := "LoserKeepsTheBoard", name := "lengthOf", desc := "(Ljava/lang/Object;I)I" } : Jvm.MethodName) prog_1_method_90_code (2 : Nat) (Option.some Jvm.ClassFile.FieldType.int)) ∈ lw_all := lw_g (lw_at lw_m4 143 rfl) rfl
theorem q968 : (Jvm.Cond.classLink "LoserKeepsTheBoard" (527 : Nat) "[I") ∈ lw_all := lw_g (lw_at lw_m4 144 rfl) rfl
theorem q969 : (Jvm.Cond.methodLink "LoserKeepsTheBoard" (393 : Nat) ({ cls := "LoserKeepsTheBoard", name := "item", desc := "(Ljava/lang/Object;II)I" } : Jvm.MethodName)) ∈ lw_all := lw_g (lw_at lw_m4 145 rfl) rfl
theorem q970 : (Jvm.Cond.static ({ cls := "LoserKeepsTheBoard", name := "item", desc := "(Ljava/lang/Object;II)I" } : Jvm.MethodName)) ∈ lw_all := lw_g (lw_at lw_m4 146 rfl) rfl
theorem q971 : (Jvm.Cond.code ({ cls := "LoserKeepsTheBoard", name := "item", desc := "(Ljava/lang/Object;II)I" } : Jvm.MethodName) prog_1_method_89_code (3 : Nat) (Option.some Jvm.ClassFile.FieldType.int)) ∈ lw_all := lw_g (lw_at lw_m4 147 rfl) rfl
theorem q972 : (Jvm.Cond.methodLink "LoserKeepsTheBoard" (522 : Nat) ({ cls := "LoserKeepsTheBoard", name := "asksPlace", desc := "(II)V" } : Jvm.MethodName)) ∈ lw_all := lw_g (lw_at lw_m4 148 rfl) rfl
theorem q973 : (Jvm.Cond.static ({ cls := "LoserKeepsTheBoard", name := "asksPlace", desc := "(II)V" } : Jvm.MethodName)) ∈ lw_all := lw_g (lw_at lw_m4 149 rfl) rfl
theorem q974 : (Jvm.Cond.code ({ cls := "LoserKeepsTheBoard", name := "asksPlace", desc := "(II)V" } : Jvm.MethodName) prog_1_method_91_code (2 : Nat) (Option.none : Option Jvm.ClassFile.FieldType)) ∈ lw_all := lw_g (lw_at lw_m4 150 rfl) rfl
theorem q975 : (Jvm.Cond.classLink "LoserKeepsTheBoard" (533 : Nat) "java/lang/IndexOutOfBoundsException") ∈ lw_all := lw_g (lw_at lw_m4 151 rfl) rfl
theorem q984 : (Jvm.Cond.methodLink "LoserKeepsTheBoard" (535 : Nat) ({ cls := "java/lang/IndexOutOfBoundsException", name := "<init>", desc := "()V" } : Jvm.MethodName)) ∈ lw_all := lw_g (lw_at lw_m4 160 rfl) rfl
theorem q996 : (Jvm.Cond.constantLong "LoserKeepsTheBoard" (397 : Nat) (55 : Int64)) ∈ lw_all := lw_g (lw_at lw_m4 172 rfl) rfl
theorem q997 : (Jvm.Cond.methodLink "LoserKeepsTheBoard" (422 : Nat) ({ cls := "LoserKeepsTheBoard", name := "playsAll", desc := "(Ljava/lang/Object;)V" } : Jvm.MethodName)) ∈ lw_all := lw_g (lw_at lw_m4 173 rfl) rfl
theorem q998 : (Jvm.Cond.privateMethod ({ cls := "LoserKeepsTheBoard", name := "playsAll", desc := "(Ljava/lang/Object;)V" } : Jvm.MethodName)) ∈ lw_tbl := lw_at lw_m4 174 rfl
theorem q999 : (Jvm.Cond.instanceMethod ({ cls := "LoserKeepsTheBoard", name := "playsAll", desc := "(Ljava/lang/Object;)V" } : Jvm.MethodName)) ∈ lw_all := lw_g (lw_at lw_m4 175 rfl) rfl
theorem q1000 : (Jvm.Cond.code ({ cls := "LoserKeepsTheBoard", name := "playsAll", desc := "(Ljava/lang/Object;)V" } : Jvm.MethodName) prog_1_method_51_code (4 : Nat) (Option.none : Option Jvm.ClassFile.FieldType)) ∈ lw_all := lw_g (lw_at lw_m4 176 rfl) rfl
theorem q1001 : (Jvm.Cond.methodLink "LoserKeepsTheBoard" (426 : Nat) ({ cls := "LoserKeepsTheBoard", name := "toldEvening", desc := "(I)I" } : Jvm.MethodName)) ∈ lw_all := lw_g (lw_at lw_m4 177 rfl) rfl
theorem q1002 : (Jvm.Cond.privateMethod ({ cls := "LoserKeepsTheBoard", name := "toldEvening", desc := "(I)I" } : Jvm.MethodName)) ∈ lw_tbl := lw_at lw_m4 178 rfl
theorem q1003 : (Jvm.Cond.instanceMethod ({ cls := "LoserKeepsTheBoard", name := "toldEvening", desc := "(I)I" } : Jvm.MethodName)) ∈ lw_all := lw_g (lw_at lw_m4 179 rfl) rfl
theorem q1004 : (Jvm.Cond.code ({ cls := "LoserKeepsTheBoard", name := "toldEvening", desc := "(I)I" } : Jvm.MethodName) prog_1_method_53_code (2 : Nat) (Option.some Jvm.ClassFile.FieldType.int)) ∈ lw_all := lw_g (lw_at lw_m4 180 rfl) rfl
theorem q1005 : (Jvm.Cond.methodLink "LoserKeepsTheBoard" (399 : Nat) ({ cls := "java/lang/Integer", name := "bitCount", desc := "(I)I" } : Jvm.MethodName)) ∈ lw_all := lw_g (lw_at lw_m4 181 rfl) rfl
theorem q1006 : (Jvm.Cond.methodLink "LoserKeepsTheBoard" (404 : Nat) ({ cls := "LoserKeepsTheBoard", name := "hasMost", desc := "()I" } : Jvm.MethodName)) ∈ lw_all := lw_g (lw_at lw_m4 182 rfl) rfl
theorem q1007 : (Jvm.Cond.privateMethod ({ cls := "LoserKeepsTheBoard", name := "hasMost", desc := "()I" } : Jvm.MethodName)) ∈ lw_tbl := lw_at lw_m4 183 rfl
theorem q1008 : (Jvm.Cond.instanceMethod ({ cls := "LoserKeepsTheBoard", name := "hasMost", desc := "()I" } : Jvm.MethodName)) ∈ lw_all := lw_g (lw_at lw_m4 184 rfl) rfl
theorem q1009 : (Jvm.Cond.code ({ cls := "LoserKeepsTheBoard", name := "hasMost", desc := "()I" } : Jvm.MethodName) prog_1_method_52_code (4 : Nat) (Option.some Jvm.ClassFile.FieldType.int)) ∈ lw_all := lw_g (lw_at lw_m4 185 rfl) rfl
theorem q1011 : (Jvm.Cond.instanceMethod ({ cls := "LoserKeepsTheBoard", name := "play", desc := "(I)I" } : Jvm.MethodName)) ∈ lw_all := lw_g (lw_at lw_m4 187 rfl) rfl
theorem q1012 : (Jvm.Cond.selects "LoserKeepsTheBoard" ({ cls := "LoserKeepsTheBoard", name := "play", desc := "(I)I" } : Jvm.MethodName) ({ cls := "LoserKeepsTheBoard", name := "play", desc := "(I)I" } : Jvm.MethodName)) ∈ lw_all := lw_g (lw_at lw_m4 188 rfl) rfl
theorem q1013 : (Jvm.Cond.code ({ cls := "LoserKeepsTheBoard", name := "play", desc := "(I)I" } : Jvm.MethodName) prog_1_method_55_code (3 : Nat) (Option.some Jvm.ClassFile.FieldType.int)) ∈ lw_all := lw_g (lw_at lw_m4 189 rfl) rfl
theorem q1015 : (Jvm.Cond.instanceMethod ({ cls := "LoserKeepsTheBoard", name := "robin", desc := "(I)I" } : Jvm.MethodName)) ∈ lw_all := lw_g (lw_at lw_m4 191 rfl) rfl
theorem q1016 : (Jvm.Cond.selects "LoserKeepsTheBoard" ({ cls := "LoserKeepsTheBoard", name := "robin", desc := "(I)I" } : Jvm.MethodName) ({ cls := "LoserKeepsTheBoard", name := "robin", desc := "(I)I" } : Jvm.MethodName)) ∈ lw_all := lw_g (lw_at lw_m4 192 rfl) rfl
theorem q1017 : (Jvm.Cond.code ({ cls := "LoserKeepsTheBoard", name := "robin", desc := "(I)I" } : Jvm.MethodName) prog_1_method_61_code (2 : Nat) (Option.some Jvm.ClassFile.FieldType.int)) ∈ lw_all := lw_g (lw_at lw_m4 193 rfl) rfl
theorem q1018 : (Jvm.Cond.methodLink "LoserKeepsTheBoard" (435 : Nat) ({ cls := "LoserKeepsTheBoard", name := "keepApart", desc := "()I" } : Jvm.MethodName)) ∈ lw_all := lw_g (lw_at lw_m4 194 rfl) rfl
theorem q1019 : (Jvm.Cond.privateMethod ({ cls := "LoserKeepsTheBoard", name := "keepApart", desc := "()I" } : Jvm.MethodName)) ∈ lw_tbl := lw_at lw_m4 195 rfl
theorem q1020 : (Jvm.Cond.instanceMethod ({ cls := "LoserKeepsTheBoard", name := "keepApart", desc := "()I" } : Jvm.MethodName)) ∈ lw_all := lw_g (lw_at lw_m4 196 rfl) rfl
theorem q1021 : (Jvm.Cond.code ({ cls := "LoserKeepsTheBoard", name := "keepApart", desc := "()I" } : Jvm.MethodName) prog_1_method_58_code (6 : Nat) (Option.some Jvm.ClassFile.FieldType.int)) ∈ lw_all := lw_g (lw_at lw_m4 197 rfl) rfl
theorem q1022 : (Jvm.Cond.methodLink "LoserKeepsTheBoard" (432 : Nat) ({ cls := "LoserKeepsTheBoard", name := "hallBut", desc := "(I)I" } : Jvm.MethodName)) ∈ lw_all := lw_g (lw_at lw_m4 198 rfl) rfl
theorem q1023 : (Jvm.Cond.privateMethod ({ cls := "LoserKeepsTheBoard", name := "hallBut", desc := "(I)I" } : Jvm.MethodName)) ∈ lw_tbl := lw_at lw_m4 199 rfl
theorem q1024 : (Jvm.Cond.instanceMethod ({ cls := "LoserKeepsTheBoard", name := "hallBut", desc := "(I)I" } : Jvm.MethodName)) ∈ lw_all := lw_g (lw_at lw_m4 200 rfl) rfl
theorem q1025 : (Jvm.Cond.codeWith ({ cls := "LoserKeepsTheBoard", name := "hallBut", desc := "(I)I" } : Jvm.MethodName) prog_1_method_57_code (4 : Nat) (Option.some Jvm.ClassFile.FieldType.int) [((5 : Nat), (14 : Nat), (21 : Nat), (0 : Nat))]) ∈ lw_all := lw_g (lw_at lw_m4 201 rfl) rfl
theorem q1026 : (Jvm.Cond.methodLink "LoserKeepsTheBoard" (429 : Nat) ({ cls := "LoserKeepsTheBoard", name := "hallRobin", desc := "(I)I" } : Jvm.MethodName)) ∈ lw_all := lw_g (lw_at lw_m4 202 rfl) rfl
theorem q1027 : (Jvm.Cond.privateMethod ({ cls := "LoserKeepsTheBoard", name := "hallRobin", desc := "(I)I" } : Jvm.MethodName)) ∈ lw_tbl := lw_at lw_m4 203 rfl
theorem q1028 : (Jvm.Cond.instanceMethod ({ cls := "LoserKeepsTheBoard", name := "hallRobin", desc := "(I)I" } : Jvm.MethodName)) ∈ lw_all := lw_g (lw_at lw_m4 204 rfl) rfl
theorem q1029 : (Jvm.Cond.code ({ cls := "LoserKeepsTheBoard", name := "hallRobin", desc := "(I)I" } : Jvm.MethodName) prog_1_method_56_code (4 : Nat) (Option.some Jvm.ClassFile.FieldType.int)) ∈ lw_all := lw_g (lw_at lw_m4 205 rfl) rfl
theorem q1030 : (Jvm.Cond.methodLink "LoserKeepsTheBoard" (438 : Nat) ({ cls := "LoserKeepsTheBoard", name := "rings", desc := "()I" } : Jvm.MethodName)) ∈ lw_all := lw_g (lw_at lw_m4 206 rfl) rfl
theorem q1031 : (Jvm.Cond.privateMethod ({ cls := "LoserKeepsTheBoard", name := "rings", desc := "()I" } : Jvm.MethodName)) ∈ lw_tbl := lw_at lw_m4 207 rfl
theorem q1032 : (Jvm.Cond.instanceMethod ({ cls := "LoserKeepsTheBoard", name := "rings", desc := "()I" } : Jvm.MethodName)) ∈ lw_all := lw_g (lw_at lw_m4 208 rfl) rfl
theorem q1033 : (Jvm.Cond.code ({ cls := "LoserKeepsTheBoard", name := "rings", desc := "()I" } : Jvm.MethodName) prog_1_method_59_code (5 : Nat) (Option.some Jvm.ClassFile.FieldType.int)) ∈ lw_all := lw_g (lw_at lw_m4 209 rfl) rfl
theorem q1034 : (Jvm.Cond.methodLink "LoserKeepsTheBoard" (441 : Nat) ({ cls := "LoserKeepsTheBoard", name := "behindRobin", desc := "(I)I" } : Jvm.MethodName)) ∈ lw_all := lw_g (lw_at lw_m4 210 rfl) rfl
theorem q1035 : (Jvm.Cond.privateMethod ({ cls := "LoserKeepsTheBoard", name := "behindRobin", desc := "(I)I" } : Jvm.MethodName)) ∈ lw_tbl := lw_at lw_m4 211 rfl
theorem q1036 : (Jvm.Cond.instanceMethod ({ cls := "LoserKeepsTheBoard", name := "behindRobin", desc := "(I)I" } : Jvm.MethodName)) ∈ lw_all := lw_g (lw_at lw_m4 212 rfl) rfl
theorem q1037 : (Jvm.Cond.codeWith ({ cls := "LoserKeepsTheBoard", name := "behindRobin", desc := "(I)I" } : Jvm.MethodName) prog_1_method_60_code (5 : Nat) (Option.some Jvm.ClassFile.FieldType.int) [((5 : Nat), (31 : Nat), (38 : Nat), (0 : Nat)), ((38 : Nat), (40 : Nat), (38 : Nat), (0 : Nat))]) ∈ lw_all := lw_g (lw_at lw_m4 213 rfl) rfl
theorem q1039 : (Jvm.Cond.instanceMethod ({ cls := "LoserKeepsTheBoard", name := "best", desc := "(II)I" } : Jvm.MethodName)) ∈ lw_all := lw_g (lw_at lw_m4 215 rfl) rfl
theorem q1040 : (Jvm.Cond.selects "LoserKeepsTheBoard" ({ cls := "LoserKeepsTheBoard", name := "best", desc := "(II)I" } : Jvm.MethodName) ({ cls := "LoserKeepsTheBoard", name := "best", desc := "(II)I" } : Jvm.MethodName)) ∈ lw_all := lw_g (lw_at lw_m4 216 rfl) rfl
theorem q1041 : (Jvm.Cond.code ({ cls := "LoserKeepsTheBoard", name := "best", desc := "(II)I" } : Jvm.MethodName) prog_1_method_62_code (7 : Nat) (Option.some Jvm.ClassFile.FieldType.int)) ∈ lw_all := lw_g (lw_at lw_m4 217 rfl) rfl
theorem q1043 : (Jvm.Cond.instanceMethod ({ cls := "LoserKeepsTheBoard", name := "order", desc := "(II)I" } : Jvm.MethodName)) ∈ lw_all := lw_g (lw_at lw_m4 219 rfl) rfl
theorem q1044 : (Jvm.Cond.selects "LoserKeepsTheBoard" ({ cls := "LoserKeepsTheBoard", name := "order", desc := "(II)I" } : Jvm.MethodName) ({ cls := "LoserKeepsTheBoard", name := "order", desc := "(II)I" } : Jvm.MethodName)) ∈ lw_all := lw_g (lw_at lw_m4 220 rfl) rfl
theorem q1045 : (Jvm.Cond.code ({ cls := "LoserKeepsTheBoard", name := "order", desc := "(II)I" } : Jvm.MethodName) prog_1_method_64_code (3 : Nat) (Option.some Jvm.ClassFile.FieldType.int)) ∈ lw_all := lw_g (lw_at lw_m4 221 rfl) rfl
theorem q1046 : (Jvm.Cond.methodLink "LoserKeepsTheBoard" (450 : Nat) ({ cls := "LoserKeepsTheBoard", name := "orders", desc := "(IIII)V" } : Jvm.MethodName)) ∈ lw_all := lw_g (lw_at lw_m4 222 rfl) rfl
theorem q1047 : (Jvm.Cond.privateMethod ({ cls := "LoserKeepsTheBoard", name := "orders", desc := "(IIII)V" } : Jvm.MethodName)) ∈ lw_tbl := lw_at lw_m4 223 rfl
theorem q1048 : (Jvm.Cond.instanceMethod ({ cls := "LoserKeepsTheBoard", name := "orders", desc := "(IIII)V" } : Jvm.MethodName)) ∈ lw_all := lw_g (lw_at lw_m4 224 rfl) rfl
theorem q1049 : (Jvm.Cond.code ({ cls := "LoserKeepsTheBoard", name := "orders", desc := "(IIII)V" } : Jvm.MethodName) prog_1_method_63_code (6 : Nat) (Option.none : Option Jvm.ClassFile.FieldType)) ∈ lw_all := lw_g (lw_at lw_m4 225 rfl) rfl
theorem q1051 : (Jvm.Cond.instanceMethod ({ cls := "LoserKeepsTheBoard", name := "all", desc := "(I)I" } : Jvm.MethodName)) ∈ lw_all := lw_g (lw_at lw_m4 227 rfl) rfl
theorem q1052 : (Jvm.Cond.selects "LoserKeepsTheBoard" ({ cls := "LoserKeepsTheBoard", name := "all", desc := "(I)I" } : Jvm.MethodName) ({ cls := "LoserKeepsTheBoard", name := "all", desc := "(I)I" } : Jvm.MethodName)) ∈ lw_all := lw_g (lw_at lw_m4 228 rfl) rfl
theorem q1053 : (Jvm.Cond.code ({ cls := "LoserKeepsTheBoard", name := "all", desc := "(I)I" } : Jvm.MethodName) prog_1_method_66_code (2 : Nat) (Option.some Jvm.ClassFile.FieldType.int)) ∈ lw_all := lw_g (lw_at lw_m4 229 rfl) rfl
theorem q1054 : (Jvm.Cond.methodLink "LoserKeepsTheBoard" (457 : Nat) ({ cls := "LoserKeepsTheBoard", name := "goesOn", desc := "(II)V" } : Jvm.MethodName)) ∈ lw_all := lw_g (lw_at lw_m4 230 rfl) rfl
theorem q1055 : (Jvm.Cond.privateMethod ({ cls := "LoserKeepsTheBoard", name := "goesOn", desc := "(II)V" } : Jvm.MethodName)) ∈ lw_tbl := lw_at lw_m4 231 rfl
theorem q1056 : (Jvm.Cond.instanceMethod ({ cls := "LoserKeepsTheBoard", name := "goesOn", desc := "(II)V" } : Jvm.MethodName)) ∈ lw_all := lw_g (lw_at lw_m4 232 rfl) rfl
theorem q1057 : (Jvm.Cond.code ({ cls := "LoserKeepsTheBoard", name := "goesOn", desc := "(II)V" } : Jvm.MethodName) prog_1_method_65_code (5 : Nat) (Option.none : Option Jvm.ClassFile.FieldType)) ∈ lw_all := lw_g (lw_at lw_m4 233 rfl) rfl
theorem q1059 : (Jvm.Cond.instanceMethod ({ cls := "LoserKeepsTheBoard", name := "soon", desc := "(II)I" } : Jvm.MethodName)) ∈ lw_all := lw_g (lw_at lw_m4 235 rfl) rfl
theorem q1060 : (Jvm.Cond.selects "LoserKeepsTheBoard" ({ cls := "LoserKeepsTheBoard", name := "soon", desc := "(II)I" } : Jvm.MethodName) ({ cls := "LoserKeepsTheBoard", name := "soon", desc := "(II)I" } : Jvm.MethodName)) ∈ lw_all := lw_g (lw_at lw_m4 236 rfl) rfl
theorem q1061 : (Jvm.Cond.codeWith ({ cls := "LoserKeepsTheBoard", name := "soon", desc := "(II)I" } : Jvm.MethodName) prog_1_method_67_code (6 : Nat) (Option.some Jvm.ClassFile.FieldType.int) [((17 : Nat), (40 : Nat), (70 : Nat), (0 : Nat)), ((48 : Nat), (63 : Nat), (70 : Nat), (0 : Nat)), ((70 : Nat), (72 : Nat), (70 : Nat), (0 : Nat))]) ∈ lw_all := lw_g (lw_at lw_m4 237 rfl) rfl
theorem q1063 : (Jvm.Cond.instanceMethod ({ cls := "LoserKeepsTheBoard", name := "tells", desc := "(III)I" } : Jvm.MethodName)) ∈ lw_all := lw_g (lw_at lw_m4 239 rfl) rfl
theorem q1064 : (Jvm.Cond.selects "LoserKeepsTheBoard" ({ cls := "LoserKeepsTheBoard", name := "tells", desc := "(III)I" } : Jvm.MethodName) ({ cls := "LoserKeepsTheBoard", name := "tells", desc := "(III)I" } : Jvm.MethodName)) ∈ lw_all := lw_g (lw_at lw_m5 0 rfl) rfl
theorem q1065 : (Jvm.Cond.code ({ cls := "LoserKeepsTheBoard", name := "tells", desc := "(III)I" } : Jvm.MethodName) prog_1_method_76_code (5 : Nat) (Option.some Jvm.ClassFile.FieldType.int)) ∈ lw_all := lw_g (lw_at lw_m5 1 rfl) rfl
theorem q1066 : (Jvm.Cond.methodLink "LoserKeepsTheBoard" (466 : Nat) ({ cls := "LoserKeepsTheBoard", name := "otherwise", desc := "(Ljava/lang/Object;I)I" } : Jvm.MethodName)) ∈ lw_all := lw_g (lw_at lw_m5 2 rfl) rfl
theorem q1067 : (Jvm.Cond.privateMethod ({ cls := "LoserKeepsTheBoard", name := "otherwise", desc := "(Ljava/lang/Object;I)I" } : Jvm.MethodName)) ∈ lw_tbl := lw_at lw_m5 3 rfl
theorem q1068 : (Jvm.Cond.instanceMethod ({ cls := "LoserKeepsTheBoard", name := "otherwise", desc := "(Ljava/lang/Object;I)I" } : Jvm.MethodName)) ∈ lw_all := lw_g (lw_at lw_m5 4 rfl) rfl
theorem q1069 : (Jvm.Cond.code ({ cls := "LoserKeepsTheBoard", name := "otherwise", desc := "(Ljava/lang/Object;I)I" } : Jvm.MethodName) prog_1_method_68_code (4 : Nat) (Option.some Jvm.ClassFile.FieldType.int)) ∈ lw_all := lw_g (lw_at lw_m5 5 rfl) rfl
theorem q1070 : (Jvm.Cond.methodLink "LoserKeepsTheBoard" (477 : Nat) ({ cls := "LoserKeepsTheBoard", name := "kindsOf", desc := "(Ljava/lang/Object;I)I" } : Jvm.MethodName)) ∈ lw_all := lw_g (lw_at lw_m5 6 rfl) rfl
theorem q1071 : (Jvm.Cond.privateMethod ({ cls := "LoserKeepsTheBoard", name := "kindsOf", desc := "(Ljava/lang/Object;I)I" } : Jvm.MethodName)) ∈ lw_tbl := lw_at lw_m5 7 rfl
theorem q1072 : (Jvm.Cond.instanceMethod ({ cls := "LoserKeepsTheBoard", name := "kindsOf", desc := "(Ljava/lang/Object;I)I" } : Jvm.MethodName)) ∈ lw_all := lw_g (lw_at lw_m5 8 rfl) rfl
theorem q1073 : (Jvm.Cond.code ({ cls := "LoserKeepsTheBoard", name := "kindsOf", desc := "(Ljava/lang/Object;I)I" } : Jvm.MethodName) prog_1_method_70_code (5 : Nat) (Option.some Jvm.ClassFile.FieldType.int)) ∈ lw_all := lw_g (lw_at lw_m5 9 rfl) rfl
theorem q1074 : (Jvm.Cond.methodLink "LoserKeepsTheBoard" (469 : Nat) ({ cls := "LoserKeepsTheBoard", name := "isSoAs", desc := "(Ljava/lang/Object;II)Z" } : Jvm.MethodName)) ∈ lw_all := lw_g (lw_at lw_m5 10 rfl) rfl
theorem q1075 : (Jvm.Cond.privateMethod ({ cls := "LoserKeepsTheBoard", name := "isSoAs", desc := "(Ljava/lang/Object;II)Z" } : Jvm.MethodName)) ∈ lw_tbl := lw_at lw_m5 11 rfl
theorem q1076 : (Jvm.Cond.instanceMethod ({ cls := "LoserKeepsTheBoard", name := "isSoAs", desc := "(Ljava/lang/Object;II)Z" } : Jvm.MethodName)) ∈ lw_all := lw_g (lw_at lw_m5 12 rfl) rfl
theorem q1077 : (Jvm.Cond.codeWith ({ cls := "LoserKeepsTheBoard", name := "isSoAs", desc := "(Ljava/lang/Object;II)Z" } : Jvm.MethodName) prog_1_method_69_code (7 : Nat) (Option.some Jvm.ClassFile.FieldType.boolean) [((8 : Nat), (45 : Nat), (56 : Nat), (0 : Nat)), ((56 : Nat), (58 : Nat), (56 : Nat), (0 : Nat))]) ∈ lw_all := lw_g (lw_at lw_m5 13 rfl) rfl
theorem q1078 : (Jvm.Cond.methodLink "LoserKeepsTheBoard" (462 : Nat) ({ cls := "LoserKeepsTheBoard$Player", name := "like", desc := "(LLoserKeepsTheBoard$Player;)LLoserKeepsTheBoard$Player;" } : Jvm.MethodName)) ∈ lw_all := lw_g (lw_at lw_m5 14 rfl) rfl
theorem q1088 : (Jvm.Cond.methodLink "LoserKeepsTheBoard" (480 : Nat) ({ cls := "LoserKeepsTheBoard", name := "numbersOf", desc := "(Ljava/lang/Object;I)I" } : Jvm.MethodName)) ∈ lw_all := lw_g (lw_at lw_m5 24 rfl) rfl
theorem q1089 : (Jvm.Cond.privateMethod ({ cls := "LoserKeepsTheBoard", name := "numbersOf", desc := "(Ljava/lang/Object;I)I" } : Jvm.MethodName)) ∈ lw_tbl := lw_at lw_m5 25 rfl
theorem q1090 : (Jvm.Cond.instanceMethod ({ cls := "LoserKeepsTheBoard", name := "numbersOf", desc := "(Ljava/lang/Object;I)I" } : Jvm.MethodName)) ∈ lw_all := lw_g (lw_at lw_m5 26 rfl) rfl
theorem q1091 : (Jvm.Cond.code ({ cls := "LoserKeepsTheBoard", name := "numbersOf", desc := "(Ljava/lang/Object;I)I" } : Jvm.MethodName) prog_1_method_72_code (5 : Nat) (Option.some Jvm.ClassFile.FieldType.int)) ∈ lw_all := lw_g (lw_at lw_m5 27 rfl) rfl
theorem q1092 : (Jvm.Cond.methodLink "LoserKeepsTheBoard" (473 : Nat) ({ cls := "LoserKeepsTheBoard", name := "isSoBy", desc := "(Ljava/lang/Object;III)Z" } : Jvm.MethodName)) ∈ lw_all := lw_g (lw_at lw_m5 28 rfl) rfl
theorem q1093 : (Jvm.Cond.privateMethod ({ cls := "LoserKeepsTheBoard", name := "isSoBy", desc := "(Ljava/lang/Object;III)Z" } : Jvm.MethodName)) ∈ lw_tbl := lw_at lw_m5 29 rfl
theorem q1094 : (Jvm.Cond.instanceMethod ({ cls := "LoserKeepsTheBoard", name := "isSoBy", desc := "(Ljava/lang/Object;III)Z" } : Jvm.MethodName)) ∈ lw_all := lw_g (lw_at lw_m5 30 rfl) rfl
theorem q1095 : (Jvm.Cond.codeWith ({ cls := "LoserKeepsTheBoard", name := "isSoBy", desc := "(Ljava/lang/Object;III)Z" } : Jvm.MethodName) prog_1_method_71_code (8 : Nat) (Option.some Jvm.ClassFile.FieldType.boolean) [((8 : Nat), (33 : Nat), (44 : Nat), (0 : Nat)), ((44 : Nat), (46 : Nat), (44 : Nat), (0 : Nat))]) ∈ lw_all := lw_g (lw_at lw_m5 31 rfl) rfl
theorem q1096 : (Jvm.Cond.methodLink "LoserKeepsTheBoard" (483 : Nat) ({ cls := "LoserKeepsTheBoard", name := "manyBy", desc := "(Ljava/lang/Object;IIZ)I" } : Jvm.MethodName)) ∈ lw_all := lw_g (lw_at lw_m5 32 rfl) rfl
theorem q1097 : (Jvm.Cond.privateMethod ({ cls := "LoserKeepsTheBoard", name := "manyBy", desc := "(Ljava/lang/Object;IIZ)I" } : Jvm.MethodName)) ∈ lw_tbl := lw_at lw_m5 33 rfl
theorem q1098 : (Jvm.Cond.instanceMethod ({ cls := "LoserKeepsTheBoard", name := "manyBy", desc := "(Ljava/lang/Object;IIZ)I" } : Jvm.MethodName)) ∈ lw_all := lw_g (lw_at lw_m5 34 rfl) rfl
theorem q1099 : (Jvm.Cond.code ({ cls := "LoserKeepsTheBoard", name := "manyBy", desc := "(Ljava/lang/Object;IIZ)I" } : Jvm.MethodName) prog_1_method_73_code (7 : Nat) (Option.some Jvm.ClassFile.FieldType.int)) ∈ lw_all := lw_g (lw_at lw_m5 35 rfl) rfl
theorem q1100 : (Jvm.Cond.methodLink "LoserKeepsTheBoard" (487 : Nat) ({ cls := "LoserKeepsTheBoard", name := "textsOf", desc := "(Ljava/lang/Object;I)I" } : Jvm.MethodName)) ∈ lw_all := lw_g (lw_at lw_m5 36 rfl) rfl
theorem q1101 : (Jvm.Cond.privateMethod ({ cls := "LoserKeepsTheBoard", name := "textsOf", desc := "(Ljava/lang/Object;I)I" } : Jvm.MethodName)) ∈ lw_tbl := lw_at lw_m5 37 rfl
theorem q1102 : (Jvm.Cond.instanceMethod ({ cls := "LoserKeepsTheBoard", name := "textsOf", desc := "(Ljava/lang/Object;I)I" } : Jvm.MethodName)) ∈ lw_all := lw_g (lw_at lw_m5 38 rfl) rfl
theorem q1103 : (Jvm.Cond.codeWith ({ cls := "LoserKeepsTheBoard", name := "textsOf", desc := "(Ljava/lang/Object;I)I" } : Jvm.MethodName) prog_1_method_74_code (7 : Nat) (Option.some Jvm.ClassFile.FieldType.int) [((8 : Nat), (55 : Nat), (63 : Nat), (0 : Nat)), ((63 : Nat), (65 : Nat), (63 : Nat), (0 : Nat))]) ∈ lw_all := lw_g (lw_at lw_m5 39 rfl) rfl
theorem q1104 : (Jvm.Cond.methodLink "LoserKeepsTheBoard" (490 : Nat) ({ cls := "LoserKeepsTheBoard", name := "playersOf", desc := "(Ljava/lang/Object;)I" } : Jvm.MethodName)) ∈ lw_all := lw_g (lw_at lw_m5 40 rfl) rfl
theorem q1105 : (Jvm.Cond.privateMethod ({ cls := "LoserKeepsTheBoard", name := "playersOf", desc := "(Ljava/lang/Object;)I" } : Jvm.MethodName)) ∈ lw_tbl := lw_at lw_m5 41 rfl
theorem q1106 : (Jvm.Cond.instanceMethod ({ cls := "LoserKeepsTheBoard", name := "playersOf", desc := "(Ljava/lang/Object;)I" } : Jvm.MethodName)) ∈ lw_all := lw_g (lw_at lw_m5 42 rfl) rfl
theorem q1107 : (Jvm.Cond.code ({ cls := "LoserKeepsTheBoard", name := "playersOf", desc := "(Ljava/lang/Object;)I" } : Jvm.MethodName) prog_1_method_75_code (4 : Nat) (Option.some Jvm.ClassFile.FieldType.int)) ∈ lw_all := lw_g (lw_at lw_m5 43 rfl) rfl
theorem q1109 : (Jvm.Cond.instanceMethod ({ cls := "LoserKeepsTheBoard", name := "film", desc := "(II)I" } : Jvm.MethodName)) ∈ lw_all := lw_g (lw_at lw_m5 45 rfl) rfl
theorem q1110 : (Jvm.Cond.selects "LoserKeepsTheBoard" ({ cls := "LoserKeepsTheBoard", name := "film", desc := "(II)I" } : Jvm.MethodName) ({ cls := "LoserKeepsTheBoard", name := "film", desc := "(II)I" } : Jvm.MethodName)) ∈ lw_all := lw_g (lw_at lw_m5 46 rfl) rfl
theorem q1111 : (Jvm.Cond.code ({ cls := "LoserKeepsTheBoard", name := "film", desc := "(II)I" } : Jvm.MethodName) prog_1_method_77_code (4 : Nat) (Option.some Jvm.ClassFile.FieldType.int)) ∈ lw_all := lw_g (lw_at lw_m5 47 rfl) rfl
theorem q1112 : (Jvm.Cond.methodLink "LoserKeepsTheBoard" (493 : Nat) ({ cls := "LoserKeepsTheBoard", name := "sheet", desc := "(III)I" } : Jvm.MethodName)) ∈ lw_all := lw_g (lw_at lw_m5 48 rfl) rfl
theorem q1113 : (Jvm.Cond.instanceMethod ({ cls := "LoserKeepsTheBoard", name := "sheet", desc := "(III)I" } : Jvm.MethodName)) ∈ lw_all := lw_g (lw_at lw_m5 49 rfl) rfl
theorem q1114 : (Jvm.Cond.selects "LoserKeepsTheBoard" ({ cls := "LoserKeepsTheBoard", name := "sheet", desc := "(III)I" } : Jvm.MethodName) ({ cls := "LoserKeepsTheBoard", name := "sheet", desc := "(III)I" } : Jvm.MethodName)) ∈ lw_all := lw_g (lw_at lw_m5 50 rfl) rfl
theorem q1115 : (Jvm.Cond.codeWith ({ cls := "LoserKeepsTheBoard", name := "sheet", desc := "(III)I" } : Jvm.MethodName) prog_1_method_86_code (5 : Nat) (Option.some Jvm.ClassFile.FieldType.int) [((52 : Nat), (67 : Nat), (68 : Nat), (519 : Nat))]) ∈ lw_all := lw_g (lw_at lw_m5 51 rfl) rfl
theorem q1116 : (Jvm.Cond.classLink "LoserKeepsTheBoard" (519 : Nat) "java/lang/NegativeArraySizeException") ∈ lw_all := lw_g (lw_at lw_m5 52 rfl) rfl
theorem q1143 : (Jvm.Cond.constantLong "LoserKeepsTheBoard" (513 : Nat) (-1 : Int64)) ∈ lw_all := lw_g (lw_at lw_m5 79 rfl) rfl
theorem q1144 : (Jvm.Cond.methodLink "LoserKeepsTheBoard" (515 : Nat) ({ cls := "LoserKeepsTheBoard", name := "rowOf", desc := "(II)Ljava/lang/Object;" } : Jvm.MethodName)) ∈ lw_all := lw_g (lw_at lw_m5 80 rfl) rfl
theorem q1145 : (Jvm.Cond.static ({ cls := "LoserKeepsTheBoard", name := "rowOf", desc := "(II)Ljava/lang/Object;" } : Jvm.MethodName)) ∈ lw_all := lw_g (lw_at lw_m5 81 rfl) rfl
theorem q1146 : (Jvm.Cond.code ({ cls := "LoserKeepsTheBoard", name := "rowOf", desc := "(II)Ljava/lang/Object;" } : Jvm.MethodName) prog_1_method_85_code (2 : Nat) (Option.some (Jvm.ClassFile.FieldType.object "java/lang/Object"))) ∈ lw_all := lw_g (lw_at lw_m5 82 rfl) rfl
theorem q1147 : (Jvm.Cond.methodLink "LoserKeepsTheBoard" (496 : Nat) ({ cls := "LoserKeepsTheBoard", name := "cell", desc := "(III)I" } : Jvm.MethodName)) ∈ lw_all := lw_g (lw_at lw_m5 83 rfl) rfl
theorem q1148 : (Jvm.Cond.instanceMethod ({ cls := "LoserKeepsTheBoard", name := "cell", desc := "(III)I" } : Jvm.MethodName)) ∈ lw_all := lw_g (lw_at lw_m5 84 rfl) rfl
theorem q1149 : (Jvm.Cond.selects "LoserKeepsTheBoard" ({ cls := "LoserKeepsTheBoard", name := "cell", desc := "(III)I" } : Jvm.MethodName) ({ cls := "LoserKeepsTheBoard", name := "cell", desc := "(III)I" } : Jvm.MethodName)) ∈ lw_all := lw_g (lw_at lw_m5 85 rfl) rfl
theorem q1150 : (Jvm.Cond.codeWith ({ cls := "LoserKeepsTheBoard", name := "cell", desc := "(III)I" } : Jvm.MethodName) prog_1_method_88_code (5 : Nat) (Option.some Jvm.ClassFile.FieldType.int) [((10 : Nat), (24 : Nat), (25 : Nat), (531 : Nat)), ((10 : Nat), (24 : Nat), (30 : Nat), (533 : Nat))]) ∈ lw_all := lw_g (lw_at lw_m5 86 rfl) rfl
theorem q1151 : (Jvm.Cond.classLink "LoserKeepsTheBoard" (531 : Nat) "java/lang/NullPointerException") ∈ lw_all := lw_g (lw_at lw_m5 87 rfl) rfl
theorem q1188 : (Jvm.Cond.methodLink "LoserKeepsTheBoard" (528 : Nat) ({ cls := "LoserKeepsTheBoard", name := "put", desc := "(Ljava/lang/Object;II)I" } : Jvm.MethodName)) ∈ lw_all := lw_g (lw_at lw_m5 124 rfl) rfl
theorem q1189 : (Jvm.Cond.static ({ cls := "LoserKeepsTheBoard", name := "put", desc := "(Ljava/lang/Object;II)I" } : Jvm.MethodName)) ∈ lw_all := lw_g (lw_at lw_m5 125 rfl) rfl
theorem q1190 : (Jvm.Cond.code ({ cls := "LoserKeepsTheBoard", name := "put", desc := "(Ljava/lang/Object;II)I" } : Jvm.MethodName) prog_1_method_87_code (3 : Nat) (Option.some Jvm.ClassFile.FieldType.int)) ∈ lw_all := lw_g (lw_at lw_m5 126 rfl) rfl
theorem q1193 : (Jvm.Cond.instanceMethod ({ cls := "LoserKeepsTheBoard", name := "drawn", desc := "(III)I" } : Jvm.MethodName)) ∈ lw_all := lw_g (lw_at lw_m5 129 rfl) rfl
theorem q1194 : (Jvm.Cond.selects "LoserKeepsTheBoard" ({ cls := "LoserKeepsTheBoard", name := "drawn", desc := "(III)I" } : Jvm.MethodName) ({ cls := "LoserKeepsTheBoard", name := "drawn", desc := "(III)I" } : Jvm.MethodName)) ∈ lw_all := lw_g (lw_at lw_m5 130 rfl) rfl
theorem q1195 : (Jvm.Cond.code ({ cls := "LoserKeepsTheBoard", name := "drawn", desc := "(III)I" } : Jvm.MethodName) prog_1_method_79_code (4 : Nat) (Option.some Jvm.ClassFile.FieldType.int)) ∈ lw_all := lw_g (lw_at lw_m5 131 rfl) rfl
theorem q1196 : (Jvm.Cond.constantLong "LoserKeepsTheBoard" (500 : Nat) (60 : Int64)) ∈ lw_all := lw_g (lw_at lw_m5 132 rfl) rfl
theorem q1197 : (Jvm.Cond.methodLink "LoserKeepsTheBoard" (502 : Nat) ({ cls := "LoserKeepsTheBoard", name := "hasDrawn", desc := "(III)I" } : Jvm.MethodName)) ∈ lw_all := lw_g (lw_at lw_m5 133 rfl) rfl
theorem q1198 : (Jvm.Cond.privateMethod ({ cls := "LoserKeepsTheBoard", name := "hasDrawn", desc := "(III)I" } : Jvm.MethodName)) ∈ lw_tbl := lw_at lw_m5 134 rfl
theorem q1199 : (Jvm.Cond.instanceMethod ({ cls := "LoserKeepsTheBoard", name := "hasDrawn", desc := "(III)I" } : Jvm.MethodName)) ∈ lw_all := lw_g (lw_at lw_m5 135 rfl) rfl
theorem q1200 : (Jvm.Cond.codeWith ({ cls := "LoserKeepsTheBoard", name := "hasDrawn", desc := "(III)I" } : Jvm.MethodName) prog_1_method_78_code (8 : Nat) (Option.some Jvm.ClassFile.FieldType.int) [((8 : Nat), (95 : Nat), (103 : Nat), (0 : Nat)), ((103 : Nat), (105 : Nat), (103 : Nat), (0 : Nat))]) ∈ lw_all := lw_g (lw_at lw_m5 136 rfl) rfl
theorem q1201 : (Jvm.Cond.constant "LoserKeepsTheBoard" (499 : Nat) (1103515245 : Int32)) ∈ lw_all := lw_g (lw_at lw_m5 137 rfl) rfl
theorem q1203 : (Jvm.Cond.instanceMethod ({ cls := "LoserKeepsTheBoard", name := "chance", desc := "(IIIII)J" } : Jvm.MethodName)) ∈ lw_all := lw_g (lw_at lw_m5 139 rfl) rfl
theorem q1204 : (Jvm.Cond.selects "LoserKeepsTheBoard" ({ cls := "LoserKeepsTheBoard", name := "chance", desc := "(IIIII)J" } : Jvm.MethodName) ({ cls := "LoserKeepsTheBoard", name := "chance", desc := "(IIIII)J" } : Jvm.MethodName)) ∈ lw_all := lw_g (lw_at lw_m5 140 rfl) rfl
theorem q1205 : (Jvm.Cond.code ({ cls := "LoserKeepsTheBoard", name := "chance", desc := "(IIIII)J" } : Jvm.MethodName) prog_1_method_80_code (14 : Nat) (Option.some Jvm.ClassFile.FieldType.long)) ∈ lw_all := lw_g (lw_at lw_m5 141 rfl) rfl
theorem q1206 : (Jvm.Cond.constantLong "LoserKeepsTheBoard" (505 : Nat) (20 : Int64)) ∈ lw_all := lw_g (lw_at lw_m5 142 rfl) rfl
theorem q1207 : (Jvm.Cond.constantLong "LoserKeepsTheBoard" (507 : Nat) (-4611686018427387904 : Int64)) ∈ lw_all := lw_g (lw_at lw_m5 143 rfl) rfl
theorem q1209 : (Jvm.Cond.instanceMethod ({ cls := "LoserKeepsTheBoard", name := "image", desc := "()I" } : Jvm.MethodName)) ∈ lw_all := lw_g (lw_at lw_m5 145 rfl) rfl
theorem q1210 : (Jvm.Cond.selects "LoserKeepsTheBoard" ({ cls := "LoserKeepsTheBoard", name := "image", desc := "()I" } : Jvm.MethodName) ({ cls := "LoserKeepsTheBoard", name := "image", desc := "()I" } : Jvm.MethodName)) ∈ lw_all := lw_g (lw_at lw_m5 146 rfl) rfl
theorem q1211 : (Jvm.Cond.code ({ cls := "LoserKeepsTheBoard", name := "image", desc := "()I" } : Jvm.MethodName) prog_1_method_81_code (2 : Nat) (Option.some Jvm.ClassFile.FieldType.int)) ∈ lw_all := lw_g (lw_at lw_m5 147 rfl) rfl
theorem q1213 : (Jvm.Cond.instanceMethod ({ cls := "LoserKeepsTheBoard", name := "back", desc := "()I" } : Jvm.MethodName)) ∈ lw_all := lw_g (lw_at lw_m5 149 rfl) rfl
theorem q1214 : (Jvm.Cond.selects "LoserKeepsTheBoard" ({ cls := "LoserKeepsTheBoard", name := "back", desc := "()I" } : Jvm.MethodName) ({ cls := "LoserKeepsTheBoard", name := "back", desc := "()I" } : Jvm.MethodName)) ∈ lw_all := lw_g (lw_at lw_m5 150 rfl) rfl
theorem q1215 : (Jvm.Cond.code ({ cls := "LoserKeepsTheBoard", name := "back", desc := "()I" } : Jvm.MethodName) prog_1_method_82_code (2 : Nat) (Option.some Jvm.ClassFile.FieldType.int)) ∈ lw_all := lw_g (lw_at lw_m5 151 rfl) rfl
theorem q1217 : (Jvm.Cond.instanceMethod ({ cls := "LoserKeepsTheBoard", name := "count", desc := "(I)I" } : Jvm.MethodName)) ∈ lw_all := lw_g (lw_at lw_m5 153 rfl) rfl
theorem q1218 : (Jvm.Cond.selects "LoserKeepsTheBoard" ({ cls := "LoserKeepsTheBoard", name := "count", desc := "(I)I" } : Jvm.MethodName) ({ cls := "LoserKeepsTheBoard", name := "count", desc := "(I)I" } : Jvm.MethodName)) ∈ lw_all := lw_g (lw_at lw_m5 154 rfl) rfl
theorem q1219 : (Jvm.Cond.code ({ cls := "LoserKeepsTheBoard", name := "count", desc := "(I)I" } : Jvm.MethodName) prog_1_method_83_code (2 : Nat) (Option.some Jvm.ClassFile.FieldType.int)) ∈ lw_all := lw_g (lw_at lw_m5 155 rfl) rfl
theorem q1223 : (Jvm.Cond.instanceMethod ({ cls := "LoserKeepsTheBoard", name := "copy", desc := "(IIIII)I" } : Jvm.MethodName)) ∈ lw_all := lw_g (lw_at lw_m5 159 rfl) rfl
theorem q1224 : (Jvm.Cond.selects "LoserKeepsTheBoard" ({ cls := "LoserKeepsTheBoard", name := "copy", desc := "(IIIII)I" } : Jvm.MethodName) ({ cls := "LoserKeepsTheBoard", name := "copy", desc := "(IIIII)I" } : Jvm.MethodName)) ∈ lw_all := lw_g (lw_at lw_m5 160 rfl) rfl
theorem q1225 : (Jvm.Cond.code ({ cls := "LoserKeepsTheBoard", name := "copy", desc := "(IIIII)I" } : Jvm.MethodName) prog_1_method_93_code (10 : Nat) (Option.some Jvm.ClassFile.FieldType.int)) ∈ lw_all := lw_g (lw_at lw_m5 161 rfl) rfl
theorem q1226 : (Jvm.Cond.methodLink "LoserKeepsTheBoard" (536 : Nat) ({ cls := "java/lang/System", name := "arraycopy", desc := "(Ljava/lang/Object;ILjava/lang/Object;II)V" } : Jvm.MethodName)) ∈ lw_all := lw_g (lw_at lw_m5 162 rfl) rfl
theorem q1230 : (Jvm.Cond.instanceMethod ({ cls := "LoserKeepsTheBoard", name := "players", desc := "(IIII)I" } : Jvm.MethodName)) ∈ lw_all := lw_g (lw_at lw_m5 166 rfl) rfl
theorem q1231 : (Jvm.Cond.selects "LoserKeepsTheBoard" ({ cls := "LoserKeepsTheBoard", name := "players", desc := "(IIII)I" } : Jvm.MethodName) ({ cls := "LoserKeepsTheBoard", name := "players", desc := "(IIII)I" } : Jvm.MethodName)) ∈ lw_all := lw_g (lw_at lw_m5 167 rfl) rfl
theorem q1232 : (Jvm.Cond.codeWith ({ cls := "LoserKeepsTheBoard", name := "players", desc := "(IIII)I" } : Jvm.MethodName) prog_1_method_95_code (6 : Nat) (Option.some Jvm.ClassFile.FieldType.int) [((35 : Nat), (52 : Nat), (53 : Nat), (549 : Nat)), ((35 : Nat), (52 : Nat), (58 : Nat), (531 : Nat)), ((35 : Nat), (52 : Nat), (63 : Nat), (533 : Nat))]) ∈ lw_all := lw_g (lw_at lw_m5 168 rfl) rfl
theorem q1233 : (Jvm.Cond.classLink "LoserKeepsTheBoard" (549 : Nat) "java/lang/ClassCastException") ∈ lw_all := lw_g (lw_at lw_m5 169 rfl) rfl
theorem q1247 : (Jvm.Cond.methodLink "LoserKeepsTheBoard" (545 : Nat) ({ cls := "LoserKeepsTheBoard", name := "came", desc := "(Ljava/lang/Object;III)I" } : Jvm.MethodName)) ∈ lw_all := lw_g (lw_at lw_m5 183 rfl) rfl
theorem q1248 : (Jvm.Cond.privateMethod ({ cls := "LoserKeepsTheBoard", name := "came", desc := "(Ljava/lang/Object;III)I" } : Jvm.MethodName)) ∈ lw_tbl := lw_at lw_m5 184 rfl
theorem q1249 : (Jvm.Cond.instanceMethod ({ cls := "LoserKeepsTheBoard", name := "came", desc := "(Ljava/lang/Object;III)I" } : Jvm.MethodName)) ∈ lw_all := lw_g (lw_at lw_m5 185 rfl) rfl
theorem q1250 : (Jvm.Cond.code ({ cls := "LoserKeepsTheBoard", name := "came", desc := "(Ljava/lang/Object;III)I" } : Jvm.MethodName) prog_1_method_94_code (9 : Nat) (Option.some Jvm.ClassFile.FieldType.int)) ∈ lw_all := lw_g (lw_at lw_m5 186 rfl) rfl
theorem q1251 : (Jvm.Cond.methodLink "LoserKeepsTheBoard" (542 : Nat) ({ cls := "LoserKeepsTheBoard", name := "player", desc := "(II)I" } : Jvm.MethodName)) ∈ lw_all := lw_g (lw_at lw_m5 187 rfl) rfl
theorem q1253 : (Jvm.Cond.instanceMethod ({ cls := "LoserKeepsTheBoard", name := "taken", desc := "(II)I" } : Jvm.MethodName)) ∈ lw_all := lw_g (lw_at lw_m5 189 rfl) rfl
theorem q1254 : (Jvm.Cond.selects "LoserKeepsTheBoard" ({ cls := "LoserKeepsTheBoard", name := "taken", desc := "(II)I" } : Jvm.MethodName) ({ cls := "LoserKeepsTheBoard", name := "taken", desc := "(II)I" } : Jvm.MethodName)) ∈ lw_all := lw_g (lw_at lw_m5 190 rfl) rfl
theorem q1255 : (Jvm.Cond.codeWith ({ cls := "LoserKeepsTheBoard", name := "taken", desc := "(II)I" } : Jvm.MethodName) prog_1_method_97_code (4 : Nat) (Option.some Jvm.ClassFile.FieldType.int) [((15 : Nat), (40 : Nat), (41 : Nat), (531 : Nat)), ((15 : Nat), (40 : Nat), (45 : Nat), (549 : Nat))]) ∈ lw_all := lw_g (lw_at lw_m5 191 rfl) rfl
theorem q1256 : (Jvm.Cond.methodLink "LoserKeepsTheBoard" (551 : Nat) ({ cls := "LoserKeepsTheBoard", name := "as", desc := "(LLoserKeepsTheBoard$Player;I)LLoserKeepsTheBoard$Player;" } : Jvm.MethodName)) ∈ lw_all := lw_g (lw_at lw_m5 192 rfl) rfl
theorem q1257 : (Jvm.Cond.static ({ cls := "LoserKeepsTheBoard", name := "as", desc := "(LLoserKeepsTheBoard$Player;I)LLoserKeepsTheBoard$Player;" } : Jvm.MethodName)) ∈ lw_all := lw_g (lw_at lw_m5 193 rfl) rfl
theorem q1258 : (Jvm.Cond.code ({ cls := "LoserKeepsTheBoard", name := "as", desc := "(LLoserKeepsTheBoard$Player;I)LLoserKeepsTheBoard$Player;" } : Jvm.MethodName) prog_1_method_96_code (2 : Nat) (Option.some (Jvm.ClassFile.FieldType.object "LoserKeepsTheBoard$Player"))) ∈ lw_all := lw_g (lw_at lw_m5 194 rfl) rfl
theorem in_X0 : ∀ w ∈ wsX00, w ∈ lw_all := lw_in wsX00 [732, 734, 736, 738, 740, 742, 744, 746, 748, 750, 752, 754, 756, 758, 760, 762, 764, 766, 768, 770, 772, 774, 776, 778, 780, 782, 784, 786, 788, 790, 792, 794, 796] (by decide +kernel) (by decide +kernel)
