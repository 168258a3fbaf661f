/-! LoserKeepsTheBoardModel -/
set_option maxRecDepth 100000
def RX8 : String := "LoserKeepsTheBoardModel"
def TX8 : u_T := fun k => match k with
  | 0 => ("LoserKeepsTheBoardModel", "thrown", "I", false)
  | 1 => ("LoserKeepsTheBoardModel", "texts", "[I", true)
  | 2 => ("LoserKeepsTheBoardModel", "textSize", "[I", true)
  | 3 => ("LoserKeepsTheBoardModel", "textCount", "I", false)
  | 4 => ("LoserKeepsTheBoardModel", "rule", "I", false)
  | 5 => ("LoserKeepsTheBoardModel", "tape", "[I", true)
  | 6 => ("LoserKeepsTheBoardModel", "taped", "I", false)
  | 7 => ("LoserKeepsTheBoardModel", "roundNow", "I", false)
  | 8 => ("LoserKeepsTheBoardModel", "hall", "I", false)
  | 9 => ("LoserKeepsTheBoardModel", "kinds", "[I", true)
  | 10 => ("LoserKeepsTheBoardModel", "rows", "[I", true)
  | 11 => ("LoserKeepsTheBoardModel", "many", "I", false)
  | 12 => ("LoserKeepsTheBoardModel", "ofStrong", "I", false)
  | 13 => ("LoserKeepsTheBoardModel", "ofHas", "I", false)
  | 14 => ("LoserKeepsTheBoardModel", "ofNumber", "I", false)
  | 15 => ("LoserKeepsTheBoardModel", "ofTheirs", "I", false)
  | 16 => ("LoserKeepsTheBoardModel", "ofRound", "I", false)
  | 17 => ("LoserKeepsTheBoardModel", "ofStake", "I", false)
  | 18 => ("LoserKeepsTheBoardModel", "from", "I", false)
  | 19 => ("LoserKeepsTheBoardModel", "size", "I", false)
  | 20 => ("LoserKeepsTheBoardModel", "here", "I", false)
  | 21 => ("LoserKeepsTheBoardModel", "token", "I", false)
  | 22 => ("LoserKeepsTheBoardModel", "tokenAt", "I", false)
  | 23 => ("LoserKeepsTheBoardModel", "tokenWorth", "J", false)
  | 24 => ("LoserKeepsTheBoardModel", "open", "I", false)
  | 25 => ("LoserKeepsTheBoardModel", "bad", "Z", false)
  | 26 => ("LoserKeepsTheBoardModel", "fault", "I", false)
  | 27 => ("LoserKeepsTheBoardModel", "aside", "[I", true)
  | 28 => ("LoserKeepsTheBoardModel", "asideMany", "I", false)
  | 29 => ("LoserKeepsTheBoardModel", "bestDigits", "I", false)
  | 30 => ("LoserKeepsTheBoardModel", "bestMany", "I", false)
  | 31 => ("LoserKeepsTheBoardModel", "allSet", "I", false)
  | 32 => ("LoserKeepsTheBoardModel", "rowsKept", "[I", true)
  | 33 => ("LoserKeepsTheBoardModel", "hallKept", "I", false)
  | 34 => ("LoserKeepsTheBoardModel", "manyKept", "I", false)
  | 35 => ("LoserKeepsTheBoardModel", "roundKept", "I", false)
  | 36 => ("LoserKeepsTheBoardModel", "ruleKept", "I", false)
  | 37 => ("LoserKeepsTheBoardModel", "isThere", "[Z", true)
  | 38 => ("LoserKeepsTheBoardModel", "sorts", "[I", true)
  | 39 => ("LoserKeepsTheBoardModel", "sheetSize", "[I", true)
  | _ => ("LoserKeepsTheBoardModel", "items", "[I", true)
def tyX8 : Nat → FieldType := fun k => match k with
  | 0 => .int
  | 1 => .array .int
  | 2 => .array .int
  | 3 => .int
  | 4 => .int
  | 5 => .array .int
  | 6 => .int
  | 7 => .int
  | 8 => .int
  | 9 => .array .int
  | 10 => .array .int
  | 11 => .int
  | 12 => .int
  | 13 => .int
  | 14 => .int
  | 15 => .int
  | 16 => .int
  | 17 => .int
  | 18 => .int
  | 19 => .int
  | 20 => .int
  | 21 => .int
  | 22 => .int
  | 23 => .long
  | 24 => .int
  | 25 => .boolean
  | 26 => .int
  | 27 => .array .int
  | 28 => .int
  | 29 => .int
  | 30 => .int
  | 31 => .int
  | 32 => .array .int
  | 33 => .int
  | 34 => .int
  | 35 => .int
  | 36 => .int
  | 37 => .array .boolean
  | 38 => .array .int
  | 39 => .array .int
  | _ => .array .int
abbrev wsX80 : List Cond := u_ws RX8 TX8 41
set_option maxRecDepth 100000 in
theorem nmX8 : ∀ a, a < 41 → ∀ b, b < 41 → a ≠ b → (TX8 a).2.1 ≠ (TX8 b).2.1 := by decide +kernel
set_option maxRecDepth 100000 in
theorem tyX8_ok : ∀ k, k < 41 → parseFieldDescriptor (TX8 k).2.2.1 = some (tyX8 k) := by decide +kernel
abbrev cX8_init : ByteArray := prog_16_method_4_code
def yX8_init : MethodName := ⟨RX8, "<init>", "()V"⟩
def dkwX8_init_10 : List UInt8 := [182, 0, 54, 42, 180, 0, 17, 3, 16, 48, 79, 42, 4, 181, 0, 58, 177]
abbrev dktX8_init_10 : List UInt8 := dkwX8_init_10 ++ []
def dkwX8_init_9 : List UInt8 := [182, 0, 54, 42, 16, 40, 16, 59, 16, 32, 16, 32, 16, 32, 16, 32, 16, 32, 16, 32, 16, 32]
abbrev dktX8_init_9 : List UInt8 := dkwX8_init_9 ++ dktX8_init_10
def dkwX8_init_8 : List UInt8 := [182, 0, 54, 42, 16, 32, 16, 116, 16, 105, 16, 114, 16, 101, 16, 115, 16, 32, 16, 49, 16, 32]
abbrev dktX8_init_8 : List UInt8 := dkwX8_init_8 ++ dktX8_init_9
def dkwX8_init_7 : List UInt8 := [16, 97, 182, 0, 54, 42, 16, 24, 16, 115, 16, 32, 16, 60, 16, 32, 16, 49, 16, 32, 16, 59, 16, 32]
abbrev dktX8_init_7 : List UInt8 := dkwX8_init_7 ++ dktX8_init_8
def dkwX8_init_6 : List UInt8 := [16, 32, 16, 116, 182, 0, 54, 42, 16, 16, 16, 104, 16, 114, 16, 111, 16, 119, 16, 115, 16, 32, 16, 104]
abbrev dktX8_init_6 : List UInt8 := dkwX8_init_6 ++ dktX8_init_7
def dkwX8_init_5 : List UInt8 := [16, 32, 16, 115, 16, 116, 182, 0, 54, 42, 16, 8, 16, 114, 16, 111, 16, 110, 16, 103, 16, 32, 16, 59]
abbrev dktX8_init_5 : List UInt8 := dkwX8_init_5 ++ dktX8_init_6
def dkwX8_init_4 : List UInt8 := [181, 0, 48, 42, 17, 0, 160, 188, 10, 181, 0, 51, 42, 3, 16, 112, 16, 108, 16, 97, 16, 121, 16, 115]
abbrev dktX8_init_4 : List UInt8 := dkwX8_init_4 ++ dktX8_init_5
def dkwX8_init_3 : List UInt8 := [42, 2, 181, 0, 38, 42, 7, 188, 4, 181, 0, 41, 42, 7, 188, 10, 181, 0, 45, 42, 7, 188, 10]
abbrev dktX8_init_3 : List UInt8 := dkwX8_init_3 ++ dktX8_init_4
def dkwX8_init_2 : List UInt8 := [16, 24, 188, 10, 181, 0, 29, 42, 17, 0, 208, 188, 10, 181, 0, 32, 42, 16, 24, 188, 10, 181, 0, 35]
abbrev dktX8_init_2 : List UInt8 := dkwX8_init_2 ++ dktX8_init_3
def dkwX8_init_1 : List UInt8 := [17, 0, 160, 188, 10, 181, 0, 20, 42, 17, 0, 255, 181, 0, 23, 42, 16, 6, 188, 10, 181, 0, 26, 42]
abbrev dktX8_init_1 : List UInt8 := dkwX8_init_1 ++ dktX8_init_2
def dkwX8_init_0 : List UInt8 := [42, 183, 0, 7, 42, 17, 3, 192, 188, 10, 181, 0, 13, 42, 16, 6, 188, 10, 181, 0, 17, 42]
abbrev dktX8_init_0 : List UInt8 := dkwX8_init_0 ++ dktX8_init_1
theorem dksX8_init_0 : cX8_init.data.toList.drop 0 = dktX8_init_0 := by decide +kernel
theorem dksX8_init_1 : cX8_init.data.toList.drop 22 = dktX8_init_1 := dk_seg dksX8_init_0 22 rfl rfl
theorem dksX8_init_2 : cX8_init.data.toList.drop 46 = dktX8_init_2 := dk_seg dksX8_init_1 24 rfl rfl
theorem dksX8_init_3 : cX8_init.data.toList.drop 70 = dktX8_init_3 := dk_seg dksX8_init_2 24 rfl rfl
theorem dksX8_init_4 : cX8_init.data.toList.drop 93 = dktX8_init_4 := dk_seg dksX8_init_3 23 rfl rfl
theorem dksX8_init_5 : cX8_init.data.toList.drop 117 = dktX8_init_5 := dk_seg dksX8_init_4 24 rfl rfl
theorem dksX8_init_6 : cX8_init.data.toList.drop 141 = dktX8_init_6 := dk_seg dksX8_init_5 24 rfl rfl
theorem dksX8_init_7 : cX8_init.data.toList.drop 165 = dktX8_init_7 := dk_seg dksX8_init_6 24 rfl rfl
theorem dksX8_init_8 : cX8_init.data.toList.drop 189 = dktX8_init_8 := dk_seg dksX8_init_7 24 rfl rfl
theorem dksX8_init_9 : cX8_init.data.toList.drop 211 = dktX8_init_9 := dk_seg dksX8_init_8 22 rfl rfl
theorem dksX8_init_10 : cX8_init.data.toList.drop 233 = dktX8_init_10 := dk_seg dksX8_init_9 22 rfl rfl
theorem dX8_init_0 : decode cX8_init 0 = .ok (.aload_n 0, 1) := dk_42 (dk_at dksX8_init_0 0 rfl rfl)
theorem dX8_init_1 : decode cX8_init 1 = .ok (.invokespecial 7, 3) := dk_183 0 7 (dk_at dksX8_init_0 1 rfl rfl)
theorem dX8_init_4 : decode cX8_init 4 = .ok (.aload_n 0, 1) := dk_42 (dk_at dksX8_init_0 4 rfl rfl)
theorem dX8_init_5 : decode cX8_init 5 = .ok (.sipush 960, 3) := dk_17 3 192 (dk_at dksX8_init_0 5 rfl rfl)
theorem dX8_init_8 : decode cX8_init 8 = .ok (.newarray .int, 2) := dk_188_10 (dk_at dksX8_init_0 8 rfl rfl)
theorem dX8_init_10 : decode cX8_init 10 = .ok (.putfield 13, 3) := dk_181 0 13 (dk_at dksX8_init_0 10 rfl rfl)
theorem dX8_init_13 : decode cX8_init 13 = .ok (.aload_n 0, 1) := dk_42 (dk_at dksX8_init_0 13 rfl rfl)
theorem dX8_init_14 : decode cX8_init 14 = .ok (.bipush 6, 2) := dk_16 6 (dk_at dksX8_init_0 14 rfl rfl)
theorem dX8_init_16 : decode cX8_init 16 = .ok (.newarray .int, 2) := dk_188_10 (dk_at dksX8_init_0 16 rfl rfl)
theorem dX8_init_18 : decode cX8_init 18 = .ok (.putfield 17, 3) := dk_181 0 17 (dk_at dksX8_init_0 18 rfl rfl)
theorem dX8_init_21 : decode cX8_init 21 = .ok (.aload_n 0, 1) := dk_42 (dk_at dksX8_init_0 21 rfl rfl)
theorem dX8_init_22 : decode cX8_init 22 = .ok (.sipush 160, 3) := dk_17 0 160 (dk_at dksX8_init_1 0 rfl rfl)
theorem dX8_init_25 : decode cX8_init 25 = .ok (.newarray .int, 2) := dk_188_10 (dk_at dksX8_init_1 3 rfl rfl)
theorem dX8_init_27 : decode cX8_init 27 = .ok (.putfield 20, 3) := dk_181 0 20 (dk_at dksX8_init_1 5 rfl rfl)
theorem dX8_init_30 : decode cX8_init 30 = .ok (.aload_n 0, 1) := dk_42 (dk_at dksX8_init_1 8 rfl rfl)
theorem dX8_init_31 : decode cX8_init 31 = .ok (.sipush 255, 3) := dk_17 0 255 (dk_at dksX8_init_1 9 rfl rfl)
theorem dX8_init_34 : decode cX8_init 34 = .ok (.putfield 23, 3) := dk_181 0 23 (dk_at dksX8_init_1 12 rfl rfl)
theorem dX8_init_37 : decode cX8_init 37 = .ok (.aload_n 0, 1) := dk_42 (dk_at dksX8_init_1 15 rfl rfl)
theorem dX8_init_38 : decode cX8_init 38 = .ok (.bipush 6, 2) := dk_16 6 (dk_at dksX8_init_1 16 rfl rfl)
theorem dX8_init_40 : decode cX8_init 40 = .ok (.newarray .int, 2) := dk_188_10 (dk_at dksX8_init_1 18 rfl rfl)
theorem dX8_init_42 : decode cX8_init 42 = .ok (.putfield 26, 3) := dk_181 0 26 (dk_at dksX8_init_1 20 rfl rfl)
theorem dX8_init_45 : decode cX8_init 45 = .ok (.aload_n 0, 1) := dk_42 (dk_at dksX8_init_1 23 rfl rfl)
theorem dX8_init_46 : decode cX8_init 46 = .ok (.bipush 24, 2) := dk_16 24 (dk_at dksX8_init_2 0 rfl rfl)
theorem dX8_init_48 : decode cX8_init 48 = .ok (.newarray .int, 2) := dk_188_10 (dk_at dksX8_init_2 2 rfl rfl)
theorem dX8_init_50 : decode cX8_init 50 = .ok (.putfield 29, 3) := dk_181 0 29 (dk_at dksX8_init_2 4 rfl rfl)
theorem dX8_init_53 : decode cX8_init 53 = .ok (.aload_n 0, 1) := dk_42 (dk_at dksX8_init_2 7 rfl rfl)
theorem dX8_init_54 : decode cX8_init 54 = .ok (.sipush 208, 3) := dk_17 0 208 (dk_at dksX8_init_2 8 rfl rfl)
theorem dX8_init_57 : decode cX8_init 57 = .ok (.newarray .int, 2) := dk_188_10 (dk_at dksX8_init_2 11 rfl rfl)
theorem dX8_init_59 : decode cX8_init 59 = .ok (.putfield 32, 3) := dk_181 0 32 (dk_at dksX8_init_2 13 rfl rfl)
theorem dX8_init_62 : decode cX8_init 62 = .ok (.aload_n 0, 1) := dk_42 (dk_at dksX8_init_2 16 rfl rfl)
theorem dX8_init_63 : decode cX8_init 63 = .ok (.bipush 24, 2) := dk_16 24 (dk_at dksX8_init_2 17 rfl rfl)
theorem dX8_init_65 : decode cX8_init 65 = .ok (.newarray .int, 2) := dk_188_10 (dk_at dksX8_init_2 19 rfl rfl)
theorem dX8_init_67 : decode cX8_init 67 = .ok (.putfield 35, 3) := dk_181 0 35 (dk_at dksX8_init_2 21 rfl rfl)
theorem dX8_init_70 : decode cX8_init 70 = .ok (.aload_n 0, 1) := dk_42 (dk_at dksX8_init_3 0 rfl rfl)
theorem dX8_init_71 : decode cX8_init 71 = .ok (.iconst (-1), 1) := dk_2 (dk_at dksX8_init_3 1 rfl rfl)
theorem dX8_init_72 : decode cX8_init 72 = .ok (.putfield 38, 3) := dk_181 0 38 (dk_at dksX8_init_3 2 rfl rfl)
theorem dX8_init_75 : decode cX8_init 75 = .ok (.aload_n 0, 1) := dk_42 (dk_at dksX8_init_3 5 rfl rfl)
theorem dX8_init_76 : decode cX8_init 76 = .ok (.iconst 4, 1) := dk_7 (dk_at dksX8_init_3 6 rfl rfl)
theorem dX8_init_77 : decode cX8_init 77 = .ok (.newarray .boolean, 2) := dk_188_4 (dk_at dksX8_init_3 7 rfl rfl)
theorem dX8_init_79 : decode cX8_init 79 = .ok (.putfield 41, 3) := dk_181 0 41 (dk_at dksX8_init_3 9 rfl rfl)
theorem dX8_init_82 : decode cX8_init 82 = .ok (.aload_n 0, 1) := dk_42 (dk_at dksX8_init_3 12 rfl rfl)
theorem dX8_init_83 : decode cX8_init 83 = .ok (.iconst 4, 1) := dk_7 (dk_at dksX8_init_3 13 rfl rfl)
theorem dX8_init_84 : decode cX8_init 84 = .ok (.newarray .int, 2) := dk_188_10 (dk_at dksX8_init_3 14 rfl rfl)
theorem dX8_init_86 : decode cX8_init 86 = .ok (.putfield 45, 3) := dk_181 0 45 (dk_at dksX8_init_3 16 rfl rfl)
theorem dX8_init_89 : decode cX8_init 89 = .ok (.aload_n 0, 1) := dk_42 (dk_at dksX8_init_3 19 rfl rfl)
theorem dX8_init_90 : decode cX8_init 90 = .ok (.iconst 4, 1) := dk_7 (dk_at dksX8_init_3 20 rfl rfl)
theorem dX8_init_91 : decode cX8_init 91 = .ok (.newarray .int, 2) := dk_188_10 (dk_at dksX8_init_3 21 rfl rfl)
theorem dX8_init_93 : decode cX8_init 93 = .ok (.putfield 48, 3) := dk_181 0 48 (dk_at dksX8_init_4 0 rfl rfl)
theorem dX8_init_96 : decode cX8_init 96 = .ok (.aload_n 0, 1) := dk_42 (dk_at dksX8_init_4 3 rfl rfl)
theorem dX8_init_97 : decode cX8_init 97 = .ok (.sipush 160, 3) := dk_17 0 160 (dk_at dksX8_init_4 4 rfl rfl)
theorem dX8_init_100 : decode cX8_init 100 = .ok (.newarray .int, 2) := dk_188_10 (dk_at dksX8_init_4 7 rfl rfl)
theorem dX8_init_102 : decode cX8_init 102 = .ok (.putfield 51, 3) := dk_181 0 51 (dk_at dksX8_init_4 9 rfl rfl)
theorem dX8_init_105 : decode cX8_init 105 = .ok (.aload_n 0, 1) := dk_42 (dk_at dksX8_init_4 12 rfl rfl)
theorem dX8_init_106 : decode cX8_init 106 = .ok (.iconst 0, 1) := dk_3 (dk_at dksX8_init_4 13 rfl rfl)
theorem dX8_init_107 : decode cX8_init 107 = .ok (.bipush 112, 2) := dk_16 112 (dk_at dksX8_init_4 14 rfl rfl)
theorem dX8_init_109 : decode cX8_init 109 = .ok (.bipush 108, 2) := dk_16 108 (dk_at dksX8_init_4 16 rfl rfl)
theorem dX8_init_111 : decode cX8_init 111 = .ok (.bipush 97, 2) := dk_16 97 (dk_at dksX8_init_4 18 rfl rfl)
theorem dX8_init_113 : decode cX8_init 113 = .ok (.bipush 121, 2) := dk_16 121 (dk_at dksX8_init_4 20 rfl rfl)
theorem dX8_init_115 : decode cX8_init 115 = .ok (.bipush 115, 2) := dk_16 115 (dk_at dksX8_init_4 22 rfl rfl)
theorem dX8_init_117 : decode cX8_init 117 = .ok (.bipush 32, 2) := dk_16 32 (dk_at dksX8_init_5 0 rfl rfl)
theorem dX8_init_119 : decode cX8_init 119 = .ok (.bipush 115, 2) := dk_16 115 (dk_at dksX8_init_5 2 rfl rfl)
theorem dX8_init_121 : decode cX8_init 121 = .ok (.bipush 116, 2) := dk_16 116 (dk_at dksX8_init_5 4 rfl rfl)
theorem dX8_init_123 : decode cX8_init 123 = .ok (.invokevirtual 54, 3) := dk_182 0 54 (dk_at dksX8_init_5 6 rfl rfl)
theorem dX8_init_126 : decode cX8_init 126 = .ok (.aload_n 0, 1) := dk_42 (dk_at dksX8_init_5 9 rfl rfl)
theorem dX8_init_127 : decode cX8_init 127 = .ok (.bipush 8, 2) := dk_16 8 (dk_at dksX8_init_5 10 rfl rfl)
theorem dX8_init_129 : decode cX8_init 129 = .ok (.bipush 114, 2) := dk_16 114 (dk_at dksX8_init_5 12 rfl rfl)
theorem dX8_init_131 : decode cX8_init 131 = .ok (.bipush 111, 2) := dk_16 111 (dk_at dksX8_init_5 14 rfl rfl)
theorem dX8_init_133 : decode cX8_init 133 = .ok (.bipush 110, 2) := dk_16 110 (dk_at dksX8_init_5 16 rfl rfl)
theorem dX8_init_135 : decode cX8_init 135 = .ok (.bipush 103, 2) := dk_16 103 (dk_at dksX8_init_5 18 rfl rfl)
theorem dX8_init_137 : decode cX8_init 137 = .ok (.bipush 32, 2) := dk_16 32 (dk_at dksX8_init_5 20 rfl rfl)
theorem dX8_init_139 : decode cX8_init 139 = .ok (.bipush 59, 2) := dk_16 59 (dk_at dksX8_init_5 22 rfl rfl)
theorem dX8_init_141 : decode cX8_init 141 = .ok (.bipush 32, 2) := dk_16 32 (dk_at dksX8_init_6 0 rfl rfl)
theorem dX8_init_143 : decode cX8_init 143 = .ok (.bipush 116, 2) := dk_16 116 (dk_at dksX8_init_6 2 rfl rfl)
theorem dX8_init_145 : decode cX8_init 145 = .ok (.invokevirtual 54, 3) := dk_182 0 54 (dk_at dksX8_init_6 4 rfl rfl)
theorem dX8_init_148 : decode cX8_init 148 = .ok (.aload_n 0, 1) := dk_42 (dk_at dksX8_init_6 7 rfl rfl)
theorem dX8_init_149 : decode cX8_init 149 = .ok (.bipush 16, 2) := dk_16 16 (dk_at dksX8_init_6 8 rfl rfl)
theorem dX8_init_151 : decode cX8_init 151 = .ok (.bipush 104, 2) := dk_16 104 (dk_at dksX8_init_6 10 rfl rfl)
theorem dX8_init_153 : decode cX8_init 153 = .ok (.bipush 114, 2) := dk_16 114 (dk_at dksX8_init_6 12 rfl rfl)
theorem dX8_init_155 : decode cX8_init 155 = .ok (.bipush 111, 2) := dk_16 111 (dk_at dksX8_init_6 14 rfl rfl)
theorem dX8_init_157 : decode cX8_init 157 = .ok (.bipush 119, 2) := dk_16 119 (dk_at dksX8_init_6 16 rfl rfl)
theorem dX8_init_159 : decode cX8_init 159 = .ok (.bipush 115, 2) := dk_16 115 (dk_at dksX8_init_6 18 rfl rfl)
theorem dX8_init_161 : decode cX8_init 161 = .ok (.bipush 32, 2) := dk_16 32 (dk_at dksX8_init_6 20 rfl rfl)
theorem dX8_init_163 : decode cX8_init 163 = .ok (.bipush 104, 2) := dk_16 104 (dk_at dksX8_init_6 22 rfl rfl)
theorem dX8_init_165 : decode cX8_init 165 = .ok (.bipush 97, 2) := dk_16 97 (dk_at dksX8_init_7 0 rfl rfl)
theorem dX8_init_167 : decode cX8_init 167 = .ok (.invokevirtual 54, 3) := dk_182 0 54 (dk_at dksX8_init_7 2 rfl rfl)
theorem dX8_init_170 : decode cX8_init 170 = .ok (.aload_n 0, 1) := dk_42 (dk_at dksX8_init_7 5 rfl rfl)
theorem dX8_init_171 : decode cX8_init 171 = .ok (.bipush 24, 2) := dk_16 24 (dk_at dksX8_init_7 6 rfl rfl)
theorem dX8_init_173 : decode cX8_init 173 = .ok (.bipush 115, 2) := dk_16 115 (dk_at dksX8_init_7 8 rfl rfl)
theorem dX8_init_175 : decode cX8_init 175 = .ok (.bipush 32, 2) := dk_16 32 (dk_at dksX8_init_7 10 rfl rfl)
theorem dX8_init_177 : decode cX8_init 177 = .ok (.bipush 60, 2) := dk_16 60 (dk_at dksX8_init_7 12 rfl rfl)
theorem dX8_init_179 : decode cX8_init 179 = .ok (.bipush 32, 2) := dk_16 32 (dk_at dksX8_init_7 14 rfl rfl)
theorem dX8_init_181 : decode cX8_init 181 = .ok (.bipush 49, 2) := dk_16 49 (dk_at dksX8_init_7 16 rfl rfl)
theorem dX8_init_183 : decode cX8_init 183 = .ok (.bipush 32, 2) := dk_16 32 (dk_at dksX8_init_7 18 rfl rfl)
theorem dX8_init_185 : decode cX8_init 185 = .ok (.bipush 59, 2) := dk_16 59 (dk_at dksX8_init_7 20 rfl rfl)
theorem dX8_init_187 : decode cX8_init 187 = .ok (.bipush 32, 2) := dk_16 32 (dk_at dksX8_init_7 22 rfl rfl)
theorem dX8_init_189 : decode cX8_init 189 = .ok (.invokevirtual 54, 3) := dk_182 0 54 (dk_at dksX8_init_8 0 rfl rfl)
theorem dX8_init_192 : decode cX8_init 192 = .ok (.aload_n 0, 1) := dk_42 (dk_at dksX8_init_8 3 rfl rfl)
theorem dX8_init_193 : decode cX8_init 193 = .ok (.bipush 32, 2) := dk_16 32 (dk_at dksX8_init_8 4 rfl rfl)
theorem dX8_init_195 : decode cX8_init 195 = .ok (.bipush 116, 2) := dk_16 116 (dk_at dksX8_init_8 6 rfl rfl)
theorem dX8_init_197 : decode cX8_init 197 = .ok (.bipush 105, 2) := dk_16 105 (dk_at dksX8_init_8 8 rfl rfl)
theorem dX8_init_199 : decode cX8_init 199 = .ok (.bipush 114, 2) := dk_16 114 (dk_at dksX8_init_8 10 rfl rfl)
theorem dX8_init_201 : decode cX8_init 201 = .ok (.bipush 101, 2) := dk_16 101 (dk_at dksX8_init_8 12 rfl rfl)
theorem dX8_init_203 : decode cX8_init 203 = .ok (.bipush 115, 2) := dk_16 115 (dk_at dksX8_init_8 14 rfl rfl)
theorem dX8_init_205 : decode cX8_init 205 = .ok (.bipush 32, 2) := dk_16 32 (dk_at dksX8_init_8 16 rfl rfl)
theorem dX8_init_207 : decode cX8_init 207 = .ok (.bipush 49, 2) := dk_16 49 (dk_at dksX8_init_8 18 rfl rfl)
theorem dX8_init_209 : decode cX8_init 209 = .ok (.bipush 32, 2) := dk_16 32 (dk_at dksX8_init_8 20 rfl rfl)
theorem dX8_init_211 : decode cX8_init 211 = .ok (.invokevirtual 54, 3) := dk_182 0 54 (dk_at dksX8_init_9 0 rfl rfl)
theorem dX8_init_214 : decode cX8_init 214 = .ok (.aload_n 0, 1) := dk_42 (dk_at dksX8_init_9 3 rfl rfl)
theorem dX8_init_215 : decode cX8_init 215 = .ok (.bipush 40, 2) := dk_16 40 (dk_at dksX8_init_9 4 rfl rfl)
theorem dX8_init_217 : decode cX8_init 217 = .ok (.bipush 59, 2) := dk_16 59 (dk_at dksX8_init_9 6 rfl rfl)
theorem dX8_init_219 : decode cX8_init 219 = .ok (.bipush 32, 2) := dk_16 32 (dk_at dksX8_init_9 8 rfl rfl)
theorem dX8_init_221 : decode cX8_init 221 = .ok (.bipush 32, 2) := dk_16 32 (dk_at dksX8_init_9 10 rfl rfl)
theorem dX8_init_223 : decode cX8_init 223 = .ok (.bipush 32, 2) := dk_16 32 (dk_at dksX8_init_9 12 rfl rfl)
theorem dX8_init_225 : decode cX8_init 225 = .ok (.bipush 32, 2) := dk_16 32 (dk_at dksX8_init_9 14 rfl rfl)
theorem dX8_init_227 : decode cX8_init 227 = .ok (.bipush 32, 2) := dk_16 32 (dk_at dksX8_init_9 16 rfl rfl)
theorem dX8_init_229 : decode cX8_init 229 = .ok (.bipush 32, 2) := dk_16 32 (dk_at dksX8_init_9 18 rfl rfl)
theorem dX8_init_231 : decode cX8_init 231 = .ok (.bipush 32, 2) := dk_16 32 (dk_at dksX8_init_9 20 rfl rfl)
theorem dX8_init_233 : decode cX8_init 233 = .ok (.invokevirtual 54, 3) := dk_182 0 54 (dk_at dksX8_init_10 0 rfl rfl)
theorem dX8_init_236 : decode cX8_init 236 = .ok (.aload_n 0, 1) := dk_42 (dk_at dksX8_init_10 3 rfl rfl)
theorem dX8_init_237 : decode cX8_init 237 = .ok (.getfield 17, 3) := dk_180 0 17 (dk_at dksX8_init_10 4 rfl rfl)
theorem dX8_init_240 : decode cX8_init 240 = .ok (.iconst 0, 1) := dk_3 (dk_at dksX8_init_10 7 rfl rfl)
theorem dX8_init_241 : decode cX8_init 241 = .ok (.bipush 48, 2) := dk_16 48 (dk_at dksX8_init_10 8 rfl rfl)
theorem dX8_init_243 : decode cX8_init 243 = .ok (.iastore, 1) := dk_79 (dk_at dksX8_init_10 10 rfl rfl)
theorem dX8_init_244 : decode cX8_init 244 = .ok (.aload_n 0, 1) := dk_42 (dk_at dksX8_init_10 11 rfl rfl)
theorem dX8_init_245 : decode cX8_init 245 = .ok (.iconst 1, 1) := dk_4 (dk_at dksX8_init_10 12 rfl rfl)
theorem dX8_init_246 : decode cX8_init 246 = .ok (.putfield 58, 3) := dk_181 0 58 (dk_at dksX8_init_10 13 rfl rfl)
theorem dX8_init_249 : decode cX8_init 249 = .ok (.return_, 1) := dk_177 (dk_at dksX8_init_10 16 rfl rfl)
abbrev cX8_spell : ByteArray := prog_16_method_5_code
def yX8_spell : MethodName := ⟨RX8, "spell", "(IIIIIIIII)V"⟩
def dkwX8_spell_3 : List UInt8 := [27, 16, 7, 96, 21, 9, 79, 177]
abbrev dktX8_spell_3 : List UInt8 := dkwX8_spell_3 ++ []
def dkwX8_spell_2 : List UInt8 := [180, 0, 13, 27, 8, 96, 21, 7, 79, 42, 180, 0, 13, 27, 16, 6, 96, 21, 8, 79, 42, 180, 0, 13]
abbrev dktX8_spell_2 : List UInt8 := dkwX8_spell_2 ++ dktX8_spell_3
def dkwX8_spell_1 : List UInt8 := [21, 4, 79, 42, 180, 0, 13, 27, 6, 96, 21, 5, 79, 42, 180, 0, 13, 27, 7, 96, 21, 6, 79, 42]
abbrev dktX8_spell_1 : List UInt8 := dkwX8_spell_1 ++ dktX8_spell_2
def dkwX8_spell_0 : List UInt8 := [42, 180, 0, 13, 27, 28, 79, 42, 180, 0, 13, 27, 4, 96, 29, 79, 42, 180, 0, 13, 27, 5, 96]
abbrev dktX8_spell_0 : List UInt8 := dkwX8_spell_0 ++ dktX8_spell_1
theorem dksX8_spell_0 : cX8_spell.data.toList.drop 0 = dktX8_spell_0 := by decide +kernel
theorem dksX8_spell_1 : cX8_spell.data.toList.drop 23 = dktX8_spell_1 := dk_seg dksX8_spell_0 23 rfl rfl
theorem dksX8_spell_2 : cX8_spell.data.toList.drop 47 = dktX8_spell_2 := dk_seg dksX8_spell_1 24 rfl rfl
theorem dksX8_spell_3 : cX8_spell.data.toList.drop 71 = dktX8_spell_3 := dk_seg dksX8_spell_2 24 rfl rfl
theorem dX8_spell_0 : decode cX8_spell 0 = .ok (.aload_n 0, 1) := dk_42 (dk_at dksX8_spell_0 0 rfl rfl)
theorem dX8_spell_1 : decode cX8_spell 1 = .ok (.getfield 13, 3) := dk_180 0 13 (dk_at dksX8_spell_0 1 rfl rfl)
theorem dX8_spell_4 : decode cX8_spell 4 = .ok (.iload_n 1, 1) := dk_27 (dk_at dksX8_spell_0 4 rfl rfl)
theorem dX8_spell_5 : decode cX8_spell 5 = .ok (.iload_n 2, 1) := dk_28 (dk_at dksX8_spell_0 5 rfl rfl)
theorem dX8_spell_6 : decode cX8_spell 6 = .ok (.iastore, 1) := dk_79 (dk_at dksX8_spell_0 6 rfl rfl)
theorem dX8_spell_7 : decode cX8_spell 7 = .ok (.aload_n 0, 1) := dk_42 (dk_at dksX8_spell_0 7 rfl rfl)
theorem dX8_spell_8 : decode cX8_spell 8 = .ok (.getfield 13, 3) := dk_180 0 13 (dk_at dksX8_spell_0 8 rfl rfl)
theorem dX8_spell_11 : decode cX8_spell 11 = .ok (.iload_n 1, 1) := dk_27 (dk_at dksX8_spell_0 11 rfl rfl)
theorem dX8_spell_12 : decode cX8_spell 12 = .ok (.iconst 1, 1) := dk_4 (dk_at dksX8_spell_0 12 rfl rfl)
theorem dX8_spell_13 : decode cX8_spell 13 = .ok (.iadd, 1) := dk_96 (dk_at dksX8_spell_0 13 rfl rfl)
theorem dX8_spell_14 : decode cX8_spell 14 = .ok (.iload_n 3, 1) := dk_29 (dk_at dksX8_spell_0 14 rfl rfl)
theorem dX8_spell_15 : decode cX8_spell 15 = .ok (.iastore, 1) := dk_79 (dk_at dksX8_spell_0 15 rfl rfl)
theorem dX8_spell_16 : decode cX8_spell 16 = .ok (.aload_n 0, 1) := dk_42 (dk_at dksX8_spell_0 16 rfl rfl)
theorem dX8_spell_17 : decode cX8_spell 17 = .ok (.getfield 13, 3) := dk_180 0 13 (dk_at dksX8_spell_0 17 rfl rfl)
theorem dX8_spell_20 : decode cX8_spell 20 = .ok (.iload_n 1, 1) := dk_27 (dk_at dksX8_spell_0 20 rfl rfl)
theorem dX8_spell_21 : decode cX8_spell 21 = .ok (.iconst 2, 1) := dk_5 (dk_at dksX8_spell_0 21 rfl rfl)
theorem dX8_spell_22 : decode cX8_spell 22 = .ok (.iadd, 1) := dk_96 (dk_at dksX8_spell_0 22 rfl rfl)
theorem dX8_spell_23 : decode cX8_spell 23 = .ok (.iload 4, 2) := dk_21 4 (dk_at dksX8_spell_1 0 rfl rfl)
theorem dX8_spell_25 : decode cX8_spell 25 = .ok (.iastore, 1) := dk_79 (dk_at dksX8_spell_1 2 rfl rfl)
theorem dX8_spell_26 : decode cX8_spell 26 = .ok (.aload_n 0, 1) := dk_42 (dk_at dksX8_spell_1 3 rfl rfl)
theorem dX8_spell_27 : decode cX8_spell 27 = .ok (.getfield 13, 3) := dk_180 0 13 (dk_at dksX8_spell_1 4 rfl rfl)
theorem dX8_spell_30 : decode cX8_spell 30 = .ok (.iload_n 1, 1) := dk_27 (dk_at dksX8_spell_1 7 rfl rfl)
theorem dX8_spell_31 : decode cX8_spell 31 = .ok (.iconst 3, 1) := dk_6 (dk_at dksX8_spell_1 8 rfl rfl)
theorem dX8_spell_32 : decode cX8_spell 32 = .ok (.iadd, 1) := dk_96 (dk_at dksX8_spell_1 9 rfl rfl)
theorem dX8_spell_33 : decode cX8_spell 33 = .ok (.iload 5, 2) := dk_21 5 (dk_at dksX8_spell_1 10 rfl rfl)
theorem dX8_spell_35 : decode cX8_spell 35 = .ok (.iastore, 1) := dk_79 (dk_at dksX8_spell_1 12 rfl rfl)
theorem dX8_spell_36 : decode cX8_spell 36 = .ok (.aload_n 0, 1) := dk_42 (dk_at dksX8_spell_1 13 rfl rfl)
theorem dX8_spell_37 : decode cX8_spell 37 = .ok (.getfield 13, 3) := dk_180 0 13 (dk_at dksX8_spell_1 14 rfl rfl)
theorem dX8_spell_40 : decode cX8_spell 40 = .ok (.iload_n 1, 1) := dk_27 (dk_at dksX8_spell_1 17 rfl rfl)
theorem dX8_spell_41 : decode cX8_spell 41 = .ok (.iconst 4, 1) := dk_7 (dk_at dksX8_spell_1 18 rfl rfl)
theorem dX8_spell_42 : decode cX8_spell 42 = .ok (.iadd, 1) := dk_96 (dk_at dksX8_spell_1 19 rfl rfl)
theorem dX8_spell_43 : decode cX8_spell 43 = .ok (.iload 6, 2) := dk_21 6 (dk_at dksX8_spell_1 20 rfl rfl)
theorem dX8_spell_45 : decode cX8_spell 45 = .ok (.iastore, 1) := dk_79 (dk_at dksX8_spell_1 22 rfl rfl)
theorem dX8_spell_46 : decode cX8_spell 46 = .ok (.aload_n 0, 1) := dk_42 (dk_at dksX8_spell_1 23 rfl rfl)
theorem dX8_spell_47 : decode cX8_spell 47 = .ok (.getfield 13, 3) := dk_180 0 13 (dk_at dksX8_spell_2 0 rfl rfl)
theorem dX8_spell_50 : decode cX8_spell 50 = .ok (.iload_n 1, 1) := dk_27 (dk_at dksX8_spell_2 3 rfl rfl)
theorem dX8_spell_51 : decode cX8_spell 51 = .ok (.iconst 5, 1) := dk_8 (dk_at dksX8_spell_2 4 rfl rfl)
theorem dX8_spell_52 : decode cX8_spell 52 = .ok (.iadd, 1) := dk_96 (dk_at dksX8_spell_2 5 rfl rfl)
theorem dX8_spell_53 : decode cX8_spell 53 = .ok (.iload 7, 2) := dk_21 7 (dk_at dksX8_spell_2 6 rfl rfl)
theorem dX8_spell_55 : decode cX8_spell 55 = .ok (.iastore, 1) := dk_79 (dk_at dksX8_spell_2 8 rfl rfl)
theorem dX8_spell_56 : decode cX8_spell 56 = .ok (.aload_n 0, 1) := dk_42 (dk_at dksX8_spell_2 9 rfl rfl)
theorem dX8_spell_57 : decode cX8_spell 57 = .ok (.getfield 13, 3) := dk_180 0 13 (dk_at dksX8_spell_2 10 rfl rfl)
theorem dX8_spell_60 : decode cX8_spell 60 = .ok (.iload_n 1, 1) := dk_27 (dk_at dksX8_spell_2 13 rfl rfl)
theorem dX8_spell_61 : decode cX8_spell 61 = .ok (.bipush 6, 2) := dk_16 6 (dk_at dksX8_spell_2 14 rfl rfl)
theorem dX8_spell_63 : decode cX8_spell 63 = .ok (.iadd, 1) := dk_96 (dk_at dksX8_spell_2 16 rfl rfl)
theorem dX8_spell_64 : decode cX8_spell 64 = .ok (.iload 8, 2) := dk_21 8 (dk_at dksX8_spell_2 17 rfl rfl)
theorem dX8_spell_66 : decode cX8_spell 66 = .ok (.iastore, 1) := dk_79 (dk_at dksX8_spell_2 19 rfl rfl)
theorem dX8_spell_67 : decode cX8_spell 67 = .ok (.aload_n 0, 1) := dk_42 (dk_at dksX8_spell_2 20 rfl rfl)
theorem dX8_spell_68 : decode cX8_spell 68 = .ok (.getfield 13, 3) := dk_180 0 13 (dk_at dksX8_spell_2 21 rfl rfl)
theorem dX8_spell_71 : decode cX8_spell 71 = .ok (.iload_n 1, 1) := dk_27 (dk_at dksX8_spell_3 0 rfl rfl)
theorem dX8_spell_72 : decode cX8_spell 72 = .ok (.bipush 7, 2) := dk_16 7 (dk_at dksX8_spell_3 1 rfl rfl)
theorem dX8_spell_74 : decode cX8_spell 74 = .ok (.iadd, 1) := dk_96 (dk_at dksX8_spell_3 3 rfl rfl)
theorem dX8_spell_75 : decode cX8_spell 75 = .ok (.iload 9, 2) := dk_21 9 (dk_at dksX8_spell_3 4 rfl rfl)
theorem dX8_spell_77 : decode cX8_spell 77 = .ok (.iastore, 1) := dk_79 (dk_at dksX8_spell_3 6 rfl rfl)
theorem dX8_spell_78 : decode cX8_spell 78 = .ok (.return_, 1) := dk_177 (dk_at dksX8_spell_3 7 rfl rfl)
abbrev cX8_set : ByteArray := prog_16_method_11_code
def yX8_set : MethodName := ⟨RX8, "set", "(III)I"⟩
def dkwX8_set_2 : List UInt8 := [182, 0, 96, 21, 4, 172]
abbrev dktX8_set_2 : List UInt8 := dkwX8_set_2 ++ []
def dkwX8_set_1 : List UInt8 := [182, 0, 89, 154, 0, 7, 17, 252, 24, 172, 42, 28, 27, 182, 0, 92, 54, 4, 42, 27, 28, 29]
abbrev dktX8_set_1 : List UInt8 := dkwX8_set_1 ++ dktX8_set_2
def dkwX8_set_0 : List UInt8 := [27, 133, 9, 20, 0, 83, 184, 0, 64, 153, 0, 21, 42, 27, 28, 182, 0, 85, 153, 0, 12, 42, 27, 29]
abbrev dktX8_set_0 : List UInt8 := dkwX8_set_0 ++ dktX8_set_1
theorem dksX8_set_0 : cX8_set.data.toList.drop 0 = dktX8_set_0 := by decide +kernel
theorem dksX8_set_1 : cX8_set.data.toList.drop 24 = dktX8_set_1 := dk_seg dksX8_set_0 24 rfl rfl
theorem dksX8_set_2 : cX8_set.data.toList.drop 46 = dktX8_set_2 := dk_seg dksX8_set_1 22 rfl rfl
theorem dX8_set_0 : decode cX8_set 0 = .ok (.iload_n 1, 1) := dk_27 (dk_at dksX8_set_0 0 rfl rfl)
theorem dX8_set_1 : decode cX8_set 1 = .ok (.i2l, 1) := dk_133 (dk_at dksX8_set_0 1 rfl rfl)
theorem dX8_set_2 : decode cX8_set 2 = .ok (.lconst 0, 1) := dk_9 (dk_at dksX8_set_0 2 rfl rfl)
theorem dX8_set_3 : decode cX8_set 3 = .ok (.ldc2_w 83, 3) := dk_20 0 83 (dk_at dksX8_set_0 3 rfl rfl)
theorem dX8_set_6 : decode cX8_set 6 = .ok (.invokestatic 64, 3) := dk_184 0 64 (dk_at dksX8_set_0 6 rfl rfl)
theorem dX8_set_9 : decode cX8_set 9 = .ok (.ifCond .eq 21, 3) := dk_153 0 21 (dk_at dksX8_set_0 9 rfl rfl)
theorem dX8_set_12 : decode cX8_set 12 = .ok (.aload_n 0, 1) := dk_42 (dk_at dksX8_set_0 12 rfl rfl)
theorem dX8_set_13 : decode cX8_set 13 = .ok (.iload_n 1, 1) := dk_27 (dk_at dksX8_set_0 13 rfl rfl)
theorem dX8_set_14 : decode cX8_set 14 = .ok (.iload_n 2, 1) := dk_28 (dk_at dksX8_set_0 14 rfl rfl)
theorem dX8_set_15 : decode cX8_set 15 = .ok (.invokevirtual 85, 3) := dk_182 0 85 (dk_at dksX8_set_0 15 rfl rfl)
theorem dX8_set_18 : decode cX8_set 18 = .ok (.ifCond .eq 12, 3) := dk_153 0 12 (dk_at dksX8_set_0 18 rfl rfl)
theorem dX8_set_21 : decode cX8_set 21 = .ok (.aload_n 0, 1) := dk_42 (dk_at dksX8_set_0 21 rfl rfl)
theorem dX8_set_22 : decode cX8_set 22 = .ok (.iload_n 1, 1) := dk_27 (dk_at dksX8_set_0 22 rfl rfl)
theorem dX8_set_23 : decode cX8_set 23 = .ok (.iload_n 3, 1) := dk_29 (dk_at dksX8_set_0 23 rfl rfl)
theorem dX8_set_24 : decode cX8_set 24 = .ok (.invokevirtual 89, 3) := dk_182 0 89 (dk_at dksX8_set_1 0 rfl rfl)
theorem dX8_set_27 : decode cX8_set 27 = .ok (.ifCond .ne 7, 3) := dk_154 0 7 (dk_at dksX8_set_1 3 rfl rfl)
theorem dX8_set_30 : decode cX8_set 30 = .ok (.sipush (-1000), 3) := dk_17 252 24 (dk_at dksX8_set_1 6 rfl rfl)
theorem dX8_set_33 : decode cX8_set 33 = .ok (.ireturn, 1) := dk_172 (dk_at dksX8_set_1 9 rfl rfl)
theorem dX8_set_34 : decode cX8_set 34 = .ok (.aload_n 0, 1) := dk_42 (dk_at dksX8_set_1 10 rfl rfl)
theorem dX8_set_35 : decode cX8_set 35 = .ok (.iload_n 2, 1) := dk_28 (dk_at dksX8_set_1 11 rfl rfl)
theorem dX8_set_36 : decode cX8_set 36 = .ok (.iload_n 1, 1) := dk_27 (dk_at dksX8_set_1 12 rfl rfl)
theorem dX8_set_37 : decode cX8_set 37 = .ok (.invokevirtual 92, 3) := dk_182 0 92 (dk_at dksX8_set_1 13 rfl rfl)
theorem dX8_set_40 : decode cX8_set 40 = .ok (.istore 4, 2) := dk_54 4 (dk_at dksX8_set_1 16 rfl rfl)
theorem dX8_set_42 : decode cX8_set 42 = .ok (.aload_n 0, 1) := dk_42 (dk_at dksX8_set_1 18 rfl rfl)
theorem dX8_set_43 : decode cX8_set 43 = .ok (.iload_n 1, 1) := dk_27 (dk_at dksX8_set_1 19 rfl rfl)
theorem dX8_set_44 : decode cX8_set 44 = .ok (.iload_n 2, 1) := dk_28 (dk_at dksX8_set_1 20 rfl rfl)
theorem dX8_set_45 : decode cX8_set 45 = .ok (.iload_n 3, 1) := dk_29 (dk_at dksX8_set_1 21 rfl rfl)
theorem dX8_set_46 : decode cX8_set 46 = .ok (.invokevirtual 96, 3) := dk_182 0 96 (dk_at dksX8_set_2 0 rfl rfl)
theorem dX8_set_49 : decode cX8_set 49 = .ok (.iload 4, 2) := dk_21 4 (dk_at dksX8_set_2 3 rfl rfl)
theorem dX8_set_51 : decode cX8_set 51 = .ok (.ireturn, 1) := dk_172 (dk_at dksX8_set_2 5 rfl rfl)
abbrev cX8_in : ByteArray := prog_16_method_2_code
def yX8_in : MethodName := ⟨RX8, "in", "(JJJ)Z"⟩
def dkwX8_in_0 : List UInt8 := [30, 32, 148, 155, 0, 14, 30, 22, 4, 148, 157, 0, 7, 4, 167, 0, 4, 3, 172]
abbrev dktX8_in_0 : List UInt8 := dkwX8_in_0 ++ []
theorem dksX8_in_0 : cX8_in.data.toList.drop 0 = dktX8_in_0 := by decide +kernel
theorem dX8_in_0 : decode cX8_in 0 = .ok (.lload_n 0, 1) := dk_30 (dk_at dksX8_in_0 0 rfl rfl)
theorem dX8_in_1 : decode cX8_in 1 = .ok (.lload_n 2, 1) := dk_32 (dk_at dksX8_in_0 1 rfl rfl)
theorem dX8_in_2 : decode cX8_in 2 = .ok (.lcmp, 1) := dk_148 (dk_at dksX8_in_0 2 rfl rfl)
theorem dX8_in_3 : decode cX8_in 3 = .ok (.ifCond .lt 14, 3) := dk_155 0 14 (dk_at dksX8_in_0 3 rfl rfl)
theorem dX8_in_6 : decode cX8_in 6 = .ok (.lload_n 0, 1) := dk_30 (dk_at dksX8_in_0 6 rfl rfl)
theorem dX8_in_7 : decode cX8_in 7 = .ok (.lload 4, 2) := dk_22 4 (dk_at dksX8_in_0 7 rfl rfl)
theorem dX8_in_9 : decode cX8_in 9 = .ok (.lcmp, 1) := dk_148 (dk_at dksX8_in_0 9 rfl rfl)
theorem dX8_in_10 : decode cX8_in 10 = .ok (.ifCond .gt 7, 3) := dk_157 0 7 (dk_at dksX8_in_0 10 rfl rfl)
theorem dX8_in_13 : decode cX8_in 13 = .ok (.iconst 1, 1) := dk_4 (dk_at dksX8_in_0 13 rfl rfl)
theorem dX8_in_14 : decode cX8_in 14 = .ok (.goto 4, 3) := dk_167 0 4 (dk_at dksX8_in_0 14 rfl rfl)
theorem dX8_in_17 : decode cX8_in 17 = .ok (.iconst 0, 1) := dk_3 (dk_at dksX8_in_0 17 rfl rfl)
theorem dX8_in_18 : decode cX8_in 18 = .ok (.ireturn, 1) := dk_172 (dk_at dksX8_in_0 18 rfl rfl)
abbrev cX8_isOf : ByteArray := prog_16_method_9_code
def yX8_isOf : MethodName := ⟨RX8, "isOf", "(II)Z"⟩
def dkwX8_isOf_1 : List UInt8 := [153, 0, 7, 4, 167, 0, 4, 3, 172]
abbrev dktX8_isOf_1 : List UInt8 := dkwX8_isOf_1 ++ []
def dkwX8_isOf_0 : List UInt8 := [27, 153, 0, 26, 27, 4, 160, 0, 13, 28, 184, 0, 74, 153, 0, 18, 167, 0, 11, 42, 28, 182, 0, 68]
abbrev dktX8_isOf_0 : List UInt8 := dkwX8_isOf_0 ++ dktX8_isOf_1
theorem dksX8_isOf_0 : cX8_isOf.data.toList.drop 0 = dktX8_isOf_0 := by decide +kernel
theorem dksX8_isOf_1 : cX8_isOf.data.toList.drop 24 = dktX8_isOf_1 := dk_seg dksX8_isOf_0 24 rfl rfl
theorem dX8_isOf_0 : decode cX8_isOf 0 = .ok (.iload_n 1, 1) := dk_27 (dk_at dksX8_isOf_0 0 rfl rfl)
theorem dX8_isOf_1 : decode cX8_isOf 1 = .ok (.ifCond .eq 26, 3) := dk_153 0 26 (dk_at dksX8_isOf_0 1 rfl rfl)
theorem dX8_isOf_4 : decode cX8_isOf 4 = .ok (.iload_n 1, 1) := dk_27 (dk_at dksX8_isOf_0 4 rfl rfl)
theorem dX8_isOf_5 : decode cX8_isOf 5 = .ok (.iconst 1, 1) := dk_4 (dk_at dksX8_isOf_0 5 rfl rfl)
theorem dX8_isOf_6 : decode cX8_isOf 6 = .ok (.if_icmp .ne 13, 3) := dk_160 0 13 (dk_at dksX8_isOf_0 6 rfl rfl)
theorem dX8_isOf_9 : decode cX8_isOf 9 = .ok (.iload_n 2, 1) := dk_28 (dk_at dksX8_isOf_0 9 rfl rfl)
theorem dX8_isOf_10 : decode cX8_isOf 10 = .ok (.invokestatic 74, 3) := dk_184 0 74 (dk_at dksX8_isOf_0 10 rfl rfl)
theorem dX8_isOf_13 : decode cX8_isOf 13 = .ok (.ifCond .eq 18, 3) := dk_153 0 18 (dk_at dksX8_isOf_0 13 rfl rfl)
theorem dX8_isOf_16 : decode cX8_isOf 16 = .ok (.goto 11, 3) := dk_167 0 11 (dk_at dksX8_isOf_0 16 rfl rfl)
theorem dX8_isOf_19 : decode cX8_isOf 19 = .ok (.aload_n 0, 1) := dk_42 (dk_at dksX8_isOf_0 19 rfl rfl)
theorem dX8_isOf_20 : decode cX8_isOf 20 = .ok (.iload_n 2, 1) := dk_28 (dk_at dksX8_isOf_0 20 rfl rfl)
theorem dX8_isOf_21 : decode cX8_isOf 21 = .ok (.invokevirtual 68, 3) := dk_182 0 68 (dk_at dksX8_isOf_0 21 rfl rfl)
theorem dX8_isOf_24 : decode cX8_isOf 24 = .ok (.ifCond .eq 7, 3) := dk_153 0 7 (dk_at dksX8_isOf_1 0 rfl rfl)
theorem dX8_isOf_27 : decode cX8_isOf 27 = .ok (.iconst 1, 1) := dk_4 (dk_at dksX8_isOf_1 3 rfl rfl)
theorem dX8_isOf_28 : decode cX8_isOf 28 = .ok (.goto 4, 3) := dk_167 0 4 (dk_at dksX8_isOf_1 4 rfl rfl)
theorem dX8_isOf_31 : decode cX8_isOf 31 = .ok (.iconst 0, 1) := dk_3 (dk_at dksX8_isOf_1 7 rfl rfl)
theorem dX8_isOf_32 : decode cX8_isOf 32 = .ok (.ireturn, 1) := dk_172 (dk_at dksX8_isOf_1 8 rfl rfl)
abbrev cX8_isThing : ByteArray := prog_16_method_8_code
def yX8_isThing : MethodName := ⟨RX8, "isThing", "(I)Z"⟩
def dkwX8_isThing_0 : List UInt8 := [26, 133, 9, 20, 0, 72, 184, 0, 64, 172]
abbrev dktX8_isThing_0 : List UInt8 := dkwX8_isThing_0 ++ []
theorem dksX8_isThing_0 : cX8_isThing.data.toList.drop 0 = dktX8_isThing_0 := by decide +kernel
theorem dX8_isThing_0 : decode cX8_isThing 0 = .ok (.iload_n 0, 1) := dk_26 (dk_at dksX8_isThing_0 0 rfl rfl)
theorem dX8_isThing_1 : decode cX8_isThing 1 = .ok (.i2l, 1) := dk_133 (dk_at dksX8_isThing_0 1 rfl rfl)
theorem dX8_isThing_2 : decode cX8_isThing 2 = .ok (.lconst 0, 1) := dk_9 (dk_at dksX8_isThing_0 2 rfl rfl)
theorem dX8_isThing_3 : decode cX8_isThing 3 = .ok (.ldc2_w 72, 3) := dk_20 0 72 (dk_at dksX8_isThing_0 3 rfl rfl)
theorem dX8_isThing_6 : decode cX8_isThing 6 = .ok (.invokestatic 64, 3) := dk_184 0 64 (dk_at dksX8_isThing_0 6 rfl rfl)
theorem dX8_isThing_9 : decode cX8_isThing 9 = .ok (.ireturn, 1) := dk_172 (dk_at dksX8_isThing_0 9 rfl rfl)
abbrev cX8_isOne : ByteArray := prog_16_method_6_code
def yX8_isOne : MethodName := ⟨RX8, "isOne", "(I)Z"⟩
def dkwX8_isOne_0 : List UInt8 := [27, 133, 9, 42, 180, 0, 61, 4, 100, 133, 184, 0, 64, 172]
abbrev dktX8_isOne_0 : List UInt8 := dkwX8_isOne_0 ++ []
theorem dksX8_isOne_0 : cX8_isOne.data.toList.drop 0 = dktX8_isOne_0 := by decide +kernel
theorem dX8_isOne_0 : decode cX8_isOne 0 = .ok (.iload_n 1, 1) := dk_27 (dk_at dksX8_isOne_0 0 rfl rfl)
theorem dX8_isOne_1 : decode cX8_isOne 1 = .ok (.i2l, 1) := dk_133 (dk_at dksX8_isOne_0 1 rfl rfl)
theorem dX8_isOne_2 : decode cX8_isOne 2 = .ok (.lconst 0, 1) := dk_9 (dk_at dksX8_isOne_0 2 rfl rfl)
theorem dX8_isOne_3 : decode cX8_isOne 3 = .ok (.aload_n 0, 1) := dk_42 (dk_at dksX8_isOne_0 3 rfl rfl)
theorem dX8_isOne_4 : decode cX8_isOne 4 = .ok (.getfield 61, 3) := dk_180 0 61 (dk_at dksX8_isOne_0 4 rfl rfl)
theorem dX8_isOne_7 : decode cX8_isOne 7 = .ok (.iconst 1, 1) := dk_4 (dk_at dksX8_isOne_0 7 rfl rfl)
theorem dX8_isOne_8 : decode cX8_isOne 8 = .ok (.isub, 1) := dk_100 (dk_at dksX8_isOne_0 8 rfl rfl)
theorem dX8_isOne_9 : decode cX8_isOne 9 = .ok (.i2l, 1) := dk_133 (dk_at dksX8_isOne_0 9 rfl rfl)
theorem dX8_isOne_10 : decode cX8_isOne 10 = .ok (.invokestatic 64, 3) := dk_184 0 64 (dk_at dksX8_isOne_0 10 rfl rfl)
theorem dX8_isOne_13 : decode cX8_isOne 13 = .ok (.ireturn, 1) := dk_172 (dk_at dksX8_isOne_0 13 rfl rfl)
abbrev cX8_isValue : ByteArray := prog_16_method_10_code
def yX8_isValue : MethodName := ⟨RX8, "isValue", "(II)Z"⟩
def dkwX8_isValue_2 : List UInt8 := [20, 0, 81, 184, 0, 64, 172]
abbrev dktX8_isValue_2 : List UInt8 := dkwX8_isValue_2 ++ []
def dkwX8_isValue_1 : List UInt8 := [28, 133, 9, 27, 154, 0, 9, 20, 0, 77, 167, 0, 17, 27, 5, 160, 0, 9, 20, 0, 79, 167, 0, 6]
abbrev dktX8_isValue_1 : List UInt8 := dkwX8_isValue_1 ++ dktX8_isValue_2
def dkwX8_isValue_0 : List UInt8 := [27, 4, 160, 0, 22, 28, 2, 159, 0, 11, 42, 28, 182, 0, 68, 153, 0, 7, 4, 167, 0, 4, 3, 172]
abbrev dktX8_isValue_0 : List UInt8 := dkwX8_isValue_0 ++ dktX8_isValue_1
theorem dksX8_isValue_0 : cX8_isValue.data.toList.drop 0 = dktX8_isValue_0 := by decide +kernel
theorem dksX8_isValue_1 : cX8_isValue.data.toList.drop 24 = dktX8_isValue_1 := dk_seg dksX8_isValue_0 24 rfl rfl
theorem dksX8_isValue_2 : cX8_isValue.data.toList.drop 48 = dktX8_isValue_2 := dk_seg dksX8_isValue_1 24 rfl rfl
theorem dX8_isValue_0 : decode cX8_isValue 0 = .ok (.iload_n 1, 1) := dk_27 (dk_at dksX8_isValue_0 0 rfl rfl)
theorem dX8_isValue_1 : decode cX8_isValue 1 = .ok (.iconst 1, 1) := dk_4 (dk_at dksX8_isValue_0 1 rfl rfl)
theorem dX8_isValue_2 : decode cX8_isValue 2 = .ok (.if_icmp .ne 22, 3) := dk_160 0 22 (dk_at dksX8_isValue_0 2 rfl rfl)
theorem dX8_isValue_5 : decode cX8_isValue 5 = .ok (.iload_n 2, 1) := dk_28 (dk_at dksX8_isValue_0 5 rfl rfl)
theorem dX8_isValue_6 : decode cX8_isValue 6 = .ok (.iconst (-1), 1) := dk_2 (dk_at dksX8_isValue_0 6 rfl rfl)
theorem dX8_isValue_7 : decode cX8_isValue 7 = .ok (.if_icmp .eq 11, 3) := dk_159 0 11 (dk_at dksX8_isValue_0 7 rfl rfl)
theorem dX8_isValue_10 : decode cX8_isValue 10 = .ok (.aload_n 0, 1) := dk_42 (dk_at dksX8_isValue_0 10 rfl rfl)
theorem dX8_isValue_11 : decode cX8_isValue 11 = .ok (.iload_n 2, 1) := dk_28 (dk_at dksX8_isValue_0 11 rfl rfl)
theorem dX8_isValue_12 : decode cX8_isValue 12 = .ok (.invokevirtual 68, 3) := dk_182 0 68 (dk_at dksX8_isValue_0 12 rfl rfl)
theorem dX8_isValue_15 : decode cX8_isValue 15 = .ok (.ifCond .eq 7, 3) := dk_153 0 7 (dk_at dksX8_isValue_0 15 rfl rfl)
theorem dX8_isValue_18 : decode cX8_isValue 18 = .ok (.iconst 1, 1) := dk_4 (dk_at dksX8_isValue_0 18 rfl rfl)
theorem dX8_isValue_19 : decode cX8_isValue 19 = .ok (.goto 4, 3) := dk_167 0 4 (dk_at dksX8_isValue_0 19 rfl rfl)
theorem dX8_isValue_22 : decode cX8_isValue 22 = .ok (.iconst 0, 1) := dk_3 (dk_at dksX8_isValue_0 22 rfl rfl)
theorem dX8_isValue_23 : decode cX8_isValue 23 = .ok (.ireturn, 1) := dk_172 (dk_at dksX8_isValue_0 23 rfl rfl)
theorem dX8_isValue_24 : decode cX8_isValue 24 = .ok (.iload_n 2, 1) := dk_28 (dk_at dksX8_isValue_1 0 rfl rfl)
theorem dX8_isValue_25 : decode cX8_isValue 25 = .ok (.i2l, 1) := dk_133 (dk_at dksX8_isValue_1 1 rfl rfl)
theorem dX8_isValue_26 : decode cX8_isValue 26 = .ok (.lconst 0, 1) := dk_9 (dk_at dksX8_isValue_1 2 rfl rfl)
theorem dX8_isValue_27 : decode cX8_isValue 27 = .ok (.iload_n 1, 1) := dk_27 (dk_at dksX8_isValue_1 3 rfl rfl)
theorem dX8_isValue_28 : decode cX8_isValue 28 = .ok (.ifCond .ne 9, 3) := dk_154 0 9 (dk_at dksX8_isValue_1 4 rfl rfl)
theorem dX8_isValue_31 : decode cX8_isValue 31 = .ok (.ldc2_w 77, 3) := dk_20 0 77 (dk_at dksX8_isValue_1 7 rfl rfl)
theorem dX8_isValue_34 : decode cX8_isValue 34 = .ok (.goto 17, 3) := dk_167 0 17 (dk_at dksX8_isValue_1 10 rfl rfl)
theorem dX8_isValue_37 : decode cX8_isValue 37 = .ok (.iload_n 1, 1) := dk_27 (dk_at dksX8_isValue_1 13 rfl rfl)
theorem dX8_isValue_38 : decode cX8_isValue 38 = .ok (.iconst 2, 1) := dk_5 (dk_at dksX8_isValue_1 14 rfl rfl)
theorem dX8_isValue_39 : decode cX8_isValue 39 = .ok (.if_icmp .ne 9, 3) := dk_160 0 9 (dk_at dksX8_isValue_1 15 rfl rfl)
theorem dX8_isValue_42 : decode cX8_isValue 42 = .ok (.ldc2_w 79, 3) := dk_20 0 79 (dk_at dksX8_isValue_1 18 rfl rfl)
theorem dX8_isValue_45 : decode cX8_isValue 45 = .ok (.goto 6, 3) := dk_167 0 6 (dk_at dksX8_isValue_1 21 rfl rfl)
theorem dX8_isValue_48 : decode cX8_isValue 48 = .ok (.ldc2_w 81, 3) := dk_20 0 81 (dk_at dksX8_isValue_2 0 rfl rfl)
theorem dX8_isValue_51 : decode cX8_isValue 51 = .ok (.invokestatic 64, 3) := dk_184 0 64 (dk_at dksX8_isValue_2 3 rfl rfl)
theorem dX8_isValue_54 : decode cX8_isValue 54 = .ok (.ireturn, 1) := dk_172 (dk_at dksX8_isValue_2 6 rfl rfl)
abbrev cX8_told : ByteArray := prog_16_method_19_code
def yX8_told : MethodName := ⟨RX8, "told", "(II)I"⟩
def dkwX8_told_4 : List UInt8 := [167, 0, 22, 28, 16, 6, 160, 0, 11, 42, 27, 182, 0, 112, 167, 0, 8, 42, 27, 182, 0, 122, 172]
abbrev dktX8_told_4 : List UInt8 := dkwX8_told_4 ++ []
def dkwX8_told_3 : List UInt8 := [42, 180, 0, 26, 27, 46, 167, 0, 40, 28, 8, 160, 0, 16, 42, 180, 0, 29, 7, 27, 104, 5, 96, 46]
abbrev dktX8_told_3 : List UInt8 := dkwX8_told_3 ++ dktX8_told_4
def dkwX8_told_2 : List UInt8 := [182, 0, 119, 167, 0, 15, 42, 180, 0, 29, 7, 27, 104, 28, 96, 5, 100, 46, 172, 28, 7, 160, 0, 12]
abbrev dktX8_told_2 : List UInt8 := dkwX8_told_2 ++ dktX8_told_3
def dkwX8_told_1 : List UInt8 := [172, 28, 7, 162, 0, 40, 28, 154, 0, 10, 42, 180, 0, 100, 167, 0, 28, 28, 4, 160, 0, 11, 42, 27]
abbrev dktX8_told_1 : List UInt8 := dkwX8_told_1 ++ dktX8_told_2
def dkwX8_told_0 : List UInt8 := [28, 133, 9, 20, 0, 72, 184, 0, 64, 153, 0, 12, 42, 28, 27, 182, 0, 85, 154, 0, 7, 17, 252, 24]
abbrev dktX8_told_0 : List UInt8 := dkwX8_told_0 ++ dktX8_told_1
theorem dksX8_told_0 : cX8_told.data.toList.drop 0 = dktX8_told_0 := by decide +kernel
theorem dksX8_told_1 : cX8_told.data.toList.drop 24 = dktX8_told_1 := dk_seg dksX8_told_0 24 rfl rfl
theorem dksX8_told_2 : cX8_told.data.toList.drop 48 = dktX8_told_2 := dk_seg dksX8_told_1 24 rfl rfl
theorem dksX8_told_3 : cX8_told.data.toList.drop 72 = dktX8_told_3 := dk_seg dksX8_told_2 24 rfl rfl
theorem dksX8_told_4 : cX8_told.data.toList.drop 96 = dktX8_told_4 := dk_seg dksX8_told_3 24 rfl rfl
theorem dX8_told_0 : decode cX8_told 0 = .ok (.iload_n 2, 1) := dk_28 (dk_at dksX8_told_0 0 rfl rfl)
theorem dX8_told_1 : decode cX8_told 1 = .ok (.i2l, 1) := dk_133 (dk_at dksX8_told_0 1 rfl rfl)
theorem dX8_told_2 : decode cX8_told 2 = .ok (.lconst 0, 1) := dk_9 (dk_at dksX8_told_0 2 rfl rfl)
theorem dX8_told_3 : decode cX8_told 3 = .ok (.ldc2_w 72, 3) := dk_20 0 72 (dk_at dksX8_told_0 3 rfl rfl)
theorem dX8_told_6 : decode cX8_told 6 = .ok (.invokestatic 64, 3) := dk_184 0 64 (dk_at dksX8_told_0 6 rfl rfl)
theorem dX8_told_9 : decode cX8_told 9 = .ok (.ifCond .eq 12, 3) := dk_153 0 12 (dk_at dksX8_told_0 9 rfl rfl)
theorem dX8_told_12 : decode cX8_told 12 = .ok (.aload_n 0, 1) := dk_42 (dk_at dksX8_told_0 12 rfl rfl)
theorem dX8_told_13 : decode cX8_told 13 = .ok (.iload_n 2, 1) := dk_28 (dk_at dksX8_told_0 13 rfl rfl)
theorem dX8_told_14 : decode cX8_told 14 = .ok (.iload_n 1, 1) := dk_27 (dk_at dksX8_told_0 14 rfl rfl)
theorem dX8_told_15 : decode cX8_told 15 = .ok (.invokevirtual 85, 3) := dk_182 0 85 (dk_at dksX8_told_0 15 rfl rfl)
theorem dX8_told_18 : decode cX8_told 18 = .ok (.ifCond .ne 7, 3) := dk_154 0 7 (dk_at dksX8_told_0 18 rfl rfl)
theorem dX8_told_21 : decode cX8_told 21 = .ok (.sipush (-1000), 3) := dk_17 252 24 (dk_at dksX8_told_0 21 rfl rfl)
theorem dX8_told_24 : decode cX8_told 24 = .ok (.ireturn, 1) := dk_172 (dk_at dksX8_told_1 0 rfl rfl)
theorem dX8_told_25 : decode cX8_told 25 = .ok (.iload_n 2, 1) := dk_28 (dk_at dksX8_told_1 1 rfl rfl)
theorem dX8_told_26 : decode cX8_told 26 = .ok (.iconst 4, 1) := dk_7 (dk_at dksX8_told_1 2 rfl rfl)
theorem dX8_told_27 : decode cX8_told 27 = .ok (.if_icmp .ge 40, 3) := dk_162 0 40 (dk_at dksX8_told_1 3 rfl rfl)
theorem dX8_told_30 : decode cX8_told 30 = .ok (.iload_n 2, 1) := dk_28 (dk_at dksX8_told_1 6 rfl rfl)
theorem dX8_told_31 : decode cX8_told 31 = .ok (.ifCond .ne 10, 3) := dk_154 0 10 (dk_at dksX8_told_1 7 rfl rfl)
theorem dX8_told_34 : decode cX8_told 34 = .ok (.aload_n 0, 1) := dk_42 (dk_at dksX8_told_1 10 rfl rfl)
theorem dX8_told_35 : decode cX8_told 35 = .ok (.getfield 100, 3) := dk_180 0 100 (dk_at dksX8_told_1 11 rfl rfl)
theorem dX8_told_38 : decode cX8_told 38 = .ok (.goto 28, 3) := dk_167 0 28 (dk_at dksX8_told_1 14 rfl rfl)
theorem dX8_told_41 : decode cX8_told 41 = .ok (.iload_n 2, 1) := dk_28 (dk_at dksX8_told_1 17 rfl rfl)
theorem dX8_told_42 : decode cX8_told 42 = .ok (.iconst 1, 1) := dk_4 (dk_at dksX8_told_1 18 rfl rfl)
theorem dX8_told_43 : decode cX8_told 43 = .ok (.if_icmp .ne 11, 3) := dk_160 0 11 (dk_at dksX8_told_1 19 rfl rfl)
theorem dX8_told_46 : decode cX8_told 46 = .ok (.aload_n 0, 1) := dk_42 (dk_at dksX8_told_1 22 rfl rfl)
theorem dX8_told_47 : decode cX8_told 47 = .ok (.iload_n 1, 1) := dk_27 (dk_at dksX8_told_1 23 rfl rfl)
theorem dX8_told_48 : decode cX8_told 48 = .ok (.invokevirtual 119, 3) := dk_182 0 119 (dk_at dksX8_told_2 0 rfl rfl)
theorem dX8_told_51 : decode cX8_told 51 = .ok (.goto 15, 3) := dk_167 0 15 (dk_at dksX8_told_2 3 rfl rfl)
theorem dX8_told_54 : decode cX8_told 54 = .ok (.aload_n 0, 1) := dk_42 (dk_at dksX8_told_2 6 rfl rfl)
theorem dX8_told_55 : decode cX8_told 55 = .ok (.getfield 29, 3) := dk_180 0 29 (dk_at dksX8_told_2 7 rfl rfl)
theorem dX8_told_58 : decode cX8_told 58 = .ok (.iconst 4, 1) := dk_7 (dk_at dksX8_told_2 10 rfl rfl)
theorem dX8_told_59 : decode cX8_told 59 = .ok (.iload_n 1, 1) := dk_27 (dk_at dksX8_told_2 11 rfl rfl)
theorem dX8_told_60 : decode cX8_told 60 = .ok (.imul, 1) := dk_104 (dk_at dksX8_told_2 12 rfl rfl)
theorem dX8_told_61 : decode cX8_told 61 = .ok (.iload_n 2, 1) := dk_28 (dk_at dksX8_told_2 13 rfl rfl)
theorem dX8_told_62 : decode cX8_told 62 = .ok (.iadd, 1) := dk_96 (dk_at dksX8_told_2 14 rfl rfl)
theorem dX8_told_63 : decode cX8_told 63 = .ok (.iconst 2, 1) := dk_5 (dk_at dksX8_told_2 15 rfl rfl)
theorem dX8_told_64 : decode cX8_told 64 = .ok (.isub, 1) := dk_100 (dk_at dksX8_told_2 16 rfl rfl)
theorem dX8_told_65 : decode cX8_told 65 = .ok (.iaload, 1) := dk_46 (dk_at dksX8_told_2 17 rfl rfl)
theorem dX8_told_66 : decode cX8_told 66 = .ok (.ireturn, 1) := dk_172 (dk_at dksX8_told_2 18 rfl rfl)
theorem dX8_told_67 : decode cX8_told 67 = .ok (.iload_n 2, 1) := dk_28 (dk_at dksX8_told_2 19 rfl rfl)
theorem dX8_told_68 : decode cX8_told 68 = .ok (.iconst 4, 1) := dk_7 (dk_at dksX8_told_2 20 rfl rfl)
theorem dX8_told_69 : decode cX8_told 69 = .ok (.if_icmp .ne 12, 3) := dk_160 0 12 (dk_at dksX8_told_2 21 rfl rfl)
theorem dX8_told_72 : decode cX8_told 72 = .ok (.aload_n 0, 1) := dk_42 (dk_at dksX8_told_3 0 rfl rfl)
theorem dX8_told_73 : decode cX8_told 73 = .ok (.getfield 26, 3) := dk_180 0 26 (dk_at dksX8_told_3 1 rfl rfl)
theorem dX8_told_76 : decode cX8_told 76 = .ok (.iload_n 1, 1) := dk_27 (dk_at dksX8_told_3 4 rfl rfl)
theorem dX8_told_77 : decode cX8_told 77 = .ok (.iaload, 1) := dk_46 (dk_at dksX8_told_3 5 rfl rfl)
theorem dX8_told_78 : decode cX8_told 78 = .ok (.goto 40, 3) := dk_167 0 40 (dk_at dksX8_told_3 6 rfl rfl)
theorem dX8_told_81 : decode cX8_told 81 = .ok (.iload_n 2, 1) := dk_28 (dk_at dksX8_told_3 9 rfl rfl)
theorem dX8_told_82 : decode cX8_told 82 = .ok (.iconst 5, 1) := dk_8 (dk_at dksX8_told_3 10 rfl rfl)
theorem dX8_told_83 : decode cX8_told 83 = .ok (.if_icmp .ne 16, 3) := dk_160 0 16 (dk_at dksX8_told_3 11 rfl rfl)
theorem dX8_told_86 : decode cX8_told 86 = .ok (.aload_n 0, 1) := dk_42 (dk_at dksX8_told_3 14 rfl rfl)
theorem dX8_told_87 : decode cX8_told 87 = .ok (.getfield 29, 3) := dk_180 0 29 (dk_at dksX8_told_3 15 rfl rfl)
theorem dX8_told_90 : decode cX8_told 90 = .ok (.iconst 4, 1) := dk_7 (dk_at dksX8_told_3 18 rfl rfl)
theorem dX8_told_91 : decode cX8_told 91 = .ok (.iload_n 1, 1) := dk_27 (dk_at dksX8_told_3 19 rfl rfl)
theorem dX8_told_92 : decode cX8_told 92 = .ok (.imul, 1) := dk_104 (dk_at dksX8_told_3 20 rfl rfl)
theorem dX8_told_93 : decode cX8_told 93 = .ok (.iconst 2, 1) := dk_5 (dk_at dksX8_told_3 21 rfl rfl)
theorem dX8_told_94 : decode cX8_told 94 = .ok (.iadd, 1) := dk_96 (dk_at dksX8_told_3 22 rfl rfl)
theorem dX8_told_95 : decode cX8_told 95 = .ok (.iaload, 1) := dk_46 (dk_at dksX8_told_3 23 rfl rfl)
theorem dX8_told_96 : decode cX8_told 96 = .ok (.goto 22, 3) := dk_167 0 22 (dk_at dksX8_told_4 0 rfl rfl)
theorem dX8_told_99 : decode cX8_told 99 = .ok (.iload_n 2, 1) := dk_28 (dk_at dksX8_told_4 3 rfl rfl)
theorem dX8_told_100 : decode cX8_told 100 = .ok (.bipush 6, 2) := dk_16 6 (dk_at dksX8_told_4 4 rfl rfl)
theorem dX8_told_102 : decode cX8_told 102 = .ok (.if_icmp .ne 11, 3) := dk_160 0 11 (dk_at dksX8_told_4 6 rfl rfl)
theorem dX8_told_105 : decode cX8_told 105 = .ok (.aload_n 0, 1) := dk_42 (dk_at dksX8_told_4 9 rfl rfl)
theorem dX8_told_106 : decode cX8_told 106 = .ok (.iload_n 1, 1) := dk_27 (dk_at dksX8_told_4 10 rfl rfl)
theorem dX8_told_107 : decode cX8_told 107 = .ok (.invokevirtual 112, 3) := dk_182 0 112 (dk_at dksX8_told_4 11 rfl rfl)
theorem dX8_told_110 : decode cX8_told 110 = .ok (.goto 8, 3) := dk_167 0 8 (dk_at dksX8_told_4 14 rfl rfl)
theorem dX8_told_113 : decode cX8_told 113 = .ok (.aload_n 0, 1) := dk_42 (dk_at dksX8_told_4 17 rfl rfl)
theorem dX8_told_114 : decode cX8_told 114 = .ok (.iload_n 1, 1) := dk_27 (dk_at dksX8_told_4 18 rfl rfl)
theorem dX8_told_115 : decode cX8_told 115 = .ok (.invokevirtual 122, 3) := dk_182 0 122 (dk_at dksX8_told_4 19 rfl rfl)
theorem dX8_told_118 : decode cX8_told 118 = .ok (.ireturn, 1) := dk_172 (dk_at dksX8_told_4 22 rfl rfl)
abbrev cX8_whereIs : ByteArray := prog_16_method_15_code
def yX8_whereIs : MethodName := ⟨RX8, "whereIs", "(I)I"⟩
def dkwX8_whereIs_1 : List UInt8 := [4, 160, 0, 5, 28, 172, 132, 2, 1, 167, 255, 225, 2, 172]
abbrev dktX8_whereIs_1 : List UInt8 := dkwX8_whereIs_1 ++ []
def dkwX8_whereIs_0 : List UInt8 := [3, 61, 28, 42, 180, 0, 61, 162, 0, 29, 42, 180, 0, 29, 7, 28, 104, 6, 96, 46, 27, 122, 4, 126]
abbrev dktX8_whereIs_0 : List UInt8 := dkwX8_whereIs_0 ++ dktX8_whereIs_1
theorem dksX8_whereIs_0 : cX8_whereIs.data.toList.drop 0 = dktX8_whereIs_0 := by decide +kernel
theorem dksX8_whereIs_1 : cX8_whereIs.data.toList.drop 24 = dktX8_whereIs_1 := dk_seg dksX8_whereIs_0 24 rfl rfl
theorem dX8_whereIs_0 : decode cX8_whereIs 0 = .ok (.iconst 0, 1) := dk_3 (dk_at dksX8_whereIs_0 0 rfl rfl)
theorem dX8_whereIs_1 : decode cX8_whereIs 1 = .ok (.istore_n 2, 1) := dk_61 (dk_at dksX8_whereIs_0 1 rfl rfl)
theorem dX8_whereIs_2 : decode cX8_whereIs 2 = .ok (.iload_n 2, 1) := dk_28 (dk_at dksX8_whereIs_0 2 rfl rfl)
theorem dX8_whereIs_3 : decode cX8_whereIs 3 = .ok (.aload_n 0, 1) := dk_42 (dk_at dksX8_whereIs_0 3 rfl rfl)
theorem dX8_whereIs_4 : decode cX8_whereIs 4 = .ok (.getfield 61, 3) := dk_180 0 61 (dk_at dksX8_whereIs_0 4 rfl rfl)
theorem dX8_whereIs_7 : decode cX8_whereIs 7 = .ok (.if_icmp .ge 29, 3) := dk_162 0 29 (dk_at dksX8_whereIs_0 7 rfl rfl)
theorem dX8_whereIs_10 : decode cX8_whereIs 10 = .ok (.aload_n 0, 1) := dk_42 (dk_at dksX8_whereIs_0 10 rfl rfl)
theorem dX8_whereIs_11 : decode cX8_whereIs 11 = .ok (.getfield 29, 3) := dk_180 0 29 (dk_at dksX8_whereIs_0 11 rfl rfl)
theorem dX8_whereIs_14 : decode cX8_whereIs 14 = .ok (.iconst 4, 1) := dk_7 (dk_at dksX8_whereIs_0 14 rfl rfl)
theorem dX8_whereIs_15 : decode cX8_whereIs 15 = .ok (.iload_n 2, 1) := dk_28 (dk_at dksX8_whereIs_0 15 rfl rfl)
theorem dX8_whereIs_16 : decode cX8_whereIs 16 = .ok (.imul, 1) := dk_104 (dk_at dksX8_whereIs_0 16 rfl rfl)
theorem dX8_whereIs_17 : decode cX8_whereIs 17 = .ok (.iconst 3, 1) := dk_6 (dk_at dksX8_whereIs_0 17 rfl rfl)
theorem dX8_whereIs_18 : decode cX8_whereIs 18 = .ok (.iadd, 1) := dk_96 (dk_at dksX8_whereIs_0 18 rfl rfl)
theorem dX8_whereIs_19 : decode cX8_whereIs 19 = .ok (.iaload, 1) := dk_46 (dk_at dksX8_whereIs_0 19 rfl rfl)
theorem dX8_whereIs_20 : decode cX8_whereIs 20 = .ok (.iload_n 1, 1) := dk_27 (dk_at dksX8_whereIs_0 20 rfl rfl)
theorem dX8_whereIs_21 : decode cX8_whereIs 21 = .ok (.ishr, 1) := dk_122 (dk_at dksX8_whereIs_0 21 rfl rfl)
theorem dX8_whereIs_22 : decode cX8_whereIs 22 = .ok (.iconst 1, 1) := dk_4 (dk_at dksX8_whereIs_0 22 rfl rfl)
theorem dX8_whereIs_23 : decode cX8_whereIs 23 = .ok (.iand, 1) := dk_126 (dk_at dksX8_whereIs_0 23 rfl rfl)
theorem dX8_whereIs_24 : decode cX8_whereIs 24 = .ok (.iconst 1, 1) := dk_4 (dk_at dksX8_whereIs_1 0 rfl rfl)
theorem dX8_whereIs_25 : decode cX8_whereIs 25 = .ok (.if_icmp .ne 5, 3) := dk_160 0 5 (dk_at dksX8_whereIs_1 1 rfl rfl)
theorem dX8_whereIs_28 : decode cX8_whereIs 28 = .ok (.iload_n 2, 1) := dk_28 (dk_at dksX8_whereIs_1 4 rfl rfl)
theorem dX8_whereIs_29 : decode cX8_whereIs 29 = .ok (.ireturn, 1) := dk_172 (dk_at dksX8_whereIs_1 5 rfl rfl)
theorem dX8_whereIs_30 : decode cX8_whereIs 30 = .ok (.iinc 2 1, 3) := dk_132 2 1 (dk_at dksX8_whereIs_1 6 rfl rfl)
theorem dX8_whereIs_33 : decode cX8_whereIs 33 = .ok (.goto (-31), 3) := dk_167 255 225 (dk_at dksX8_whereIs_1 9 rfl rfl)
theorem dX8_whereIs_36 : decode cX8_whereIs 36 = .ok (.iconst (-1), 1) := dk_2 (dk_at dksX8_whereIs_1 12 rfl rfl)
theorem dX8_whereIs_37 : decode cX8_whereIs 37 = .ok (.ireturn, 1) := dk_172 (dk_at dksX8_whereIs_1 13 rfl rfl)
abbrev cX8_has : ByteArray := prog_16_method_17_code
def yX8_has : MethodName := ⟨RX8, "has", "(I)I"⟩
def dkwX8_has_0 : List UInt8 := [42, 180, 0, 29, 7, 27, 104, 6, 96, 46, 172]
abbrev dktX8_has_0 : List UInt8 := dkwX8_has_0 ++ []
theorem dksX8_has_0 : cX8_has.data.toList.drop 0 = dktX8_has_0 := by decide +kernel
theorem dX8_has_0 : decode cX8_has 0 = .ok (.aload_n 0, 1) := dk_42 (dk_at dksX8_has_0 0 rfl rfl)
theorem dX8_has_1 : decode cX8_has 1 = .ok (.getfield 29, 3) := dk_180 0 29 (dk_at dksX8_has_0 1 rfl rfl)
theorem dX8_has_4 : decode cX8_has 4 = .ok (.iconst 4, 1) := dk_7 (dk_at dksX8_has_0 4 rfl rfl)
theorem dX8_has_5 : decode cX8_has 5 = .ok (.iload_n 1, 1) := dk_27 (dk_at dksX8_has_0 5 rfl rfl)
theorem dX8_has_6 : decode cX8_has 6 = .ok (.imul, 1) := dk_104 (dk_at dksX8_has_0 6 rfl rfl)
theorem dX8_has_7 : decode cX8_has 7 = .ok (.iconst 3, 1) := dk_6 (dk_at dksX8_has_0 7 rfl rfl)
theorem dX8_has_8 : decode cX8_has 8 = .ok (.iadd, 1) := dk_96 (dk_at dksX8_has_0 8 rfl rfl)
theorem dX8_has_9 : decode cX8_has 9 = .ok (.iaload, 1) := dk_46 (dk_at dksX8_has_0 9 rfl rfl)
theorem dX8_has_10 : decode cX8_has 10 = .ok (.ireturn, 1) := dk_172 (dk_at dksX8_has_0 10 rfl rfl)
abbrev cX8_hasMany : ByteArray := prog_16_method_18_code
def yX8_hasMany : MethodName := ⟨RX8, "hasMany", "(I)I"⟩
def dkwX8_hasMany_0 : List UInt8 := [42, 27, 182, 0, 112, 184, 0, 116, 172]
abbrev dktX8_hasMany_0 : List UInt8 := dkwX8_hasMany_0 ++ []
theorem dksX8_hasMany_0 : cX8_hasMany.data.toList.drop 0 = dktX8_hasMany_0 := by decide +kernel
theorem dX8_hasMany_0 : decode cX8_hasMany 0 = .ok (.aload_n 0, 1) := dk_42 (dk_at dksX8_hasMany_0 0 rfl rfl)
theorem dX8_hasMany_1 : decode cX8_hasMany 1 = .ok (.iload_n 1, 1) := dk_27 (dk_at dksX8_hasMany_0 1 rfl rfl)
theorem dX8_hasMany_2 : decode cX8_hasMany 2 = .ok (.invokevirtual 112, 3) := dk_182 0 112 (dk_at dksX8_hasMany_0 2 rfl rfl)
theorem dX8_hasMany_5 : decode cX8_hasMany 5 = .ok (.invokestatic 116, 3) := dk_184 0 116 (dk_at dksX8_hasMany_0 5 rfl rfl)
theorem dX8_hasMany_8 : decode cX8_hasMany 8 = .ok (.ireturn, 1) := dk_172 (dk_at dksX8_hasMany_0 8 rfl rfl)
abbrev cX8_bitsOf : ByteArray := prog_16_method_16_code
def yX8_bitsOf : MethodName := ⟨RX8, "bitsOf", "(I)I"⟩
def dkwX8_bitsOf_0 : List UInt8 := [3, 60, 26, 61, 28, 153, 0, 15, 132, 1, 1, 28, 28, 4, 100, 126, 61, 167, 255, 243, 27, 172]
abbrev dktX8_bitsOf_0 : List UInt8 := dkwX8_bitsOf_0 ++ []
theorem dksX8_bitsOf_0 : cX8_bitsOf.data.toList.drop 0 = dktX8_bitsOf_0 := by decide +kernel
theorem dX8_bitsOf_0 : decode cX8_bitsOf 0 = .ok (.iconst 0, 1) := dk_3 (dk_at dksX8_bitsOf_0 0 rfl rfl)
theorem dX8_bitsOf_1 : decode cX8_bitsOf 1 = .ok (.istore_n 1, 1) := dk_60 (dk_at dksX8_bitsOf_0 1 rfl rfl)
theorem dX8_bitsOf_2 : decode cX8_bitsOf 2 = .ok (.iload_n 0, 1) := dk_26 (dk_at dksX8_bitsOf_0 2 rfl rfl)
theorem dX8_bitsOf_3 : decode cX8_bitsOf 3 = .ok (.istore_n 2, 1) := dk_61 (dk_at dksX8_bitsOf_0 3 rfl rfl)
theorem dX8_bitsOf_4 : decode cX8_bitsOf 4 = .ok (.iload_n 2, 1) := dk_28 (dk_at dksX8_bitsOf_0 4 rfl rfl)
theorem dX8_bitsOf_5 : decode cX8_bitsOf 5 = .ok (.ifCond .eq 15, 3) := dk_153 0 15 (dk_at dksX8_bitsOf_0 5 rfl rfl)
theorem dX8_bitsOf_8 : decode cX8_bitsOf 8 = .ok (.iinc 1 1, 3) := dk_132 1 1 (dk_at dksX8_bitsOf_0 8 rfl rfl)
theorem dX8_bitsOf_11 : decode cX8_bitsOf 11 = .ok (.iload_n 2, 1) := dk_28 (dk_at dksX8_bitsOf_0 11 rfl rfl)
theorem dX8_bitsOf_12 : decode cX8_bitsOf 12 = .ok (.iload_n 2, 1) := dk_28 (dk_at dksX8_bitsOf_0 12 rfl rfl)
theorem dX8_bitsOf_13 : decode cX8_bitsOf 13 = .ok (.iconst 1, 1) := dk_4 (dk_at dksX8_bitsOf_0 13 rfl rfl)
theorem dX8_bitsOf_14 : decode cX8_bitsOf 14 = .ok (.isub, 1) := dk_100 (dk_at dksX8_bitsOf_0 14 rfl rfl)
theorem dX8_bitsOf_15 : decode cX8_bitsOf 15 = .ok (.iand, 1) := dk_126 (dk_at dksX8_bitsOf_0 15 rfl rfl)
theorem dX8_bitsOf_16 : decode cX8_bitsOf 16 = .ok (.istore_n 2, 1) := dk_61 (dk_at dksX8_bitsOf_0 16 rfl rfl)
theorem dX8_bitsOf_17 : decode cX8_bitsOf 17 = .ok (.goto (-13), 3) := dk_167 255 243 (dk_at dksX8_bitsOf_0 17 rfl rfl)
theorem dX8_bitsOf_20 : decode cX8_bitsOf 20 = .ok (.iload_n 1, 1) := dk_27 (dk_at dksX8_bitsOf_0 20 rfl rfl)
theorem dX8_bitsOf_21 : decode cX8_bitsOf 21 = .ok (.ireturn, 1) := dk_172 (dk_at dksX8_bitsOf_0 21 rfl rfl)
abbrev cX8_lays : ByteArray := prog_16_method_12_code
def yX8_lays : MethodName := ⟨RX8, "lays", "(III)V"⟩
def dkwX8_lays_2 : List UInt8 := [27, 7, 160, 0, 13, 42, 180, 0, 26, 28, 29, 79, 167, 0, 8, 42, 29, 181, 0, 107, 177]
abbrev dktX8_lays_2 : List UInt8 := dkwX8_lays_2 ++ []
def dkwX8_lays_1 : List UInt8 := [167, 0, 44, 27, 7, 162, 0, 19, 42, 180, 0, 29, 7, 28, 104, 27, 96, 5, 100, 29, 79, 167, 0, 23]
abbrev dktX8_lays_1 : List UInt8 := dkwX8_lays_1 ++ dktX8_lays_2
def dkwX8_lays_0 : List UInt8 := [27, 154, 0, 11, 42, 29, 181, 0, 100, 167, 0, 58, 27, 4, 160, 0, 12, 42, 28, 29, 182, 0, 103]
abbrev dktX8_lays_0 : List UInt8 := dkwX8_lays_0 ++ dktX8_lays_1
theorem dksX8_lays_0 : cX8_lays.data.toList.drop 0 = dktX8_lays_0 := by decide +kernel
theorem dksX8_lays_1 : cX8_lays.data.toList.drop 23 = dktX8_lays_1 := dk_seg dksX8_lays_0 23 rfl rfl
theorem dksX8_lays_2 : cX8_lays.data.toList.drop 47 = dktX8_lays_2 := dk_seg dksX8_lays_1 24 rfl rfl
theorem dX8_lays_0 : decode cX8_lays 0 = .ok (.iload_n 1, 1) := dk_27 (dk_at dksX8_lays_0 0 rfl rfl)
theorem dX8_lays_1 : decode cX8_lays 1 = .ok (.ifCond .ne 11, 3) := dk_154 0 11 (dk_at dksX8_lays_0 1 rfl rfl)
theorem dX8_lays_4 : decode cX8_lays 4 = .ok (.aload_n 0, 1) := dk_42 (dk_at dksX8_lays_0 4 rfl rfl)
theorem dX8_lays_5 : decode cX8_lays 5 = .ok (.iload_n 3, 1) := dk_29 (dk_at dksX8_lays_0 5 rfl rfl)
theorem dX8_lays_6 : decode cX8_lays 6 = .ok (.putfield 100, 3) := dk_181 0 100 (dk_at dksX8_lays_0 6 rfl rfl)
theorem dX8_lays_9 : decode cX8_lays 9 = .ok (.goto 58, 3) := dk_167 0 58 (dk_at dksX8_lays_0 9 rfl rfl)
theorem dX8_lays_12 : decode cX8_lays 12 = .ok (.iload_n 1, 1) := dk_27 (dk_at dksX8_lays_0 12 rfl rfl)
theorem dX8_lays_13 : decode cX8_lays 13 = .ok (.iconst 1, 1) := dk_4 (dk_at dksX8_lays_0 13 rfl rfl)
theorem dX8_lays_14 : decode cX8_lays 14 = .ok (.if_icmp .ne 12, 3) := dk_160 0 12 (dk_at dksX8_lays_0 14 rfl rfl)
theorem dX8_lays_17 : decode cX8_lays 17 = .ok (.aload_n 0, 1) := dk_42 (dk_at dksX8_lays_0 17 rfl rfl)
theorem dX8_lays_18 : decode cX8_lays 18 = .ok (.iload_n 2, 1) := dk_28 (dk_at dksX8_lays_0 18 rfl rfl)
theorem dX8_lays_19 : decode cX8_lays 19 = .ok (.iload_n 3, 1) := dk_29 (dk_at dksX8_lays_0 19 rfl rfl)
theorem dX8_lays_20 : decode cX8_lays 20 = .ok (.invokevirtual 103, 3) := dk_182 0 103 (dk_at dksX8_lays_0 20 rfl rfl)
theorem dX8_lays_23 : decode cX8_lays 23 = .ok (.goto 44, 3) := dk_167 0 44 (dk_at dksX8_lays_1 0 rfl rfl)
theorem dX8_lays_26 : decode cX8_lays 26 = .ok (.iload_n 1, 1) := dk_27 (dk_at dksX8_lays_1 3 rfl rfl)
theorem dX8_lays_27 : decode cX8_lays 27 = .ok (.iconst 4, 1) := dk_7 (dk_at dksX8_lays_1 4 rfl rfl)
theorem dX8_lays_28 : decode cX8_lays 28 = .ok (.if_icmp .ge 19, 3) := dk_162 0 19 (dk_at dksX8_lays_1 5 rfl rfl)
theorem dX8_lays_31 : decode cX8_lays 31 = .ok (.aload_n 0, 1) := dk_42 (dk_at dksX8_lays_1 8 rfl rfl)
theorem dX8_lays_32 : decode cX8_lays 32 = .ok (.getfield 29, 3) := dk_180 0 29 (dk_at dksX8_lays_1 9 rfl rfl)
theorem dX8_lays_35 : decode cX8_lays 35 = .ok (.iconst 4, 1) := dk_7 (dk_at dksX8_lays_1 12 rfl rfl)
theorem dX8_lays_36 : decode cX8_lays 36 = .ok (.iload_n 2, 1) := dk_28 (dk_at dksX8_lays_1 13 rfl rfl)
theorem dX8_lays_37 : decode cX8_lays 37 = .ok (.imul, 1) := dk_104 (dk_at dksX8_lays_1 14 rfl rfl)
theorem dX8_lays_38 : decode cX8_lays 38 = .ok (.iload_n 1, 1) := dk_27 (dk_at dksX8_lays_1 15 rfl rfl)
theorem dX8_lays_39 : decode cX8_lays 39 = .ok (.iadd, 1) := dk_96 (dk_at dksX8_lays_1 16 rfl rfl)
theorem dX8_lays_40 : decode cX8_lays 40 = .ok (.iconst 2, 1) := dk_5 (dk_at dksX8_lays_1 17 rfl rfl)
theorem dX8_lays_41 : decode cX8_lays 41 = .ok (.isub, 1) := dk_100 (dk_at dksX8_lays_1 18 rfl rfl)
theorem dX8_lays_42 : decode cX8_lays 42 = .ok (.iload_n 3, 1) := dk_29 (dk_at dksX8_lays_1 19 rfl rfl)
theorem dX8_lays_43 : decode cX8_lays 43 = .ok (.iastore, 1) := dk_79 (dk_at dksX8_lays_1 20 rfl rfl)
theorem dX8_lays_44 : decode cX8_lays 44 = .ok (.goto 23, 3) := dk_167 0 23 (dk_at dksX8_lays_1 21 rfl rfl)
theorem dX8_lays_47 : decode cX8_lays 47 = .ok (.iload_n 1, 1) := dk_27 (dk_at dksX8_lays_2 0 rfl rfl)
theorem dX8_lays_48 : decode cX8_lays 48 = .ok (.iconst 4, 1) := dk_7 (dk_at dksX8_lays_2 1 rfl rfl)
theorem dX8_lays_49 : decode cX8_lays 49 = .ok (.if_icmp .ne 13, 3) := dk_160 0 13 (dk_at dksX8_lays_2 2 rfl rfl)
theorem dX8_lays_52 : decode cX8_lays 52 = .ok (.aload_n 0, 1) := dk_42 (dk_at dksX8_lays_2 5 rfl rfl)
theorem dX8_lays_53 : decode cX8_lays 53 = .ok (.getfield 26, 3) := dk_180 0 26 (dk_at dksX8_lays_2 6 rfl rfl)
theorem dX8_lays_56 : decode cX8_lays 56 = .ok (.iload_n 2, 1) := dk_28 (dk_at dksX8_lays_2 9 rfl rfl)
theorem dX8_lays_57 : decode cX8_lays 57 = .ok (.iload_n 3, 1) := dk_29 (dk_at dksX8_lays_2 10 rfl rfl)
theorem dX8_lays_58 : decode cX8_lays 58 = .ok (.iastore, 1) := dk_79 (dk_at dksX8_lays_2 11 rfl rfl)
theorem dX8_lays_59 : decode cX8_lays 59 = .ok (.goto 8, 3) := dk_167 0 8 (dk_at dksX8_lays_2 12 rfl rfl)
theorem dX8_lays_62 : decode cX8_lays 62 = .ok (.aload_n 0, 1) := dk_42 (dk_at dksX8_lays_2 15 rfl rfl)
theorem dX8_lays_63 : decode cX8_lays 63 = .ok (.iload_n 3, 1) := dk_29 (dk_at dksX8_lays_2 16 rfl rfl)
theorem dX8_lays_64 : decode cX8_lays 64 = .ok (.putfield 107, 3) := dk_181 0 107 (dk_at dksX8_lays_2 17 rfl rfl)
theorem dX8_lays_67 : decode cX8_lays 67 = .ok (.return_, 1) := dk_177 (dk_at dksX8_lays_2 20 rfl rfl)
abbrev cX8_moves : ByteArray := prog_16_method_13_code
def yX8_moves : MethodName := ⟨RX8, "moves", "(II)V"⟩
def dkwX8_moves_3 : List UInt8 := [42, 180, 0, 29, 7, 28, 104, 6, 96, 92, 46, 29, 128, 79, 177]
abbrev dktX8_moves_3 : List UInt8 := dkwX8_moves_3 ++ []
def dkwX8_moves_2 : List UInt8 := [132, 4, 1, 167, 255, 227, 28, 2, 160, 0, 16, 42, 89, 180, 0, 23, 29, 128, 181, 0, 23, 167, 0, 17]
abbrev dktX8_moves_2 : List UInt8 := dkwX8_moves_2 ++ dktX8_moves_3
def dkwX8_moves_1 : List UInt8 := [180, 0, 61, 162, 0, 26, 42, 180, 0, 29, 7, 21, 4, 104, 6, 96, 92, 46, 29, 2, 130, 126, 79]
abbrev dktX8_moves_1 : List UInt8 := dkwX8_moves_1 ++ dktX8_moves_2
def dkwX8_moves_0 : List UInt8 := [4, 27, 120, 62, 42, 89, 180, 0, 23, 29, 2, 130, 126, 181, 0, 23, 3, 54, 4, 21, 4, 42]
abbrev dktX8_moves_0 : List UInt8 := dkwX8_moves_0 ++ dktX8_moves_1
theorem dksX8_moves_0 : cX8_moves.data.toList.drop 0 = dktX8_moves_0 := by decide +kernel
theorem dksX8_moves_1 : cX8_moves.data.toList.drop 22 = dktX8_moves_1 := dk_seg dksX8_moves_0 22 rfl rfl
theorem dksX8_moves_2 : cX8_moves.data.toList.drop 45 = dktX8_moves_2 := dk_seg dksX8_moves_1 23 rfl rfl
theorem dksX8_moves_3 : cX8_moves.data.toList.drop 69 = dktX8_moves_3 := dk_seg dksX8_moves_2 24 rfl rfl
theorem dX8_moves_0 : decode cX8_moves 0 = .ok (.iconst 1, 1) := dk_4 (dk_at dksX8_moves_0 0 rfl rfl)
theorem dX8_moves_1 : decode cX8_moves 1 = .ok (.iload_n 1, 1) := dk_27 (dk_at dksX8_moves_0 1 rfl rfl)
theorem dX8_moves_2 : decode cX8_moves 2 = .ok (.ishl, 1) := dk_120 (dk_at dksX8_moves_0 2 rfl rfl)
theorem dX8_moves_3 : decode cX8_moves 3 = .ok (.istore_n 3, 1) := dk_62 (dk_at dksX8_moves_0 3 rfl rfl)
theorem dX8_moves_4 : decode cX8_moves 4 = .ok (.aload_n 0, 1) := dk_42 (dk_at dksX8_moves_0 4 rfl rfl)
theorem dX8_moves_5 : decode cX8_moves 5 = .ok (.dup, 1) := dk_89 (dk_at dksX8_moves_0 5 rfl rfl)
theorem dX8_moves_6 : decode cX8_moves 6 = .ok (.getfield 23, 3) := dk_180 0 23 (dk_at dksX8_moves_0 6 rfl rfl)
theorem dX8_moves_9 : decode cX8_moves 9 = .ok (.iload_n 3, 1) := dk_29 (dk_at dksX8_moves_0 9 rfl rfl)
theorem dX8_moves_10 : decode cX8_moves 10 = .ok (.iconst (-1), 1) := dk_2 (dk_at dksX8_moves_0 10 rfl rfl)
theorem dX8_moves_11 : decode cX8_moves 11 = .ok (.ixor, 1) := dk_130 (dk_at dksX8_moves_0 11 rfl rfl)
theorem dX8_moves_12 : decode cX8_moves 12 = .ok (.iand, 1) := dk_126 (dk_at dksX8_moves_0 12 rfl rfl)
theorem dX8_moves_13 : decode cX8_moves 13 = .ok (.putfield 23, 3) := dk_181 0 23 (dk_at dksX8_moves_0 13 rfl rfl)
theorem dX8_moves_16 : decode cX8_moves 16 = .ok (.iconst 0, 1) := dk_3 (dk_at dksX8_moves_0 16 rfl rfl)
theorem dX8_moves_17 : decode cX8_moves 17 = .ok (.istore 4, 2) := dk_54 4 (dk_at dksX8_moves_0 17 rfl rfl)
theorem dX8_moves_19 : decode cX8_moves 19 = .ok (.iload 4, 2) := dk_21 4 (dk_at dksX8_moves_0 19 rfl rfl)
theorem dX8_moves_21 : decode cX8_moves 21 = .ok (.aload_n 0, 1) := dk_42 (dk_at dksX8_moves_0 21 rfl rfl)
theorem dX8_moves_22 : decode cX8_moves 22 = .ok (.getfield 61, 3) := dk_180 0 61 (dk_at dksX8_moves_1 0 rfl rfl)
theorem dX8_moves_25 : decode cX8_moves 25 = .ok (.if_icmp .ge 26, 3) := dk_162 0 26 (dk_at dksX8_moves_1 3 rfl rfl)
theorem dX8_moves_28 : decode cX8_moves 28 = .ok (.aload_n 0, 1) := dk_42 (dk_at dksX8_moves_1 6 rfl rfl)
theorem dX8_moves_29 : decode cX8_moves 29 = .ok (.getfield 29, 3) := dk_180 0 29 (dk_at dksX8_moves_1 7 rfl rfl)
theorem dX8_moves_32 : decode cX8_moves 32 = .ok (.iconst 4, 1) := dk_7 (dk_at dksX8_moves_1 10 rfl rfl)
theorem dX8_moves_33 : decode cX8_moves 33 = .ok (.iload 4, 2) := dk_21 4 (dk_at dksX8_moves_1 11 rfl rfl)
theorem dX8_moves_35 : decode cX8_moves 35 = .ok (.imul, 1) := dk_104 (dk_at dksX8_moves_1 13 rfl rfl)
theorem dX8_moves_36 : decode cX8_moves 36 = .ok (.iconst 3, 1) := dk_6 (dk_at dksX8_moves_1 14 rfl rfl)
theorem dX8_moves_37 : decode cX8_moves 37 = .ok (.iadd, 1) := dk_96 (dk_at dksX8_moves_1 15 rfl rfl)
theorem dX8_moves_38 : decode cX8_moves 38 = .ok (.dup2, 1) := dk_92 (dk_at dksX8_moves_1 16 rfl rfl)
theorem dX8_moves_39 : decode cX8_moves 39 = .ok (.iaload, 1) := dk_46 (dk_at dksX8_moves_1 17 rfl rfl)
theorem dX8_moves_40 : decode cX8_moves 40 = .ok (.iload_n 3, 1) := dk_29 (dk_at dksX8_moves_1 18 rfl rfl)
theorem dX8_moves_41 : decode cX8_moves 41 = .ok (.iconst (-1), 1) := dk_2 (dk_at dksX8_moves_1 19 rfl rfl)
theorem dX8_moves_42 : decode cX8_moves 42 = .ok (.ixor, 1) := dk_130 (dk_at dksX8_moves_1 20 rfl rfl)
theorem dX8_moves_43 : decode cX8_moves 43 = .ok (.iand, 1) := dk_126 (dk_at dksX8_moves_1 21 rfl rfl)
theorem dX8_moves_44 : decode cX8_moves 44 = .ok (.iastore, 1) := dk_79 (dk_at dksX8_moves_1 22 rfl rfl)
theorem dX8_moves_45 : decode cX8_moves 45 = .ok (.iinc 4 1, 3) := dk_132 4 1 (dk_at dksX8_moves_2 0 rfl rfl)
theorem dX8_moves_48 : decode cX8_moves 48 = .ok (.goto (-29), 3) := dk_167 255 227 (dk_at dksX8_moves_2 3 rfl rfl)
theorem dX8_moves_51 : decode cX8_moves 51 = .ok (.iload_n 2, 1) := dk_28 (dk_at dksX8_moves_2 6 rfl rfl)
theorem dX8_moves_52 : decode cX8_moves 52 = .ok (.iconst (-1), 1) := dk_2 (dk_at dksX8_moves_2 7 rfl rfl)
theorem dX8_moves_53 : decode cX8_moves 53 = .ok (.if_icmp .ne 16, 3) := dk_160 0 16 (dk_at dksX8_moves_2 8 rfl rfl)
theorem dX8_moves_56 : decode cX8_moves 56 = .ok (.aload_n 0, 1) := dk_42 (dk_at dksX8_moves_2 11 rfl rfl)
theorem dX8_moves_57 : decode cX8_moves 57 = .ok (.dup, 1) := dk_89 (dk_at dksX8_moves_2 12 rfl rfl)
theorem dX8_moves_58 : decode cX8_moves 58 = .ok (.getfield 23, 3) := dk_180 0 23 (dk_at dksX8_moves_2 13 rfl rfl)
theorem dX8_moves_61 : decode cX8_moves 61 = .ok (.iload_n 3, 1) := dk_29 (dk_at dksX8_moves_2 16 rfl rfl)
theorem dX8_moves_62 : decode cX8_moves 62 = .ok (.ior, 1) := dk_128 (dk_at dksX8_moves_2 17 rfl rfl)
theorem dX8_moves_63 : decode cX8_moves 63 = .ok (.putfield 23, 3) := dk_181 0 23 (dk_at dksX8_moves_2 18 rfl rfl)
theorem dX8_moves_66 : decode cX8_moves 66 = .ok (.goto 17, 3) := dk_167 0 17 (dk_at dksX8_moves_2 21 rfl rfl)
theorem dX8_moves_69 : decode cX8_moves 69 = .ok (.aload_n 0, 1) := dk_42 (dk_at dksX8_moves_3 0 rfl rfl)
theorem dX8_moves_70 : decode cX8_moves 70 = .ok (.getfield 29, 3) := dk_180 0 29 (dk_at dksX8_moves_3 1 rfl rfl)
theorem dX8_moves_73 : decode cX8_moves 73 = .ok (.iconst 4, 1) := dk_7 (dk_at dksX8_moves_3 4 rfl rfl)
theorem dX8_moves_74 : decode cX8_moves 74 = .ok (.iload_n 2, 1) := dk_28 (dk_at dksX8_moves_3 5 rfl rfl)
theorem dX8_moves_75 : decode cX8_moves 75 = .ok (.imul, 1) := dk_104 (dk_at dksX8_moves_3 6 rfl rfl)
theorem dX8_moves_76 : decode cX8_moves 76 = .ok (.iconst 3, 1) := dk_6 (dk_at dksX8_moves_3 7 rfl rfl)
theorem dX8_moves_77 : decode cX8_moves 77 = .ok (.iadd, 1) := dk_96 (dk_at dksX8_moves_3 8 rfl rfl)
theorem dX8_moves_78 : decode cX8_moves 78 = .ok (.dup2, 1) := dk_92 (dk_at dksX8_moves_3 9 rfl rfl)
theorem dX8_moves_79 : decode cX8_moves 79 = .ok (.iaload, 1) := dk_46 (dk_at dksX8_moves_3 10 rfl rfl)
theorem dX8_moves_80 : decode cX8_moves 80 = .ok (.iload_n 3, 1) := dk_29 (dk_at dksX8_moves_3 11 rfl rfl)
theorem dX8_moves_81 : decode cX8_moves 81 = .ok (.ior, 1) := dk_128 (dk_at dksX8_moves_3 12 rfl rfl)
theorem dX8_moves_82 : decode cX8_moves 82 = .ok (.iastore, 1) := dk_79 (dk_at dksX8_moves_3 13 rfl rfl)
theorem dX8_moves_83 : decode cX8_moves 83 = .ok (.return_, 1) := dk_177 (dk_at dksX8_moves_3 14 rfl rfl)
abbrev cX8_player : ByteArray := prog_16_method_14_code
def yX8_player : MethodName := ⟨RX8, "player", "(II)I"⟩
def dkwX8_player_5 : List UInt8 := [172]
abbrev dktX8_player_5 : List UInt8 := dkwX8_player_5 ++ []
def dkwX8_player_4 : List UInt8 := [180, 0, 61, 104, 6, 96, 3, 79, 42, 89, 180, 0, 61, 4, 96, 181, 0, 61, 42, 180, 0, 61, 4, 100]
abbrev dktX8_player_4 : List UInt8 := dkwX8_player_4 ++ dktX8_player_5
def dkwX8_player_3 : List UInt8 := [96, 16, 50, 79, 42, 180, 0, 29, 7, 42, 180, 0, 61, 104, 5, 96, 3, 79, 42, 180, 0, 29, 7, 42]
abbrev dktX8_player_3 : List UInt8 := dkwX8_player_3 ++ dktX8_player_4
def dkwX8_player_2 : List UInt8 := [79, 42, 180, 0, 29, 7, 42, 180, 0, 61, 104, 28, 79, 42, 180, 0, 29, 7, 42, 180, 0, 61, 104, 4]
abbrev dktX8_player_2 : List UInt8 := dkwX8_player_2 ++ dktX8_player_3
def dkwX8_player_1 : List UInt8 := [16, 254, 172, 42, 180, 0, 61, 16, 6, 160, 0, 6, 16, 252, 172, 42, 180, 0, 26, 42, 180, 0, 61, 27]
abbrev dktX8_player_1 : List UInt8 := dkwX8_player_1 ++ dktX8_player_2
def dkwX8_player_0 : List UInt8 := [27, 133, 9, 20, 0, 110, 184, 0, 64, 153, 0, 15, 28, 133, 9, 20, 0, 79, 184, 0, 64, 154, 0, 6]
abbrev dktX8_player_0 : List UInt8 := dkwX8_player_0 ++ dktX8_player_1
theorem dksX8_player_0 : cX8_player.data.toList.drop 0 = dktX8_player_0 := by decide +kernel
theorem dksX8_player_1 : cX8_player.data.toList.drop 24 = dktX8_player_1 := dk_seg dksX8_player_0 24 rfl rfl
theorem dksX8_player_2 : cX8_player.data.toList.drop 48 = dktX8_player_2 := dk_seg dksX8_player_1 24 rfl rfl
theorem dksX8_player_3 : cX8_player.data.toList.drop 72 = dktX8_player_3 := dk_seg dksX8_player_2 24 rfl rfl
theorem dksX8_player_4 : cX8_player.data.toList.drop 96 = dktX8_player_4 := dk_seg dksX8_player_3 24 rfl rfl
theorem dksX8_player_5 : cX8_player.data.toList.drop 120 = dktX8_player_5 := dk_seg dksX8_player_4 24 rfl rfl
theorem dX8_player_0 : decode cX8_player 0 = .ok (.iload_n 1, 1) := dk_27 (dk_at dksX8_player_0 0 rfl rfl)
theorem dX8_player_1 : decode cX8_player 1 = .ok (.i2l, 1) := dk_133 (dk_at dksX8_player_0 1 rfl rfl)
theorem dX8_player_2 : decode cX8_player 2 = .ok (.lconst 0, 1) := dk_9 (dk_at dksX8_player_0 2 rfl rfl)
theorem dX8_player_3 : decode cX8_player 3 = .ok (.ldc2_w 110, 3) := dk_20 0 110 (dk_at dksX8_player_0 3 rfl rfl)
theorem dX8_player_6 : decode cX8_player 6 = .ok (.invokestatic 64, 3) := dk_184 0 64 (dk_at dksX8_player_0 6 rfl rfl)
theorem dX8_player_9 : decode cX8_player 9 = .ok (.ifCond .eq 15, 3) := dk_153 0 15 (dk_at dksX8_player_0 9 rfl rfl)
theorem dX8_player_12 : decode cX8_player 12 = .ok (.iload_n 2, 1) := dk_28 (dk_at dksX8_player_0 12 rfl rfl)
theorem dX8_player_13 : decode cX8_player 13 = .ok (.i2l, 1) := dk_133 (dk_at dksX8_player_0 13 rfl rfl)
theorem dX8_player_14 : decode cX8_player 14 = .ok (.lconst 0, 1) := dk_9 (dk_at dksX8_player_0 14 rfl rfl)
theorem dX8_player_15 : decode cX8_player 15 = .ok (.ldc2_w 79, 3) := dk_20 0 79 (dk_at dksX8_player_0 15 rfl rfl)
theorem dX8_player_18 : decode cX8_player 18 = .ok (.invokestatic 64, 3) := dk_184 0 64 (dk_at dksX8_player_0 18 rfl rfl)
theorem dX8_player_21 : decode cX8_player 21 = .ok (.ifCond .ne 6, 3) := dk_154 0 6 (dk_at dksX8_player_0 21 rfl rfl)
theorem dX8_player_24 : decode cX8_player 24 = .ok (.bipush (-2), 2) := dk_16 254 (dk_at dksX8_player_1 0 rfl rfl)
theorem dX8_player_26 : decode cX8_player 26 = .ok (.ireturn, 1) := dk_172 (dk_at dksX8_player_1 2 rfl rfl)
theorem dX8_player_27 : decode cX8_player 27 = .ok (.aload_n 0, 1) := dk_42 (dk_at dksX8_player_1 3 rfl rfl)
theorem dX8_player_28 : decode cX8_player 28 = .ok (.getfield 61, 3) := dk_180 0 61 (dk_at dksX8_player_1 4 rfl rfl)
theorem dX8_player_31 : decode cX8_player 31 = .ok (.bipush 6, 2) := dk_16 6 (dk_at dksX8_player_1 7 rfl rfl)
theorem dX8_player_33 : decode cX8_player 33 = .ok (.if_icmp .ne 6, 3) := dk_160 0 6 (dk_at dksX8_player_1 9 rfl rfl)
theorem dX8_player_36 : decode cX8_player 36 = .ok (.bipush (-4), 2) := dk_16 252 (dk_at dksX8_player_1 12 rfl rfl)
theorem dX8_player_38 : decode cX8_player 38 = .ok (.ireturn, 1) := dk_172 (dk_at dksX8_player_1 14 rfl rfl)
theorem dX8_player_39 : decode cX8_player 39 = .ok (.aload_n 0, 1) := dk_42 (dk_at dksX8_player_1 15 rfl rfl)
theorem dX8_player_40 : decode cX8_player 40 = .ok (.getfield 26, 3) := dk_180 0 26 (dk_at dksX8_player_1 16 rfl rfl)
theorem dX8_player_43 : decode cX8_player 43 = .ok (.aload_n 0, 1) := dk_42 (dk_at dksX8_player_1 19 rfl rfl)
theorem dX8_player_44 : decode cX8_player 44 = .ok (.getfield 61, 3) := dk_180 0 61 (dk_at dksX8_player_1 20 rfl rfl)
theorem dX8_player_47 : decode cX8_player 47 = .ok (.iload_n 1, 1) := dk_27 (dk_at dksX8_player_1 23 rfl rfl)
theorem dX8_player_48 : decode cX8_player 48 = .ok (.iastore, 1) := dk_79 (dk_at dksX8_player_2 0 rfl rfl)
theorem dX8_player_49 : decode cX8_player 49 = .ok (.aload_n 0, 1) := dk_42 (dk_at dksX8_player_2 1 rfl rfl)
theorem dX8_player_50 : decode cX8_player 50 = .ok (.getfield 29, 3) := dk_180 0 29 (dk_at dksX8_player_2 2 rfl rfl)
theorem dX8_player_53 : decode cX8_player 53 = .ok (.iconst 4, 1) := dk_7 (dk_at dksX8_player_2 5 rfl rfl)
theorem dX8_player_54 : decode cX8_player 54 = .ok (.aload_n 0, 1) := dk_42 (dk_at dksX8_player_2 6 rfl rfl)
theorem dX8_player_55 : decode cX8_player 55 = .ok (.getfield 61, 3) := dk_180 0 61 (dk_at dksX8_player_2 7 rfl rfl)
theorem dX8_player_58 : decode cX8_player 58 = .ok (.imul, 1) := dk_104 (dk_at dksX8_player_2 10 rfl rfl)
theorem dX8_player_59 : decode cX8_player 59 = .ok (.iload_n 2, 1) := dk_28 (dk_at dksX8_player_2 11 rfl rfl)
theorem dX8_player_60 : decode cX8_player 60 = .ok (.iastore, 1) := dk_79 (dk_at dksX8_player_2 12 rfl rfl)
theorem dX8_player_61 : decode cX8_player 61 = .ok (.aload_n 0, 1) := dk_42 (dk_at dksX8_player_2 13 rfl rfl)
theorem dX8_player_62 : decode cX8_player 62 = .ok (.getfield 29, 3) := dk_180 0 29 (dk_at dksX8_player_2 14 rfl rfl)
theorem dX8_player_65 : decode cX8_player 65 = .ok (.iconst 4, 1) := dk_7 (dk_at dksX8_player_2 17 rfl rfl)
theorem dX8_player_66 : decode cX8_player 66 = .ok (.aload_n 0, 1) := dk_42 (dk_at dksX8_player_2 18 rfl rfl)
theorem dX8_player_67 : decode cX8_player 67 = .ok (.getfield 61, 3) := dk_180 0 61 (dk_at dksX8_player_2 19 rfl rfl)
theorem dX8_player_70 : decode cX8_player 70 = .ok (.imul, 1) := dk_104 (dk_at dksX8_player_2 22 rfl rfl)
theorem dX8_player_71 : decode cX8_player 71 = .ok (.iconst 1, 1) := dk_4 (dk_at dksX8_player_2 23 rfl rfl)
theorem dX8_player_72 : decode cX8_player 72 = .ok (.iadd, 1) := dk_96 (dk_at dksX8_player_3 0 rfl rfl)
theorem dX8_player_73 : decode cX8_player 73 = .ok (.bipush 50, 2) := dk_16 50 (dk_at dksX8_player_3 1 rfl rfl)
theorem dX8_player_75 : decode cX8_player 75 = .ok (.iastore, 1) := dk_79 (dk_at dksX8_player_3 3 rfl rfl)
theorem dX8_player_76 : decode cX8_player 76 = .ok (.aload_n 0, 1) := dk_42 (dk_at dksX8_player_3 4 rfl rfl)
theorem dX8_player_77 : decode cX8_player 77 = .ok (.getfield 29, 3) := dk_180 0 29 (dk_at dksX8_player_3 5 rfl rfl)
theorem dX8_player_80 : decode cX8_player 80 = .ok (.iconst 4, 1) := dk_7 (dk_at dksX8_player_3 8 rfl rfl)
theorem dX8_player_81 : decode cX8_player 81 = .ok (.aload_n 0, 1) := dk_42 (dk_at dksX8_player_3 9 rfl rfl)
theorem dX8_player_82 : decode cX8_player 82 = .ok (.getfield 61, 3) := dk_180 0 61 (dk_at dksX8_player_3 10 rfl rfl)
theorem dX8_player_85 : decode cX8_player 85 = .ok (.imul, 1) := dk_104 (dk_at dksX8_player_3 13 rfl rfl)
theorem dX8_player_86 : decode cX8_player 86 = .ok (.iconst 2, 1) := dk_5 (dk_at dksX8_player_3 14 rfl rfl)
theorem dX8_player_87 : decode cX8_player 87 = .ok (.iadd, 1) := dk_96 (dk_at dksX8_player_3 15 rfl rfl)
theorem dX8_player_88 : decode cX8_player 88 = .ok (.iconst 0, 1) := dk_3 (dk_at dksX8_player_3 16 rfl rfl)
theorem dX8_player_89 : decode cX8_player 89 = .ok (.iastore, 1) := dk_79 (dk_at dksX8_player_3 17 rfl rfl)
theorem dX8_player_90 : decode cX8_player 90 = .ok (.aload_n 0, 1) := dk_42 (dk_at dksX8_player_3 18 rfl rfl)
theorem dX8_player_91 : decode cX8_player 91 = .ok (.getfield 29, 3) := dk_180 0 29 (dk_at dksX8_player_3 19 rfl rfl)
theorem dX8_player_94 : decode cX8_player 94 = .ok (.iconst 4, 1) := dk_7 (dk_at dksX8_player_3 22 rfl rfl)
theorem dX8_player_95 : decode cX8_player 95 = .ok (.aload_n 0, 1) := dk_42 (dk_at dksX8_player_3 23 rfl rfl)
theorem dX8_player_96 : decode cX8_player 96 = .ok (.getfield 61, 3) := dk_180 0 61 (dk_at dksX8_player_4 0 rfl rfl)
theorem dX8_player_99 : decode cX8_player 99 = .ok (.imul, 1) := dk_104 (dk_at dksX8_player_4 3 rfl rfl)
theorem dX8_player_100 : decode cX8_player 100 = .ok (.iconst 3, 1) := dk_6 (dk_at dksX8_player_4 4 rfl rfl)
theorem dX8_player_101 : decode cX8_player 101 = .ok (.iadd, 1) := dk_96 (dk_at dksX8_player_4 5 rfl rfl)
theorem dX8_player_102 : decode cX8_player 102 = .ok (.iconst 0, 1) := dk_3 (dk_at dksX8_player_4 6 rfl rfl)
theorem dX8_player_103 : decode cX8_player 103 = .ok (.iastore, 1) := dk_79 (dk_at dksX8_player_4 7 rfl rfl)
theorem dX8_player_104 : decode cX8_player 104 = .ok (.aload_n 0, 1) := dk_42 (dk_at dksX8_player_4 8 rfl rfl)
theorem dX8_player_105 : decode cX8_player 105 = .ok (.dup, 1) := dk_89 (dk_at dksX8_player_4 9 rfl rfl)
theorem dX8_player_106 : decode cX8_player 106 = .ok (.getfield 61, 3) := dk_180 0 61 (dk_at dksX8_player_4 10 rfl rfl)
theorem dX8_player_109 : decode cX8_player 109 = .ok (.iconst 1, 1) := dk_4 (dk_at dksX8_player_4 13 rfl rfl)
theorem dX8_player_110 : decode cX8_player 110 = .ok (.iadd, 1) := dk_96 (dk_at dksX8_player_4 14 rfl rfl)
theorem dX8_player_111 : decode cX8_player 111 = .ok (.putfield 61, 3) := dk_181 0 61 (dk_at dksX8_player_4 15 rfl rfl)
theorem dX8_player_114 : decode cX8_player 114 = .ok (.aload_n 0, 1) := dk_42 (dk_at dksX8_player_4 18 rfl rfl)
theorem dX8_player_115 : decode cX8_player 115 = .ok (.getfield 61, 3) := dk_180 0 61 (dk_at dksX8_player_4 19 rfl rfl)
theorem dX8_player_118 : decode cX8_player 118 = .ok (.iconst 1, 1) := dk_4 (dk_at dksX8_player_4 22 rfl rfl)
theorem dX8_player_119 : decode cX8_player 119 = .ok (.isub, 1) := dk_100 (dk_at dksX8_player_4 23 rfl rfl)
theorem dX8_player_120 : decode cX8_player 120 = .ok (.ireturn, 1) := dk_172 (dk_at dksX8_player_5 0 rfl rfl)
abbrev cX8_feed : ByteArray := prog_16_method_20_code
def yX8_feed : MethodName := ⟨RX8, "feed", "(I)I"⟩
def dkwX8_feed_2 : List UInt8 := [181, 0, 127, 42, 180, 0, 127, 172]
abbrev dktX8_feed_2 : List UInt8 := dkwX8_feed_2 ++ []
def dkwX8_feed_1 : List UInt8 := [160, 0, 6, 16, 252, 172, 42, 180, 0, 20, 42, 180, 0, 127, 27, 79, 42, 89, 180, 0, 127, 4, 96]
abbrev dktX8_feed_1 : List UInt8 := dkwX8_feed_1 ++ dktX8_feed_2
def dkwX8_feed_0 : List UInt8 := [27, 133, 9, 20, 0, 125, 184, 0, 64, 154, 0, 6, 16, 254, 172, 42, 180, 0, 127, 17, 0, 160]
abbrev dktX8_feed_0 : List UInt8 := dkwX8_feed_0 ++ dktX8_feed_1
theorem dksX8_feed_0 : cX8_feed.data.toList.drop 0 = dktX8_feed_0 := by decide +kernel
theorem dksX8_feed_1 : cX8_feed.data.toList.drop 22 = dktX8_feed_1 := dk_seg dksX8_feed_0 22 rfl rfl
theorem dksX8_feed_2 : cX8_feed.data.toList.drop 45 = dktX8_feed_2 := dk_seg dksX8_feed_1 23 rfl rfl
theorem dX8_feed_0 : decode cX8_feed 0 = .ok (.iload_n 1, 1) := dk_27 (dk_at dksX8_feed_0 0 rfl rfl)
theorem dX8_feed_1 : decode cX8_feed 1 = .ok (.i2l, 1) := dk_133 (dk_at dksX8_feed_0 1 rfl rfl)
theorem dX8_feed_2 : decode cX8_feed 2 = .ok (.lconst 0, 1) := dk_9 (dk_at dksX8_feed_0 2 rfl rfl)
theorem dX8_feed_3 : decode cX8_feed 3 = .ok (.ldc2_w 125, 3) := dk_20 0 125 (dk_at dksX8_feed_0 3 rfl rfl)
theorem dX8_feed_6 : decode cX8_feed 6 = .ok (.invokestatic 64, 3) := dk_184 0 64 (dk_at dksX8_feed_0 6 rfl rfl)
theorem dX8_feed_9 : decode cX8_feed 9 = .ok (.ifCond .ne 6, 3) := dk_154 0 6 (dk_at dksX8_feed_0 9 rfl rfl)
theorem dX8_feed_12 : decode cX8_feed 12 = .ok (.bipush (-2), 2) := dk_16 254 (dk_at dksX8_feed_0 12 rfl rfl)
theorem dX8_feed_14 : decode cX8_feed 14 = .ok (.ireturn, 1) := dk_172 (dk_at dksX8_feed_0 14 rfl rfl)
theorem dX8_feed_15 : decode cX8_feed 15 = .ok (.aload_n 0, 1) := dk_42 (dk_at dksX8_feed_0 15 rfl rfl)
theorem dX8_feed_16 : decode cX8_feed 16 = .ok (.getfield 127, 3) := dk_180 0 127 (dk_at dksX8_feed_0 16 rfl rfl)
theorem dX8_feed_19 : decode cX8_feed 19 = .ok (.sipush 160, 3) := dk_17 0 160 (dk_at dksX8_feed_0 19 rfl rfl)
theorem dX8_feed_22 : decode cX8_feed 22 = .ok (.if_icmp .ne 6, 3) := dk_160 0 6 (dk_at dksX8_feed_1 0 rfl rfl)
theorem dX8_feed_25 : decode cX8_feed 25 = .ok (.bipush (-4), 2) := dk_16 252 (dk_at dksX8_feed_1 3 rfl rfl)
theorem dX8_feed_27 : decode cX8_feed 27 = .ok (.ireturn, 1) := dk_172 (dk_at dksX8_feed_1 5 rfl rfl)
theorem dX8_feed_28 : decode cX8_feed 28 = .ok (.aload_n 0, 1) := dk_42 (dk_at dksX8_feed_1 6 rfl rfl)
theorem dX8_feed_29 : decode cX8_feed 29 = .ok (.getfield 20, 3) := dk_180 0 20 (dk_at dksX8_feed_1 7 rfl rfl)
theorem dX8_feed_32 : decode cX8_feed 32 = .ok (.aload_n 0, 1) := dk_42 (dk_at dksX8_feed_1 10 rfl rfl)
theorem dX8_feed_33 : decode cX8_feed 33 = .ok (.getfield 127, 3) := dk_180 0 127 (dk_at dksX8_feed_1 11 rfl rfl)
theorem dX8_feed_36 : decode cX8_feed 36 = .ok (.iload_n 1, 1) := dk_27 (dk_at dksX8_feed_1 14 rfl rfl)
theorem dX8_feed_37 : decode cX8_feed 37 = .ok (.iastore, 1) := dk_79 (dk_at dksX8_feed_1 15 rfl rfl)
theorem dX8_feed_38 : decode cX8_feed 38 = .ok (.aload_n 0, 1) := dk_42 (dk_at dksX8_feed_1 16 rfl rfl)
theorem dX8_feed_39 : decode cX8_feed 39 = .ok (.dup, 1) := dk_89 (dk_at dksX8_feed_1 17 rfl rfl)
theorem dX8_feed_40 : decode cX8_feed 40 = .ok (.getfield 127, 3) := dk_180 0 127 (dk_at dksX8_feed_1 18 rfl rfl)
theorem dX8_feed_43 : decode cX8_feed 43 = .ok (.iconst 1, 1) := dk_4 (dk_at dksX8_feed_1 21 rfl rfl)
theorem dX8_feed_44 : decode cX8_feed 44 = .ok (.iadd, 1) := dk_96 (dk_at dksX8_feed_1 22 rfl rfl)
theorem dX8_feed_45 : decode cX8_feed 45 = .ok (.putfield 127, 3) := dk_181 0 127 (dk_at dksX8_feed_2 0 rfl rfl)
theorem dX8_feed_48 : decode cX8_feed 48 = .ok (.aload_n 0, 1) := dk_42 (dk_at dksX8_feed_2 3 rfl rfl)
theorem dX8_feed_49 : decode cX8_feed 49 = .ok (.getfield 127, 3) := dk_180 0 127 (dk_at dksX8_feed_2 4 rfl rfl)
theorem dX8_feed_52 : decode cX8_feed 52 = .ok (.ireturn, 1) := dk_172 (dk_at dksX8_feed_2 7 rfl rfl)
abbrev cX8_text : ByteArray := prog_16_method_37_code
def yX8_text : MethodName := ⟨RX8, "text", "()I"⟩
def dkwX8_text_4 : List UInt8 := [89, 180, 0, 58, 4, 96, 181, 0, 58, 42, 180, 0, 58, 4, 100, 172]
abbrev dktX8_text_4 : List UInt8 := dkwX8_text_4 ++ []
def dkwX8_text_3 : List UInt8 := [180, 0, 58, 3, 182, 0, 240, 60, 42, 180, 0, 162, 153, 0, 11, 16, 156, 42, 180, 0, 166, 100, 172, 42]
abbrev dktX8_text_3 : List UInt8 := dkwX8_text_3 ++ dktX8_text_4
def dkwX8_text_2 : List UInt8 := [167, 255, 224, 42, 180, 0, 17, 42, 180, 0, 58, 42, 180, 0, 127, 79, 42, 3, 181, 0, 127, 42, 42]
abbrev dktX8_text_2 : List UInt8 := dkwX8_text_2 ++ dktX8_text_3
def dkwX8_text_1 : List UInt8 := [180, 0, 13, 17, 0, 160, 42, 180, 0, 58, 104, 27, 96, 42, 180, 0, 20, 27, 46, 79, 132, 1, 1]
abbrev dktX8_text_1 : List UInt8 := dkwX8_text_1 ++ dktX8_text_2
def dkwX8_text_0 : List UInt8 := [42, 180, 0, 58, 16, 6, 160, 0, 6, 16, 252, 172, 3, 60, 27, 42, 180, 0, 127, 162, 0, 30, 42]
abbrev dktX8_text_0 : List UInt8 := dkwX8_text_0 ++ dktX8_text_1
theorem dksX8_text_0 : cX8_text.data.toList.drop 0 = dktX8_text_0 := by decide +kernel
theorem dksX8_text_1 : cX8_text.data.toList.drop 23 = dktX8_text_1 := dk_seg dksX8_text_0 23 rfl rfl
theorem dksX8_text_2 : cX8_text.data.toList.drop 46 = dktX8_text_2 := dk_seg dksX8_text_1 23 rfl rfl
theorem dksX8_text_3 : cX8_text.data.toList.drop 69 = dktX8_text_3 := dk_seg dksX8_text_2 23 rfl rfl
theorem dksX8_text_4 : cX8_text.data.toList.drop 93 = dktX8_text_4 := dk_seg dksX8_text_3 24 rfl rfl
theorem dX8_text_0 : decode cX8_text 0 = .ok (.aload_n 0, 1) := dk_42 (dk_at dksX8_text_0 0 rfl rfl)
theorem dX8_text_1 : decode cX8_text 1 = .ok (.getfield 58, 3) := dk_180 0 58 (dk_at dksX8_text_0 1 rfl rfl)
theorem dX8_text_4 : decode cX8_text 4 = .ok (.bipush 6, 2) := dk_16 6 (dk_at dksX8_text_0 4 rfl rfl)
theorem dX8_text_6 : decode cX8_text 6 = .ok (.if_icmp .ne 6, 3) := dk_160 0 6 (dk_at dksX8_text_0 6 rfl rfl)
theorem dX8_text_9 : decode cX8_text 9 = .ok (.bipush (-4), 2) := dk_16 252 (dk_at dksX8_text_0 9 rfl rfl)
theorem dX8_text_11 : decode cX8_text 11 = .ok (.ireturn, 1) := dk_172 (dk_at dksX8_text_0 11 rfl rfl)
theorem dX8_text_12 : decode cX8_text 12 = .ok (.iconst 0, 1) := dk_3 (dk_at dksX8_text_0 12 rfl rfl)
theorem dX8_text_13 : decode cX8_text 13 = .ok (.istore_n 1, 1) := dk_60 (dk_at dksX8_text_0 13 rfl rfl)
theorem dX8_text_14 : decode cX8_text 14 = .ok (.iload_n 1, 1) := dk_27 (dk_at dksX8_text_0 14 rfl rfl)
theorem dX8_text_15 : decode cX8_text 15 = .ok (.aload_n 0, 1) := dk_42 (dk_at dksX8_text_0 15 rfl rfl)
theorem dX8_text_16 : decode cX8_text 16 = .ok (.getfield 127, 3) := dk_180 0 127 (dk_at dksX8_text_0 16 rfl rfl)
theorem dX8_text_19 : decode cX8_text 19 = .ok (.if_icmp .ge 30, 3) := dk_162 0 30 (dk_at dksX8_text_0 19 rfl rfl)
theorem dX8_text_22 : decode cX8_text 22 = .ok (.aload_n 0, 1) := dk_42 (dk_at dksX8_text_0 22 rfl rfl)
theorem dX8_text_23 : decode cX8_text 23 = .ok (.getfield 13, 3) := dk_180 0 13 (dk_at dksX8_text_1 0 rfl rfl)
theorem dX8_text_26 : decode cX8_text 26 = .ok (.sipush 160, 3) := dk_17 0 160 (dk_at dksX8_text_1 3 rfl rfl)
theorem dX8_text_29 : decode cX8_text 29 = .ok (.aload_n 0, 1) := dk_42 (dk_at dksX8_text_1 6 rfl rfl)
theorem dX8_text_30 : decode cX8_text 30 = .ok (.getfield 58, 3) := dk_180 0 58 (dk_at dksX8_text_1 7 rfl rfl)
theorem dX8_text_33 : decode cX8_text 33 = .ok (.imul, 1) := dk_104 (dk_at dksX8_text_1 10 rfl rfl)
theorem dX8_text_34 : decode cX8_text 34 = .ok (.iload_n 1, 1) := dk_27 (dk_at dksX8_text_1 11 rfl rfl)
theorem dX8_text_35 : decode cX8_text 35 = .ok (.iadd, 1) := dk_96 (dk_at dksX8_text_1 12 rfl rfl)
theorem dX8_text_36 : decode cX8_text 36 = .ok (.aload_n 0, 1) := dk_42 (dk_at dksX8_text_1 13 rfl rfl)
theorem dX8_text_37 : decode cX8_text 37 = .ok (.getfield 20, 3) := dk_180 0 20 (dk_at dksX8_text_1 14 rfl rfl)
theorem dX8_text_40 : decode cX8_text 40 = .ok (.iload_n 1, 1) := dk_27 (dk_at dksX8_text_1 17 rfl rfl)
theorem dX8_text_41 : decode cX8_text 41 = .ok (.iaload, 1) := dk_46 (dk_at dksX8_text_1 18 rfl rfl)
theorem dX8_text_42 : decode cX8_text 42 = .ok (.iastore, 1) := dk_79 (dk_at dksX8_text_1 19 rfl rfl)
theorem dX8_text_43 : decode cX8_text 43 = .ok (.iinc 1 1, 3) := dk_132 1 1 (dk_at dksX8_text_1 20 rfl rfl)
theorem dX8_text_46 : decode cX8_text 46 = .ok (.goto (-32), 3) := dk_167 255 224 (dk_at dksX8_text_2 0 rfl rfl)
theorem dX8_text_49 : decode cX8_text 49 = .ok (.aload_n 0, 1) := dk_42 (dk_at dksX8_text_2 3 rfl rfl)
theorem dX8_text_50 : decode cX8_text 50 = .ok (.getfield 17, 3) := dk_180 0 17 (dk_at dksX8_text_2 4 rfl rfl)
theorem dX8_text_53 : decode cX8_text 53 = .ok (.aload_n 0, 1) := dk_42 (dk_at dksX8_text_2 7 rfl rfl)
theorem dX8_text_54 : decode cX8_text 54 = .ok (.getfield 58, 3) := dk_180 0 58 (dk_at dksX8_text_2 8 rfl rfl)
theorem dX8_text_57 : decode cX8_text 57 = .ok (.aload_n 0, 1) := dk_42 (dk_at dksX8_text_2 11 rfl rfl)
theorem dX8_text_58 : decode cX8_text 58 = .ok (.getfield 127, 3) := dk_180 0 127 (dk_at dksX8_text_2 12 rfl rfl)
theorem dX8_text_61 : decode cX8_text 61 = .ok (.iastore, 1) := dk_79 (dk_at dksX8_text_2 15 rfl rfl)
theorem dX8_text_62 : decode cX8_text 62 = .ok (.aload_n 0, 1) := dk_42 (dk_at dksX8_text_2 16 rfl rfl)
theorem dX8_text_63 : decode cX8_text 63 = .ok (.iconst 0, 1) := dk_3 (dk_at dksX8_text_2 17 rfl rfl)
theorem dX8_text_64 : decode cX8_text 64 = .ok (.putfield 127, 3) := dk_181 0 127 (dk_at dksX8_text_2 18 rfl rfl)
theorem dX8_text_67 : decode cX8_text 67 = .ok (.aload_n 0, 1) := dk_42 (dk_at dksX8_text_2 21 rfl rfl)
theorem dX8_text_68 : decode cX8_text 68 = .ok (.aload_n 0, 1) := dk_42 (dk_at dksX8_text_2 22 rfl rfl)
theorem dX8_text_69 : decode cX8_text 69 = .ok (.getfield 58, 3) := dk_180 0 58 (dk_at dksX8_text_3 0 rfl rfl)
theorem dX8_text_72 : decode cX8_text 72 = .ok (.iconst 0, 1) := dk_3 (dk_at dksX8_text_3 3 rfl rfl)
theorem dX8_text_73 : decode cX8_text 73 = .ok (.invokevirtual 240, 3) := dk_182 0 240 (dk_at dksX8_text_3 4 rfl rfl)
theorem dX8_text_76 : decode cX8_text 76 = .ok (.istore_n 1, 1) := dk_60 (dk_at dksX8_text_3 7 rfl rfl)
theorem dX8_text_77 : decode cX8_text 77 = .ok (.aload_n 0, 1) := dk_42 (dk_at dksX8_text_3 8 rfl rfl)
theorem dX8_text_78 : decode cX8_text 78 = .ok (.getfield 162, 3) := dk_180 0 162 (dk_at dksX8_text_3 9 rfl rfl)
theorem dX8_text_81 : decode cX8_text 81 = .ok (.ifCond .eq 11, 3) := dk_153 0 11 (dk_at dksX8_text_3 12 rfl rfl)
theorem dX8_text_84 : decode cX8_text 84 = .ok (.bipush (-100), 2) := dk_16 156 (dk_at dksX8_text_3 15 rfl rfl)
theorem dX8_text_86 : decode cX8_text 86 = .ok (.aload_n 0, 1) := dk_42 (dk_at dksX8_text_3 17 rfl rfl)
theorem dX8_text_87 : decode cX8_text 87 = .ok (.getfield 166, 3) := dk_180 0 166 (dk_at dksX8_text_3 18 rfl rfl)
theorem dX8_text_90 : decode cX8_text 90 = .ok (.isub, 1) := dk_100 (dk_at dksX8_text_3 21 rfl rfl)
theorem dX8_text_91 : decode cX8_text 91 = .ok (.ireturn, 1) := dk_172 (dk_at dksX8_text_3 22 rfl rfl)
theorem dX8_text_92 : decode cX8_text 92 = .ok (.aload_n 0, 1) := dk_42 (dk_at dksX8_text_3 23 rfl rfl)
theorem dX8_text_93 : decode cX8_text 93 = .ok (.dup, 1) := dk_89 (dk_at dksX8_text_4 0 rfl rfl)
theorem dX8_text_94 : decode cX8_text 94 = .ok (.getfield 58, 3) := dk_180 0 58 (dk_at dksX8_text_4 1 rfl rfl)
theorem dX8_text_97 : decode cX8_text 97 = .ok (.iconst 1, 1) := dk_4 (dk_at dksX8_text_4 4 rfl rfl)
theorem dX8_text_98 : decode cX8_text 98 = .ok (.iadd, 1) := dk_96 (dk_at dksX8_text_4 5 rfl rfl)
theorem dX8_text_99 : decode cX8_text 99 = .ok (.putfield 58, 3) := dk_181 0 58 (dk_at dksX8_text_4 6 rfl rfl)
theorem dX8_text_102 : decode cX8_text 102 = .ok (.aload_n 0, 1) := dk_42 (dk_at dksX8_text_4 9 rfl rfl)
theorem dX8_text_103 : decode cX8_text 103 = .ok (.getfield 58, 3) := dk_180 0 58 (dk_at dksX8_text_4 10 rfl rfl)
theorem dX8_text_106 : decode cX8_text 106 = .ok (.iconst 1, 1) := dk_4 (dk_at dksX8_text_4 13 rfl rfl)
theorem dX8_text_107 : decode cX8_text 107 = .ok (.isub, 1) := dk_100 (dk_at dksX8_text_4 14 rfl rfl)
theorem dX8_text_108 : decode cX8_text 108 = .ok (.ireturn, 1) := dk_172 (dk_at dksX8_text_4 15 rfl rfl)
abbrev cX8_read : ByteArray := prog_16_method_36_code
def yX8_read : MethodName := ⟨RX8, "read", "(II)I"⟩
def dkwX8_read_6 : List UInt8 := [182, 0, 175, 28, 154, 0, 7, 29, 167, 0, 15, 28, 4, 160, 0, 8, 21, 4, 167, 0, 5, 21, 5, 172]
abbrev dktX8_read_6 : List UInt8 := dkwX8_read_6 ++ []
def dkwX8_read_5 : List UInt8 := [3, 182, 0, 181, 182, 0, 236, 54, 5, 42, 180, 0, 162, 154, 0, 14, 42, 180, 0, 145, 153, 0, 7, 42]
abbrev dktX8_read_5 : List UInt8 := dkwX8_read_5 ++ dktX8_read_6
def dkwX8_read_4 : List UInt8 := [180, 0, 162, 153, 0, 7, 3, 167, 0, 24, 42, 42, 16, 116, 16, 105, 16, 114, 16, 101, 16, 115, 3, 3]
abbrev dktX8_read_4 : List UInt8 := dkwX8_read_4 ++ dktX8_read_5
def dkwX8_read_3 : List UInt8 := [42, 16, 116, 16, 104, 16, 114, 16, 111, 16, 119, 16, 115, 3, 3, 182, 0, 181, 182, 0, 236, 54, 4, 42]
abbrev dktX8_read_3 : List UInt8 := dkwX8_read_3 ++ dktX8_read_4
def dkwX8_read_2 : List UInt8 := [16, 115, 3, 3, 3, 182, 0, 181, 182, 0, 236, 62, 42, 180, 0, 162, 153, 0, 7, 3, 167, 0, 25, 42]
abbrev dktX8_read_2 : List UInt8 := dkwX8_read_2 ++ dktX8_read_3
def dkwX8_read_1 : List UInt8 := [42, 3, 181, 0, 172, 42, 3, 181, 0, 162, 42, 182, 0, 178, 42, 42, 16, 112, 16, 108, 16, 97, 16, 121]
abbrev dktX8_read_1 : List UInt8 := dkwX8_read_1 ++ dktX8_read_2
def dkwX8_read_0 : List UInt8 := [42, 17, 0, 160, 27, 104, 181, 0, 133, 42, 42, 180, 0, 17, 27, 46, 181, 0, 130, 42, 3, 181, 0, 136]
abbrev dktX8_read_0 : List UInt8 := dkwX8_read_0 ++ dktX8_read_1
theorem dksX8_read_0 : cX8_read.data.toList.drop 0 = dktX8_read_0 := by decide +kernel
theorem dksX8_read_1 : cX8_read.data.toList.drop 24 = dktX8_read_1 := dk_seg dksX8_read_0 24 rfl rfl
theorem dksX8_read_2 : cX8_read.data.toList.drop 48 = dktX8_read_2 := dk_seg dksX8_read_1 24 rfl rfl
theorem dksX8_read_3 : cX8_read.data.toList.drop 72 = dktX8_read_3 := dk_seg dksX8_read_2 24 rfl rfl
theorem dksX8_read_4 : cX8_read.data.toList.drop 96 = dktX8_read_4 := dk_seg dksX8_read_3 24 rfl rfl
theorem dksX8_read_5 : cX8_read.data.toList.drop 120 = dktX8_read_5 := dk_seg dksX8_read_4 24 rfl rfl
theorem dksX8_read_6 : cX8_read.data.toList.drop 144 = dktX8_read_6 := dk_seg dksX8_read_5 24 rfl rfl
theorem dX8_read_0 : decode cX8_read 0 = .ok (.aload_n 0, 1) := dk_42 (dk_at dksX8_read_0 0 rfl rfl)
theorem dX8_read_1 : decode cX8_read 1 = .ok (.sipush 160, 3) := dk_17 0 160 (dk_at dksX8_read_0 1 rfl rfl)
theorem dX8_read_4 : decode cX8_read 4 = .ok (.iload_n 1, 1) := dk_27 (dk_at dksX8_read_0 4 rfl rfl)
theorem dX8_read_5 : decode cX8_read 5 = .ok (.imul, 1) := dk_104 (dk_at dksX8_read_0 5 rfl rfl)
theorem dX8_read_6 : decode cX8_read 6 = .ok (.putfield 133, 3) := dk_181 0 133 (dk_at dksX8_read_0 6 rfl rfl)
theorem dX8_read_9 : decode cX8_read 9 = .ok (.aload_n 0, 1) := dk_42 (dk_at dksX8_read_0 9 rfl rfl)
theorem dX8_read_10 : decode cX8_read 10 = .ok (.aload_n 0, 1) := dk_42 (dk_at dksX8_read_0 10 rfl rfl)
theorem dX8_read_11 : decode cX8_read 11 = .ok (.getfield 17, 3) := dk_180 0 17 (dk_at dksX8_read_0 11 rfl rfl)
theorem dX8_read_14 : decode cX8_read 14 = .ok (.iload_n 1, 1) := dk_27 (dk_at dksX8_read_0 14 rfl rfl)
theorem dX8_read_15 : decode cX8_read 15 = .ok (.iaload, 1) := dk_46 (dk_at dksX8_read_0 15 rfl rfl)
theorem dX8_read_16 : decode cX8_read 16 = .ok (.putfield 130, 3) := dk_181 0 130 (dk_at dksX8_read_0 16 rfl rfl)
theorem dX8_read_19 : decode cX8_read 19 = .ok (.aload_n 0, 1) := dk_42 (dk_at dksX8_read_0 19 rfl rfl)
theorem dX8_read_20 : decode cX8_read 20 = .ok (.iconst 0, 1) := dk_3 (dk_at dksX8_read_0 20 rfl rfl)
theorem dX8_read_21 : decode cX8_read 21 = .ok (.putfield 136, 3) := dk_181 0 136 (dk_at dksX8_read_0 21 rfl rfl)
theorem dX8_read_24 : decode cX8_read 24 = .ok (.aload_n 0, 1) := dk_42 (dk_at dksX8_read_1 0 rfl rfl)
theorem dX8_read_25 : decode cX8_read 25 = .ok (.iconst 0, 1) := dk_3 (dk_at dksX8_read_1 1 rfl rfl)
theorem dX8_read_26 : decode cX8_read 26 = .ok (.putfield 172, 3) := dk_181 0 172 (dk_at dksX8_read_1 2 rfl rfl)
theorem dX8_read_29 : decode cX8_read 29 = .ok (.aload_n 0, 1) := dk_42 (dk_at dksX8_read_1 5 rfl rfl)
theorem dX8_read_30 : decode cX8_read 30 = .ok (.iconst 0, 1) := dk_3 (dk_at dksX8_read_1 6 rfl rfl)
theorem dX8_read_31 : decode cX8_read 31 = .ok (.putfield 162, 3) := dk_181 0 162 (dk_at dksX8_read_1 7 rfl rfl)
theorem dX8_read_34 : decode cX8_read 34 = .ok (.aload_n 0, 1) := dk_42 (dk_at dksX8_read_1 10 rfl rfl)
theorem dX8_read_35 : decode cX8_read 35 = .ok (.invokevirtual 178, 3) := dk_182 0 178 (dk_at dksX8_read_1 11 rfl rfl)
theorem dX8_read_38 : decode cX8_read 38 = .ok (.aload_n 0, 1) := dk_42 (dk_at dksX8_read_1 14 rfl rfl)
theorem dX8_read_39 : decode cX8_read 39 = .ok (.aload_n 0, 1) := dk_42 (dk_at dksX8_read_1 15 rfl rfl)
theorem dX8_read_40 : decode cX8_read 40 = .ok (.bipush 112, 2) := dk_16 112 (dk_at dksX8_read_1 16 rfl rfl)
theorem dX8_read_42 : decode cX8_read 42 = .ok (.bipush 108, 2) := dk_16 108 (dk_at dksX8_read_1 18 rfl rfl)
theorem dX8_read_44 : decode cX8_read 44 = .ok (.bipush 97, 2) := dk_16 97 (dk_at dksX8_read_1 20 rfl rfl)
theorem dX8_read_46 : decode cX8_read 46 = .ok (.bipush 121, 2) := dk_16 121 (dk_at dksX8_read_1 22 rfl rfl)
theorem dX8_read_48 : decode cX8_read 48 = .ok (.bipush 115, 2) := dk_16 115 (dk_at dksX8_read_2 0 rfl rfl)
theorem dX8_read_50 : decode cX8_read 50 = .ok (.iconst 0, 1) := dk_3 (dk_at dksX8_read_2 2 rfl rfl)
theorem dX8_read_51 : decode cX8_read 51 = .ok (.iconst 0, 1) := dk_3 (dk_at dksX8_read_2 3 rfl rfl)
theorem dX8_read_52 : decode cX8_read 52 = .ok (.iconst 0, 1) := dk_3 (dk_at dksX8_read_2 4 rfl rfl)
theorem dX8_read_53 : decode cX8_read 53 = .ok (.invokevirtual 181, 3) := dk_182 0 181 (dk_at dksX8_read_2 5 rfl rfl)
theorem dX8_read_56 : decode cX8_read 56 = .ok (.invokevirtual 236, 3) := dk_182 0 236 (dk_at dksX8_read_2 8 rfl rfl)
theorem dX8_read_59 : decode cX8_read 59 = .ok (.istore_n 3, 1) := dk_62 (dk_at dksX8_read_2 11 rfl rfl)
theorem dX8_read_60 : decode cX8_read 60 = .ok (.aload_n 0, 1) := dk_42 (dk_at dksX8_read_2 12 rfl rfl)
theorem dX8_read_61 : decode cX8_read 61 = .ok (.getfield 162, 3) := dk_180 0 162 (dk_at dksX8_read_2 13 rfl rfl)
theorem dX8_read_64 : decode cX8_read 64 = .ok (.ifCond .eq 7, 3) := dk_153 0 7 (dk_at dksX8_read_2 16 rfl rfl)
theorem dX8_read_67 : decode cX8_read 67 = .ok (.iconst 0, 1) := dk_3 (dk_at dksX8_read_2 19 rfl rfl)
theorem dX8_read_68 : decode cX8_read 68 = .ok (.goto 25, 3) := dk_167 0 25 (dk_at dksX8_read_2 20 rfl rfl)
theorem dX8_read_71 : decode cX8_read 71 = .ok (.aload_n 0, 1) := dk_42 (dk_at dksX8_read_2 23 rfl rfl)
theorem dX8_read_72 : decode cX8_read 72 = .ok (.aload_n 0, 1) := dk_42 (dk_at dksX8_read_3 0 rfl rfl)
theorem dX8_read_73 : decode cX8_read 73 = .ok (.bipush 116, 2) := dk_16 116 (dk_at dksX8_read_3 1 rfl rfl)
theorem dX8_read_75 : decode cX8_read 75 = .ok (.bipush 104, 2) := dk_16 104 (dk_at dksX8_read_3 3 rfl rfl)
theorem dX8_read_77 : decode cX8_read 77 = .ok (.bipush 114, 2) := dk_16 114 (dk_at dksX8_read_3 5 rfl rfl)
theorem dX8_read_79 : decode cX8_read 79 = .ok (.bipush 111, 2) := dk_16 111 (dk_at dksX8_read_3 7 rfl rfl)
theorem dX8_read_81 : decode cX8_read 81 = .ok (.bipush 119, 2) := dk_16 119 (dk_at dksX8_read_3 9 rfl rfl)
theorem dX8_read_83 : decode cX8_read 83 = .ok (.bipush 115, 2) := dk_16 115 (dk_at dksX8_read_3 11 rfl rfl)
theorem dX8_read_85 : decode cX8_read 85 = .ok (.iconst 0, 1) := dk_3 (dk_at dksX8_read_3 13 rfl rfl)
theorem dX8_read_86 : decode cX8_read 86 = .ok (.iconst 0, 1) := dk_3 (dk_at dksX8_read_3 14 rfl rfl)
theorem dX8_read_87 : decode cX8_read 87 = .ok (.invokevirtual 181, 3) := dk_182 0 181 (dk_at dksX8_read_3 15 rfl rfl)
theorem dX8_read_90 : decode cX8_read 90 = .ok (.invokevirtual 236, 3) := dk_182 0 236 (dk_at dksX8_read_3 18 rfl rfl)
theorem dX8_read_93 : decode cX8_read 93 = .ok (.istore 4, 2) := dk_54 4 (dk_at dksX8_read_3 21 rfl rfl)
theorem dX8_read_95 : decode cX8_read 95 = .ok (.aload_n 0, 1) := dk_42 (dk_at dksX8_read_3 23 rfl rfl)
theorem dX8_read_96 : decode cX8_read 96 = .ok (.getfield 162, 3) := dk_180 0 162 (dk_at dksX8_read_4 0 rfl rfl)
theorem dX8_read_99 : decode cX8_read 99 = .ok (.ifCond .eq 7, 3) := dk_153 0 7 (dk_at dksX8_read_4 3 rfl rfl)
theorem dX8_read_102 : decode cX8_read 102 = .ok (.iconst 0, 1) := dk_3 (dk_at dksX8_read_4 6 rfl rfl)
theorem dX8_read_103 : decode cX8_read 103 = .ok (.goto 24, 3) := dk_167 0 24 (dk_at dksX8_read_4 7 rfl rfl)
theorem dX8_read_106 : decode cX8_read 106 = .ok (.aload_n 0, 1) := dk_42 (dk_at dksX8_read_4 10 rfl rfl)
theorem dX8_read_107 : decode cX8_read 107 = .ok (.aload_n 0, 1) := dk_42 (dk_at dksX8_read_4 11 rfl rfl)
theorem dX8_read_108 : decode cX8_read 108 = .ok (.bipush 116, 2) := dk_16 116 (dk_at dksX8_read_4 12 rfl rfl)
theorem dX8_read_110 : decode cX8_read 110 = .ok (.bipush 105, 2) := dk_16 105 (dk_at dksX8_read_4 14 rfl rfl)
theorem dX8_read_112 : decode cX8_read 112 = .ok (.bipush 114, 2) := dk_16 114 (dk_at dksX8_read_4 16 rfl rfl)
theorem dX8_read_114 : decode cX8_read 114 = .ok (.bipush 101, 2) := dk_16 101 (dk_at dksX8_read_4 18 rfl rfl)
theorem dX8_read_116 : decode cX8_read 116 = .ok (.bipush 115, 2) := dk_16 115 (dk_at dksX8_read_4 20 rfl rfl)
theorem dX8_read_118 : decode cX8_read 118 = .ok (.iconst 0, 1) := dk_3 (dk_at dksX8_read_4 22 rfl rfl)
theorem dX8_read_119 : decode cX8_read 119 = .ok (.iconst 0, 1) := dk_3 (dk_at dksX8_read_4 23 rfl rfl)
theorem dX8_read_120 : decode cX8_read 120 = .ok (.iconst 0, 1) := dk_3 (dk_at dksX8_read_5 0 rfl rfl)
theorem dX8_read_121 : decode cX8_read 121 = .ok (.invokevirtual 181, 3) := dk_182 0 181 (dk_at dksX8_read_5 1 rfl rfl)
theorem dX8_read_124 : decode cX8_read 124 = .ok (.invokevirtual 236, 3) := dk_182 0 236 (dk_at dksX8_read_5 4 rfl rfl)
theorem dX8_read_127 : decode cX8_read 127 = .ok (.istore 5, 2) := dk_54 5 (dk_at dksX8_read_5 7 rfl rfl)
theorem dX8_read_129 : decode cX8_read 129 = .ok (.aload_n 0, 1) := dk_42 (dk_at dksX8_read_5 9 rfl rfl)
theorem dX8_read_130 : decode cX8_read 130 = .ok (.getfield 162, 3) := dk_180 0 162 (dk_at dksX8_read_5 10 rfl rfl)
theorem dX8_read_133 : decode cX8_read 133 = .ok (.ifCond .ne 14, 3) := dk_154 0 14 (dk_at dksX8_read_5 13 rfl rfl)
theorem dX8_read_136 : decode cX8_read 136 = .ok (.aload_n 0, 1) := dk_42 (dk_at dksX8_read_5 16 rfl rfl)
theorem dX8_read_137 : decode cX8_read 137 = .ok (.getfield 145, 3) := dk_180 0 145 (dk_at dksX8_read_5 17 rfl rfl)
theorem dX8_read_140 : decode cX8_read 140 = .ok (.ifCond .eq 7, 3) := dk_153 0 7 (dk_at dksX8_read_5 20 rfl rfl)
theorem dX8_read_143 : decode cX8_read 143 = .ok (.aload_n 0, 1) := dk_42 (dk_at dksX8_read_5 23 rfl rfl)
theorem dX8_read_144 : decode cX8_read 144 = .ok (.invokevirtual 175, 3) := dk_182 0 175 (dk_at dksX8_read_6 0 rfl rfl)
theorem dX8_read_147 : decode cX8_read 147 = .ok (.iload_n 2, 1) := dk_28 (dk_at dksX8_read_6 3 rfl rfl)
theorem dX8_read_148 : decode cX8_read 148 = .ok (.ifCond .ne 7, 3) := dk_154 0 7 (dk_at dksX8_read_6 4 rfl rfl)
theorem dX8_read_151 : decode cX8_read 151 = .ok (.iload_n 3, 1) := dk_29 (dk_at dksX8_read_6 7 rfl rfl)
theorem dX8_read_152 : decode cX8_read 152 = .ok (.goto 15, 3) := dk_167 0 15 (dk_at dksX8_read_6 8 rfl rfl)
theorem dX8_read_155 : decode cX8_read 155 = .ok (.iload_n 2, 1) := dk_28 (dk_at dksX8_read_6 11 rfl rfl)
theorem dX8_read_156 : decode cX8_read 156 = .ok (.iconst 1, 1) := dk_4 (dk_at dksX8_read_6 12 rfl rfl)
theorem dX8_read_157 : decode cX8_read 157 = .ok (.if_icmp .ne 8, 3) := dk_160 0 8 (dk_at dksX8_read_6 13 rfl rfl)
theorem dX8_read_160 : decode cX8_read 160 = .ok (.iload 4, 2) := dk_21 4 (dk_at dksX8_read_6 16 rfl rfl)
theorem dX8_read_162 : decode cX8_read 162 = .ok (.goto 5, 3) := dk_167 0 5 (dk_at dksX8_read_6 18 rfl rfl)
theorem dX8_read_165 : decode cX8_read 165 = .ok (.iload 5, 2) := dk_21 5 (dk_at dksX8_read_6 21 rfl rfl)
theorem dX8_read_167 : decode cX8_read 167 = .ok (.ireturn, 1) := dk_172 (dk_at dksX8_read_6 23 rfl rfl)
abbrev cX8_next : ByteArray := prog_16_method_22_code
def yX8_next : MethodName := ⟨RX8, "next", "()V"⟩
def dkwX8_next_13 : List UInt8 := [181, 0, 145, 42, 27, 133, 181, 0, 156, 42, 89, 180, 0, 136, 4, 96, 181, 0, 136, 177]
abbrev dktX8_next_13 : List UInt8 := dkwX8_next_13 ++ []
def dkwX8_next_12 : List UInt8 := [159, 0, 21, 27, 16, 42, 159, 0, 15, 27, 16, 60, 159, 0, 9, 27, 16, 61, 160, 0, 24, 42, 6]
abbrev dktX8_next_12 : List UInt8 := dkwX8_next_12 ++ dktX8_next_13
def dkwX8_next_11 : List UInt8 := [159, 0, 45, 27, 16, 41, 159, 0, 39, 27, 16, 59, 159, 0, 33, 27, 16, 43, 159, 0, 27, 27, 16, 45]
abbrev dktX8_next_11 : List UInt8 := dkwX8_next_11 ++ dktX8_next_12
def dkwX8_next_10 : List UInt8 := [167, 255, 184, 42, 28, 7, 164, 0, 7, 7, 167, 0, 4, 5, 181, 0, 145, 167, 0, 72, 27, 16, 40]
abbrev dktX8_next_10 : List UInt8 := dkwX8_next_10 ++ dktX8_next_11
def dkwX8_next_9 : List UInt8 := [167, 0, 7, 42, 180, 0, 156, 181, 0, 156, 132, 2, 1, 42, 89, 180, 0, 136, 4, 96, 181, 0, 136]
abbrev dktX8_next_9 : List UInt8 := dkwX8_next_9 ++ dktX8_next_10
def dkwX8_next_8 : List UInt8 := [20, 0, 160, 42, 180, 0, 156, 105, 42, 42, 180, 0, 136, 182, 0, 139, 133, 97, 20, 0, 152, 101]
abbrev dktX8_next_8 : List UInt8 := dkwX8_next_8 ++ dktX8_next_9
def dkwX8_next_7 : List UInt8 := [182, 0, 139, 133, 20, 0, 152, 20, 0, 154, 184, 0, 64, 153, 0, 57, 42, 28, 7, 162, 0, 28]
abbrev dktX8_next_7 : List UInt8 := dkwX8_next_7 ++ dktX8_next_8
def dkwX8_next_6 : List UInt8 := [184, 0, 64, 153, 0, 107, 42, 5, 181, 0, 145, 42, 9, 181, 0, 156, 3, 61, 42, 42, 180, 0, 136]
abbrev dktX8_next_6 : List UInt8 := dkwX8_next_6 ++ dktX8_next_7
def dkwX8_next_5 : List UInt8 := [153, 0, 203, 42, 89, 180, 0, 136, 4, 96, 181, 0, 136, 167, 255, 225, 27, 133, 20, 0, 152, 20, 0, 154]
abbrev dktX8_next_5 : List UInt8 := dkwX8_next_5 ++ dktX8_next_6
def dkwX8_next_4 : List UInt8 := [42, 4, 181, 0, 145, 42, 42, 180, 0, 136, 182, 0, 139, 133, 20, 0, 148, 20, 0, 150, 184, 0, 64]
abbrev dktX8_next_4 : List UInt8 := dkwX8_next_4 ++ dktX8_next_5
def dkwX8_next_3 : List UInt8 := [42, 180, 0, 130, 181, 0, 142, 167, 0, 243, 27, 133, 20, 0, 148, 20, 0, 150, 184, 0, 64, 153, 0, 42]
abbrev dktX8_next_3 : List UInt8 := dkwX8_next_3 ++ dktX8_next_4
def dkwX8_next_2 : List UInt8 := [42, 42, 180, 0, 136, 182, 0, 139, 60, 42, 7, 181, 0, 145, 27, 156, 0, 19, 42, 3, 181, 0, 145, 42]
abbrev dktX8_next_2 : List UInt8 := dkwX8_next_2 ++ dktX8_next_3
def dkwX8_next_1 : List UInt8 := [160, 0, 16, 42, 89, 180, 0, 136, 4, 96, 181, 0, 136, 167, 255, 220, 42, 42, 180, 0, 136, 181, 0, 142]
abbrev dktX8_next_1 : List UInt8 := dkwX8_next_1 ++ dktX8_next_2
def dkwX8_next_0 : List UInt8 := [42, 42, 180, 0, 136, 182, 0, 139, 16, 32, 159, 0, 16, 42, 42, 180, 0, 136, 182, 0, 139, 16, 10]
abbrev dktX8_next_0 : List UInt8 := dkwX8_next_0 ++ dktX8_next_1
theorem dksX8_next_0 : cX8_next.data.toList.drop 0 = dktX8_next_0 := by decide +kernel
theorem dksX8_next_1 : cX8_next.data.toList.drop 23 = dktX8_next_1 := dk_seg dksX8_next_0 23 rfl rfl
theorem dksX8_next_2 : cX8_next.data.toList.drop 47 = dktX8_next_2 := dk_seg dksX8_next_1 24 rfl rfl
theorem dksX8_next_3 : cX8_next.data.toList.drop 71 = dktX8_next_3 := dk_seg dksX8_next_2 24 rfl rfl
theorem dksX8_next_4 : cX8_next.data.toList.drop 95 = dktX8_next_4 := dk_seg dksX8_next_3 24 rfl rfl
theorem dksX8_next_5 : cX8_next.data.toList.drop 118 = dktX8_next_5 := dk_seg dksX8_next_4 23 rfl rfl
theorem dksX8_next_6 : cX8_next.data.toList.drop 142 = dktX8_next_6 := dk_seg dksX8_next_5 24 rfl rfl
theorem dksX8_next_7 : cX8_next.data.toList.drop 165 = dktX8_next_7 := dk_seg dksX8_next_6 23 rfl rfl
theorem dksX8_next_8 : cX8_next.data.toList.drop 187 = dktX8_next_8 := dk_seg dksX8_next_7 22 rfl rfl
theorem dksX8_next_9 : cX8_next.data.toList.drop 209 = dktX8_next_9 := dk_seg dksX8_next_8 22 rfl rfl
theorem dksX8_next_10 : cX8_next.data.toList.drop 232 = dktX8_next_10 := dk_seg dksX8_next_9 23 rfl rfl
theorem dksX8_next_11 : cX8_next.data.toList.drop 255 = dktX8_next_11 := dk_seg dksX8_next_10 23 rfl rfl
theorem dksX8_next_12 : cX8_next.data.toList.drop 279 = dktX8_next_12 := dk_seg dksX8_next_11 24 rfl rfl
theorem dksX8_next_13 : cX8_next.data.toList.drop 302 = dktX8_next_13 := dk_seg dksX8_next_12 23 rfl rfl
theorem dX8_next_0 : decode cX8_next 0 = .ok (.aload_n 0, 1) := dk_42 (dk_at dksX8_next_0 0 rfl rfl)
theorem dX8_next_1 : decode cX8_next 1 = .ok (.aload_n 0, 1) := dk_42 (dk_at dksX8_next_0 1 rfl rfl)
theorem dX8_next_2 : decode cX8_next 2 = .ok (.getfield 136, 3) := dk_180 0 136 (dk_at dksX8_next_0 2 rfl rfl)
theorem dX8_next_5 : decode cX8_next 5 = .ok (.invokevirtual 139, 3) := dk_182 0 139 (dk_at dksX8_next_0 5 rfl rfl)
theorem dX8_next_8 : decode cX8_next 8 = .ok (.bipush 32, 2) := dk_16 32 (dk_at dksX8_next_0 8 rfl rfl)
theorem dX8_next_10 : decode cX8_next 10 = .ok (.if_icmp .eq 16, 3) := dk_159 0 16 (dk_at dksX8_next_0 10 rfl rfl)
theorem dX8_next_13 : decode cX8_next 13 = .ok (.aload_n 0, 1) := dk_42 (dk_at dksX8_next_0 13 rfl rfl)
theorem dX8_next_14 : decode cX8_next 14 = .ok (.aload_n 0, 1) := dk_42 (dk_at dksX8_next_0 14 rfl rfl)
theorem dX8_next_15 : decode cX8_next 15 = .ok (.getfield 136, 3) := dk_180 0 136 (dk_at dksX8_next_0 15 rfl rfl)
theorem dX8_next_18 : decode cX8_next 18 = .ok (.invokevirtual 139, 3) := dk_182 0 139 (dk_at dksX8_next_0 18 rfl rfl)
theorem dX8_next_21 : decode cX8_next 21 = .ok (.bipush 10, 2) := dk_16 10 (dk_at dksX8_next_0 21 rfl rfl)
theorem dX8_next_23 : decode cX8_next 23 = .ok (.if_icmp .ne 16, 3) := dk_160 0 16 (dk_at dksX8_next_1 0 rfl rfl)
theorem dX8_next_26 : decode cX8_next 26 = .ok (.aload_n 0, 1) := dk_42 (dk_at dksX8_next_1 3 rfl rfl)
theorem dX8_next_27 : decode cX8_next 27 = .ok (.dup, 1) := dk_89 (dk_at dksX8_next_1 4 rfl rfl)
theorem dX8_next_28 : decode cX8_next 28 = .ok (.getfield 136, 3) := dk_180 0 136 (dk_at dksX8_next_1 5 rfl rfl)
theorem dX8_next_31 : decode cX8_next 31 = .ok (.iconst 1, 1) := dk_4 (dk_at dksX8_next_1 8 rfl rfl)
theorem dX8_next_32 : decode cX8_next 32 = .ok (.iadd, 1) := dk_96 (dk_at dksX8_next_1 9 rfl rfl)
theorem dX8_next_33 : decode cX8_next 33 = .ok (.putfield 136, 3) := dk_181 0 136 (dk_at dksX8_next_1 10 rfl rfl)
theorem dX8_next_36 : decode cX8_next 36 = .ok (.goto (-36), 3) := dk_167 255 220 (dk_at dksX8_next_1 13 rfl rfl)
theorem dX8_next_39 : decode cX8_next 39 = .ok (.aload_n 0, 1) := dk_42 (dk_at dksX8_next_1 16 rfl rfl)
theorem dX8_next_40 : decode cX8_next 40 = .ok (.aload_n 0, 1) := dk_42 (dk_at dksX8_next_1 17 rfl rfl)
theorem dX8_next_41 : decode cX8_next 41 = .ok (.getfield 136, 3) := dk_180 0 136 (dk_at dksX8_next_1 18 rfl rfl)
theorem dX8_next_44 : decode cX8_next 44 = .ok (.putfield 142, 3) := dk_181 0 142 (dk_at dksX8_next_1 21 rfl rfl)
theorem dX8_next_47 : decode cX8_next 47 = .ok (.aload_n 0, 1) := dk_42 (dk_at dksX8_next_2 0 rfl rfl)
theorem dX8_next_48 : decode cX8_next 48 = .ok (.aload_n 0, 1) := dk_42 (dk_at dksX8_next_2 1 rfl rfl)
theorem dX8_next_49 : decode cX8_next 49 = .ok (.getfield 136, 3) := dk_180 0 136 (dk_at dksX8_next_2 2 rfl rfl)
theorem dX8_next_52 : decode cX8_next 52 = .ok (.invokevirtual 139, 3) := dk_182 0 139 (dk_at dksX8_next_2 5 rfl rfl)
theorem dX8_next_55 : decode cX8_next 55 = .ok (.istore_n 1, 1) := dk_60 (dk_at dksX8_next_2 8 rfl rfl)
theorem dX8_next_56 : decode cX8_next 56 = .ok (.aload_n 0, 1) := dk_42 (dk_at dksX8_next_2 9 rfl rfl)
theorem dX8_next_57 : decode cX8_next 57 = .ok (.iconst 4, 1) := dk_7 (dk_at dksX8_next_2 10 rfl rfl)
theorem dX8_next_58 : decode cX8_next 58 = .ok (.putfield 145, 3) := dk_181 0 145 (dk_at dksX8_next_2 11 rfl rfl)
theorem dX8_next_61 : decode cX8_next 61 = .ok (.iload_n 1, 1) := dk_27 (dk_at dksX8_next_2 14 rfl rfl)
theorem dX8_next_62 : decode cX8_next 62 = .ok (.ifCond .ge 19, 3) := dk_156 0 19 (dk_at dksX8_next_2 15 rfl rfl)
theorem dX8_next_65 : decode cX8_next 65 = .ok (.aload_n 0, 1) := dk_42 (dk_at dksX8_next_2 18 rfl rfl)
theorem dX8_next_66 : decode cX8_next 66 = .ok (.iconst 0, 1) := dk_3 (dk_at dksX8_next_2 19 rfl rfl)
theorem dX8_next_67 : decode cX8_next 67 = .ok (.putfield 145, 3) := dk_181 0 145 (dk_at dksX8_next_2 20 rfl rfl)
theorem dX8_next_70 : decode cX8_next 70 = .ok (.aload_n 0, 1) := dk_42 (dk_at dksX8_next_2 23 rfl rfl)
theorem dX8_next_71 : decode cX8_next 71 = .ok (.aload_n 0, 1) := dk_42 (dk_at dksX8_next_3 0 rfl rfl)
theorem dX8_next_72 : decode cX8_next 72 = .ok (.getfield 130, 3) := dk_180 0 130 (dk_at dksX8_next_3 1 rfl rfl)
theorem dX8_next_75 : decode cX8_next 75 = .ok (.putfield 142, 3) := dk_181 0 142 (dk_at dksX8_next_3 4 rfl rfl)
theorem dX8_next_78 : decode cX8_next 78 = .ok (.goto 243, 3) := dk_167 0 243 (dk_at dksX8_next_3 7 rfl rfl)
theorem dX8_next_81 : decode cX8_next 81 = .ok (.iload_n 1, 1) := dk_27 (dk_at dksX8_next_3 10 rfl rfl)
theorem dX8_next_82 : decode cX8_next 82 = .ok (.i2l, 1) := dk_133 (dk_at dksX8_next_3 11 rfl rfl)
theorem dX8_next_83 : decode cX8_next 83 = .ok (.ldc2_w 148, 3) := dk_20 0 148 (dk_at dksX8_next_3 12 rfl rfl)
theorem dX8_next_86 : decode cX8_next 86 = .ok (.ldc2_w 150, 3) := dk_20 0 150 (dk_at dksX8_next_3 15 rfl rfl)
theorem dX8_next_89 : decode cX8_next 89 = .ok (.invokestatic 64, 3) := dk_184 0 64 (dk_at dksX8_next_3 18 rfl rfl)
theorem dX8_next_92 : decode cX8_next 92 = .ok (.ifCond .eq 42, 3) := dk_153 0 42 (dk_at dksX8_next_3 21 rfl rfl)
theorem dX8_next_95 : decode cX8_next 95 = .ok (.aload_n 0, 1) := dk_42 (dk_at dksX8_next_4 0 rfl rfl)
theorem dX8_next_96 : decode cX8_next 96 = .ok (.iconst 1, 1) := dk_4 (dk_at dksX8_next_4 1 rfl rfl)
theorem dX8_next_97 : decode cX8_next 97 = .ok (.putfield 145, 3) := dk_181 0 145 (dk_at dksX8_next_4 2 rfl rfl)
theorem dX8_next_100 : decode cX8_next 100 = .ok (.aload_n 0, 1) := dk_42 (dk_at dksX8_next_4 5 rfl rfl)
theorem dX8_next_101 : decode cX8_next 101 = .ok (.aload_n 0, 1) := dk_42 (dk_at dksX8_next_4 6 rfl rfl)
theorem dX8_next_102 : decode cX8_next 102 = .ok (.getfield 136, 3) := dk_180 0 136 (dk_at dksX8_next_4 7 rfl rfl)
theorem dX8_next_105 : decode cX8_next 105 = .ok (.invokevirtual 139, 3) := dk_182 0 139 (dk_at dksX8_next_4 10 rfl rfl)
theorem dX8_next_108 : decode cX8_next 108 = .ok (.i2l, 1) := dk_133 (dk_at dksX8_next_4 13 rfl rfl)
theorem dX8_next_109 : decode cX8_next 109 = .ok (.ldc2_w 148, 3) := dk_20 0 148 (dk_at dksX8_next_4 14 rfl rfl)
theorem dX8_next_112 : decode cX8_next 112 = .ok (.ldc2_w 150, 3) := dk_20 0 150 (dk_at dksX8_next_4 17 rfl rfl)
theorem dX8_next_115 : decode cX8_next 115 = .ok (.invokestatic 64, 3) := dk_184 0 64 (dk_at dksX8_next_4 20 rfl rfl)
theorem dX8_next_118 : decode cX8_next 118 = .ok (.ifCond .eq 203, 3) := dk_153 0 203 (dk_at dksX8_next_5 0 rfl rfl)
theorem dX8_next_121 : decode cX8_next 121 = .ok (.aload_n 0, 1) := dk_42 (dk_at dksX8_next_5 3 rfl rfl)
theorem dX8_next_122 : decode cX8_next 122 = .ok (.dup, 1) := dk_89 (dk_at dksX8_next_5 4 rfl rfl)
theorem dX8_next_123 : decode cX8_next 123 = .ok (.getfield 136, 3) := dk_180 0 136 (dk_at dksX8_next_5 5 rfl rfl)
theorem dX8_next_126 : decode cX8_next 126 = .ok (.iconst 1, 1) := dk_4 (dk_at dksX8_next_5 8 rfl rfl)
theorem dX8_next_127 : decode cX8_next 127 = .ok (.iadd, 1) := dk_96 (dk_at dksX8_next_5 9 rfl rfl)
theorem dX8_next_128 : decode cX8_next 128 = .ok (.putfield 136, 3) := dk_181 0 136 (dk_at dksX8_next_5 10 rfl rfl)
theorem dX8_next_131 : decode cX8_next 131 = .ok (.goto (-31), 3) := dk_167 255 225 (dk_at dksX8_next_5 13 rfl rfl)
theorem dX8_next_134 : decode cX8_next 134 = .ok (.iload_n 1, 1) := dk_27 (dk_at dksX8_next_5 16 rfl rfl)
theorem dX8_next_135 : decode cX8_next 135 = .ok (.i2l, 1) := dk_133 (dk_at dksX8_next_5 17 rfl rfl)
theorem dX8_next_136 : decode cX8_next 136 = .ok (.ldc2_w 152, 3) := dk_20 0 152 (dk_at dksX8_next_5 18 rfl rfl)
theorem dX8_next_139 : decode cX8_next 139 = .ok (.ldc2_w 154, 3) := dk_20 0 154 (dk_at dksX8_next_5 21 rfl rfl)
theorem dX8_next_142 : decode cX8_next 142 = .ok (.invokestatic 64, 3) := dk_184 0 64 (dk_at dksX8_next_6 0 rfl rfl)
theorem dX8_next_145 : decode cX8_next 145 = .ok (.ifCond .eq 107, 3) := dk_153 0 107 (dk_at dksX8_next_6 3 rfl rfl)
theorem dX8_next_148 : decode cX8_next 148 = .ok (.aload_n 0, 1) := dk_42 (dk_at dksX8_next_6 6 rfl rfl)
theorem dX8_next_149 : decode cX8_next 149 = .ok (.iconst 2, 1) := dk_5 (dk_at dksX8_next_6 7 rfl rfl)
theorem dX8_next_150 : decode cX8_next 150 = .ok (.putfield 145, 3) := dk_181 0 145 (dk_at dksX8_next_6 8 rfl rfl)
theorem dX8_next_153 : decode cX8_next 153 = .ok (.aload_n 0, 1) := dk_42 (dk_at dksX8_next_6 11 rfl rfl)
theorem dX8_next_154 : decode cX8_next 154 = .ok (.lconst 0, 1) := dk_9 (dk_at dksX8_next_6 12 rfl rfl)
theorem dX8_next_155 : decode cX8_next 155 = .ok (.putfield 156, 3) := dk_181 0 156 (dk_at dksX8_next_6 13 rfl rfl)
theorem dX8_next_158 : decode cX8_next 158 = .ok (.iconst 0, 1) := dk_3 (dk_at dksX8_next_6 16 rfl rfl)
theorem dX8_next_159 : decode cX8_next 159 = .ok (.istore_n 2, 1) := dk_61 (dk_at dksX8_next_6 17 rfl rfl)
theorem dX8_next_160 : decode cX8_next 160 = .ok (.aload_n 0, 1) := dk_42 (dk_at dksX8_next_6 18 rfl rfl)
theorem dX8_next_161 : decode cX8_next 161 = .ok (.aload_n 0, 1) := dk_42 (dk_at dksX8_next_6 19 rfl rfl)
theorem dX8_next_162 : decode cX8_next 162 = .ok (.getfield 136, 3) := dk_180 0 136 (dk_at dksX8_next_6 20 rfl rfl)
theorem dX8_next_165 : decode cX8_next 165 = .ok (.invokevirtual 139, 3) := dk_182 0 139 (dk_at dksX8_next_7 0 rfl rfl)
theorem dX8_next_168 : decode cX8_next 168 = .ok (.i2l, 1) := dk_133 (dk_at dksX8_next_7 3 rfl rfl)
theorem dX8_next_169 : decode cX8_next 169 = .ok (.ldc2_w 152, 3) := dk_20 0 152 (dk_at dksX8_next_7 4 rfl rfl)
theorem dX8_next_172 : decode cX8_next 172 = .ok (.ldc2_w 154, 3) := dk_20 0 154 (dk_at dksX8_next_7 7 rfl rfl)
theorem dX8_next_175 : decode cX8_next 175 = .ok (.invokestatic 64, 3) := dk_184 0 64 (dk_at dksX8_next_7 10 rfl rfl)
theorem dX8_next_178 : decode cX8_next 178 = .ok (.ifCond .eq 57, 3) := dk_153 0 57 (dk_at dksX8_next_7 13 rfl rfl)
theorem dX8_next_181 : decode cX8_next 181 = .ok (.aload_n 0, 1) := dk_42 (dk_at dksX8_next_7 16 rfl rfl)
theorem dX8_next_182 : decode cX8_next 182 = .ok (.iload_n 2, 1) := dk_28 (dk_at dksX8_next_7 17 rfl rfl)
theorem dX8_next_183 : decode cX8_next 183 = .ok (.iconst 4, 1) := dk_7 (dk_at dksX8_next_7 18 rfl rfl)
theorem dX8_next_184 : decode cX8_next 184 = .ok (.if_icmp .ge 28, 3) := dk_162 0 28 (dk_at dksX8_next_7 19 rfl rfl)
theorem dX8_next_187 : decode cX8_next 187 = .ok (.ldc2_w 160, 3) := dk_20 0 160 (dk_at dksX8_next_8 0 rfl rfl)
theorem dX8_next_190 : decode cX8_next 190 = .ok (.aload_n 0, 1) := dk_42 (dk_at dksX8_next_8 3 rfl rfl)
theorem dX8_next_191 : decode cX8_next 191 = .ok (.getfield 156, 3) := dk_180 0 156 (dk_at dksX8_next_8 4 rfl rfl)
theorem dX8_next_194 : decode cX8_next 194 = .ok (.lmul, 1) := dk_105 (dk_at dksX8_next_8 7 rfl rfl)
theorem dX8_next_195 : decode cX8_next 195 = .ok (.aload_n 0, 1) := dk_42 (dk_at dksX8_next_8 8 rfl rfl)
theorem dX8_next_196 : decode cX8_next 196 = .ok (.aload_n 0, 1) := dk_42 (dk_at dksX8_next_8 9 rfl rfl)
theorem dX8_next_197 : decode cX8_next 197 = .ok (.getfield 136, 3) := dk_180 0 136 (dk_at dksX8_next_8 10 rfl rfl)
theorem dX8_next_200 : decode cX8_next 200 = .ok (.invokevirtual 139, 3) := dk_182 0 139 (dk_at dksX8_next_8 13 rfl rfl)
theorem dX8_next_203 : decode cX8_next 203 = .ok (.i2l, 1) := dk_133 (dk_at dksX8_next_8 16 rfl rfl)
theorem dX8_next_204 : decode cX8_next 204 = .ok (.ladd, 1) := dk_97 (dk_at dksX8_next_8 17 rfl rfl)
theorem dX8_next_205 : decode cX8_next 205 = .ok (.ldc2_w 152, 3) := dk_20 0 152 (dk_at dksX8_next_8 18 rfl rfl)
theorem dX8_next_208 : decode cX8_next 208 = .ok (.lsub, 1) := dk_101 (dk_at dksX8_next_8 21 rfl rfl)
theorem dX8_next_209 : decode cX8_next 209 = .ok (.goto 7, 3) := dk_167 0 7 (dk_at dksX8_next_9 0 rfl rfl)
theorem dX8_next_212 : decode cX8_next 212 = .ok (.aload_n 0, 1) := dk_42 (dk_at dksX8_next_9 3 rfl rfl)
theorem dX8_next_213 : decode cX8_next 213 = .ok (.getfield 156, 3) := dk_180 0 156 (dk_at dksX8_next_9 4 rfl rfl)
theorem dX8_next_216 : decode cX8_next 216 = .ok (.putfield 156, 3) := dk_181 0 156 (dk_at dksX8_next_9 7 rfl rfl)
theorem dX8_next_219 : decode cX8_next 219 = .ok (.iinc 2 1, 3) := dk_132 2 1 (dk_at dksX8_next_9 10 rfl rfl)
theorem dX8_next_222 : decode cX8_next 222 = .ok (.aload_n 0, 1) := dk_42 (dk_at dksX8_next_9 13 rfl rfl)
theorem dX8_next_223 : decode cX8_next 223 = .ok (.dup, 1) := dk_89 (dk_at dksX8_next_9 14 rfl rfl)
theorem dX8_next_224 : decode cX8_next 224 = .ok (.getfield 136, 3) := dk_180 0 136 (dk_at dksX8_next_9 15 rfl rfl)
theorem dX8_next_227 : decode cX8_next 227 = .ok (.iconst 1, 1) := dk_4 (dk_at dksX8_next_9 18 rfl rfl)
theorem dX8_next_228 : decode cX8_next 228 = .ok (.iadd, 1) := dk_96 (dk_at dksX8_next_9 19 rfl rfl)
theorem dX8_next_229 : decode cX8_next 229 = .ok (.putfield 136, 3) := dk_181 0 136 (dk_at dksX8_next_9 20 rfl rfl)
theorem dX8_next_232 : decode cX8_next 232 = .ok (.goto (-72), 3) := dk_167 255 184 (dk_at dksX8_next_10 0 rfl rfl)
theorem dX8_next_235 : decode cX8_next 235 = .ok (.aload_n 0, 1) := dk_42 (dk_at dksX8_next_10 3 rfl rfl)
theorem dX8_next_236 : decode cX8_next 236 = .ok (.iload_n 2, 1) := dk_28 (dk_at dksX8_next_10 4 rfl rfl)
theorem dX8_next_237 : decode cX8_next 237 = .ok (.iconst 4, 1) := dk_7 (dk_at dksX8_next_10 5 rfl rfl)
theorem dX8_next_238 : decode cX8_next 238 = .ok (.if_icmp .le 7, 3) := dk_164 0 7 (dk_at dksX8_next_10 6 rfl rfl)
theorem dX8_next_241 : decode cX8_next 241 = .ok (.iconst 4, 1) := dk_7 (dk_at dksX8_next_10 9 rfl rfl)
theorem dX8_next_242 : decode cX8_next 242 = .ok (.goto 4, 3) := dk_167 0 4 (dk_at dksX8_next_10 10 rfl rfl)
theorem dX8_next_245 : decode cX8_next 245 = .ok (.iconst 2, 1) := dk_5 (dk_at dksX8_next_10 13 rfl rfl)
theorem dX8_next_246 : decode cX8_next 246 = .ok (.putfield 145, 3) := dk_181 0 145 (dk_at dksX8_next_10 14 rfl rfl)
theorem dX8_next_249 : decode cX8_next 249 = .ok (.goto 72, 3) := dk_167 0 72 (dk_at dksX8_next_10 17 rfl rfl)
theorem dX8_next_252 : decode cX8_next 252 = .ok (.iload_n 1, 1) := dk_27 (dk_at dksX8_next_10 20 rfl rfl)
theorem dX8_next_253 : decode cX8_next 253 = .ok (.bipush 40, 2) := dk_16 40 (dk_at dksX8_next_10 21 rfl rfl)
theorem dX8_next_255 : decode cX8_next 255 = .ok (.if_icmp .eq 45, 3) := dk_159 0 45 (dk_at dksX8_next_11 0 rfl rfl)
theorem dX8_next_258 : decode cX8_next 258 = .ok (.iload_n 1, 1) := dk_27 (dk_at dksX8_next_11 3 rfl rfl)
theorem dX8_next_259 : decode cX8_next 259 = .ok (.bipush 41, 2) := dk_16 41 (dk_at dksX8_next_11 4 rfl rfl)
theorem dX8_next_261 : decode cX8_next 261 = .ok (.if_icmp .eq 39, 3) := dk_159 0 39 (dk_at dksX8_next_11 6 rfl rfl)
theorem dX8_next_264 : decode cX8_next 264 = .ok (.iload_n 1, 1) := dk_27 (dk_at dksX8_next_11 9 rfl rfl)
theorem dX8_next_265 : decode cX8_next 265 = .ok (.bipush 59, 2) := dk_16 59 (dk_at dksX8_next_11 10 rfl rfl)
theorem dX8_next_267 : decode cX8_next 267 = .ok (.if_icmp .eq 33, 3) := dk_159 0 33 (dk_at dksX8_next_11 12 rfl rfl)
theorem dX8_next_270 : decode cX8_next 270 = .ok (.iload_n 1, 1) := dk_27 (dk_at dksX8_next_11 15 rfl rfl)
theorem dX8_next_271 : decode cX8_next 271 = .ok (.bipush 43, 2) := dk_16 43 (dk_at dksX8_next_11 16 rfl rfl)
theorem dX8_next_273 : decode cX8_next 273 = .ok (.if_icmp .eq 27, 3) := dk_159 0 27 (dk_at dksX8_next_11 18 rfl rfl)
theorem dX8_next_276 : decode cX8_next 276 = .ok (.iload_n 1, 1) := dk_27 (dk_at dksX8_next_11 21 rfl rfl)
theorem dX8_next_277 : decode cX8_next 277 = .ok (.bipush 45, 2) := dk_16 45 (dk_at dksX8_next_11 22 rfl rfl)
theorem dX8_next_279 : decode cX8_next 279 = .ok (.if_icmp .eq 21, 3) := dk_159 0 21 (dk_at dksX8_next_12 0 rfl rfl)
theorem dX8_next_282 : decode cX8_next 282 = .ok (.iload_n 1, 1) := dk_27 (dk_at dksX8_next_12 3 rfl rfl)
theorem dX8_next_283 : decode cX8_next 283 = .ok (.bipush 42, 2) := dk_16 42 (dk_at dksX8_next_12 4 rfl rfl)
theorem dX8_next_285 : decode cX8_next 285 = .ok (.if_icmp .eq 15, 3) := dk_159 0 15 (dk_at dksX8_next_12 6 rfl rfl)
theorem dX8_next_288 : decode cX8_next 288 = .ok (.iload_n 1, 1) := dk_27 (dk_at dksX8_next_12 9 rfl rfl)
theorem dX8_next_289 : decode cX8_next 289 = .ok (.bipush 60, 2) := dk_16 60 (dk_at dksX8_next_12 10 rfl rfl)
theorem dX8_next_291 : decode cX8_next 291 = .ok (.if_icmp .eq 9, 3) := dk_159 0 9 (dk_at dksX8_next_12 12 rfl rfl)
theorem dX8_next_294 : decode cX8_next 294 = .ok (.iload_n 1, 1) := dk_27 (dk_at dksX8_next_12 15 rfl rfl)
theorem dX8_next_295 : decode cX8_next 295 = .ok (.bipush 61, 2) := dk_16 61 (dk_at dksX8_next_12 16 rfl rfl)
theorem dX8_next_297 : decode cX8_next 297 = .ok (.if_icmp .ne 24, 3) := dk_160 0 24 (dk_at dksX8_next_12 18 rfl rfl)
theorem dX8_next_300 : decode cX8_next 300 = .ok (.aload_n 0, 1) := dk_42 (dk_at dksX8_next_12 21 rfl rfl)
theorem dX8_next_301 : decode cX8_next 301 = .ok (.iconst 3, 1) := dk_6 (dk_at dksX8_next_12 22 rfl rfl)
theorem dX8_next_302 : decode cX8_next 302 = .ok (.putfield 145, 3) := dk_181 0 145 (dk_at dksX8_next_13 0 rfl rfl)
theorem dX8_next_305 : decode cX8_next 305 = .ok (.aload_n 0, 1) := dk_42 (dk_at dksX8_next_13 3 rfl rfl)
theorem dX8_next_306 : decode cX8_next 306 = .ok (.iload_n 1, 1) := dk_27 (dk_at dksX8_next_13 4 rfl rfl)
theorem dX8_next_307 : decode cX8_next 307 = .ok (.i2l, 1) := dk_133 (dk_at dksX8_next_13 5 rfl rfl)
theorem dX8_next_308 : decode cX8_next 308 = .ok (.putfield 156, 3) := dk_181 0 156 (dk_at dksX8_next_13 6 rfl rfl)
theorem dX8_next_311 : decode cX8_next 311 = .ok (.aload_n 0, 1) := dk_42 (dk_at dksX8_next_13 9 rfl rfl)
theorem dX8_next_312 : decode cX8_next 312 = .ok (.dup, 1) := dk_89 (dk_at dksX8_next_13 10 rfl rfl)
theorem dX8_next_313 : decode cX8_next 313 = .ok (.getfield 136, 3) := dk_180 0 136 (dk_at dksX8_next_13 11 rfl rfl)
theorem dX8_next_316 : decode cX8_next 316 = .ok (.iconst 1, 1) := dk_4 (dk_at dksX8_next_13 14 rfl rfl)
theorem dX8_next_317 : decode cX8_next 317 = .ok (.iadd, 1) := dk_96 (dk_at dksX8_next_13 15 rfl rfl)
theorem dX8_next_318 : decode cX8_next 318 = .ok (.putfield 136, 3) := dk_181 0 136 (dk_at dksX8_next_13 16 rfl rfl)
theorem dX8_next_321 : decode cX8_next 321 = .ok (.return_, 1) := dk_177 (dk_at dksX8_next_13 19 rfl rfl)
abbrev cX8_byteAt : ByteArray := prog_16_method_21_code
def yX8_byteAt : MethodName := ⟨RX8, "byteAt", "(I)I"⟩
def dkwX8_byteAt_0 : List UInt8 := [27, 42, 180, 0, 130, 162, 0, 17, 42, 180, 0, 13, 42, 180, 0, 133, 27, 96, 46, 167, 0, 4, 2, 172]
abbrev dktX8_byteAt_0 : List UInt8 := dkwX8_byteAt_0 ++ []
theorem dksX8_byteAt_0 : cX8_byteAt.data.toList.drop 0 = dktX8_byteAt_0 := by decide +kernel
theorem dX8_byteAt_0 : decode cX8_byteAt 0 = .ok (.iload_n 1, 1) := dk_27 (dk_at dksX8_byteAt_0 0 rfl rfl)
theorem dX8_byteAt_1 : decode cX8_byteAt 1 = .ok (.aload_n 0, 1) := dk_42 (dk_at dksX8_byteAt_0 1 rfl rfl)
theorem dX8_byteAt_2 : decode cX8_byteAt 2 = .ok (.getfield 130, 3) := dk_180 0 130 (dk_at dksX8_byteAt_0 2 rfl rfl)
theorem dX8_byteAt_5 : decode cX8_byteAt 5 = .ok (.if_icmp .ge 17, 3) := dk_162 0 17 (dk_at dksX8_byteAt_0 5 rfl rfl)
theorem dX8_byteAt_8 : decode cX8_byteAt 8 = .ok (.aload_n 0, 1) := dk_42 (dk_at dksX8_byteAt_0 8 rfl rfl)
theorem dX8_byteAt_9 : decode cX8_byteAt 9 = .ok (.getfield 13, 3) := dk_180 0 13 (dk_at dksX8_byteAt_0 9 rfl rfl)
theorem dX8_byteAt_12 : decode cX8_byteAt 12 = .ok (.aload_n 0, 1) := dk_42 (dk_at dksX8_byteAt_0 12 rfl rfl)
theorem dX8_byteAt_13 : decode cX8_byteAt 13 = .ok (.getfield 133, 3) := dk_180 0 133 (dk_at dksX8_byteAt_0 13 rfl rfl)
theorem dX8_byteAt_16 : decode cX8_byteAt 16 = .ok (.iload_n 1, 1) := dk_27 (dk_at dksX8_byteAt_0 16 rfl rfl)
theorem dX8_byteAt_17 : decode cX8_byteAt 17 = .ok (.iadd, 1) := dk_96 (dk_at dksX8_byteAt_0 17 rfl rfl)
theorem dX8_byteAt_18 : decode cX8_byteAt 18 = .ok (.iaload, 1) := dk_46 (dk_at dksX8_byteAt_0 18 rfl rfl)
theorem dX8_byteAt_19 : decode cX8_byteAt 19 = .ok (.goto 4, 3) := dk_167 0 4 (dk_at dksX8_byteAt_0 19 rfl rfl)
theorem dX8_byteAt_22 : decode cX8_byteAt 22 = .ok (.iconst (-1), 1) := dk_2 (dk_at dksX8_byteAt_0 22 rfl rfl)
theorem dX8_byteAt_23 : decode cX8_byteAt 23 = .ok (.ireturn, 1) := dk_172 (dk_at dksX8_byteAt_0 23 rfl rfl)
abbrev cX8_isWord : ByteArray := prog_16_method_25_code
def yX8_isWord : MethodName := ⟨RX8, "isWord", "(IIIIIIII)Z"⟩
def dkwX8_isWord_4 : List UInt8 := [153, 0, 18, 42, 16, 7, 21, 8, 182, 0, 169, 153, 0, 7, 4, 167, 0, 4, 3, 172]
abbrev dktX8_isWord_4 : List UInt8 := dkwX8_isWord_4 ++ []
def dkwX8_isWord_3 : List UInt8 := [182, 0, 169, 153, 0, 39, 42, 8, 21, 6, 182, 0, 169, 153, 0, 29, 42, 16, 6, 21, 7, 182, 0, 169]
abbrev dktX8_isWord_3 : List UInt8 := dkwX8_isWord_3 ++ dktX8_isWord_4
def dkwX8_isWord_2 : List UInt8 := [42, 5, 29, 182, 0, 169, 153, 0, 59, 42, 6, 21, 4, 182, 0, 169, 153, 0, 49, 42, 7, 21, 5]
abbrev dktX8_isWord_2 : List UInt8 := dkwX8_isWord_2 ++ dktX8_isWord_3
def dkwX8_isWord_1 : List UInt8 := [16, 8, 96, 163, 0, 86, 42, 3, 27, 182, 0, 169, 153, 0, 77, 42, 4, 28, 182, 0, 169, 153, 0, 68]
abbrev dktX8_isWord_1 : List UInt8 := dkwX8_isWord_1 ++ dktX8_isWord_2
def dkwX8_isWord_0 : List UInt8 := [42, 180, 0, 162, 154, 0, 108, 42, 180, 0, 145, 4, 160, 0, 100, 42, 180, 0, 136, 42, 180, 0, 142]
abbrev dktX8_isWord_0 : List UInt8 := dkwX8_isWord_0 ++ dktX8_isWord_1
theorem dksX8_isWord_0 : cX8_isWord.data.toList.drop 0 = dktX8_isWord_0 := by decide +kernel
theorem dksX8_isWord_1 : cX8_isWord.data.toList.drop 23 = dktX8_isWord_1 := dk_seg dksX8_isWord_0 23 rfl rfl
theorem dksX8_isWord_2 : cX8_isWord.data.toList.drop 47 = dktX8_isWord_2 := dk_seg dksX8_isWord_1 24 rfl rfl
theorem dksX8_isWord_3 : cX8_isWord.data.toList.drop 70 = dktX8_isWord_3 := dk_seg dksX8_isWord_2 23 rfl rfl
theorem dksX8_isWord_4 : cX8_isWord.data.toList.drop 94 = dktX8_isWord_4 := dk_seg dksX8_isWord_3 24 rfl rfl
theorem dX8_isWord_0 : decode cX8_isWord 0 = .ok (.aload_n 0, 1) := dk_42 (dk_at dksX8_isWord_0 0 rfl rfl)
theorem dX8_isWord_1 : decode cX8_isWord 1 = .ok (.getfield 162, 3) := dk_180 0 162 (dk_at dksX8_isWord_0 1 rfl rfl)
theorem dX8_isWord_4 : decode cX8_isWord 4 = .ok (.ifCond .ne 108, 3) := dk_154 0 108 (dk_at dksX8_isWord_0 4 rfl rfl)
theorem dX8_isWord_7 : decode cX8_isWord 7 = .ok (.aload_n 0, 1) := dk_42 (dk_at dksX8_isWord_0 7 rfl rfl)
theorem dX8_isWord_8 : decode cX8_isWord 8 = .ok (.getfield 145, 3) := dk_180 0 145 (dk_at dksX8_isWord_0 8 rfl rfl)
theorem dX8_isWord_11 : decode cX8_isWord 11 = .ok (.iconst 1, 1) := dk_4 (dk_at dksX8_isWord_0 11 rfl rfl)
theorem dX8_isWord_12 : decode cX8_isWord 12 = .ok (.if_icmp .ne 100, 3) := dk_160 0 100 (dk_at dksX8_isWord_0 12 rfl rfl)
theorem dX8_isWord_15 : decode cX8_isWord 15 = .ok (.aload_n 0, 1) := dk_42 (dk_at dksX8_isWord_0 15 rfl rfl)
theorem dX8_isWord_16 : decode cX8_isWord 16 = .ok (.getfield 136, 3) := dk_180 0 136 (dk_at dksX8_isWord_0 16 rfl rfl)
theorem dX8_isWord_19 : decode cX8_isWord 19 = .ok (.aload_n 0, 1) := dk_42 (dk_at dksX8_isWord_0 19 rfl rfl)
theorem dX8_isWord_20 : decode cX8_isWord 20 = .ok (.getfield 142, 3) := dk_180 0 142 (dk_at dksX8_isWord_0 20 rfl rfl)
theorem dX8_isWord_23 : decode cX8_isWord 23 = .ok (.bipush 8, 2) := dk_16 8 (dk_at dksX8_isWord_1 0 rfl rfl)
theorem dX8_isWord_25 : decode cX8_isWord 25 = .ok (.iadd, 1) := dk_96 (dk_at dksX8_isWord_1 2 rfl rfl)
theorem dX8_isWord_26 : decode cX8_isWord 26 = .ok (.if_icmp .gt 86, 3) := dk_163 0 86 (dk_at dksX8_isWord_1 3 rfl rfl)
theorem dX8_isWord_29 : decode cX8_isWord 29 = .ok (.aload_n 0, 1) := dk_42 (dk_at dksX8_isWord_1 6 rfl rfl)
theorem dX8_isWord_30 : decode cX8_isWord 30 = .ok (.iconst 0, 1) := dk_3 (dk_at dksX8_isWord_1 7 rfl rfl)
theorem dX8_isWord_31 : decode cX8_isWord 31 = .ok (.iload_n 1, 1) := dk_27 (dk_at dksX8_isWord_1 8 rfl rfl)
theorem dX8_isWord_32 : decode cX8_isWord 32 = .ok (.invokevirtual 169, 3) := dk_182 0 169 (dk_at dksX8_isWord_1 9 rfl rfl)
theorem dX8_isWord_35 : decode cX8_isWord 35 = .ok (.ifCond .eq 77, 3) := dk_153 0 77 (dk_at dksX8_isWord_1 12 rfl rfl)
theorem dX8_isWord_38 : decode cX8_isWord 38 = .ok (.aload_n 0, 1) := dk_42 (dk_at dksX8_isWord_1 15 rfl rfl)
theorem dX8_isWord_39 : decode cX8_isWord 39 = .ok (.iconst 1, 1) := dk_4 (dk_at dksX8_isWord_1 16 rfl rfl)
theorem dX8_isWord_40 : decode cX8_isWord 40 = .ok (.iload_n 2, 1) := dk_28 (dk_at dksX8_isWord_1 17 rfl rfl)
theorem dX8_isWord_41 : decode cX8_isWord 41 = .ok (.invokevirtual 169, 3) := dk_182 0 169 (dk_at dksX8_isWord_1 18 rfl rfl)
theorem dX8_isWord_44 : decode cX8_isWord 44 = .ok (.ifCond .eq 68, 3) := dk_153 0 68 (dk_at dksX8_isWord_1 21 rfl rfl)
theorem dX8_isWord_47 : decode cX8_isWord 47 = .ok (.aload_n 0, 1) := dk_42 (dk_at dksX8_isWord_2 0 rfl rfl)
theorem dX8_isWord_48 : decode cX8_isWord 48 = .ok (.iconst 2, 1) := dk_5 (dk_at dksX8_isWord_2 1 rfl rfl)
theorem dX8_isWord_49 : decode cX8_isWord 49 = .ok (.iload_n 3, 1) := dk_29 (dk_at dksX8_isWord_2 2 rfl rfl)
theorem dX8_isWord_50 : decode cX8_isWord 50 = .ok (.invokevirtual 169, 3) := dk_182 0 169 (dk_at dksX8_isWord_2 3 rfl rfl)
theorem dX8_isWord_53 : decode cX8_isWord 53 = .ok (.ifCond .eq 59, 3) := dk_153 0 59 (dk_at dksX8_isWord_2 6 rfl rfl)
theorem dX8_isWord_56 : decode cX8_isWord 56 = .ok (.aload_n 0, 1) := dk_42 (dk_at dksX8_isWord_2 9 rfl rfl)
theorem dX8_isWord_57 : decode cX8_isWord 57 = .ok (.iconst 3, 1) := dk_6 (dk_at dksX8_isWord_2 10 rfl rfl)
theorem dX8_isWord_58 : decode cX8_isWord 58 = .ok (.iload 4, 2) := dk_21 4 (dk_at dksX8_isWord_2 11 rfl rfl)
theorem dX8_isWord_60 : decode cX8_isWord 60 = .ok (.invokevirtual 169, 3) := dk_182 0 169 (dk_at dksX8_isWord_2 13 rfl rfl)
theorem dX8_isWord_63 : decode cX8_isWord 63 = .ok (.ifCond .eq 49, 3) := dk_153 0 49 (dk_at dksX8_isWord_2 16 rfl rfl)
theorem dX8_isWord_66 : decode cX8_isWord 66 = .ok (.aload_n 0, 1) := dk_42 (dk_at dksX8_isWord_2 19 rfl rfl)
theorem dX8_isWord_67 : decode cX8_isWord 67 = .ok (.iconst 4, 1) := dk_7 (dk_at dksX8_isWord_2 20 rfl rfl)
theorem dX8_isWord_68 : decode cX8_isWord 68 = .ok (.iload 5, 2) := dk_21 5 (dk_at dksX8_isWord_2 21 rfl rfl)
theorem dX8_isWord_70 : decode cX8_isWord 70 = .ok (.invokevirtual 169, 3) := dk_182 0 169 (dk_at dksX8_isWord_3 0 rfl rfl)
theorem dX8_isWord_73 : decode cX8_isWord 73 = .ok (.ifCond .eq 39, 3) := dk_153 0 39 (dk_at dksX8_isWord_3 3 rfl rfl)
theorem dX8_isWord_76 : decode cX8_isWord 76 = .ok (.aload_n 0, 1) := dk_42 (dk_at dksX8_isWord_3 6 rfl rfl)
theorem dX8_isWord_77 : decode cX8_isWord 77 = .ok (.iconst 5, 1) := dk_8 (dk_at dksX8_isWord_3 7 rfl rfl)
theorem dX8_isWord_78 : decode cX8_isWord 78 = .ok (.iload 6, 2) := dk_21 6 (dk_at dksX8_isWord_3 8 rfl rfl)
theorem dX8_isWord_80 : decode cX8_isWord 80 = .ok (.invokevirtual 169, 3) := dk_182 0 169 (dk_at dksX8_isWord_3 10 rfl rfl)
theorem dX8_isWord_83 : decode cX8_isWord 83 = .ok (.ifCond .eq 29, 3) := dk_153 0 29 (dk_at dksX8_isWord_3 13 rfl rfl)
theorem dX8_isWord_86 : decode cX8_isWord 86 = .ok (.aload_n 0, 1) := dk_42 (dk_at dksX8_isWord_3 16 rfl rfl)
theorem dX8_isWord_87 : decode cX8_isWord 87 = .ok (.bipush 6, 2) := dk_16 6 (dk_at dksX8_isWord_3 17 rfl rfl)
theorem dX8_isWord_89 : decode cX8_isWord 89 = .ok (.iload 7, 2) := dk_21 7 (dk_at dksX8_isWord_3 19 rfl rfl)
theorem dX8_isWord_91 : decode cX8_isWord 91 = .ok (.invokevirtual 169, 3) := dk_182 0 169 (dk_at dksX8_isWord_3 21 rfl rfl)
theorem dX8_isWord_94 : decode cX8_isWord 94 = .ok (.ifCond .eq 18, 3) := dk_153 0 18 (dk_at dksX8_isWord_4 0 rfl rfl)
theorem dX8_isWord_97 : decode cX8_isWord 97 = .ok (.aload_n 0, 1) := dk_42 (dk_at dksX8_isWord_4 3 rfl rfl)
theorem dX8_isWord_98 : decode cX8_isWord 98 = .ok (.bipush 7, 2) := dk_16 7 (dk_at dksX8_isWord_4 4 rfl rfl)
theorem dX8_isWord_100 : decode cX8_isWord 100 = .ok (.iload 8, 2) := dk_21 8 (dk_at dksX8_isWord_4 6 rfl rfl)
theorem dX8_isWord_102 : decode cX8_isWord 102 = .ok (.invokevirtual 169, 3) := dk_182 0 169 (dk_at dksX8_isWord_4 8 rfl rfl)
theorem dX8_isWord_105 : decode cX8_isWord 105 = .ok (.ifCond .eq 7, 3) := dk_153 0 7 (dk_at dksX8_isWord_4 11 rfl rfl)
theorem dX8_isWord_108 : decode cX8_isWord 108 = .ok (.iconst 1, 1) := dk_4 (dk_at dksX8_isWord_4 14 rfl rfl)
theorem dX8_isWord_109 : decode cX8_isWord 109 = .ok (.goto 4, 3) := dk_167 0 4 (dk_at dksX8_isWord_4 15 rfl rfl)
theorem dX8_isWord_112 : decode cX8_isWord 112 = .ok (.iconst 0, 1) := dk_3 (dk_at dksX8_isWord_4 18 rfl rfl)
theorem dX8_isWord_113 : decode cX8_isWord 113 = .ok (.ireturn, 1) := dk_172 (dk_at dksX8_isWord_4 19 rfl rfl)
abbrev cX8_isLetter : ByteArray := prog_16_method_24_code
def yX8_isLetter : MethodName := ⟨RX8, "isLetter", "(II)Z"⟩
def dkwX8_isLetter_1 : List UInt8 := [160, 0, 7, 4, 167, 0, 16, 3, 167, 0, 12, 28, 154, 0, 7, 4, 167, 0, 4, 3, 172]
abbrev dktX8_isLetter_1 : List UInt8 := dkwX8_isLetter_1 ++ []
def dkwX8_isLetter_0 : List UInt8 := [42, 180, 0, 142, 27, 96, 42, 180, 0, 136, 162, 0, 25, 42, 42, 180, 0, 142, 27, 96, 182, 0, 139, 28]
abbrev dktX8_isLetter_0 : List UInt8 := dkwX8_isLetter_0 ++ dktX8_isLetter_1
theorem dksX8_isLetter_0 : cX8_isLetter.data.toList.drop 0 = dktX8_isLetter_0 := by decide +kernel
theorem dksX8_isLetter_1 : cX8_isLetter.data.toList.drop 24 = dktX8_isLetter_1 := dk_seg dksX8_isLetter_0 24 rfl rfl
theorem dX8_isLetter_0 : decode cX8_isLetter 0 = .ok (.aload_n 0, 1) := dk_42 (dk_at dksX8_isLetter_0 0 rfl rfl)
theorem dX8_isLetter_1 : decode cX8_isLetter 1 = .ok (.getfield 142, 3) := dk_180 0 142 (dk_at dksX8_isLetter_0 1 rfl rfl)
theorem dX8_isLetter_4 : decode cX8_isLetter 4 = .ok (.iload_n 1, 1) := dk_27 (dk_at dksX8_isLetter_0 4 rfl rfl)
theorem dX8_isLetter_5 : decode cX8_isLetter 5 = .ok (.iadd, 1) := dk_96 (dk_at dksX8_isLetter_0 5 rfl rfl)
theorem dX8_isLetter_6 : decode cX8_isLetter 6 = .ok (.aload_n 0, 1) := dk_42 (dk_at dksX8_isLetter_0 6 rfl rfl)
theorem dX8_isLetter_7 : decode cX8_isLetter 7 = .ok (.getfield 136, 3) := dk_180 0 136 (dk_at dksX8_isLetter_0 7 rfl rfl)
theorem dX8_isLetter_10 : decode cX8_isLetter 10 = .ok (.if_icmp .ge 25, 3) := dk_162 0 25 (dk_at dksX8_isLetter_0 10 rfl rfl)
theorem dX8_isLetter_13 : decode cX8_isLetter 13 = .ok (.aload_n 0, 1) := dk_42 (dk_at dksX8_isLetter_0 13 rfl rfl)
theorem dX8_isLetter_14 : decode cX8_isLetter 14 = .ok (.aload_n 0, 1) := dk_42 (dk_at dksX8_isLetter_0 14 rfl rfl)
theorem dX8_isLetter_15 : decode cX8_isLetter 15 = .ok (.getfield 142, 3) := dk_180 0 142 (dk_at dksX8_isLetter_0 15 rfl rfl)
theorem dX8_isLetter_18 : decode cX8_isLetter 18 = .ok (.iload_n 1, 1) := dk_27 (dk_at dksX8_isLetter_0 18 rfl rfl)
theorem dX8_isLetter_19 : decode cX8_isLetter 19 = .ok (.iadd, 1) := dk_96 (dk_at dksX8_isLetter_0 19 rfl rfl)
theorem dX8_isLetter_20 : decode cX8_isLetter 20 = .ok (.invokevirtual 139, 3) := dk_182 0 139 (dk_at dksX8_isLetter_0 20 rfl rfl)
theorem dX8_isLetter_23 : decode cX8_isLetter 23 = .ok (.iload_n 2, 1) := dk_28 (dk_at dksX8_isLetter_0 23 rfl rfl)
theorem dX8_isLetter_24 : decode cX8_isLetter 24 = .ok (.if_icmp .ne 7, 3) := dk_160 0 7 (dk_at dksX8_isLetter_1 0 rfl rfl)
theorem dX8_isLetter_27 : decode cX8_isLetter 27 = .ok (.iconst 1, 1) := dk_4 (dk_at dksX8_isLetter_1 3 rfl rfl)
theorem dX8_isLetter_28 : decode cX8_isLetter 28 = .ok (.goto 16, 3) := dk_167 0 16 (dk_at dksX8_isLetter_1 4 rfl rfl)
theorem dX8_isLetter_31 : decode cX8_isLetter 31 = .ok (.iconst 0, 1) := dk_3 (dk_at dksX8_isLetter_1 7 rfl rfl)
theorem dX8_isLetter_32 : decode cX8_isLetter 32 = .ok (.goto 12, 3) := dk_167 0 12 (dk_at dksX8_isLetter_1 8 rfl rfl)
theorem dX8_isLetter_35 : decode cX8_isLetter 35 = .ok (.iload_n 2, 1) := dk_28 (dk_at dksX8_isLetter_1 11 rfl rfl)
theorem dX8_isLetter_36 : decode cX8_isLetter 36 = .ok (.ifCond .ne 7, 3) := dk_154 0 7 (dk_at dksX8_isLetter_1 12 rfl rfl)
theorem dX8_isLetter_39 : decode cX8_isLetter 39 = .ok (.iconst 1, 1) := dk_4 (dk_at dksX8_isLetter_1 15 rfl rfl)
theorem dX8_isLetter_40 : decode cX8_isLetter 40 = .ok (.goto 4, 3) := dk_167 0 4 (dk_at dksX8_isLetter_1 16 rfl rfl)
theorem dX8_isLetter_43 : decode cX8_isLetter 43 = .ok (.iconst 0, 1) := dk_3 (dk_at dksX8_isLetter_1 19 rfl rfl)
theorem dX8_isLetter_44 : decode cX8_isLetter 44 = .ok (.ireturn, 1) := dk_172 (dk_at dksX8_isLetter_1 20 rfl rfl)
abbrev cX8_part : ByteArray := prog_16_method_35_code
def yX8_part : MethodName := ⟨RX8, "part", "(Z)I"⟩
def dkwX8_part_2 : List UInt8 := [182, 0, 175, 42, 180, 0, 162, 154, 0, 7, 42, 182, 0, 178, 28, 172]
abbrev dktX8_part_2 : List UInt8 := dkwX8_part_2 ++ []
def dkwX8_part_1 : List UInt8 := [153, 0, 7, 3, 167, 0, 7, 42, 182, 0, 214, 61, 42, 16, 59, 182, 0, 203, 154, 0, 7, 42]
abbrev dktX8_part_1 : List UInt8 := dkwX8_part_1 ++ dktX8_part_2
def dkwX8_part_0 : List UInt8 := [27, 154, 0, 7, 42, 182, 0, 175, 42, 180, 0, 162, 154, 0, 7, 42, 182, 0, 178, 42, 180, 0, 162]
abbrev dktX8_part_0 : List UInt8 := dkwX8_part_0 ++ dktX8_part_1
theorem dksX8_part_0 : cX8_part.data.toList.drop 0 = dktX8_part_0 := by decide +kernel
theorem dksX8_part_1 : cX8_part.data.toList.drop 23 = dktX8_part_1 := dk_seg dksX8_part_0 23 rfl rfl
theorem dksX8_part_2 : cX8_part.data.toList.drop 45 = dktX8_part_2 := dk_seg dksX8_part_1 22 rfl rfl
theorem dX8_part_0 : decode cX8_part 0 = .ok (.iload_n 1, 1) := dk_27 (dk_at dksX8_part_0 0 rfl rfl)
theorem dX8_part_1 : decode cX8_part 1 = .ok (.ifCond .ne 7, 3) := dk_154 0 7 (dk_at dksX8_part_0 1 rfl rfl)
theorem dX8_part_4 : decode cX8_part 4 = .ok (.aload_n 0, 1) := dk_42 (dk_at dksX8_part_0 4 rfl rfl)
theorem dX8_part_5 : decode cX8_part 5 = .ok (.invokevirtual 175, 3) := dk_182 0 175 (dk_at dksX8_part_0 5 rfl rfl)
theorem dX8_part_8 : decode cX8_part 8 = .ok (.aload_n 0, 1) := dk_42 (dk_at dksX8_part_0 8 rfl rfl)
theorem dX8_part_9 : decode cX8_part 9 = .ok (.getfield 162, 3) := dk_180 0 162 (dk_at dksX8_part_0 9 rfl rfl)
theorem dX8_part_12 : decode cX8_part 12 = .ok (.ifCond .ne 7, 3) := dk_154 0 7 (dk_at dksX8_part_0 12 rfl rfl)
theorem dX8_part_15 : decode cX8_part 15 = .ok (.aload_n 0, 1) := dk_42 (dk_at dksX8_part_0 15 rfl rfl)
theorem dX8_part_16 : decode cX8_part 16 = .ok (.invokevirtual 178, 3) := dk_182 0 178 (dk_at dksX8_part_0 16 rfl rfl)
theorem dX8_part_19 : decode cX8_part 19 = .ok (.aload_n 0, 1) := dk_42 (dk_at dksX8_part_0 19 rfl rfl)
theorem dX8_part_20 : decode cX8_part 20 = .ok (.getfield 162, 3) := dk_180 0 162 (dk_at dksX8_part_0 20 rfl rfl)
theorem dX8_part_23 : decode cX8_part 23 = .ok (.ifCond .eq 7, 3) := dk_153 0 7 (dk_at dksX8_part_1 0 rfl rfl)
theorem dX8_part_26 : decode cX8_part 26 = .ok (.iconst 0, 1) := dk_3 (dk_at dksX8_part_1 3 rfl rfl)
theorem dX8_part_27 : decode cX8_part 27 = .ok (.goto 7, 3) := dk_167 0 7 (dk_at dksX8_part_1 4 rfl rfl)
theorem dX8_part_30 : decode cX8_part 30 = .ok (.aload_n 0, 1) := dk_42 (dk_at dksX8_part_1 7 rfl rfl)
theorem dX8_part_31 : decode cX8_part 31 = .ok (.invokevirtual 214, 3) := dk_182 0 214 (dk_at dksX8_part_1 8 rfl rfl)
theorem dX8_part_34 : decode cX8_part 34 = .ok (.istore_n 2, 1) := dk_61 (dk_at dksX8_part_1 11 rfl rfl)
theorem dX8_part_35 : decode cX8_part 35 = .ok (.aload_n 0, 1) := dk_42 (dk_at dksX8_part_1 12 rfl rfl)
theorem dX8_part_36 : decode cX8_part 36 = .ok (.bipush 59, 2) := dk_16 59 (dk_at dksX8_part_1 13 rfl rfl)
theorem dX8_part_38 : decode cX8_part 38 = .ok (.invokevirtual 203, 3) := dk_182 0 203 (dk_at dksX8_part_1 15 rfl rfl)
theorem dX8_part_41 : decode cX8_part 41 = .ok (.ifCond .ne 7, 3) := dk_154 0 7 (dk_at dksX8_part_1 18 rfl rfl)
theorem dX8_part_44 : decode cX8_part 44 = .ok (.aload_n 0, 1) := dk_42 (dk_at dksX8_part_1 21 rfl rfl)
theorem dX8_part_45 : decode cX8_part 45 = .ok (.invokevirtual 175, 3) := dk_182 0 175 (dk_at dksX8_part_2 0 rfl rfl)
theorem dX8_part_48 : decode cX8_part 48 = .ok (.aload_n 0, 1) := dk_42 (dk_at dksX8_part_2 3 rfl rfl)
theorem dX8_part_49 : decode cX8_part 49 = .ok (.getfield 162, 3) := dk_180 0 162 (dk_at dksX8_part_2 4 rfl rfl)
theorem dX8_part_52 : decode cX8_part 52 = .ok (.ifCond .ne 7, 3) := dk_154 0 7 (dk_at dksX8_part_2 7 rfl rfl)
theorem dX8_part_55 : decode cX8_part 55 = .ok (.aload_n 0, 1) := dk_42 (dk_at dksX8_part_2 10 rfl rfl)
theorem dX8_part_56 : decode cX8_part 56 = .ok (.invokevirtual 178, 3) := dk_182 0 178 (dk_at dksX8_part_2 11 rfl rfl)
theorem dX8_part_59 : decode cX8_part 59 = .ok (.iload_n 2, 1) := dk_28 (dk_at dksX8_part_2 14 rfl rfl)
theorem dX8_part_60 : decode cX8_part 60 = .ok (.ireturn, 1) := dk_172 (dk_at dksX8_part_2 15 rfl rfl)
abbrev cX8_fail : ByteArray := prog_16_method_23_code
def yX8_fail : MethodName := ⟨RX8, "fail", "()V"⟩
def dkwX8_fail_0 : List UInt8 := [42, 180, 0, 162, 154, 0, 16, 42, 4, 181, 0, 162, 42, 42, 180, 0, 142, 181, 0, 166, 177]
abbrev dktX8_fail_0 : List UInt8 := dkwX8_fail_0 ++ []
theorem dksX8_fail_0 : cX8_fail.data.toList.drop 0 = dktX8_fail_0 := by decide +kernel
theorem dX8_fail_0 : decode cX8_fail 0 = .ok (.aload_n 0, 1) := dk_42 (dk_at dksX8_fail_0 0 rfl rfl)
theorem dX8_fail_1 : decode cX8_fail 1 = .ok (.getfield 162, 3) := dk_180 0 162 (dk_at dksX8_fail_0 1 rfl rfl)
theorem dX8_fail_4 : decode cX8_fail 4 = .ok (.ifCond .ne 16, 3) := dk_154 0 16 (dk_at dksX8_fail_0 4 rfl rfl)
theorem dX8_fail_7 : decode cX8_fail 7 = .ok (.aload_n 0, 1) := dk_42 (dk_at dksX8_fail_0 7 rfl rfl)
theorem dX8_fail_8 : decode cX8_fail 8 = .ok (.iconst 1, 1) := dk_4 (dk_at dksX8_fail_0 8 rfl rfl)
theorem dX8_fail_9 : decode cX8_fail 9 = .ok (.putfield 162, 3) := dk_181 0 162 (dk_at dksX8_fail_0 9 rfl rfl)
theorem dX8_fail_12 : decode cX8_fail 12 = .ok (.aload_n 0, 1) := dk_42 (dk_at dksX8_fail_0 12 rfl rfl)
theorem dX8_fail_13 : decode cX8_fail 13 = .ok (.aload_n 0, 1) := dk_42 (dk_at dksX8_fail_0 13 rfl rfl)
theorem dX8_fail_14 : decode cX8_fail 14 = .ok (.getfield 142, 3) := dk_180 0 142 (dk_at dksX8_fail_0 14 rfl rfl)
theorem dX8_fail_17 : decode cX8_fail 17 = .ok (.putfield 166, 3) := dk_181 0 166 (dk_at dksX8_fail_0 17 rfl rfl)
theorem dX8_fail_20 : decode cX8_fail 20 = .ok (.return_, 1) := dk_177 (dk_at dksX8_fail_0 20 rfl rfl)
abbrev cX8_either : ByteArray := prog_16_method_34_code
def yX8_either : MethodName := ⟨RX8, "either", "()I"⟩
def dkwX8_either_2 : List UInt8 := [167, 255, 216, 27, 172]
abbrev dktX8_either_2 : List UInt8 := dkwX8_either_2 ++ []
def dkwX8_either_1 : List UInt8 := [182, 0, 178, 42, 182, 0, 233, 61, 27, 154, 0, 7, 28, 153, 0, 7, 4, 167, 0, 4, 3, 60]
abbrev dktX8_either_1 : List UInt8 := dkwX8_either_1 ++ dktX8_either_2
def dkwX8_either_0 : List UInt8 := [42, 182, 0, 233, 60, 42, 16, 111, 16, 114, 3, 3, 3, 3, 3, 3, 182, 0, 181, 153, 0, 29, 42]
abbrev dktX8_either_0 : List UInt8 := dkwX8_either_0 ++ dktX8_either_1
theorem dksX8_either_0 : cX8_either.data.toList.drop 0 = dktX8_either_0 := by decide +kernel
theorem dksX8_either_1 : cX8_either.data.toList.drop 23 = dktX8_either_1 := dk_seg dksX8_either_0 23 rfl rfl
theorem dksX8_either_2 : cX8_either.data.toList.drop 45 = dktX8_either_2 := dk_seg dksX8_either_1 22 rfl rfl
theorem dX8_either_0 : decode cX8_either 0 = .ok (.aload_n 0, 1) := dk_42 (dk_at dksX8_either_0 0 rfl rfl)
theorem dX8_either_1 : decode cX8_either 1 = .ok (.invokevirtual 233, 3) := dk_182 0 233 (dk_at dksX8_either_0 1 rfl rfl)
theorem dX8_either_4 : decode cX8_either 4 = .ok (.istore_n 1, 1) := dk_60 (dk_at dksX8_either_0 4 rfl rfl)
theorem dX8_either_5 : decode cX8_either 5 = .ok (.aload_n 0, 1) := dk_42 (dk_at dksX8_either_0 5 rfl rfl)
theorem dX8_either_6 : decode cX8_either 6 = .ok (.bipush 111, 2) := dk_16 111 (dk_at dksX8_either_0 6 rfl rfl)
theorem dX8_either_8 : decode cX8_either 8 = .ok (.bipush 114, 2) := dk_16 114 (dk_at dksX8_either_0 8 rfl rfl)
theorem dX8_either_10 : decode cX8_either 10 = .ok (.iconst 0, 1) := dk_3 (dk_at dksX8_either_0 10 rfl rfl)
theorem dX8_either_11 : decode cX8_either 11 = .ok (.iconst 0, 1) := dk_3 (dk_at dksX8_either_0 11 rfl rfl)
theorem dX8_either_12 : decode cX8_either 12 = .ok (.iconst 0, 1) := dk_3 (dk_at dksX8_either_0 12 rfl rfl)
theorem dX8_either_13 : decode cX8_either 13 = .ok (.iconst 0, 1) := dk_3 (dk_at dksX8_either_0 13 rfl rfl)
theorem dX8_either_14 : decode cX8_either 14 = .ok (.iconst 0, 1) := dk_3 (dk_at dksX8_either_0 14 rfl rfl)
theorem dX8_either_15 : decode cX8_either 15 = .ok (.iconst 0, 1) := dk_3 (dk_at dksX8_either_0 15 rfl rfl)
theorem dX8_either_16 : decode cX8_either 16 = .ok (.invokevirtual 181, 3) := dk_182 0 181 (dk_at dksX8_either_0 16 rfl rfl)
theorem dX8_either_19 : decode cX8_either 19 = .ok (.ifCond .eq 29, 3) := dk_153 0 29 (dk_at dksX8_either_0 19 rfl rfl)
theorem dX8_either_22 : decode cX8_either 22 = .ok (.aload_n 0, 1) := dk_42 (dk_at dksX8_either_0 22 rfl rfl)
theorem dX8_either_23 : decode cX8_either 23 = .ok (.invokevirtual 178, 3) := dk_182 0 178 (dk_at dksX8_either_1 0 rfl rfl)
theorem dX8_either_26 : decode cX8_either 26 = .ok (.aload_n 0, 1) := dk_42 (dk_at dksX8_either_1 3 rfl rfl)
theorem dX8_either_27 : decode cX8_either 27 = .ok (.invokevirtual 233, 3) := dk_182 0 233 (dk_at dksX8_either_1 4 rfl rfl)
theorem dX8_either_30 : decode cX8_either 30 = .ok (.istore_n 2, 1) := dk_61 (dk_at dksX8_either_1 7 rfl rfl)
theorem dX8_either_31 : decode cX8_either 31 = .ok (.iload_n 1, 1) := dk_27 (dk_at dksX8_either_1 8 rfl rfl)
theorem dX8_either_32 : decode cX8_either 32 = .ok (.ifCond .ne 7, 3) := dk_154 0 7 (dk_at dksX8_either_1 9 rfl rfl)
theorem dX8_either_35 : decode cX8_either 35 = .ok (.iload_n 2, 1) := dk_28 (dk_at dksX8_either_1 12 rfl rfl)
theorem dX8_either_36 : decode cX8_either 36 = .ok (.ifCond .eq 7, 3) := dk_153 0 7 (dk_at dksX8_either_1 13 rfl rfl)
theorem dX8_either_39 : decode cX8_either 39 = .ok (.iconst 1, 1) := dk_4 (dk_at dksX8_either_1 16 rfl rfl)
theorem dX8_either_40 : decode cX8_either 40 = .ok (.goto 4, 3) := dk_167 0 4 (dk_at dksX8_either_1 17 rfl rfl)
theorem dX8_either_43 : decode cX8_either 43 = .ok (.iconst 0, 1) := dk_3 (dk_at dksX8_either_1 20 rfl rfl)
theorem dX8_either_44 : decode cX8_either 44 = .ok (.istore_n 1, 1) := dk_60 (dk_at dksX8_either_1 21 rfl rfl)
theorem dX8_either_45 : decode cX8_either 45 = .ok (.goto (-40), 3) := dk_167 255 216 (dk_at dksX8_either_2 0 rfl rfl)
theorem dX8_either_48 : decode cX8_either 48 = .ok (.iload_n 1, 1) := dk_27 (dk_at dksX8_either_2 3 rfl rfl)
theorem dX8_either_49 : decode cX8_either 49 = .ok (.ireturn, 1) := dk_172 (dk_at dksX8_either_2 4 rfl rfl)
abbrev cX8_both : ByteArray := prog_16_method_33_code
def yX8_both : MethodName := ⟨RX8, "both", "()I"⟩
def dkwX8_both_2 : List UInt8 := [167, 255, 215, 27, 172]
abbrev dktX8_both_2 : List UInt8 := dkwX8_both_2 ++ []
def dkwX8_both_1 : List UInt8 := [182, 0, 178, 42, 182, 0, 225, 61, 27, 153, 0, 11, 28, 153, 0, 7, 4, 167, 0, 4, 3, 60]
abbrev dktX8_both_1 : List UInt8 := dkwX8_both_1 ++ dktX8_both_2
def dkwX8_both_0 : List UInt8 := [42, 182, 0, 225, 60, 42, 16, 97, 16, 110, 16, 100, 3, 3, 3, 3, 3, 182, 0, 181, 153, 0, 29, 42]
abbrev dktX8_both_0 : List UInt8 := dkwX8_both_0 ++ dktX8_both_1
theorem dksX8_both_0 : cX8_both.data.toList.drop 0 = dktX8_both_0 := by decide +kernel
theorem dksX8_both_1 : cX8_both.data.toList.drop 24 = dktX8_both_1 := dk_seg dksX8_both_0 24 rfl rfl
theorem dksX8_both_2 : cX8_both.data.toList.drop 46 = dktX8_both_2 := dk_seg dksX8_both_1 22 rfl rfl
theorem dX8_both_0 : decode cX8_both 0 = .ok (.aload_n 0, 1) := dk_42 (dk_at dksX8_both_0 0 rfl rfl)
theorem dX8_both_1 : decode cX8_both 1 = .ok (.invokevirtual 225, 3) := dk_182 0 225 (dk_at dksX8_both_0 1 rfl rfl)
theorem dX8_both_4 : decode cX8_both 4 = .ok (.istore_n 1, 1) := dk_60 (dk_at dksX8_both_0 4 rfl rfl)
theorem dX8_both_5 : decode cX8_both 5 = .ok (.aload_n 0, 1) := dk_42 (dk_at dksX8_both_0 5 rfl rfl)
theorem dX8_both_6 : decode cX8_both 6 = .ok (.bipush 97, 2) := dk_16 97 (dk_at dksX8_both_0 6 rfl rfl)
theorem dX8_both_8 : decode cX8_both 8 = .ok (.bipush 110, 2) := dk_16 110 (dk_at dksX8_both_0 8 rfl rfl)
theorem dX8_both_10 : decode cX8_both 10 = .ok (.bipush 100, 2) := dk_16 100 (dk_at dksX8_both_0 10 rfl rfl)
theorem dX8_both_12 : decode cX8_both 12 = .ok (.iconst 0, 1) := dk_3 (dk_at dksX8_both_0 12 rfl rfl)
theorem dX8_both_13 : decode cX8_both 13 = .ok (.iconst 0, 1) := dk_3 (dk_at dksX8_both_0 13 rfl rfl)
theorem dX8_both_14 : decode cX8_both 14 = .ok (.iconst 0, 1) := dk_3 (dk_at dksX8_both_0 14 rfl rfl)
theorem dX8_both_15 : decode cX8_both 15 = .ok (.iconst 0, 1) := dk_3 (dk_at dksX8_both_0 15 rfl rfl)
theorem dX8_both_16 : decode cX8_both 16 = .ok (.iconst 0, 1) := dk_3 (dk_at dksX8_both_0 16 rfl rfl)
theorem dX8_both_17 : decode cX8_both 17 = .ok (.invokevirtual 181, 3) := dk_182 0 181 (dk_at dksX8_both_0 17 rfl rfl)
theorem dX8_both_20 : decode cX8_both 20 = .ok (.ifCond .eq 29, 3) := dk_153 0 29 (dk_at dksX8_both_0 20 rfl rfl)
theorem dX8_both_23 : decode cX8_both 23 = .ok (.aload_n 0, 1) := dk_42 (dk_at dksX8_both_0 23 rfl rfl)
theorem dX8_both_24 : decode cX8_both 24 = .ok (.invokevirtual 178, 3) := dk_182 0 178 (dk_at dksX8_both_1 0 rfl rfl)
theorem dX8_both_27 : decode cX8_both 27 = .ok (.aload_n 0, 1) := dk_42 (dk_at dksX8_both_1 3 rfl rfl)
theorem dX8_both_28 : decode cX8_both 28 = .ok (.invokevirtual 225, 3) := dk_182 0 225 (dk_at dksX8_both_1 4 rfl rfl)
theorem dX8_both_31 : decode cX8_both 31 = .ok (.istore_n 2, 1) := dk_61 (dk_at dksX8_both_1 7 rfl rfl)
theorem dX8_both_32 : decode cX8_both 32 = .ok (.iload_n 1, 1) := dk_27 (dk_at dksX8_both_1 8 rfl rfl)
theorem dX8_both_33 : decode cX8_both 33 = .ok (.ifCond .eq 11, 3) := dk_153 0 11 (dk_at dksX8_both_1 9 rfl rfl)
theorem dX8_both_36 : decode cX8_both 36 = .ok (.iload_n 2, 1) := dk_28 (dk_at dksX8_both_1 12 rfl rfl)
theorem dX8_both_37 : decode cX8_both 37 = .ok (.ifCond .eq 7, 3) := dk_153 0 7 (dk_at dksX8_both_1 13 rfl rfl)
theorem dX8_both_40 : decode cX8_both 40 = .ok (.iconst 1, 1) := dk_4 (dk_at dksX8_both_1 16 rfl rfl)
theorem dX8_both_41 : decode cX8_both 41 = .ok (.goto 4, 3) := dk_167 0 4 (dk_at dksX8_both_1 17 rfl rfl)
theorem dX8_both_44 : decode cX8_both 44 = .ok (.iconst 0, 1) := dk_3 (dk_at dksX8_both_1 20 rfl rfl)
theorem dX8_both_45 : decode cX8_both 45 = .ok (.istore_n 1, 1) := dk_60 (dk_at dksX8_both_1 21 rfl rfl)
theorem dX8_both_46 : decode cX8_both 46 = .ok (.goto (-41), 3) := dk_167 255 215 (dk_at dksX8_both_2 0 rfl rfl)
theorem dX8_both_49 : decode cX8_both 49 = .ok (.iload_n 1, 1) := dk_27 (dk_at dksX8_both_2 3 rfl rfl)
theorem dX8_both_50 : decode cX8_both 50 = .ok (.ireturn, 1) := dk_172 (dk_at dksX8_both_2 4 rfl rfl)
abbrev cX8_not : ByteArray := prog_16_method_32_code
def yX8_not : MethodName := ⟨RX8, "not", "()I"⟩
def dkwX8_not_5 : List UInt8 := [160, 0, 7, 4, 167, 0, 4, 3, 172]
abbrev dktX8_not_5 : List UInt8 := dkwX8_not_5 ++ []
def dkwX8_not_4 : List UInt8 := [61, 42, 182, 0, 178, 42, 182, 0, 228, 62, 28, 153, 0, 11, 27, 29, 162, 0, 15, 167, 0, 8, 27, 29]
abbrev dktX8_not_4 : List UInt8 := dkwX8_not_4 ++ dktX8_not_5
def dkwX8_not_3 : List UInt8 := [182, 0, 203, 154, 0, 5, 27, 172, 42, 180, 0, 156, 20, 0, 231, 148, 154, 0, 7, 4, 167, 0, 4, 3]
abbrev dktX8_not_3 : List UInt8 := dkwX8_not_3 ++ dktX8_not_4
def dkwX8_not_2 : List UInt8 := [4, 167, 0, 4, 3, 172, 42, 182, 0, 228, 60, 42, 16, 60, 182, 0, 203, 154, 0, 14, 42, 16, 61]
abbrev dktX8_not_2 : List UInt8 := dkwX8_not_2 ++ dktX8_not_3
def dkwX8_not_1 : List UInt8 := [154, 0, 5, 3, 172, 42, 182, 0, 225, 60, 42, 89, 180, 0, 172, 4, 100, 181, 0, 172, 27, 154, 0, 7]
abbrev dktX8_not_1 : List UInt8 := dkwX8_not_1 ++ dktX8_not_2
def dkwX8_not_0 : List UInt8 := [42, 16, 110, 16, 111, 16, 116, 3, 3, 3, 3, 3, 182, 0, 181, 153, 0, 37, 42, 182, 0, 206]
abbrev dktX8_not_0 : List UInt8 := dkwX8_not_0 ++ dktX8_not_1
theorem dksX8_not_0 : cX8_not.data.toList.drop 0 = dktX8_not_0 := by decide +kernel
theorem dksX8_not_1 : cX8_not.data.toList.drop 22 = dktX8_not_1 := dk_seg dksX8_not_0 22 rfl rfl
theorem dksX8_not_2 : cX8_not.data.toList.drop 46 = dktX8_not_2 := dk_seg dksX8_not_1 24 rfl rfl
theorem dksX8_not_3 : cX8_not.data.toList.drop 69 = dktX8_not_3 := dk_seg dksX8_not_2 23 rfl rfl
theorem dksX8_not_4 : cX8_not.data.toList.drop 93 = dktX8_not_4 := dk_seg dksX8_not_3 24 rfl rfl
theorem dksX8_not_5 : cX8_not.data.toList.drop 117 = dktX8_not_5 := dk_seg dksX8_not_4 24 rfl rfl
theorem dX8_not_0 : decode cX8_not 0 = .ok (.aload_n 0, 1) := dk_42 (dk_at dksX8_not_0 0 rfl rfl)
theorem dX8_not_1 : decode cX8_not 1 = .ok (.bipush 110, 2) := dk_16 110 (dk_at dksX8_not_0 1 rfl rfl)
theorem dX8_not_3 : decode cX8_not 3 = .ok (.bipush 111, 2) := dk_16 111 (dk_at dksX8_not_0 3 rfl rfl)
theorem dX8_not_5 : decode cX8_not 5 = .ok (.bipush 116, 2) := dk_16 116 (dk_at dksX8_not_0 5 rfl rfl)
theorem dX8_not_7 : decode cX8_not 7 = .ok (.iconst 0, 1) := dk_3 (dk_at dksX8_not_0 7 rfl rfl)
theorem dX8_not_8 : decode cX8_not 8 = .ok (.iconst 0, 1) := dk_3 (dk_at dksX8_not_0 8 rfl rfl)
theorem dX8_not_9 : decode cX8_not 9 = .ok (.iconst 0, 1) := dk_3 (dk_at dksX8_not_0 9 rfl rfl)
theorem dX8_not_10 : decode cX8_not 10 = .ok (.iconst 0, 1) := dk_3 (dk_at dksX8_not_0 10 rfl rfl)
theorem dX8_not_11 : decode cX8_not 11 = .ok (.iconst 0, 1) := dk_3 (dk_at dksX8_not_0 11 rfl rfl)
theorem dX8_not_12 : decode cX8_not 12 = .ok (.invokevirtual 181, 3) := dk_182 0 181 (dk_at dksX8_not_0 12 rfl rfl)
theorem dX8_not_15 : decode cX8_not 15 = .ok (.ifCond .eq 37, 3) := dk_153 0 37 (dk_at dksX8_not_0 15 rfl rfl)
theorem dX8_not_18 : decode cX8_not 18 = .ok (.aload_n 0, 1) := dk_42 (dk_at dksX8_not_0 18 rfl rfl)
theorem dX8_not_19 : decode cX8_not 19 = .ok (.invokevirtual 206, 3) := dk_182 0 206 (dk_at dksX8_not_0 19 rfl rfl)
theorem dX8_not_22 : decode cX8_not 22 = .ok (.ifCond .ne 5, 3) := dk_154 0 5 (dk_at dksX8_not_1 0 rfl rfl)
theorem dX8_not_25 : decode cX8_not 25 = .ok (.iconst 0, 1) := dk_3 (dk_at dksX8_not_1 3 rfl rfl)
theorem dX8_not_26 : decode cX8_not 26 = .ok (.ireturn, 1) := dk_172 (dk_at dksX8_not_1 4 rfl rfl)
theorem dX8_not_27 : decode cX8_not 27 = .ok (.aload_n 0, 1) := dk_42 (dk_at dksX8_not_1 5 rfl rfl)
theorem dX8_not_28 : decode cX8_not 28 = .ok (.invokevirtual 225, 3) := dk_182 0 225 (dk_at dksX8_not_1 6 rfl rfl)
theorem dX8_not_31 : decode cX8_not 31 = .ok (.istore_n 1, 1) := dk_60 (dk_at dksX8_not_1 9 rfl rfl)
theorem dX8_not_32 : decode cX8_not 32 = .ok (.aload_n 0, 1) := dk_42 (dk_at dksX8_not_1 10 rfl rfl)
theorem dX8_not_33 : decode cX8_not 33 = .ok (.dup, 1) := dk_89 (dk_at dksX8_not_1 11 rfl rfl)
theorem dX8_not_34 : decode cX8_not 34 = .ok (.getfield 172, 3) := dk_180 0 172 (dk_at dksX8_not_1 12 rfl rfl)
theorem dX8_not_37 : decode cX8_not 37 = .ok (.iconst 1, 1) := dk_4 (dk_at dksX8_not_1 15 rfl rfl)
theorem dX8_not_38 : decode cX8_not 38 = .ok (.isub, 1) := dk_100 (dk_at dksX8_not_1 16 rfl rfl)
theorem dX8_not_39 : decode cX8_not 39 = .ok (.putfield 172, 3) := dk_181 0 172 (dk_at dksX8_not_1 17 rfl rfl)
theorem dX8_not_42 : decode cX8_not 42 = .ok (.iload_n 1, 1) := dk_27 (dk_at dksX8_not_1 20 rfl rfl)
theorem dX8_not_43 : decode cX8_not 43 = .ok (.ifCond .ne 7, 3) := dk_154 0 7 (dk_at dksX8_not_1 21 rfl rfl)
theorem dX8_not_46 : decode cX8_not 46 = .ok (.iconst 1, 1) := dk_4 (dk_at dksX8_not_2 0 rfl rfl)
theorem dX8_not_47 : decode cX8_not 47 = .ok (.goto 4, 3) := dk_167 0 4 (dk_at dksX8_not_2 1 rfl rfl)
theorem dX8_not_50 : decode cX8_not 50 = .ok (.iconst 0, 1) := dk_3 (dk_at dksX8_not_2 4 rfl rfl)
theorem dX8_not_51 : decode cX8_not 51 = .ok (.ireturn, 1) := dk_172 (dk_at dksX8_not_2 5 rfl rfl)
theorem dX8_not_52 : decode cX8_not 52 = .ok (.aload_n 0, 1) := dk_42 (dk_at dksX8_not_2 6 rfl rfl)
theorem dX8_not_53 : decode cX8_not 53 = .ok (.invokevirtual 228, 3) := dk_182 0 228 (dk_at dksX8_not_2 7 rfl rfl)
theorem dX8_not_56 : decode cX8_not 56 = .ok (.istore_n 1, 1) := dk_60 (dk_at dksX8_not_2 10 rfl rfl)
theorem dX8_not_57 : decode cX8_not 57 = .ok (.aload_n 0, 1) := dk_42 (dk_at dksX8_not_2 11 rfl rfl)
theorem dX8_not_58 : decode cX8_not 58 = .ok (.bipush 60, 2) := dk_16 60 (dk_at dksX8_not_2 12 rfl rfl)
theorem dX8_not_60 : decode cX8_not 60 = .ok (.invokevirtual 203, 3) := dk_182 0 203 (dk_at dksX8_not_2 14 rfl rfl)
theorem dX8_not_63 : decode cX8_not 63 = .ok (.ifCond .ne 14, 3) := dk_154 0 14 (dk_at dksX8_not_2 17 rfl rfl)
theorem dX8_not_66 : decode cX8_not 66 = .ok (.aload_n 0, 1) := dk_42 (dk_at dksX8_not_2 20 rfl rfl)
theorem dX8_not_67 : decode cX8_not 67 = .ok (.bipush 61, 2) := dk_16 61 (dk_at dksX8_not_2 21 rfl rfl)
theorem dX8_not_69 : decode cX8_not 69 = .ok (.invokevirtual 203, 3) := dk_182 0 203 (dk_at dksX8_not_3 0 rfl rfl)
theorem dX8_not_72 : decode cX8_not 72 = .ok (.ifCond .ne 5, 3) := dk_154 0 5 (dk_at dksX8_not_3 3 rfl rfl)
theorem dX8_not_75 : decode cX8_not 75 = .ok (.iload_n 1, 1) := dk_27 (dk_at dksX8_not_3 6 rfl rfl)
theorem dX8_not_76 : decode cX8_not 76 = .ok (.ireturn, 1) := dk_172 (dk_at dksX8_not_3 7 rfl rfl)
theorem dX8_not_77 : decode cX8_not 77 = .ok (.aload_n 0, 1) := dk_42 (dk_at dksX8_not_3 8 rfl rfl)
theorem dX8_not_78 : decode cX8_not 78 = .ok (.getfield 156, 3) := dk_180 0 156 (dk_at dksX8_not_3 9 rfl rfl)
theorem dX8_not_81 : decode cX8_not 81 = .ok (.ldc2_w 231, 3) := dk_20 0 231 (dk_at dksX8_not_3 12 rfl rfl)
theorem dX8_not_84 : decode cX8_not 84 = .ok (.lcmp, 1) := dk_148 (dk_at dksX8_not_3 15 rfl rfl)
theorem dX8_not_85 : decode cX8_not 85 = .ok (.ifCond .ne 7, 3) := dk_154 0 7 (dk_at dksX8_not_3 16 rfl rfl)
theorem dX8_not_88 : decode cX8_not 88 = .ok (.iconst 1, 1) := dk_4 (dk_at dksX8_not_3 19 rfl rfl)
theorem dX8_not_89 : decode cX8_not 89 = .ok (.goto 4, 3) := dk_167 0 4 (dk_at dksX8_not_3 20 rfl rfl)
theorem dX8_not_92 : decode cX8_not 92 = .ok (.iconst 0, 1) := dk_3 (dk_at dksX8_not_3 23 rfl rfl)
theorem dX8_not_93 : decode cX8_not 93 = .ok (.istore_n 2, 1) := dk_61 (dk_at dksX8_not_4 0 rfl rfl)
theorem dX8_not_94 : decode cX8_not 94 = .ok (.aload_n 0, 1) := dk_42 (dk_at dksX8_not_4 1 rfl rfl)
theorem dX8_not_95 : decode cX8_not 95 = .ok (.invokevirtual 178, 3) := dk_182 0 178 (dk_at dksX8_not_4 2 rfl rfl)
theorem dX8_not_98 : decode cX8_not 98 = .ok (.aload_n 0, 1) := dk_42 (dk_at dksX8_not_4 5 rfl rfl)
theorem dX8_not_99 : decode cX8_not 99 = .ok (.invokevirtual 228, 3) := dk_182 0 228 (dk_at dksX8_not_4 6 rfl rfl)
theorem dX8_not_102 : decode cX8_not 102 = .ok (.istore_n 3, 1) := dk_62 (dk_at dksX8_not_4 9 rfl rfl)
theorem dX8_not_103 : decode cX8_not 103 = .ok (.iload_n 2, 1) := dk_28 (dk_at dksX8_not_4 10 rfl rfl)
theorem dX8_not_104 : decode cX8_not 104 = .ok (.ifCond .eq 11, 3) := dk_153 0 11 (dk_at dksX8_not_4 11 rfl rfl)
theorem dX8_not_107 : decode cX8_not 107 = .ok (.iload_n 1, 1) := dk_27 (dk_at dksX8_not_4 14 rfl rfl)
theorem dX8_not_108 : decode cX8_not 108 = .ok (.iload_n 3, 1) := dk_29 (dk_at dksX8_not_4 15 rfl rfl)
theorem dX8_not_109 : decode cX8_not 109 = .ok (.if_icmp .ge 15, 3) := dk_162 0 15 (dk_at dksX8_not_4 16 rfl rfl)
theorem dX8_not_112 : decode cX8_not 112 = .ok (.goto 8, 3) := dk_167 0 8 (dk_at dksX8_not_4 19 rfl rfl)
theorem dX8_not_115 : decode cX8_not 115 = .ok (.iload_n 1, 1) := dk_27 (dk_at dksX8_not_4 22 rfl rfl)
theorem dX8_not_116 : decode cX8_not 116 = .ok (.iload_n 3, 1) := dk_29 (dk_at dksX8_not_4 23 rfl rfl)
theorem dX8_not_117 : decode cX8_not 117 = .ok (.if_icmp .ne 7, 3) := dk_160 0 7 (dk_at dksX8_not_5 0 rfl rfl)
theorem dX8_not_120 : decode cX8_not 120 = .ok (.iconst 1, 1) := dk_4 (dk_at dksX8_not_5 3 rfl rfl)
theorem dX8_not_121 : decode cX8_not 121 = .ok (.goto 4, 3) := dk_167 0 4 (dk_at dksX8_not_5 4 rfl rfl)
theorem dX8_not_124 : decode cX8_not 124 = .ok (.iconst 0, 1) := dk_3 (dk_at dksX8_not_5 7 rfl rfl)
theorem dX8_not_125 : decode cX8_not 125 = .ok (.ireturn, 1) := dk_172 (dk_at dksX8_not_5 8 rfl rfl)
abbrev cX8_opens : ByteArray := prog_16_method_27_code
def yX8_opens : MethodName := ⟨RX8, "opens", "()Z"⟩
def dkwX8_opens_1 : List UInt8 := [42, 182, 0, 178, 4, 172]
abbrev dktX8_opens_1 : List UInt8 := dkwX8_opens_1 ++ []
def dkwX8_opens_0 : List UInt8 := [42, 180, 0, 172, 8, 160, 0, 9, 42, 182, 0, 175, 3, 172, 42, 89, 180, 0, 172, 4, 96, 181, 0, 172]
abbrev dktX8_opens_0 : List UInt8 := dkwX8_opens_0 ++ dktX8_opens_1
theorem dksX8_opens_0 : cX8_opens.data.toList.drop 0 = dktX8_opens_0 := by decide +kernel
theorem dksX8_opens_1 : cX8_opens.data.toList.drop 24 = dktX8_opens_1 := dk_seg dksX8_opens_0 24 rfl rfl
theorem dX8_opens_0 : decode cX8_opens 0 = .ok (.aload_n 0, 1) := dk_42 (dk_at dksX8_opens_0 0 rfl rfl)
theorem dX8_opens_1 : decode cX8_opens 1 = .ok (.getfield 172, 3) := dk_180 0 172 (dk_at dksX8_opens_0 1 rfl rfl)
theorem dX8_opens_4 : decode cX8_opens 4 = .ok (.iconst 5, 1) := dk_8 (dk_at dksX8_opens_0 4 rfl rfl)
theorem dX8_opens_5 : decode cX8_opens 5 = .ok (.if_icmp .ne 9, 3) := dk_160 0 9 (dk_at dksX8_opens_0 5 rfl rfl)
theorem dX8_opens_8 : decode cX8_opens 8 = .ok (.aload_n 0, 1) := dk_42 (dk_at dksX8_opens_0 8 rfl rfl)
theorem dX8_opens_9 : decode cX8_opens 9 = .ok (.invokevirtual 175, 3) := dk_182 0 175 (dk_at dksX8_opens_0 9 rfl rfl)
theorem dX8_opens_12 : decode cX8_opens 12 = .ok (.iconst 0, 1) := dk_3 (dk_at dksX8_opens_0 12 rfl rfl)
theorem dX8_opens_13 : decode cX8_opens 13 = .ok (.ireturn, 1) := dk_172 (dk_at dksX8_opens_0 13 rfl rfl)
theorem dX8_opens_14 : decode cX8_opens 14 = .ok (.aload_n 0, 1) := dk_42 (dk_at dksX8_opens_0 14 rfl rfl)
theorem dX8_opens_15 : decode cX8_opens 15 = .ok (.dup, 1) := dk_89 (dk_at dksX8_opens_0 15 rfl rfl)
theorem dX8_opens_16 : decode cX8_opens 16 = .ok (.getfield 172, 3) := dk_180 0 172 (dk_at dksX8_opens_0 16 rfl rfl)
theorem dX8_opens_19 : decode cX8_opens 19 = .ok (.iconst 1, 1) := dk_4 (dk_at dksX8_opens_0 19 rfl rfl)
theorem dX8_opens_20 : decode cX8_opens 20 = .ok (.iadd, 1) := dk_96 (dk_at dksX8_opens_0 20 rfl rfl)
theorem dX8_opens_21 : decode cX8_opens 21 = .ok (.putfield 172, 3) := dk_181 0 172 (dk_at dksX8_opens_0 21 rfl rfl)
theorem dX8_opens_24 : decode cX8_opens 24 = .ok (.aload_n 0, 1) := dk_42 (dk_at dksX8_opens_1 0 rfl rfl)
theorem dX8_opens_25 : decode cX8_opens 25 = .ok (.invokevirtual 178, 3) := dk_182 0 178 (dk_at dksX8_opens_1 1 rfl rfl)
theorem dX8_opens_28 : decode cX8_opens 28 = .ok (.iconst 1, 1) := dk_4 (dk_at dksX8_opens_1 4 rfl rfl)
theorem dX8_opens_29 : decode cX8_opens 29 = .ok (.ireturn, 1) := dk_172 (dk_at dksX8_opens_1 5 rfl rfl)
abbrev cX8_added : ByteArray := prog_16_method_31_code
def yX8_added : MethodName := ⟨RX8, "added", "()I"⟩
def dkwX8_added_2 : List UInt8 := [62, 28, 153, 0, 9, 27, 29, 96, 167, 0, 6, 27, 29, 100, 60, 167, 255, 198, 27, 172]
abbrev dktX8_added_2 : List UInt8 := dkwX8_added_2 ++ []
def dkwX8_added_1 : List UInt8 := [180, 0, 156, 20, 0, 223, 148, 154, 0, 7, 4, 167, 0, 4, 3, 61, 42, 182, 0, 178, 42, 182, 0, 220]
abbrev dktX8_added_1 : List UInt8 := dkwX8_added_1 ++ dktX8_added_2
def dkwX8_added_0 : List UInt8 := [42, 182, 0, 220, 60, 42, 16, 43, 182, 0, 203, 154, 0, 12, 42, 16, 45, 182, 0, 203, 153, 0, 46, 42]
abbrev dktX8_added_0 : List UInt8 := dkwX8_added_0 ++ dktX8_added_1
theorem dksX8_added_0 : cX8_added.data.toList.drop 0 = dktX8_added_0 := by decide +kernel
theorem dksX8_added_1 : cX8_added.data.toList.drop 24 = dktX8_added_1 := dk_seg dksX8_added_0 24 rfl rfl
theorem dksX8_added_2 : cX8_added.data.toList.drop 48 = dktX8_added_2 := dk_seg dksX8_added_1 24 rfl rfl
theorem dX8_added_0 : decode cX8_added 0 = .ok (.aload_n 0, 1) := dk_42 (dk_at dksX8_added_0 0 rfl rfl)
theorem dX8_added_1 : decode cX8_added 1 = .ok (.invokevirtual 220, 3) := dk_182 0 220 (dk_at dksX8_added_0 1 rfl rfl)
theorem dX8_added_4 : decode cX8_added 4 = .ok (.istore_n 1, 1) := dk_60 (dk_at dksX8_added_0 4 rfl rfl)
theorem dX8_added_5 : decode cX8_added 5 = .ok (.aload_n 0, 1) := dk_42 (dk_at dksX8_added_0 5 rfl rfl)
theorem dX8_added_6 : decode cX8_added 6 = .ok (.bipush 43, 2) := dk_16 43 (dk_at dksX8_added_0 6 rfl rfl)
theorem dX8_added_8 : decode cX8_added 8 = .ok (.invokevirtual 203, 3) := dk_182 0 203 (dk_at dksX8_added_0 8 rfl rfl)
theorem dX8_added_11 : decode cX8_added 11 = .ok (.ifCond .ne 12, 3) := dk_154 0 12 (dk_at dksX8_added_0 11 rfl rfl)
theorem dX8_added_14 : decode cX8_added 14 = .ok (.aload_n 0, 1) := dk_42 (dk_at dksX8_added_0 14 rfl rfl)
theorem dX8_added_15 : decode cX8_added 15 = .ok (.bipush 45, 2) := dk_16 45 (dk_at dksX8_added_0 15 rfl rfl)
theorem dX8_added_17 : decode cX8_added 17 = .ok (.invokevirtual 203, 3) := dk_182 0 203 (dk_at dksX8_added_0 17 rfl rfl)
theorem dX8_added_20 : decode cX8_added 20 = .ok (.ifCond .eq 46, 3) := dk_153 0 46 (dk_at dksX8_added_0 20 rfl rfl)
theorem dX8_added_23 : decode cX8_added 23 = .ok (.aload_n 0, 1) := dk_42 (dk_at dksX8_added_0 23 rfl rfl)
theorem dX8_added_24 : decode cX8_added 24 = .ok (.getfield 156, 3) := dk_180 0 156 (dk_at dksX8_added_1 0 rfl rfl)
theorem dX8_added_27 : decode cX8_added 27 = .ok (.ldc2_w 223, 3) := dk_20 0 223 (dk_at dksX8_added_1 3 rfl rfl)
theorem dX8_added_30 : decode cX8_added 30 = .ok (.lcmp, 1) := dk_148 (dk_at dksX8_added_1 6 rfl rfl)
theorem dX8_added_31 : decode cX8_added 31 = .ok (.ifCond .ne 7, 3) := dk_154 0 7 (dk_at dksX8_added_1 7 rfl rfl)
theorem dX8_added_34 : decode cX8_added 34 = .ok (.iconst 1, 1) := dk_4 (dk_at dksX8_added_1 10 rfl rfl)
theorem dX8_added_35 : decode cX8_added 35 = .ok (.goto 4, 3) := dk_167 0 4 (dk_at dksX8_added_1 11 rfl rfl)
theorem dX8_added_38 : decode cX8_added 38 = .ok (.iconst 0, 1) := dk_3 (dk_at dksX8_added_1 14 rfl rfl)
theorem dX8_added_39 : decode cX8_added 39 = .ok (.istore_n 2, 1) := dk_61 (dk_at dksX8_added_1 15 rfl rfl)
theorem dX8_added_40 : decode cX8_added 40 = .ok (.aload_n 0, 1) := dk_42 (dk_at dksX8_added_1 16 rfl rfl)
theorem dX8_added_41 : decode cX8_added 41 = .ok (.invokevirtual 178, 3) := dk_182 0 178 (dk_at dksX8_added_1 17 rfl rfl)
theorem dX8_added_44 : decode cX8_added 44 = .ok (.aload_n 0, 1) := dk_42 (dk_at dksX8_added_1 20 rfl rfl)
theorem dX8_added_45 : decode cX8_added 45 = .ok (.invokevirtual 220, 3) := dk_182 0 220 (dk_at dksX8_added_1 21 rfl rfl)
theorem dX8_added_48 : decode cX8_added 48 = .ok (.istore_n 3, 1) := dk_62 (dk_at dksX8_added_2 0 rfl rfl)
theorem dX8_added_49 : decode cX8_added 49 = .ok (.iload_n 2, 1) := dk_28 (dk_at dksX8_added_2 1 rfl rfl)
theorem dX8_added_50 : decode cX8_added 50 = .ok (.ifCond .eq 9, 3) := dk_153 0 9 (dk_at dksX8_added_2 2 rfl rfl)
theorem dX8_added_53 : decode cX8_added 53 = .ok (.iload_n 1, 1) := dk_27 (dk_at dksX8_added_2 5 rfl rfl)
theorem dX8_added_54 : decode cX8_added 54 = .ok (.iload_n 3, 1) := dk_29 (dk_at dksX8_added_2 6 rfl rfl)
theorem dX8_added_55 : decode cX8_added 55 = .ok (.iadd, 1) := dk_96 (dk_at dksX8_added_2 7 rfl rfl)
theorem dX8_added_56 : decode cX8_added 56 = .ok (.goto 6, 3) := dk_167 0 6 (dk_at dksX8_added_2 8 rfl rfl)
theorem dX8_added_59 : decode cX8_added 59 = .ok (.iload_n 1, 1) := dk_27 (dk_at dksX8_added_2 11 rfl rfl)
theorem dX8_added_60 : decode cX8_added 60 = .ok (.iload_n 3, 1) := dk_29 (dk_at dksX8_added_2 12 rfl rfl)
theorem dX8_added_61 : decode cX8_added 61 = .ok (.isub, 1) := dk_100 (dk_at dksX8_added_2 13 rfl rfl)
theorem dX8_added_62 : decode cX8_added 62 = .ok (.istore_n 1, 1) := dk_60 (dk_at dksX8_added_2 14 rfl rfl)
theorem dX8_added_63 : decode cX8_added 63 = .ok (.goto (-58), 3) := dk_167 255 198 (dk_at dksX8_added_2 15 rfl rfl)
theorem dX8_added_66 : decode cX8_added 66 = .ok (.iload_n 1, 1) := dk_27 (dk_at dksX8_added_2 18 rfl rfl)
theorem dX8_added_67 : decode cX8_added 67 = .ok (.ireturn, 1) := dk_172 (dk_at dksX8_added_2 19 rfl rfl)
abbrev cX8_term : ByteArray := prog_16_method_30_code
def yX8_term : MethodName := ⟨RX8, "term", "()I"⟩
def dkwX8_term_1 : List UInt8 := [60, 167, 255, 236, 27, 172]
abbrev dktX8_term_1 : List UInt8 := dkwX8_term_1 ++ []
def dkwX8_term_0 : List UInt8 := [42, 182, 0, 210, 60, 42, 16, 42, 182, 0, 203, 153, 0, 17, 42, 182, 0, 178, 27, 42, 182, 0, 210, 104]
abbrev dktX8_term_0 : List UInt8 := dkwX8_term_0 ++ dktX8_term_1
theorem dksX8_term_0 : cX8_term.data.toList.drop 0 = dktX8_term_0 := by decide +kernel
theorem dksX8_term_1 : cX8_term.data.toList.drop 24 = dktX8_term_1 := dk_seg dksX8_term_0 24 rfl rfl
theorem dX8_term_0 : decode cX8_term 0 = .ok (.aload_n 0, 1) := dk_42 (dk_at dksX8_term_0 0 rfl rfl)
theorem dX8_term_1 : decode cX8_term 1 = .ok (.invokevirtual 210, 3) := dk_182 0 210 (dk_at dksX8_term_0 1 rfl rfl)
theorem dX8_term_4 : decode cX8_term 4 = .ok (.istore_n 1, 1) := dk_60 (dk_at dksX8_term_0 4 rfl rfl)
theorem dX8_term_5 : decode cX8_term 5 = .ok (.aload_n 0, 1) := dk_42 (dk_at dksX8_term_0 5 rfl rfl)
theorem dX8_term_6 : decode cX8_term 6 = .ok (.bipush 42, 2) := dk_16 42 (dk_at dksX8_term_0 6 rfl rfl)
theorem dX8_term_8 : decode cX8_term 8 = .ok (.invokevirtual 203, 3) := dk_182 0 203 (dk_at dksX8_term_0 8 rfl rfl)
theorem dX8_term_11 : decode cX8_term 11 = .ok (.ifCond .eq 17, 3) := dk_153 0 17 (dk_at dksX8_term_0 11 rfl rfl)
theorem dX8_term_14 : decode cX8_term 14 = .ok (.aload_n 0, 1) := dk_42 (dk_at dksX8_term_0 14 rfl rfl)
theorem dX8_term_15 : decode cX8_term 15 = .ok (.invokevirtual 178, 3) := dk_182 0 178 (dk_at dksX8_term_0 15 rfl rfl)
theorem dX8_term_18 : decode cX8_term 18 = .ok (.iload_n 1, 1) := dk_27 (dk_at dksX8_term_0 18 rfl rfl)
theorem dX8_term_19 : decode cX8_term 19 = .ok (.aload_n 0, 1) := dk_42 (dk_at dksX8_term_0 19 rfl rfl)
theorem dX8_term_20 : decode cX8_term 20 = .ok (.invokevirtual 210, 3) := dk_182 0 210 (dk_at dksX8_term_0 20 rfl rfl)
theorem dX8_term_23 : decode cX8_term 23 = .ok (.imul, 1) := dk_104 (dk_at dksX8_term_0 23 rfl rfl)
theorem dX8_term_24 : decode cX8_term 24 = .ok (.istore_n 1, 1) := dk_60 (dk_at dksX8_term_1 0 rfl rfl)
theorem dX8_term_25 : decode cX8_term 25 = .ok (.goto (-20), 3) := dk_167 255 236 (dk_at dksX8_term_1 1 rfl rfl)
theorem dX8_term_28 : decode cX8_term 28 = .ok (.iload_n 1, 1) := dk_27 (dk_at dksX8_term_1 4 rfl rfl)
theorem dX8_term_29 : decode cX8_term 29 = .ok (.ireturn, 1) := dk_172 (dk_at dksX8_term_1 5 rfl rfl)
abbrev cX8_atom : ByteArray := prog_16_method_29_code
def yX8_atom : MethodName := ⟨RX8, "atom", "()I"⟩
def dkwX8_atom_6 : List UInt8 := [182, 0, 217, 60, 42, 180, 0, 162, 154, 0, 14, 42, 182, 0, 178, 167, 0, 7, 42, 182, 0, 175, 27, 172]
abbrev dktX8_atom_6 : List UInt8 := dkwX8_atom_6 ++ []
def dkwX8_atom_5 : List UInt8 := [182, 0, 178, 167, 0, 41, 42, 180, 0, 162, 154, 0, 30, 42, 180, 0, 145, 4, 160, 0, 22, 42]
abbrev dktX8_atom_5 : List UInt8 := dkwX8_atom_5 ++ dktX8_atom_6
def dkwX8_atom_4 : List UInt8 := [42, 180, 0, 162, 154, 0, 24, 42, 180, 0, 145, 5, 160, 0, 16, 42, 180, 0, 156, 136, 60, 42]
abbrev dktX8_atom_4 : List UInt8 := dkwX8_atom_4 ++ dktX8_atom_5
def dkwX8_atom_3 : List UInt8 := [42, 89, 180, 0, 172, 4, 100, 181, 0, 172, 42, 180, 0, 162, 154, 0, 76, 42, 182, 0, 178, 167, 0, 69]
abbrev dktX8_atom_3 : List UInt8 := dkwX8_atom_3 ++ dktX8_atom_4
def dkwX8_atom_2 : List UInt8 := [182, 0, 206, 153, 0, 111, 42, 182, 0, 214, 60, 42, 16, 41, 182, 0, 203, 154, 0, 7, 42, 182, 0, 175]
abbrev dktX8_atom_2 : List UInt8 := dkwX8_atom_2 ++ dktX8_atom_3
def dkwX8_atom_1 : List UInt8 := [42, 89, 180, 0, 172, 4, 100, 181, 0, 172, 167, 0, 127, 42, 16, 40, 182, 0, 203, 153, 0, 52, 42]
abbrev dktX8_atom_1 : List UInt8 := dkwX8_atom_1 ++ dktX8_atom_2
def dkwX8_atom_0 : List UInt8 := [3, 60, 42, 16, 45, 182, 0, 203, 153, 0, 29, 42, 182, 0, 206, 153, 0, 146, 42, 182, 0, 210, 116, 60]
abbrev dktX8_atom_0 : List UInt8 := dkwX8_atom_0 ++ dktX8_atom_1
theorem dksX8_atom_0 : cX8_atom.data.toList.drop 0 = dktX8_atom_0 := by decide +kernel
theorem dksX8_atom_1 : cX8_atom.data.toList.drop 24 = dktX8_atom_1 := dk_seg dksX8_atom_0 24 rfl rfl
theorem dksX8_atom_2 : cX8_atom.data.toList.drop 47 = dktX8_atom_2 := dk_seg dksX8_atom_1 23 rfl rfl
theorem dksX8_atom_3 : cX8_atom.data.toList.drop 71 = dktX8_atom_3 := dk_seg dksX8_atom_2 24 rfl rfl
theorem dksX8_atom_4 : cX8_atom.data.toList.drop 95 = dktX8_atom_4 := dk_seg dksX8_atom_3 24 rfl rfl
theorem dksX8_atom_5 : cX8_atom.data.toList.drop 117 = dktX8_atom_5 := dk_seg dksX8_atom_4 22 rfl rfl
theorem dksX8_atom_6 : cX8_atom.data.toList.drop 139 = dktX8_atom_6 := dk_seg dksX8_atom_5 22 rfl rfl
theorem dX8_atom_0 : decode cX8_atom 0 = .ok (.iconst 0, 1) := dk_3 (dk_at dksX8_atom_0 0 rfl rfl)
theorem dX8_atom_1 : decode cX8_atom 1 = .ok (.istore_n 1, 1) := dk_60 (dk_at dksX8_atom_0 1 rfl rfl)
theorem dX8_atom_2 : decode cX8_atom 2 = .ok (.aload_n 0, 1) := dk_42 (dk_at dksX8_atom_0 2 rfl rfl)
theorem dX8_atom_3 : decode cX8_atom 3 = .ok (.bipush 45, 2) := dk_16 45 (dk_at dksX8_atom_0 3 rfl rfl)
theorem dX8_atom_5 : decode cX8_atom 5 = .ok (.invokevirtual 203, 3) := dk_182 0 203 (dk_at dksX8_atom_0 5 rfl rfl)
theorem dX8_atom_8 : decode cX8_atom 8 = .ok (.ifCond .eq 29, 3) := dk_153 0 29 (dk_at dksX8_atom_0 8 rfl rfl)
theorem dX8_atom_11 : decode cX8_atom 11 = .ok (.aload_n 0, 1) := dk_42 (dk_at dksX8_atom_0 11 rfl rfl)
theorem dX8_atom_12 : decode cX8_atom 12 = .ok (.invokevirtual 206, 3) := dk_182 0 206 (dk_at dksX8_atom_0 12 rfl rfl)
theorem dX8_atom_15 : decode cX8_atom 15 = .ok (.ifCond .eq 146, 3) := dk_153 0 146 (dk_at dksX8_atom_0 15 rfl rfl)
theorem dX8_atom_18 : decode cX8_atom 18 = .ok (.aload_n 0, 1) := dk_42 (dk_at dksX8_atom_0 18 rfl rfl)
theorem dX8_atom_19 : decode cX8_atom 19 = .ok (.invokevirtual 210, 3) := dk_182 0 210 (dk_at dksX8_atom_0 19 rfl rfl)
theorem dX8_atom_22 : decode cX8_atom 22 = .ok (.ineg, 1) := dk_116 (dk_at dksX8_atom_0 22 rfl rfl)
theorem dX8_atom_23 : decode cX8_atom 23 = .ok (.istore_n 1, 1) := dk_60 (dk_at dksX8_atom_0 23 rfl rfl)
theorem dX8_atom_24 : decode cX8_atom 24 = .ok (.aload_n 0, 1) := dk_42 (dk_at dksX8_atom_1 0 rfl rfl)
theorem dX8_atom_25 : decode cX8_atom 25 = .ok (.dup, 1) := dk_89 (dk_at dksX8_atom_1 1 rfl rfl)
theorem dX8_atom_26 : decode cX8_atom 26 = .ok (.getfield 172, 3) := dk_180 0 172 (dk_at dksX8_atom_1 2 rfl rfl)
theorem dX8_atom_29 : decode cX8_atom 29 = .ok (.iconst 1, 1) := dk_4 (dk_at dksX8_atom_1 5 rfl rfl)
theorem dX8_atom_30 : decode cX8_atom 30 = .ok (.isub, 1) := dk_100 (dk_at dksX8_atom_1 6 rfl rfl)
theorem dX8_atom_31 : decode cX8_atom 31 = .ok (.putfield 172, 3) := dk_181 0 172 (dk_at dksX8_atom_1 7 rfl rfl)
theorem dX8_atom_34 : decode cX8_atom 34 = .ok (.goto 127, 3) := dk_167 0 127 (dk_at dksX8_atom_1 10 rfl rfl)
theorem dX8_atom_37 : decode cX8_atom 37 = .ok (.aload_n 0, 1) := dk_42 (dk_at dksX8_atom_1 13 rfl rfl)
theorem dX8_atom_38 : decode cX8_atom 38 = .ok (.bipush 40, 2) := dk_16 40 (dk_at dksX8_atom_1 14 rfl rfl)
theorem dX8_atom_40 : decode cX8_atom 40 = .ok (.invokevirtual 203, 3) := dk_182 0 203 (dk_at dksX8_atom_1 16 rfl rfl)
theorem dX8_atom_43 : decode cX8_atom 43 = .ok (.ifCond .eq 52, 3) := dk_153 0 52 (dk_at dksX8_atom_1 19 rfl rfl)
theorem dX8_atom_46 : decode cX8_atom 46 = .ok (.aload_n 0, 1) := dk_42 (dk_at dksX8_atom_1 22 rfl rfl)
theorem dX8_atom_47 : decode cX8_atom 47 = .ok (.invokevirtual 206, 3) := dk_182 0 206 (dk_at dksX8_atom_2 0 rfl rfl)
theorem dX8_atom_50 : decode cX8_atom 50 = .ok (.ifCond .eq 111, 3) := dk_153 0 111 (dk_at dksX8_atom_2 3 rfl rfl)
theorem dX8_atom_53 : decode cX8_atom 53 = .ok (.aload_n 0, 1) := dk_42 (dk_at dksX8_atom_2 6 rfl rfl)
theorem dX8_atom_54 : decode cX8_atom 54 = .ok (.invokevirtual 214, 3) := dk_182 0 214 (dk_at dksX8_atom_2 7 rfl rfl)
theorem dX8_atom_57 : decode cX8_atom 57 = .ok (.istore_n 1, 1) := dk_60 (dk_at dksX8_atom_2 10 rfl rfl)
theorem dX8_atom_58 : decode cX8_atom 58 = .ok (.aload_n 0, 1) := dk_42 (dk_at dksX8_atom_2 11 rfl rfl)
theorem dX8_atom_59 : decode cX8_atom 59 = .ok (.bipush 41, 2) := dk_16 41 (dk_at dksX8_atom_2 12 rfl rfl)
theorem dX8_atom_61 : decode cX8_atom 61 = .ok (.invokevirtual 203, 3) := dk_182 0 203 (dk_at dksX8_atom_2 14 rfl rfl)
theorem dX8_atom_64 : decode cX8_atom 64 = .ok (.ifCond .ne 7, 3) := dk_154 0 7 (dk_at dksX8_atom_2 17 rfl rfl)
theorem dX8_atom_67 : decode cX8_atom 67 = .ok (.aload_n 0, 1) := dk_42 (dk_at dksX8_atom_2 20 rfl rfl)
theorem dX8_atom_68 : decode cX8_atom 68 = .ok (.invokevirtual 175, 3) := dk_182 0 175 (dk_at dksX8_atom_2 21 rfl rfl)
theorem dX8_atom_71 : decode cX8_atom 71 = .ok (.aload_n 0, 1) := dk_42 (dk_at dksX8_atom_3 0 rfl rfl)
theorem dX8_atom_72 : decode cX8_atom 72 = .ok (.dup, 1) := dk_89 (dk_at dksX8_atom_3 1 rfl rfl)
theorem dX8_atom_73 : decode cX8_atom 73 = .ok (.getfield 172, 3) := dk_180 0 172 (dk_at dksX8_atom_3 2 rfl rfl)
theorem dX8_atom_76 : decode cX8_atom 76 = .ok (.iconst 1, 1) := dk_4 (dk_at dksX8_atom_3 5 rfl rfl)
theorem dX8_atom_77 : decode cX8_atom 77 = .ok (.isub, 1) := dk_100 (dk_at dksX8_atom_3 6 rfl rfl)
theorem dX8_atom_78 : decode cX8_atom 78 = .ok (.putfield 172, 3) := dk_181 0 172 (dk_at dksX8_atom_3 7 rfl rfl)
theorem dX8_atom_81 : decode cX8_atom 81 = .ok (.aload_n 0, 1) := dk_42 (dk_at dksX8_atom_3 10 rfl rfl)
theorem dX8_atom_82 : decode cX8_atom 82 = .ok (.getfield 162, 3) := dk_180 0 162 (dk_at dksX8_atom_3 11 rfl rfl)
theorem dX8_atom_85 : decode cX8_atom 85 = .ok (.ifCond .ne 76, 3) := dk_154 0 76 (dk_at dksX8_atom_3 14 rfl rfl)
theorem dX8_atom_88 : decode cX8_atom 88 = .ok (.aload_n 0, 1) := dk_42 (dk_at dksX8_atom_3 17 rfl rfl)
theorem dX8_atom_89 : decode cX8_atom 89 = .ok (.invokevirtual 178, 3) := dk_182 0 178 (dk_at dksX8_atom_3 18 rfl rfl)
theorem dX8_atom_92 : decode cX8_atom 92 = .ok (.goto 69, 3) := dk_167 0 69 (dk_at dksX8_atom_3 21 rfl rfl)
theorem dX8_atom_95 : decode cX8_atom 95 = .ok (.aload_n 0, 1) := dk_42 (dk_at dksX8_atom_4 0 rfl rfl)
theorem dX8_atom_96 : decode cX8_atom 96 = .ok (.getfield 162, 3) := dk_180 0 162 (dk_at dksX8_atom_4 1 rfl rfl)
theorem dX8_atom_99 : decode cX8_atom 99 = .ok (.ifCond .ne 24, 3) := dk_154 0 24 (dk_at dksX8_atom_4 4 rfl rfl)
theorem dX8_atom_102 : decode cX8_atom 102 = .ok (.aload_n 0, 1) := dk_42 (dk_at dksX8_atom_4 7 rfl rfl)
theorem dX8_atom_103 : decode cX8_atom 103 = .ok (.getfield 145, 3) := dk_180 0 145 (dk_at dksX8_atom_4 8 rfl rfl)
theorem dX8_atom_106 : decode cX8_atom 106 = .ok (.iconst 2, 1) := dk_5 (dk_at dksX8_atom_4 11 rfl rfl)
theorem dX8_atom_107 : decode cX8_atom 107 = .ok (.if_icmp .ne 16, 3) := dk_160 0 16 (dk_at dksX8_atom_4 12 rfl rfl)
theorem dX8_atom_110 : decode cX8_atom 110 = .ok (.aload_n 0, 1) := dk_42 (dk_at dksX8_atom_4 15 rfl rfl)
theorem dX8_atom_111 : decode cX8_atom 111 = .ok (.getfield 156, 3) := dk_180 0 156 (dk_at dksX8_atom_4 16 rfl rfl)
theorem dX8_atom_114 : decode cX8_atom 114 = .ok (.l2i, 1) := dk_136 (dk_at dksX8_atom_4 19 rfl rfl)
theorem dX8_atom_115 : decode cX8_atom 115 = .ok (.istore_n 1, 1) := dk_60 (dk_at dksX8_atom_4 20 rfl rfl)
theorem dX8_atom_116 : decode cX8_atom 116 = .ok (.aload_n 0, 1) := dk_42 (dk_at dksX8_atom_4 21 rfl rfl)
theorem dX8_atom_117 : decode cX8_atom 117 = .ok (.invokevirtual 178, 3) := dk_182 0 178 (dk_at dksX8_atom_5 0 rfl rfl)
theorem dX8_atom_120 : decode cX8_atom 120 = .ok (.goto 41, 3) := dk_167 0 41 (dk_at dksX8_atom_5 3 rfl rfl)
theorem dX8_atom_123 : decode cX8_atom 123 = .ok (.aload_n 0, 1) := dk_42 (dk_at dksX8_atom_5 6 rfl rfl)
theorem dX8_atom_124 : decode cX8_atom 124 = .ok (.getfield 162, 3) := dk_180 0 162 (dk_at dksX8_atom_5 7 rfl rfl)
theorem dX8_atom_127 : decode cX8_atom 127 = .ok (.ifCond .ne 30, 3) := dk_154 0 30 (dk_at dksX8_atom_5 10 rfl rfl)
theorem dX8_atom_130 : decode cX8_atom 130 = .ok (.aload_n 0, 1) := dk_42 (dk_at dksX8_atom_5 13 rfl rfl)
theorem dX8_atom_131 : decode cX8_atom 131 = .ok (.getfield 145, 3) := dk_180 0 145 (dk_at dksX8_atom_5 14 rfl rfl)
theorem dX8_atom_134 : decode cX8_atom 134 = .ok (.iconst 1, 1) := dk_4 (dk_at dksX8_atom_5 17 rfl rfl)
theorem dX8_atom_135 : decode cX8_atom 135 = .ok (.if_icmp .ne 22, 3) := dk_160 0 22 (dk_at dksX8_atom_5 18 rfl rfl)
theorem dX8_atom_138 : decode cX8_atom 138 = .ok (.aload_n 0, 1) := dk_42 (dk_at dksX8_atom_5 21 rfl rfl)
theorem dX8_atom_139 : decode cX8_atom 139 = .ok (.invokevirtual 217, 3) := dk_182 0 217 (dk_at dksX8_atom_6 0 rfl rfl)
theorem dX8_atom_142 : decode cX8_atom 142 = .ok (.istore_n 1, 1) := dk_60 (dk_at dksX8_atom_6 3 rfl rfl)
theorem dX8_atom_143 : decode cX8_atom 143 = .ok (.aload_n 0, 1) := dk_42 (dk_at dksX8_atom_6 4 rfl rfl)
theorem dX8_atom_144 : decode cX8_atom 144 = .ok (.getfield 162, 3) := dk_180 0 162 (dk_at dksX8_atom_6 5 rfl rfl)
theorem dX8_atom_147 : decode cX8_atom 147 = .ok (.ifCond .ne 14, 3) := dk_154 0 14 (dk_at dksX8_atom_6 8 rfl rfl)
theorem dX8_atom_150 : decode cX8_atom 150 = .ok (.aload_n 0, 1) := dk_42 (dk_at dksX8_atom_6 11 rfl rfl)
theorem dX8_atom_151 : decode cX8_atom 151 = .ok (.invokevirtual 178, 3) := dk_182 0 178 (dk_at dksX8_atom_6 12 rfl rfl)
theorem dX8_atom_154 : decode cX8_atom 154 = .ok (.goto 7, 3) := dk_167 0 7 (dk_at dksX8_atom_6 15 rfl rfl)
theorem dX8_atom_157 : decode cX8_atom 157 = .ok (.aload_n 0, 1) := dk_42 (dk_at dksX8_atom_6 18 rfl rfl)
theorem dX8_atom_158 : decode cX8_atom 158 = .ok (.invokevirtual 175, 3) := dk_182 0 175 (dk_at dksX8_atom_6 19 rfl rfl)
theorem dX8_atom_161 : decode cX8_atom 161 = .ok (.iload_n 1, 1) := dk_27 (dk_at dksX8_atom_6 22 rfl rfl)
theorem dX8_atom_162 : decode cX8_atom 162 = .ok (.ireturn, 1) := dk_172 (dk_at dksX8_atom_6 23 rfl rfl)
abbrev cX8_isSign : ByteArray := prog_16_method_26_code
def yX8_isSign : MethodName := ⟨RX8, "isSign", "(I)Z"⟩
def dkwX8_isSign_1 : List UInt8 := [154, 0, 7, 4, 167, 0, 4, 3, 172]
abbrev dktX8_isSign_1 : List UInt8 := dkwX8_isSign_1 ++ []
def dkwX8_isSign_0 : List UInt8 := [42, 180, 0, 162, 154, 0, 25, 42, 180, 0, 145, 6, 160, 0, 17, 42, 180, 0, 156, 27, 133, 148]
abbrev dktX8_isSign_0 : List UInt8 := dkwX8_isSign_0 ++ dktX8_isSign_1
theorem dksX8_isSign_0 : cX8_isSign.data.toList.drop 0 = dktX8_isSign_0 := by decide +kernel
theorem dksX8_isSign_1 : cX8_isSign.data.toList.drop 22 = dktX8_isSign_1 := dk_seg dksX8_isSign_0 22 rfl rfl
theorem dX8_isSign_0 : decode cX8_isSign 0 = .ok (.aload_n 0, 1) := dk_42 (dk_at dksX8_isSign_0 0 rfl rfl)
theorem dX8_isSign_1 : decode cX8_isSign 1 = .ok (.getfield 162, 3) := dk_180 0 162 (dk_at dksX8_isSign_0 1 rfl rfl)
theorem dX8_isSign_4 : decode cX8_isSign 4 = .ok (.ifCond .ne 25, 3) := dk_154 0 25 (dk_at dksX8_isSign_0 4 rfl rfl)
theorem dX8_isSign_7 : decode cX8_isSign 7 = .ok (.aload_n 0, 1) := dk_42 (dk_at dksX8_isSign_0 7 rfl rfl)
theorem dX8_isSign_8 : decode cX8_isSign 8 = .ok (.getfield 145, 3) := dk_180 0 145 (dk_at dksX8_isSign_0 8 rfl rfl)
theorem dX8_isSign_11 : decode cX8_isSign 11 = .ok (.iconst 3, 1) := dk_6 (dk_at dksX8_isSign_0 11 rfl rfl)
theorem dX8_isSign_12 : decode cX8_isSign 12 = .ok (.if_icmp .ne 17, 3) := dk_160 0 17 (dk_at dksX8_isSign_0 12 rfl rfl)
theorem dX8_isSign_15 : decode cX8_isSign 15 = .ok (.aload_n 0, 1) := dk_42 (dk_at dksX8_isSign_0 15 rfl rfl)
theorem dX8_isSign_16 : decode cX8_isSign 16 = .ok (.getfield 156, 3) := dk_180 0 156 (dk_at dksX8_isSign_0 16 rfl rfl)
theorem dX8_isSign_19 : decode cX8_isSign 19 = .ok (.iload_n 1, 1) := dk_27 (dk_at dksX8_isSign_0 19 rfl rfl)
theorem dX8_isSign_20 : decode cX8_isSign 20 = .ok (.i2l, 1) := dk_133 (dk_at dksX8_isSign_0 20 rfl rfl)
theorem dX8_isSign_21 : decode cX8_isSign 21 = .ok (.lcmp, 1) := dk_148 (dk_at dksX8_isSign_0 21 rfl rfl)
theorem dX8_isSign_22 : decode cX8_isSign 22 = .ok (.ifCond .ne 7, 3) := dk_154 0 7 (dk_at dksX8_isSign_1 0 rfl rfl)
theorem dX8_isSign_25 : decode cX8_isSign 25 = .ok (.iconst 1, 1) := dk_4 (dk_at dksX8_isSign_1 3 rfl rfl)
theorem dX8_isSign_26 : decode cX8_isSign 26 = .ok (.goto 4, 3) := dk_167 0 4 (dk_at dksX8_isSign_1 4 rfl rfl)
theorem dX8_isSign_29 : decode cX8_isSign 29 = .ok (.iconst 0, 1) := dk_3 (dk_at dksX8_isSign_1 7 rfl rfl)
theorem dX8_isSign_30 : decode cX8_isSign 30 = .ok (.ireturn, 1) := dk_172 (dk_at dksX8_isSign_1 8 rfl rfl)
abbrev cX8_name : ByteArray := prog_16_method_28_code
def yX8_name : MethodName := ⟨RX8, "name", "()I"⟩
def dkwX8_name_6 : List UInt8 := [3, 3, 182, 0, 181, 153, 0, 8, 42, 180, 0, 200, 172, 42, 182, 0, 175, 3, 172]
abbrev dktX8_name_6 : List UInt8 := dkwX8_name_6 ++ []
def dkwX8_name_5 : List UInt8 := [3, 182, 0, 181, 153, 0, 8, 42, 180, 0, 197, 172, 42, 16, 115, 16, 116, 16, 97, 16, 107, 16, 101, 3]
abbrev dktX8_name_5 : List UInt8 := dkwX8_name_5 ++ dktX8_name_6
def dkwX8_name_4 : List UInt8 := [182, 0, 181, 153, 0, 8, 42, 180, 0, 194, 172, 42, 16, 114, 16, 111, 16, 117, 16, 110, 16, 100, 3, 3]
abbrev dktX8_name_4 : List UInt8 := dkwX8_name_4 ++ dktX8_name_5
def dkwX8_name_3 : List UInt8 := [153, 0, 8, 42, 180, 0, 191, 172, 42, 16, 116, 16, 104, 16, 101, 16, 105, 16, 114, 16, 115, 3, 3]
abbrev dktX8_name_3 : List UInt8 := dkwX8_name_3 ++ dktX8_name_4
def dkwX8_name_2 : List UInt8 := [180, 0, 188, 172, 42, 16, 110, 16, 117, 16, 109, 16, 98, 16, 101, 16, 114, 3, 3, 182, 0, 181]
abbrev dktX8_name_2 : List UInt8 := dkwX8_name_2 ++ dktX8_name_3
def dkwX8_name_1 : List UInt8 := [180, 0, 185, 172, 42, 16, 104, 16, 97, 16, 115, 3, 3, 3, 3, 3, 182, 0, 181, 153, 0, 8, 42]
abbrev dktX8_name_1 : List UInt8 := dkwX8_name_1 ++ dktX8_name_2
def dkwX8_name_0 : List UInt8 := [42, 16, 115, 16, 116, 16, 114, 16, 111, 16, 110, 16, 103, 3, 3, 182, 0, 181, 153, 0, 8, 42]
abbrev dktX8_name_0 : List UInt8 := dkwX8_name_0 ++ dktX8_name_1
theorem dksX8_name_0 : cX8_name.data.toList.drop 0 = dktX8_name_0 := by decide +kernel
theorem dksX8_name_1 : cX8_name.data.toList.drop 22 = dktX8_name_1 := dk_seg dksX8_name_0 22 rfl rfl
theorem dksX8_name_2 : cX8_name.data.toList.drop 45 = dktX8_name_2 := dk_seg dksX8_name_1 23 rfl rfl
theorem dksX8_name_3 : cX8_name.data.toList.drop 67 = dktX8_name_3 := dk_seg dksX8_name_2 22 rfl rfl
theorem dksX8_name_4 : cX8_name.data.toList.drop 90 = dktX8_name_4 := dk_seg dksX8_name_3 23 rfl rfl
theorem dksX8_name_5 : cX8_name.data.toList.drop 114 = dktX8_name_5 := dk_seg dksX8_name_4 24 rfl rfl
theorem dksX8_name_6 : cX8_name.data.toList.drop 138 = dktX8_name_6 := dk_seg dksX8_name_5 24 rfl rfl
theorem dX8_name_0 : decode cX8_name 0 = .ok (.aload_n 0, 1) := dk_42 (dk_at dksX8_name_0 0 rfl rfl)
theorem dX8_name_1 : decode cX8_name 1 = .ok (.bipush 115, 2) := dk_16 115 (dk_at dksX8_name_0 1 rfl rfl)
theorem dX8_name_3 : decode cX8_name 3 = .ok (.bipush 116, 2) := dk_16 116 (dk_at dksX8_name_0 3 rfl rfl)
theorem dX8_name_5 : decode cX8_name 5 = .ok (.bipush 114, 2) := dk_16 114 (dk_at dksX8_name_0 5 rfl rfl)
theorem dX8_name_7 : decode cX8_name 7 = .ok (.bipush 111, 2) := dk_16 111 (dk_at dksX8_name_0 7 rfl rfl)
theorem dX8_name_9 : decode cX8_name 9 = .ok (.bipush 110, 2) := dk_16 110 (dk_at dksX8_name_0 9 rfl rfl)
theorem dX8_name_11 : decode cX8_name 11 = .ok (.bipush 103, 2) := dk_16 103 (dk_at dksX8_name_0 11 rfl rfl)
theorem dX8_name_13 : decode cX8_name 13 = .ok (.iconst 0, 1) := dk_3 (dk_at dksX8_name_0 13 rfl rfl)
theorem dX8_name_14 : decode cX8_name 14 = .ok (.iconst 0, 1) := dk_3 (dk_at dksX8_name_0 14 rfl rfl)
theorem dX8_name_15 : decode cX8_name 15 = .ok (.invokevirtual 181, 3) := dk_182 0 181 (dk_at dksX8_name_0 15 rfl rfl)
theorem dX8_name_18 : decode cX8_name 18 = .ok (.ifCond .eq 8, 3) := dk_153 0 8 (dk_at dksX8_name_0 18 rfl rfl)
theorem dX8_name_21 : decode cX8_name 21 = .ok (.aload_n 0, 1) := dk_42 (dk_at dksX8_name_0 21 rfl rfl)
theorem dX8_name_22 : decode cX8_name 22 = .ok (.getfield 185, 3) := dk_180 0 185 (dk_at dksX8_name_1 0 rfl rfl)
theorem dX8_name_25 : decode cX8_name 25 = .ok (.ireturn, 1) := dk_172 (dk_at dksX8_name_1 3 rfl rfl)
theorem dX8_name_26 : decode cX8_name 26 = .ok (.aload_n 0, 1) := dk_42 (dk_at dksX8_name_1 4 rfl rfl)
theorem dX8_name_27 : decode cX8_name 27 = .ok (.bipush 104, 2) := dk_16 104 (dk_at dksX8_name_1 5 rfl rfl)
theorem dX8_name_29 : decode cX8_name 29 = .ok (.bipush 97, 2) := dk_16 97 (dk_at dksX8_name_1 7 rfl rfl)
theorem dX8_name_31 : decode cX8_name 31 = .ok (.bipush 115, 2) := dk_16 115 (dk_at dksX8_name_1 9 rfl rfl)
theorem dX8_name_33 : decode cX8_name 33 = .ok (.iconst 0, 1) := dk_3 (dk_at dksX8_name_1 11 rfl rfl)
theorem dX8_name_34 : decode cX8_name 34 = .ok (.iconst 0, 1) := dk_3 (dk_at dksX8_name_1 12 rfl rfl)
theorem dX8_name_35 : decode cX8_name 35 = .ok (.iconst 0, 1) := dk_3 (dk_at dksX8_name_1 13 rfl rfl)
theorem dX8_name_36 : decode cX8_name 36 = .ok (.iconst 0, 1) := dk_3 (dk_at dksX8_name_1 14 rfl rfl)
theorem dX8_name_37 : decode cX8_name 37 = .ok (.iconst 0, 1) := dk_3 (dk_at dksX8_name_1 15 rfl rfl)
theorem dX8_name_38 : decode cX8_name 38 = .ok (.invokevirtual 181, 3) := dk_182 0 181 (dk_at dksX8_name_1 16 rfl rfl)
theorem dX8_name_41 : decode cX8_name 41 = .ok (.ifCond .eq 8, 3) := dk_153 0 8 (dk_at dksX8_name_1 19 rfl rfl)
theorem dX8_name_44 : decode cX8_name 44 = .ok (.aload_n 0, 1) := dk_42 (dk_at dksX8_name_1 22 rfl rfl)
theorem dX8_name_45 : decode cX8_name 45 = .ok (.getfield 188, 3) := dk_180 0 188 (dk_at dksX8_name_2 0 rfl rfl)
theorem dX8_name_48 : decode cX8_name 48 = .ok (.ireturn, 1) := dk_172 (dk_at dksX8_name_2 3 rfl rfl)
theorem dX8_name_49 : decode cX8_name 49 = .ok (.aload_n 0, 1) := dk_42 (dk_at dksX8_name_2 4 rfl rfl)
theorem dX8_name_50 : decode cX8_name 50 = .ok (.bipush 110, 2) := dk_16 110 (dk_at dksX8_name_2 5 rfl rfl)
theorem dX8_name_52 : decode cX8_name 52 = .ok (.bipush 117, 2) := dk_16 117 (dk_at dksX8_name_2 7 rfl rfl)
theorem dX8_name_54 : decode cX8_name 54 = .ok (.bipush 109, 2) := dk_16 109 (dk_at dksX8_name_2 9 rfl rfl)
theorem dX8_name_56 : decode cX8_name 56 = .ok (.bipush 98, 2) := dk_16 98 (dk_at dksX8_name_2 11 rfl rfl)
theorem dX8_name_58 : decode cX8_name 58 = .ok (.bipush 101, 2) := dk_16 101 (dk_at dksX8_name_2 13 rfl rfl)
theorem dX8_name_60 : decode cX8_name 60 = .ok (.bipush 114, 2) := dk_16 114 (dk_at dksX8_name_2 15 rfl rfl)
theorem dX8_name_62 : decode cX8_name 62 = .ok (.iconst 0, 1) := dk_3 (dk_at dksX8_name_2 17 rfl rfl)
theorem dX8_name_63 : decode cX8_name 63 = .ok (.iconst 0, 1) := dk_3 (dk_at dksX8_name_2 18 rfl rfl)
theorem dX8_name_64 : decode cX8_name 64 = .ok (.invokevirtual 181, 3) := dk_182 0 181 (dk_at dksX8_name_2 19 rfl rfl)
theorem dX8_name_67 : decode cX8_name 67 = .ok (.ifCond .eq 8, 3) := dk_153 0 8 (dk_at dksX8_name_3 0 rfl rfl)
theorem dX8_name_70 : decode cX8_name 70 = .ok (.aload_n 0, 1) := dk_42 (dk_at dksX8_name_3 3 rfl rfl)
theorem dX8_name_71 : decode cX8_name 71 = .ok (.getfield 191, 3) := dk_180 0 191 (dk_at dksX8_name_3 4 rfl rfl)
theorem dX8_name_74 : decode cX8_name 74 = .ok (.ireturn, 1) := dk_172 (dk_at dksX8_name_3 7 rfl rfl)
theorem dX8_name_75 : decode cX8_name 75 = .ok (.aload_n 0, 1) := dk_42 (dk_at dksX8_name_3 8 rfl rfl)
theorem dX8_name_76 : decode cX8_name 76 = .ok (.bipush 116, 2) := dk_16 116 (dk_at dksX8_name_3 9 rfl rfl)
theorem dX8_name_78 : decode cX8_name 78 = .ok (.bipush 104, 2) := dk_16 104 (dk_at dksX8_name_3 11 rfl rfl)
theorem dX8_name_80 : decode cX8_name 80 = .ok (.bipush 101, 2) := dk_16 101 (dk_at dksX8_name_3 13 rfl rfl)
theorem dX8_name_82 : decode cX8_name 82 = .ok (.bipush 105, 2) := dk_16 105 (dk_at dksX8_name_3 15 rfl rfl)
theorem dX8_name_84 : decode cX8_name 84 = .ok (.bipush 114, 2) := dk_16 114 (dk_at dksX8_name_3 17 rfl rfl)
theorem dX8_name_86 : decode cX8_name 86 = .ok (.bipush 115, 2) := dk_16 115 (dk_at dksX8_name_3 19 rfl rfl)
theorem dX8_name_88 : decode cX8_name 88 = .ok (.iconst 0, 1) := dk_3 (dk_at dksX8_name_3 21 rfl rfl)
theorem dX8_name_89 : decode cX8_name 89 = .ok (.iconst 0, 1) := dk_3 (dk_at dksX8_name_3 22 rfl rfl)
theorem dX8_name_90 : decode cX8_name 90 = .ok (.invokevirtual 181, 3) := dk_182 0 181 (dk_at dksX8_name_4 0 rfl rfl)
theorem dX8_name_93 : decode cX8_name 93 = .ok (.ifCond .eq 8, 3) := dk_153 0 8 (dk_at dksX8_name_4 3 rfl rfl)
theorem dX8_name_96 : decode cX8_name 96 = .ok (.aload_n 0, 1) := dk_42 (dk_at dksX8_name_4 6 rfl rfl)
theorem dX8_name_97 : decode cX8_name 97 = .ok (.getfield 194, 3) := dk_180 0 194 (dk_at dksX8_name_4 7 rfl rfl)
theorem dX8_name_100 : decode cX8_name 100 = .ok (.ireturn, 1) := dk_172 (dk_at dksX8_name_4 10 rfl rfl)
theorem dX8_name_101 : decode cX8_name 101 = .ok (.aload_n 0, 1) := dk_42 (dk_at dksX8_name_4 11 rfl rfl)
theorem dX8_name_102 : decode cX8_name 102 = .ok (.bipush 114, 2) := dk_16 114 (dk_at dksX8_name_4 12 rfl rfl)
theorem dX8_name_104 : decode cX8_name 104 = .ok (.bipush 111, 2) := dk_16 111 (dk_at dksX8_name_4 14 rfl rfl)
theorem dX8_name_106 : decode cX8_name 106 = .ok (.bipush 117, 2) := dk_16 117 (dk_at dksX8_name_4 16 rfl rfl)
theorem dX8_name_108 : decode cX8_name 108 = .ok (.bipush 110, 2) := dk_16 110 (dk_at dksX8_name_4 18 rfl rfl)
theorem dX8_name_110 : decode cX8_name 110 = .ok (.bipush 100, 2) := dk_16 100 (dk_at dksX8_name_4 20 rfl rfl)
theorem dX8_name_112 : decode cX8_name 112 = .ok (.iconst 0, 1) := dk_3 (dk_at dksX8_name_4 22 rfl rfl)
theorem dX8_name_113 : decode cX8_name 113 = .ok (.iconst 0, 1) := dk_3 (dk_at dksX8_name_4 23 rfl rfl)
theorem dX8_name_114 : decode cX8_name 114 = .ok (.iconst 0, 1) := dk_3 (dk_at dksX8_name_5 0 rfl rfl)
theorem dX8_name_115 : decode cX8_name 115 = .ok (.invokevirtual 181, 3) := dk_182 0 181 (dk_at dksX8_name_5 1 rfl rfl)
theorem dX8_name_118 : decode cX8_name 118 = .ok (.ifCond .eq 8, 3) := dk_153 0 8 (dk_at dksX8_name_5 4 rfl rfl)
theorem dX8_name_121 : decode cX8_name 121 = .ok (.aload_n 0, 1) := dk_42 (dk_at dksX8_name_5 7 rfl rfl)
theorem dX8_name_122 : decode cX8_name 122 = .ok (.getfield 197, 3) := dk_180 0 197 (dk_at dksX8_name_5 8 rfl rfl)
theorem dX8_name_125 : decode cX8_name 125 = .ok (.ireturn, 1) := dk_172 (dk_at dksX8_name_5 11 rfl rfl)
theorem dX8_name_126 : decode cX8_name 126 = .ok (.aload_n 0, 1) := dk_42 (dk_at dksX8_name_5 12 rfl rfl)
theorem dX8_name_127 : decode cX8_name 127 = .ok (.bipush 115, 2) := dk_16 115 (dk_at dksX8_name_5 13 rfl rfl)
theorem dX8_name_129 : decode cX8_name 129 = .ok (.bipush 116, 2) := dk_16 116 (dk_at dksX8_name_5 15 rfl rfl)
theorem dX8_name_131 : decode cX8_name 131 = .ok (.bipush 97, 2) := dk_16 97 (dk_at dksX8_name_5 17 rfl rfl)
theorem dX8_name_133 : decode cX8_name 133 = .ok (.bipush 107, 2) := dk_16 107 (dk_at dksX8_name_5 19 rfl rfl)
theorem dX8_name_135 : decode cX8_name 135 = .ok (.bipush 101, 2) := dk_16 101 (dk_at dksX8_name_5 21 rfl rfl)
theorem dX8_name_137 : decode cX8_name 137 = .ok (.iconst 0, 1) := dk_3 (dk_at dksX8_name_5 23 rfl rfl)
theorem dX8_name_138 : decode cX8_name 138 = .ok (.iconst 0, 1) := dk_3 (dk_at dksX8_name_6 0 rfl rfl)
theorem dX8_name_139 : decode cX8_name 139 = .ok (.iconst 0, 1) := dk_3 (dk_at dksX8_name_6 1 rfl rfl)
theorem dX8_name_140 : decode cX8_name 140 = .ok (.invokevirtual 181, 3) := dk_182 0 181 (dk_at dksX8_name_6 2 rfl rfl)
theorem dX8_name_143 : decode cX8_name 143 = .ok (.ifCond .eq 8, 3) := dk_153 0 8 (dk_at dksX8_name_6 5 rfl rfl)
theorem dX8_name_146 : decode cX8_name 146 = .ok (.aload_n 0, 1) := dk_42 (dk_at dksX8_name_6 8 rfl rfl)
theorem dX8_name_147 : decode cX8_name 147 = .ok (.getfield 200, 3) := dk_180 0 200 (dk_at dksX8_name_6 9 rfl rfl)
theorem dX8_name_150 : decode cX8_name 150 = .ok (.ireturn, 1) := dk_172 (dk_at dksX8_name_6 12 rfl rfl)
theorem dX8_name_151 : decode cX8_name 151 = .ok (.aload_n 0, 1) := dk_42 (dk_at dksX8_name_6 13 rfl rfl)
theorem dX8_name_152 : decode cX8_name 152 = .ok (.invokevirtual 175, 3) := dk_182 0 175 (dk_at dksX8_name_6 14 rfl rfl)
theorem dX8_name_155 : decode cX8_name 155 = .ok (.iconst 0, 1) := dk_3 (dk_at dksX8_name_6 17 rfl rfl)
theorem dX8_name_156 : decode cX8_name 156 = .ok (.ireturn, 1) := dk_172 (dk_at dksX8_name_6 18 rfl rfl)
abbrev cX8_force : ByteArray := prog_16_method_38_code
def yX8_force : MethodName := ⟨RX8, "force", "(I)I"⟩
def dkwX8_force_1 : List UInt8 := [42, 27, 181, 0, 107, 28, 172]
abbrev dktX8_force_1 : List UInt8 := dkwX8_force_1 ++ []
def dkwX8_force_0 : List UInt8 := [27, 133, 9, 42, 180, 0, 58, 4, 100, 133, 184, 0, 64, 154, 0, 6, 16, 254, 172, 42, 180, 0, 107, 61]
abbrev dktX8_force_0 : List UInt8 := dkwX8_force_0 ++ dktX8_force_1
theorem dksX8_force_0 : cX8_force.data.toList.drop 0 = dktX8_force_0 := by decide +kernel
theorem dksX8_force_1 : cX8_force.data.toList.drop 24 = dktX8_force_1 := dk_seg dksX8_force_0 24 rfl rfl
theorem dX8_force_0 : decode cX8_force 0 = .ok (.iload_n 1, 1) := dk_27 (dk_at dksX8_force_0 0 rfl rfl)
theorem dX8_force_1 : decode cX8_force 1 = .ok (.i2l, 1) := dk_133 (dk_at dksX8_force_0 1 rfl rfl)
theorem dX8_force_2 : decode cX8_force 2 = .ok (.lconst 0, 1) := dk_9 (dk_at dksX8_force_0 2 rfl rfl)
theorem dX8_force_3 : decode cX8_force 3 = .ok (.aload_n 0, 1) := dk_42 (dk_at dksX8_force_0 3 rfl rfl)
theorem dX8_force_4 : decode cX8_force 4 = .ok (.getfield 58, 3) := dk_180 0 58 (dk_at dksX8_force_0 4 rfl rfl)
theorem dX8_force_7 : decode cX8_force 7 = .ok (.iconst 1, 1) := dk_4 (dk_at dksX8_force_0 7 rfl rfl)
theorem dX8_force_8 : decode cX8_force 8 = .ok (.isub, 1) := dk_100 (dk_at dksX8_force_0 8 rfl rfl)
theorem dX8_force_9 : decode cX8_force 9 = .ok (.i2l, 1) := dk_133 (dk_at dksX8_force_0 9 rfl rfl)
theorem dX8_force_10 : decode cX8_force 10 = .ok (.invokestatic 64, 3) := dk_184 0 64 (dk_at dksX8_force_0 10 rfl rfl)
theorem dX8_force_13 : decode cX8_force 13 = .ok (.ifCond .ne 6, 3) := dk_154 0 6 (dk_at dksX8_force_0 13 rfl rfl)
theorem dX8_force_16 : decode cX8_force 16 = .ok (.bipush (-2), 2) := dk_16 254 (dk_at dksX8_force_0 16 rfl rfl)
theorem dX8_force_18 : decode cX8_force 18 = .ok (.ireturn, 1) := dk_172 (dk_at dksX8_force_0 18 rfl rfl)
theorem dX8_force_19 : decode cX8_force 19 = .ok (.aload_n 0, 1) := dk_42 (dk_at dksX8_force_0 19 rfl rfl)
theorem dX8_force_20 : decode cX8_force 20 = .ok (.getfield 107, 3) := dk_180 0 107 (dk_at dksX8_force_0 20 rfl rfl)
theorem dX8_force_23 : decode cX8_force 23 = .ok (.istore_n 2, 1) := dk_61 (dk_at dksX8_force_0 23 rfl rfl)
theorem dX8_force_24 : decode cX8_force 24 = .ok (.aload_n 0, 1) := dk_42 (dk_at dksX8_force_1 0 rfl rfl)
theorem dX8_force_25 : decode cX8_force 25 = .ok (.iload_n 1, 1) := dk_27 (dk_at dksX8_force_1 1 rfl rfl)
theorem dX8_force_26 : decode cX8_force 26 = .ok (.putfield 107, 3) := dk_181 0 107 (dk_at dksX8_force_1 2 rfl rfl)
theorem dX8_force_29 : decode cX8_force 29 = .ok (.iload_n 2, 1) := dk_28 (dk_at dksX8_force_1 5 rfl rfl)
theorem dX8_force_30 : decode cX8_force 30 = .ok (.ireturn, 1) := dk_172 (dk_at dksX8_force_1 6 rfl rfl)
abbrev cX8_asks : ByteArray := prog_16_method_48_code
def yX8_asks : MethodName := ⟨RX8, "asks", "(III)I"⟩
def dkwX8_asks_3 : List UInt8 := [27, 28, 29, 5, 160, 0, 7, 4, 167, 0, 4, 3, 182, 1, 6, 172, 42, 27, 28, 182, 1, 16, 172]
abbrev dktX8_asks_3 : List UInt8 := dkwX8_asks_3 ++ []
def dkwX8_asks_2 : List UInt8 := [182, 1, 0, 172, 29, 8, 162, 0, 34, 29, 7, 160, 0, 12, 42, 27, 28, 182, 1, 3, 167, 0, 19, 42]
abbrev dktX8_asks_2 : List UInt8 := dkwX8_asks_2 ++ dktX8_asks_3
def dkwX8_asks_1 : List UInt8 := [172, 29, 5, 162, 0, 23, 29, 154, 0, 12, 42, 27, 28, 182, 1, 0, 167, 0, 9, 42, 28, 27]
abbrev dktX8_asks_1 : List UInt8 := dkwX8_asks_1 ++ dktX8_asks_2
def dkwX8_asks_0 : List UInt8 := [42, 27, 28, 182, 1, 13, 153, 0, 15, 29, 133, 9, 20, 0, 110, 184, 0, 64, 154, 0, 7, 17, 252, 24]
abbrev dktX8_asks_0 : List UInt8 := dkwX8_asks_0 ++ dktX8_asks_1
theorem dksX8_asks_0 : cX8_asks.data.toList.drop 0 = dktX8_asks_0 := by decide +kernel
theorem dksX8_asks_1 : cX8_asks.data.toList.drop 24 = dktX8_asks_1 := dk_seg dksX8_asks_0 24 rfl rfl
theorem dksX8_asks_2 : cX8_asks.data.toList.drop 46 = dktX8_asks_2 := dk_seg dksX8_asks_1 22 rfl rfl
theorem dksX8_asks_3 : cX8_asks.data.toList.drop 70 = dktX8_asks_3 := dk_seg dksX8_asks_2 24 rfl rfl
theorem dX8_asks_0 : decode cX8_asks 0 = .ok (.aload_n 0, 1) := dk_42 (dk_at dksX8_asks_0 0 rfl rfl)
theorem dX8_asks_1 : decode cX8_asks 1 = .ok (.iload_n 1, 1) := dk_27 (dk_at dksX8_asks_0 1 rfl rfl)
theorem dX8_asks_2 : decode cX8_asks 2 = .ok (.iload_n 2, 1) := dk_28 (dk_at dksX8_asks_0 2 rfl rfl)
theorem dX8_asks_3 : decode cX8_asks 3 = .ok (.invokevirtual 269, 3) := dk_182 1 13 (dk_at dksX8_asks_0 3 rfl rfl)
theorem dX8_asks_6 : decode cX8_asks 6 = .ok (.ifCond .eq 15, 3) := dk_153 0 15 (dk_at dksX8_asks_0 6 rfl rfl)
theorem dX8_asks_9 : decode cX8_asks 9 = .ok (.iload_n 3, 1) := dk_29 (dk_at dksX8_asks_0 9 rfl rfl)
theorem dX8_asks_10 : decode cX8_asks 10 = .ok (.i2l, 1) := dk_133 (dk_at dksX8_asks_0 10 rfl rfl)
theorem dX8_asks_11 : decode cX8_asks 11 = .ok (.lconst 0, 1) := dk_9 (dk_at dksX8_asks_0 11 rfl rfl)
theorem dX8_asks_12 : decode cX8_asks 12 = .ok (.ldc2_w 110, 3) := dk_20 0 110 (dk_at dksX8_asks_0 12 rfl rfl)
theorem dX8_asks_15 : decode cX8_asks 15 = .ok (.invokestatic 64, 3) := dk_184 0 64 (dk_at dksX8_asks_0 15 rfl rfl)
theorem dX8_asks_18 : decode cX8_asks 18 = .ok (.ifCond .ne 7, 3) := dk_154 0 7 (dk_at dksX8_asks_0 18 rfl rfl)
theorem dX8_asks_21 : decode cX8_asks 21 = .ok (.sipush (-1000), 3) := dk_17 252 24 (dk_at dksX8_asks_0 21 rfl rfl)
theorem dX8_asks_24 : decode cX8_asks 24 = .ok (.ireturn, 1) := dk_172 (dk_at dksX8_asks_1 0 rfl rfl)
theorem dX8_asks_25 : decode cX8_asks 25 = .ok (.iload_n 3, 1) := dk_29 (dk_at dksX8_asks_1 1 rfl rfl)
theorem dX8_asks_26 : decode cX8_asks 26 = .ok (.iconst 2, 1) := dk_5 (dk_at dksX8_asks_1 2 rfl rfl)
theorem dX8_asks_27 : decode cX8_asks 27 = .ok (.if_icmp .ge 23, 3) := dk_162 0 23 (dk_at dksX8_asks_1 3 rfl rfl)
theorem dX8_asks_30 : decode cX8_asks 30 = .ok (.iload_n 3, 1) := dk_29 (dk_at dksX8_asks_1 6 rfl rfl)
theorem dX8_asks_31 : decode cX8_asks 31 = .ok (.ifCond .ne 12, 3) := dk_154 0 12 (dk_at dksX8_asks_1 7 rfl rfl)
theorem dX8_asks_34 : decode cX8_asks 34 = .ok (.aload_n 0, 1) := dk_42 (dk_at dksX8_asks_1 10 rfl rfl)
theorem dX8_asks_35 : decode cX8_asks 35 = .ok (.iload_n 1, 1) := dk_27 (dk_at dksX8_asks_1 11 rfl rfl)
theorem dX8_asks_36 : decode cX8_asks 36 = .ok (.iload_n 2, 1) := dk_28 (dk_at dksX8_asks_1 12 rfl rfl)
theorem dX8_asks_37 : decode cX8_asks 37 = .ok (.invokevirtual 256, 3) := dk_182 1 0 (dk_at dksX8_asks_1 13 rfl rfl)
theorem dX8_asks_40 : decode cX8_asks 40 = .ok (.goto 9, 3) := dk_167 0 9 (dk_at dksX8_asks_1 16 rfl rfl)
theorem dX8_asks_43 : decode cX8_asks 43 = .ok (.aload_n 0, 1) := dk_42 (dk_at dksX8_asks_1 19 rfl rfl)
theorem dX8_asks_44 : decode cX8_asks 44 = .ok (.iload_n 2, 1) := dk_28 (dk_at dksX8_asks_1 20 rfl rfl)
theorem dX8_asks_45 : decode cX8_asks 45 = .ok (.iload_n 1, 1) := dk_27 (dk_at dksX8_asks_1 21 rfl rfl)
theorem dX8_asks_46 : decode cX8_asks 46 = .ok (.invokevirtual 256, 3) := dk_182 1 0 (dk_at dksX8_asks_2 0 rfl rfl)
theorem dX8_asks_49 : decode cX8_asks 49 = .ok (.ireturn, 1) := dk_172 (dk_at dksX8_asks_2 3 rfl rfl)
theorem dX8_asks_50 : decode cX8_asks 50 = .ok (.iload_n 3, 1) := dk_29 (dk_at dksX8_asks_2 4 rfl rfl)
theorem dX8_asks_51 : decode cX8_asks 51 = .ok (.iconst 5, 1) := dk_8 (dk_at dksX8_asks_2 5 rfl rfl)
theorem dX8_asks_52 : decode cX8_asks 52 = .ok (.if_icmp .ge 34, 3) := dk_162 0 34 (dk_at dksX8_asks_2 6 rfl rfl)
theorem dX8_asks_55 : decode cX8_asks 55 = .ok (.iload_n 3, 1) := dk_29 (dk_at dksX8_asks_2 9 rfl rfl)
theorem dX8_asks_56 : decode cX8_asks 56 = .ok (.iconst 4, 1) := dk_7 (dk_at dksX8_asks_2 10 rfl rfl)
theorem dX8_asks_57 : decode cX8_asks 57 = .ok (.if_icmp .ne 12, 3) := dk_160 0 12 (dk_at dksX8_asks_2 11 rfl rfl)
theorem dX8_asks_60 : decode cX8_asks 60 = .ok (.aload_n 0, 1) := dk_42 (dk_at dksX8_asks_2 14 rfl rfl)
theorem dX8_asks_61 : decode cX8_asks 61 = .ok (.iload_n 1, 1) := dk_27 (dk_at dksX8_asks_2 15 rfl rfl)
theorem dX8_asks_62 : decode cX8_asks 62 = .ok (.iload_n 2, 1) := dk_28 (dk_at dksX8_asks_2 16 rfl rfl)
theorem dX8_asks_63 : decode cX8_asks 63 = .ok (.invokevirtual 259, 3) := dk_182 1 3 (dk_at dksX8_asks_2 17 rfl rfl)
theorem dX8_asks_66 : decode cX8_asks 66 = .ok (.goto 19, 3) := dk_167 0 19 (dk_at dksX8_asks_2 20 rfl rfl)
theorem dX8_asks_69 : decode cX8_asks 69 = .ok (.aload_n 0, 1) := dk_42 (dk_at dksX8_asks_2 23 rfl rfl)
theorem dX8_asks_70 : decode cX8_asks 70 = .ok (.iload_n 1, 1) := dk_27 (dk_at dksX8_asks_3 0 rfl rfl)
theorem dX8_asks_71 : decode cX8_asks 71 = .ok (.iload_n 2, 1) := dk_28 (dk_at dksX8_asks_3 1 rfl rfl)
theorem dX8_asks_72 : decode cX8_asks 72 = .ok (.iload_n 3, 1) := dk_29 (dk_at dksX8_asks_3 2 rfl rfl)
theorem dX8_asks_73 : decode cX8_asks 73 = .ok (.iconst 2, 1) := dk_5 (dk_at dksX8_asks_3 3 rfl rfl)
theorem dX8_asks_74 : decode cX8_asks 74 = .ok (.if_icmp .ne 7, 3) := dk_160 0 7 (dk_at dksX8_asks_3 4 rfl rfl)
theorem dX8_asks_77 : decode cX8_asks 77 = .ok (.iconst 1, 1) := dk_4 (dk_at dksX8_asks_3 7 rfl rfl)
theorem dX8_asks_78 : decode cX8_asks 78 = .ok (.goto 4, 3) := dk_167 0 4 (dk_at dksX8_asks_3 8 rfl rfl)
theorem dX8_asks_81 : decode cX8_asks 81 = .ok (.iconst 0, 1) := dk_3 (dk_at dksX8_asks_3 11 rfl rfl)
theorem dX8_asks_82 : decode cX8_asks 82 = .ok (.invokevirtual 262, 3) := dk_182 1 6 (dk_at dksX8_asks_3 12 rfl rfl)
theorem dX8_asks_85 : decode cX8_asks 85 = .ok (.ireturn, 1) := dk_172 (dk_at dksX8_asks_3 15 rfl rfl)
theorem dX8_asks_86 : decode cX8_asks 86 = .ok (.aload_n 0, 1) := dk_42 (dk_at dksX8_asks_3 16 rfl rfl)
theorem dX8_asks_87 : decode cX8_asks 87 = .ok (.iload_n 1, 1) := dk_27 (dk_at dksX8_asks_3 17 rfl rfl)
theorem dX8_asks_88 : decode cX8_asks 88 = .ok (.iload_n 2, 1) := dk_28 (dk_at dksX8_asks_3 18 rfl rfl)
theorem dX8_asks_89 : decode cX8_asks 89 = .ok (.invokevirtual 272, 3) := dk_182 1 16 (dk_at dksX8_asks_3 19 rfl rfl)
theorem dX8_asks_92 : decode cX8_asks 92 = .ok (.ireturn, 1) := dk_172 (dk_at dksX8_asks_3 22 rfl rfl)
abbrev cX8_areTwo : ByteArray := prog_16_method_7_code
def yX8_areTwo : MethodName := ⟨RX8, "areTwo", "(II)Z"⟩
def dkwX8_areTwo_1 : List UInt8 := [167, 0, 4, 3, 172]
abbrev dktX8_areTwo_1 : List UInt8 := dkwX8_areTwo_1 ++ []
def dkwX8_areTwo_0 : List UInt8 := [42, 27, 182, 0, 68, 153, 0, 20, 42, 28, 182, 0, 68, 153, 0, 12, 27, 28, 159, 0, 7, 4]
abbrev dktX8_areTwo_0 : List UInt8 := dkwX8_areTwo_0 ++ dktX8_areTwo_1
theorem dksX8_areTwo_0 : cX8_areTwo.data.toList.drop 0 = dktX8_areTwo_0 := by decide +kernel
theorem dksX8_areTwo_1 : cX8_areTwo.data.toList.drop 22 = dktX8_areTwo_1 := dk_seg dksX8_areTwo_0 22 rfl rfl
theorem dX8_areTwo_0 : decode cX8_areTwo 0 = .ok (.aload_n 0, 1) := dk_42 (dk_at dksX8_areTwo_0 0 rfl rfl)
theorem dX8_areTwo_1 : decode cX8_areTwo 1 = .ok (.iload_n 1, 1) := dk_27 (dk_at dksX8_areTwo_0 1 rfl rfl)
theorem dX8_areTwo_2 : decode cX8_areTwo 2 = .ok (.invokevirtual 68, 3) := dk_182 0 68 (dk_at dksX8_areTwo_0 2 rfl rfl)
theorem dX8_areTwo_5 : decode cX8_areTwo 5 = .ok (.ifCond .eq 20, 3) := dk_153 0 20 (dk_at dksX8_areTwo_0 5 rfl rfl)
theorem dX8_areTwo_8 : decode cX8_areTwo 8 = .ok (.aload_n 0, 1) := dk_42 (dk_at dksX8_areTwo_0 8 rfl rfl)
theorem dX8_areTwo_9 : decode cX8_areTwo 9 = .ok (.iload_n 2, 1) := dk_28 (dk_at dksX8_areTwo_0 9 rfl rfl)
theorem dX8_areTwo_10 : decode cX8_areTwo 10 = .ok (.invokevirtual 68, 3) := dk_182 0 68 (dk_at dksX8_areTwo_0 10 rfl rfl)
theorem dX8_areTwo_13 : decode cX8_areTwo 13 = .ok (.ifCond .eq 12, 3) := dk_153 0 12 (dk_at dksX8_areTwo_0 13 rfl rfl)
theorem dX8_areTwo_16 : decode cX8_areTwo 16 = .ok (.iload_n 1, 1) := dk_27 (dk_at dksX8_areTwo_0 16 rfl rfl)
theorem dX8_areTwo_17 : decode cX8_areTwo 17 = .ok (.iload_n 2, 1) := dk_28 (dk_at dksX8_areTwo_0 17 rfl rfl)
theorem dX8_areTwo_18 : decode cX8_areTwo 18 = .ok (.if_icmp .eq 7, 3) := dk_159 0 7 (dk_at dksX8_areTwo_0 18 rfl rfl)
theorem dX8_areTwo_21 : decode cX8_areTwo 21 = .ok (.iconst 1, 1) := dk_4 (dk_at dksX8_areTwo_0 21 rfl rfl)
theorem dX8_areTwo_22 : decode cX8_areTwo 22 = .ok (.goto 4, 3) := dk_167 0 4 (dk_at dksX8_areTwo_1 0 rfl rfl)
theorem dX8_areTwo_25 : decode cX8_areTwo 25 = .ok (.iconst 0, 1) := dk_3 (dk_at dksX8_areTwo_1 3 rfl rfl)
theorem dX8_areTwo_26 : decode cX8_areTwo 26 = .ok (.ireturn, 1) := dk_172 (dk_at dksX8_areTwo_1 4 rfl rfl)
abbrev cX8_powerOf : ByteArray := prog_16_method_42_code
def yX8_powerOf : MethodName := ⟨RX8, "powerOf", "(II)I"⟩
def dkwX8_powerOf_0 : List UInt8 := [42, 27, 28, 182, 0, 250, 153, 0, 7, 2, 167, 0, 9, 42, 27, 28, 182, 0, 253, 172]
abbrev dktX8_powerOf_0 : List UInt8 := dkwX8_powerOf_0 ++ []
theorem dksX8_powerOf_0 : cX8_powerOf.data.toList.drop 0 = dktX8_powerOf_0 := by decide +kernel
theorem dX8_powerOf_0 : decode cX8_powerOf 0 = .ok (.aload_n 0, 1) := dk_42 (dk_at dksX8_powerOf_0 0 rfl rfl)
theorem dX8_powerOf_1 : decode cX8_powerOf 1 = .ok (.iload_n 1, 1) := dk_27 (dk_at dksX8_powerOf_0 1 rfl rfl)
theorem dX8_powerOf_2 : decode cX8_powerOf 2 = .ok (.iload_n 2, 1) := dk_28 (dk_at dksX8_powerOf_0 2 rfl rfl)
theorem dX8_powerOf_3 : decode cX8_powerOf 3 = .ok (.invokevirtual 250, 3) := dk_182 0 250 (dk_at dksX8_powerOf_0 3 rfl rfl)
theorem dX8_powerOf_6 : decode cX8_powerOf 6 = .ok (.ifCond .eq 7, 3) := dk_153 0 7 (dk_at dksX8_powerOf_0 6 rfl rfl)
theorem dX8_powerOf_9 : decode cX8_powerOf 9 = .ok (.iconst (-1), 1) := dk_2 (dk_at dksX8_powerOf_0 9 rfl rfl)
theorem dX8_powerOf_10 : decode cX8_powerOf 10 = .ok (.goto 9, 3) := dk_167 0 9 (dk_at dksX8_powerOf_0 10 rfl rfl)
theorem dX8_powerOf_13 : decode cX8_powerOf 13 = .ok (.aload_n 0, 1) := dk_42 (dk_at dksX8_powerOf_0 13 rfl rfl)
theorem dX8_powerOf_14 : decode cX8_powerOf 14 = .ok (.iload_n 1, 1) := dk_27 (dk_at dksX8_powerOf_0 14 rfl rfl)
theorem dX8_powerOf_15 : decode cX8_powerOf 15 = .ok (.iload_n 2, 1) := dk_28 (dk_at dksX8_powerOf_0 15 rfl rfl)
theorem dX8_powerOf_16 : decode cX8_powerOf 16 = .ok (.invokevirtual 253, 3) := dk_182 0 253 (dk_at dksX8_powerOf_0 16 rfl rfl)
theorem dX8_powerOf_19 : decode cX8_powerOf 19 = .ok (.ireturn, 1) := dk_172 (dk_at dksX8_powerOf_0 19 rfl rfl)
abbrev cX8_throwsIt : ByteArray := prog_16_method_40_code
def yX8_throwsIt : MethodName := ⟨RX8, "throwsIt", "(II)Z"⟩
def dkwX8_throwsIt_4 : List UInt8 := [21, 4, 172]
abbrev dktX8_throwsIt_4 : List UInt8 := dkwX8_throwsIt_4 ++ []
def dkwX8_throwsIt_3 : List UInt8 := [160, 0, 24, 21, 5, 154, 0, 11, 42, 28, 182, 0, 112, 153, 0, 7, 4, 167, 0, 9, 3, 167, 0, 5]
abbrev dktX8_throwsIt_3 : List UInt8 := dkwX8_throwsIt_3 ++ dktX8_throwsIt_4
def dkwX8_throwsIt_2 : List UInt8 := [162, 0, 7, 4, 167, 0, 4, 3, 54, 5, 29, 4, 160, 0, 8, 21, 5, 167, 0, 31, 29, 6]
abbrev dktX8_throwsIt_2 : List UInt8 := dkwX8_throwsIt_2 ++ dktX8_throwsIt_3
def dkwX8_throwsIt_1 : List UInt8 := [182, 0, 247, 153, 0, 7, 4, 167, 0, 4, 3, 54, 4, 21, 4, 153, 0, 16, 42, 27, 182, 0, 122, 7]
abbrev dktX8_throwsIt_1 : List UInt8 := dkwX8_throwsIt_1 ++ dktX8_throwsIt_2
def dkwX8_throwsIt_0 : List UInt8 := [42, 180, 0, 26, 27, 46, 62, 29, 5, 159, 0, 8, 29, 7, 160, 0, 5, 3, 172, 42, 4, 27, 28]
abbrev dktX8_throwsIt_0 : List UInt8 := dkwX8_throwsIt_0 ++ dktX8_throwsIt_1
theorem dksX8_throwsIt_0 : cX8_throwsIt.data.toList.drop 0 = dktX8_throwsIt_0 := by decide +kernel
theorem dksX8_throwsIt_1 : cX8_throwsIt.data.toList.drop 23 = dktX8_throwsIt_1 := dk_seg dksX8_throwsIt_0 23 rfl rfl
theorem dksX8_throwsIt_2 : cX8_throwsIt.data.toList.drop 47 = dktX8_throwsIt_2 := dk_seg dksX8_throwsIt_1 24 rfl rfl
theorem dksX8_throwsIt_3 : cX8_throwsIt.data.toList.drop 69 = dktX8_throwsIt_3 := dk_seg dksX8_throwsIt_2 22 rfl rfl
theorem dksX8_throwsIt_4 : cX8_throwsIt.data.toList.drop 93 = dktX8_throwsIt_4 := dk_seg dksX8_throwsIt_3 24 rfl rfl
theorem dX8_throwsIt_0 : decode cX8_throwsIt 0 = .ok (.aload_n 0, 1) := dk_42 (dk_at dksX8_throwsIt_0 0 rfl rfl)
theorem dX8_throwsIt_1 : decode cX8_throwsIt 1 = .ok (.getfield 26, 3) := dk_180 0 26 (dk_at dksX8_throwsIt_0 1 rfl rfl)
theorem dX8_throwsIt_4 : decode cX8_throwsIt 4 = .ok (.iload_n 1, 1) := dk_27 (dk_at dksX8_throwsIt_0 4 rfl rfl)
theorem dX8_throwsIt_5 : decode cX8_throwsIt 5 = .ok (.iaload, 1) := dk_46 (dk_at dksX8_throwsIt_0 5 rfl rfl)
theorem dX8_throwsIt_6 : decode cX8_throwsIt 6 = .ok (.istore_n 3, 1) := dk_62 (dk_at dksX8_throwsIt_0 6 rfl rfl)
theorem dX8_throwsIt_7 : decode cX8_throwsIt 7 = .ok (.iload_n 3, 1) := dk_29 (dk_at dksX8_throwsIt_0 7 rfl rfl)
theorem dX8_throwsIt_8 : decode cX8_throwsIt 8 = .ok (.iconst 2, 1) := dk_5 (dk_at dksX8_throwsIt_0 8 rfl rfl)
theorem dX8_throwsIt_9 : decode cX8_throwsIt 9 = .ok (.if_icmp .eq 8, 3) := dk_159 0 8 (dk_at dksX8_throwsIt_0 9 rfl rfl)
theorem dX8_throwsIt_12 : decode cX8_throwsIt 12 = .ok (.iload_n 3, 1) := dk_29 (dk_at dksX8_throwsIt_0 12 rfl rfl)
theorem dX8_throwsIt_13 : decode cX8_throwsIt 13 = .ok (.iconst 4, 1) := dk_7 (dk_at dksX8_throwsIt_0 13 rfl rfl)
theorem dX8_throwsIt_14 : decode cX8_throwsIt 14 = .ok (.if_icmp .ne 5, 3) := dk_160 0 5 (dk_at dksX8_throwsIt_0 14 rfl rfl)
theorem dX8_throwsIt_17 : decode cX8_throwsIt 17 = .ok (.iconst 0, 1) := dk_3 (dk_at dksX8_throwsIt_0 17 rfl rfl)
theorem dX8_throwsIt_18 : decode cX8_throwsIt 18 = .ok (.ireturn, 1) := dk_172 (dk_at dksX8_throwsIt_0 18 rfl rfl)
theorem dX8_throwsIt_19 : decode cX8_throwsIt 19 = .ok (.aload_n 0, 1) := dk_42 (dk_at dksX8_throwsIt_0 19 rfl rfl)
theorem dX8_throwsIt_20 : decode cX8_throwsIt 20 = .ok (.iconst 1, 1) := dk_4 (dk_at dksX8_throwsIt_0 20 rfl rfl)
theorem dX8_throwsIt_21 : decode cX8_throwsIt 21 = .ok (.iload_n 1, 1) := dk_27 (dk_at dksX8_throwsIt_0 21 rfl rfl)
theorem dX8_throwsIt_22 : decode cX8_throwsIt 22 = .ok (.iload_n 2, 1) := dk_28 (dk_at dksX8_throwsIt_0 22 rfl rfl)
theorem dX8_throwsIt_23 : decode cX8_throwsIt 23 = .ok (.invokevirtual 247, 3) := dk_182 0 247 (dk_at dksX8_throwsIt_1 0 rfl rfl)
theorem dX8_throwsIt_26 : decode cX8_throwsIt 26 = .ok (.ifCond .eq 7, 3) := dk_153 0 7 (dk_at dksX8_throwsIt_1 3 rfl rfl)
theorem dX8_throwsIt_29 : decode cX8_throwsIt 29 = .ok (.iconst 1, 1) := dk_4 (dk_at dksX8_throwsIt_1 6 rfl rfl)
theorem dX8_throwsIt_30 : decode cX8_throwsIt 30 = .ok (.goto 4, 3) := dk_167 0 4 (dk_at dksX8_throwsIt_1 7 rfl rfl)
theorem dX8_throwsIt_33 : decode cX8_throwsIt 33 = .ok (.iconst 0, 1) := dk_3 (dk_at dksX8_throwsIt_1 10 rfl rfl)
theorem dX8_throwsIt_34 : decode cX8_throwsIt 34 = .ok (.istore 4, 2) := dk_54 4 (dk_at dksX8_throwsIt_1 11 rfl rfl)
theorem dX8_throwsIt_36 : decode cX8_throwsIt 36 = .ok (.iload 4, 2) := dk_21 4 (dk_at dksX8_throwsIt_1 13 rfl rfl)
theorem dX8_throwsIt_38 : decode cX8_throwsIt 38 = .ok (.ifCond .eq 16, 3) := dk_153 0 16 (dk_at dksX8_throwsIt_1 15 rfl rfl)
theorem dX8_throwsIt_41 : decode cX8_throwsIt 41 = .ok (.aload_n 0, 1) := dk_42 (dk_at dksX8_throwsIt_1 18 rfl rfl)
theorem dX8_throwsIt_42 : decode cX8_throwsIt 42 = .ok (.iload_n 1, 1) := dk_27 (dk_at dksX8_throwsIt_1 19 rfl rfl)
theorem dX8_throwsIt_43 : decode cX8_throwsIt 43 = .ok (.invokevirtual 122, 3) := dk_182 0 122 (dk_at dksX8_throwsIt_1 20 rfl rfl)
theorem dX8_throwsIt_46 : decode cX8_throwsIt 46 = .ok (.iconst 4, 1) := dk_7 (dk_at dksX8_throwsIt_1 23 rfl rfl)
theorem dX8_throwsIt_47 : decode cX8_throwsIt 47 = .ok (.if_icmp .ge 7, 3) := dk_162 0 7 (dk_at dksX8_throwsIt_2 0 rfl rfl)
theorem dX8_throwsIt_50 : decode cX8_throwsIt 50 = .ok (.iconst 1, 1) := dk_4 (dk_at dksX8_throwsIt_2 3 rfl rfl)
theorem dX8_throwsIt_51 : decode cX8_throwsIt 51 = .ok (.goto 4, 3) := dk_167 0 4 (dk_at dksX8_throwsIt_2 4 rfl rfl)
theorem dX8_throwsIt_54 : decode cX8_throwsIt 54 = .ok (.iconst 0, 1) := dk_3 (dk_at dksX8_throwsIt_2 7 rfl rfl)
theorem dX8_throwsIt_55 : decode cX8_throwsIt 55 = .ok (.istore 5, 2) := dk_54 5 (dk_at dksX8_throwsIt_2 8 rfl rfl)
theorem dX8_throwsIt_57 : decode cX8_throwsIt 57 = .ok (.iload_n 3, 1) := dk_29 (dk_at dksX8_throwsIt_2 10 rfl rfl)
theorem dX8_throwsIt_58 : decode cX8_throwsIt 58 = .ok (.iconst 1, 1) := dk_4 (dk_at dksX8_throwsIt_2 11 rfl rfl)
theorem dX8_throwsIt_59 : decode cX8_throwsIt 59 = .ok (.if_icmp .ne 8, 3) := dk_160 0 8 (dk_at dksX8_throwsIt_2 12 rfl rfl)
theorem dX8_throwsIt_62 : decode cX8_throwsIt 62 = .ok (.iload 5, 2) := dk_21 5 (dk_at dksX8_throwsIt_2 15 rfl rfl)
theorem dX8_throwsIt_64 : decode cX8_throwsIt 64 = .ok (.goto 31, 3) := dk_167 0 31 (dk_at dksX8_throwsIt_2 17 rfl rfl)
theorem dX8_throwsIt_67 : decode cX8_throwsIt 67 = .ok (.iload_n 3, 1) := dk_29 (dk_at dksX8_throwsIt_2 20 rfl rfl)
theorem dX8_throwsIt_68 : decode cX8_throwsIt 68 = .ok (.iconst 3, 1) := dk_6 (dk_at dksX8_throwsIt_2 21 rfl rfl)
theorem dX8_throwsIt_69 : decode cX8_throwsIt 69 = .ok (.if_icmp .ne 24, 3) := dk_160 0 24 (dk_at dksX8_throwsIt_3 0 rfl rfl)
theorem dX8_throwsIt_72 : decode cX8_throwsIt 72 = .ok (.iload 5, 2) := dk_21 5 (dk_at dksX8_throwsIt_3 3 rfl rfl)
theorem dX8_throwsIt_74 : decode cX8_throwsIt 74 = .ok (.ifCond .ne 11, 3) := dk_154 0 11 (dk_at dksX8_throwsIt_3 5 rfl rfl)
theorem dX8_throwsIt_77 : decode cX8_throwsIt 77 = .ok (.aload_n 0, 1) := dk_42 (dk_at dksX8_throwsIt_3 8 rfl rfl)
theorem dX8_throwsIt_78 : decode cX8_throwsIt 78 = .ok (.iload_n 2, 1) := dk_28 (dk_at dksX8_throwsIt_3 9 rfl rfl)
theorem dX8_throwsIt_79 : decode cX8_throwsIt 79 = .ok (.invokevirtual 112, 3) := dk_182 0 112 (dk_at dksX8_throwsIt_3 10 rfl rfl)
theorem dX8_throwsIt_82 : decode cX8_throwsIt 82 = .ok (.ifCond .eq 7, 3) := dk_153 0 7 (dk_at dksX8_throwsIt_3 13 rfl rfl)
theorem dX8_throwsIt_85 : decode cX8_throwsIt 85 = .ok (.iconst 1, 1) := dk_4 (dk_at dksX8_throwsIt_3 16 rfl rfl)
theorem dX8_throwsIt_86 : decode cX8_throwsIt 86 = .ok (.goto 9, 3) := dk_167 0 9 (dk_at dksX8_throwsIt_3 17 rfl rfl)
theorem dX8_throwsIt_89 : decode cX8_throwsIt 89 = .ok (.iconst 0, 1) := dk_3 (dk_at dksX8_throwsIt_3 20 rfl rfl)
theorem dX8_throwsIt_90 : decode cX8_throwsIt 90 = .ok (.goto 5, 3) := dk_167 0 5 (dk_at dksX8_throwsIt_3 21 rfl rfl)
theorem dX8_throwsIt_93 : decode cX8_throwsIt 93 = .ok (.iload 4, 2) := dk_21 4 (dk_at dksX8_throwsIt_4 0 rfl rfl)
theorem dX8_throwsIt_95 : decode cX8_throwsIt 95 = .ok (.ireturn, 1) := dk_172 (dk_at dksX8_throwsIt_4 2 rfl rfl)
abbrev cX8_says : ByteArray := prog_16_method_39_code
def yX8_says : MethodName := ⟨RX8, "says", "(III)I"⟩
def dkwX8_says_5 : List UInt8 := [21, 4, 172]
abbrev dktX8_says_5 : List UInt8 := dkwX8_says_5 ++ []
def dkwX8_says_4 : List UInt8 := [184, 0, 243, 167, 0, 22, 27, 5, 160, 0, 15, 21, 4, 16, 247, 16, 9, 184, 0, 243, 167, 0, 5]
abbrev dktX8_says_4 : List UInt8 := dkwX8_says_4 ++ dktX8_says_5
def dkwX8_says_3 : List UInt8 := [96, 181, 0, 200, 42, 42, 180, 0, 107, 27, 182, 0, 240, 54, 4, 27, 154, 0, 14, 21, 4, 3, 16, 99]
abbrev dktX8_says_3 : List UInt8 := dkwX8_says_3 ++ dktX8_says_4
def dkwX8_says_2 : List UInt8 := [181, 0, 194, 42, 42, 180, 0, 100, 181, 0, 197, 42, 42, 180, 0, 23, 184, 0, 116, 42, 29, 182, 0, 122]
abbrev dktX8_says_2 : List UInt8 := dkwX8_says_2 ++ dktX8_says_3
def dkwX8_says_1 : List UInt8 := [42, 180, 0, 29, 7, 28, 104, 46, 181, 0, 191, 42, 42, 180, 0, 29, 7, 29, 104, 4, 96, 46]
abbrev dktX8_says_1 : List UInt8 := dkwX8_says_1 ++ dktX8_says_2
def dkwX8_says_0 : List UInt8 := [42, 42, 180, 0, 29, 7, 28, 104, 4, 96, 46, 181, 0, 185, 42, 42, 28, 182, 0, 122, 181, 0, 188, 42]
abbrev dktX8_says_0 : List UInt8 := dkwX8_says_0 ++ dktX8_says_1
theorem dksX8_says_0 : cX8_says.data.toList.drop 0 = dktX8_says_0 := by decide +kernel
theorem dksX8_says_1 : cX8_says.data.toList.drop 24 = dktX8_says_1 := dk_seg dksX8_says_0 24 rfl rfl
theorem dksX8_says_2 : cX8_says.data.toList.drop 46 = dktX8_says_2 := dk_seg dksX8_says_1 22 rfl rfl
theorem dksX8_says_3 : cX8_says.data.toList.drop 70 = dktX8_says_3 := dk_seg dksX8_says_2 24 rfl rfl
theorem dksX8_says_4 : cX8_says.data.toList.drop 94 = dktX8_says_4 := dk_seg dksX8_says_3 24 rfl rfl
theorem dksX8_says_5 : cX8_says.data.toList.drop 117 = dktX8_says_5 := dk_seg dksX8_says_4 23 rfl rfl
theorem dX8_says_0 : decode cX8_says 0 = .ok (.aload_n 0, 1) := dk_42 (dk_at dksX8_says_0 0 rfl rfl)
theorem dX8_says_1 : decode cX8_says 1 = .ok (.aload_n 0, 1) := dk_42 (dk_at dksX8_says_0 1 rfl rfl)
theorem dX8_says_2 : decode cX8_says 2 = .ok (.getfield 29, 3) := dk_180 0 29 (dk_at dksX8_says_0 2 rfl rfl)
theorem dX8_says_5 : decode cX8_says 5 = .ok (.iconst 4, 1) := dk_7 (dk_at dksX8_says_0 5 rfl rfl)
theorem dX8_says_6 : decode cX8_says 6 = .ok (.iload_n 2, 1) := dk_28 (dk_at dksX8_says_0 6 rfl rfl)
theorem dX8_says_7 : decode cX8_says 7 = .ok (.imul, 1) := dk_104 (dk_at dksX8_says_0 7 rfl rfl)
theorem dX8_says_8 : decode cX8_says 8 = .ok (.iconst 1, 1) := dk_4 (dk_at dksX8_says_0 8 rfl rfl)
theorem dX8_says_9 : decode cX8_says 9 = .ok (.iadd, 1) := dk_96 (dk_at dksX8_says_0 9 rfl rfl)
theorem dX8_says_10 : decode cX8_says 10 = .ok (.iaload, 1) := dk_46 (dk_at dksX8_says_0 10 rfl rfl)
theorem dX8_says_11 : decode cX8_says 11 = .ok (.putfield 185, 3) := dk_181 0 185 (dk_at dksX8_says_0 11 rfl rfl)
theorem dX8_says_14 : decode cX8_says 14 = .ok (.aload_n 0, 1) := dk_42 (dk_at dksX8_says_0 14 rfl rfl)
theorem dX8_says_15 : decode cX8_says 15 = .ok (.aload_n 0, 1) := dk_42 (dk_at dksX8_says_0 15 rfl rfl)
theorem dX8_says_16 : decode cX8_says 16 = .ok (.iload_n 2, 1) := dk_28 (dk_at dksX8_says_0 16 rfl rfl)
theorem dX8_says_17 : decode cX8_says 17 = .ok (.invokevirtual 122, 3) := dk_182 0 122 (dk_at dksX8_says_0 17 rfl rfl)
theorem dX8_says_20 : decode cX8_says 20 = .ok (.putfield 188, 3) := dk_181 0 188 (dk_at dksX8_says_0 20 rfl rfl)
theorem dX8_says_23 : decode cX8_says 23 = .ok (.aload_n 0, 1) := dk_42 (dk_at dksX8_says_0 23 rfl rfl)
theorem dX8_says_24 : decode cX8_says 24 = .ok (.aload_n 0, 1) := dk_42 (dk_at dksX8_says_1 0 rfl rfl)
theorem dX8_says_25 : decode cX8_says 25 = .ok (.getfield 29, 3) := dk_180 0 29 (dk_at dksX8_says_1 1 rfl rfl)
theorem dX8_says_28 : decode cX8_says 28 = .ok (.iconst 4, 1) := dk_7 (dk_at dksX8_says_1 4 rfl rfl)
theorem dX8_says_29 : decode cX8_says 29 = .ok (.iload_n 2, 1) := dk_28 (dk_at dksX8_says_1 5 rfl rfl)
theorem dX8_says_30 : decode cX8_says 30 = .ok (.imul, 1) := dk_104 (dk_at dksX8_says_1 6 rfl rfl)
theorem dX8_says_31 : decode cX8_says 31 = .ok (.iaload, 1) := dk_46 (dk_at dksX8_says_1 7 rfl rfl)
theorem dX8_says_32 : decode cX8_says 32 = .ok (.putfield 191, 3) := dk_181 0 191 (dk_at dksX8_says_1 8 rfl rfl)
theorem dX8_says_35 : decode cX8_says 35 = .ok (.aload_n 0, 1) := dk_42 (dk_at dksX8_says_1 11 rfl rfl)
theorem dX8_says_36 : decode cX8_says 36 = .ok (.aload_n 0, 1) := dk_42 (dk_at dksX8_says_1 12 rfl rfl)
theorem dX8_says_37 : decode cX8_says 37 = .ok (.getfield 29, 3) := dk_180 0 29 (dk_at dksX8_says_1 13 rfl rfl)
theorem dX8_says_40 : decode cX8_says 40 = .ok (.iconst 4, 1) := dk_7 (dk_at dksX8_says_1 16 rfl rfl)
theorem dX8_says_41 : decode cX8_says 41 = .ok (.iload_n 3, 1) := dk_29 (dk_at dksX8_says_1 17 rfl rfl)
theorem dX8_says_42 : decode cX8_says 42 = .ok (.imul, 1) := dk_104 (dk_at dksX8_says_1 18 rfl rfl)
theorem dX8_says_43 : decode cX8_says 43 = .ok (.iconst 1, 1) := dk_4 (dk_at dksX8_says_1 19 rfl rfl)
theorem dX8_says_44 : decode cX8_says 44 = .ok (.iadd, 1) := dk_96 (dk_at dksX8_says_1 20 rfl rfl)
theorem dX8_says_45 : decode cX8_says 45 = .ok (.iaload, 1) := dk_46 (dk_at dksX8_says_1 21 rfl rfl)
theorem dX8_says_46 : decode cX8_says 46 = .ok (.putfield 194, 3) := dk_181 0 194 (dk_at dksX8_says_2 0 rfl rfl)
theorem dX8_says_49 : decode cX8_says 49 = .ok (.aload_n 0, 1) := dk_42 (dk_at dksX8_says_2 3 rfl rfl)
theorem dX8_says_50 : decode cX8_says 50 = .ok (.aload_n 0, 1) := dk_42 (dk_at dksX8_says_2 4 rfl rfl)
theorem dX8_says_51 : decode cX8_says 51 = .ok (.getfield 100, 3) := dk_180 0 100 (dk_at dksX8_says_2 5 rfl rfl)
theorem dX8_says_54 : decode cX8_says 54 = .ok (.putfield 197, 3) := dk_181 0 197 (dk_at dksX8_says_2 8 rfl rfl)
theorem dX8_says_57 : decode cX8_says 57 = .ok (.aload_n 0, 1) := dk_42 (dk_at dksX8_says_2 11 rfl rfl)
theorem dX8_says_58 : decode cX8_says 58 = .ok (.aload_n 0, 1) := dk_42 (dk_at dksX8_says_2 12 rfl rfl)
theorem dX8_says_59 : decode cX8_says 59 = .ok (.getfield 23, 3) := dk_180 0 23 (dk_at dksX8_says_2 13 rfl rfl)
theorem dX8_says_62 : decode cX8_says 62 = .ok (.invokestatic 116, 3) := dk_184 0 116 (dk_at dksX8_says_2 16 rfl rfl)
theorem dX8_says_65 : decode cX8_says 65 = .ok (.aload_n 0, 1) := dk_42 (dk_at dksX8_says_2 19 rfl rfl)
theorem dX8_says_66 : decode cX8_says 66 = .ok (.iload_n 3, 1) := dk_29 (dk_at dksX8_says_2 20 rfl rfl)
theorem dX8_says_67 : decode cX8_says 67 = .ok (.invokevirtual 122, 3) := dk_182 0 122 (dk_at dksX8_says_2 21 rfl rfl)
theorem dX8_says_70 : decode cX8_says 70 = .ok (.iadd, 1) := dk_96 (dk_at dksX8_says_3 0 rfl rfl)
theorem dX8_says_71 : decode cX8_says 71 = .ok (.putfield 200, 3) := dk_181 0 200 (dk_at dksX8_says_3 1 rfl rfl)
theorem dX8_says_74 : decode cX8_says 74 = .ok (.aload_n 0, 1) := dk_42 (dk_at dksX8_says_3 4 rfl rfl)
theorem dX8_says_75 : decode cX8_says 75 = .ok (.aload_n 0, 1) := dk_42 (dk_at dksX8_says_3 5 rfl rfl)
theorem dX8_says_76 : decode cX8_says 76 = .ok (.getfield 107, 3) := dk_180 0 107 (dk_at dksX8_says_3 6 rfl rfl)
theorem dX8_says_79 : decode cX8_says 79 = .ok (.iload_n 1, 1) := dk_27 (dk_at dksX8_says_3 9 rfl rfl)
theorem dX8_says_80 : decode cX8_says 80 = .ok (.invokevirtual 240, 3) := dk_182 0 240 (dk_at dksX8_says_3 10 rfl rfl)
theorem dX8_says_83 : decode cX8_says 83 = .ok (.istore 4, 2) := dk_54 4 (dk_at dksX8_says_3 13 rfl rfl)
theorem dX8_says_85 : decode cX8_says 85 = .ok (.iload_n 1, 1) := dk_27 (dk_at dksX8_says_3 15 rfl rfl)
theorem dX8_says_86 : decode cX8_says 86 = .ok (.ifCond .ne 14, 3) := dk_154 0 14 (dk_at dksX8_says_3 16 rfl rfl)
theorem dX8_says_89 : decode cX8_says 89 = .ok (.iload 4, 2) := dk_21 4 (dk_at dksX8_says_3 19 rfl rfl)
theorem dX8_says_91 : decode cX8_says 91 = .ok (.iconst 0, 1) := dk_3 (dk_at dksX8_says_3 21 rfl rfl)
theorem dX8_says_92 : decode cX8_says 92 = .ok (.bipush 99, 2) := dk_16 99 (dk_at dksX8_says_3 22 rfl rfl)
theorem dX8_says_94 : decode cX8_says 94 = .ok (.invokestatic 243, 3) := dk_184 0 243 (dk_at dksX8_says_4 0 rfl rfl)
theorem dX8_says_97 : decode cX8_says 97 = .ok (.goto 22, 3) := dk_167 0 22 (dk_at dksX8_says_4 3 rfl rfl)
theorem dX8_says_100 : decode cX8_says 100 = .ok (.iload_n 1, 1) := dk_27 (dk_at dksX8_says_4 6 rfl rfl)
theorem dX8_says_101 : decode cX8_says 101 = .ok (.iconst 2, 1) := dk_5 (dk_at dksX8_says_4 7 rfl rfl)
theorem dX8_says_102 : decode cX8_says 102 = .ok (.if_icmp .ne 15, 3) := dk_160 0 15 (dk_at dksX8_says_4 8 rfl rfl)
theorem dX8_says_105 : decode cX8_says 105 = .ok (.iload 4, 2) := dk_21 4 (dk_at dksX8_says_4 11 rfl rfl)
theorem dX8_says_107 : decode cX8_says 107 = .ok (.bipush (-9), 2) := dk_16 247 (dk_at dksX8_says_4 13 rfl rfl)
theorem dX8_says_109 : decode cX8_says 109 = .ok (.bipush 9, 2) := dk_16 9 (dk_at dksX8_says_4 15 rfl rfl)
theorem dX8_says_111 : decode cX8_says 111 = .ok (.invokestatic 243, 3) := dk_184 0 243 (dk_at dksX8_says_4 17 rfl rfl)
theorem dX8_says_114 : decode cX8_says 114 = .ok (.goto 5, 3) := dk_167 0 5 (dk_at dksX8_says_4 20 rfl rfl)
theorem dX8_says_117 : decode cX8_says 117 = .ok (.iload 4, 2) := dk_21 4 (dk_at dksX8_says_5 0 rfl rfl)
theorem dX8_says_119 : decode cX8_says 119 = .ok (.ireturn, 1) := dk_172 (dk_at dksX8_says_5 2 rfl rfl)
abbrev cX8_within : ByteArray := prog_16_method_3_code
def yX8_within : MethodName := ⟨RX8, "within", "(III)I"⟩
def dkwX8_within_0 : List UInt8 := [26, 27, 162, 0, 7, 27, 167, 0, 13, 26, 28, 164, 0, 7, 28, 167, 0, 4, 26, 172]
abbrev dktX8_within_0 : List UInt8 := dkwX8_within_0 ++ []
theorem dksX8_within_0 : cX8_within.data.toList.drop 0 = dktX8_within_0 := by decide +kernel
theorem dX8_within_0 : decode cX8_within 0 = .ok (.iload_n 0, 1) := dk_26 (dk_at dksX8_within_0 0 rfl rfl)
theorem dX8_within_1 : decode cX8_within 1 = .ok (.iload_n 1, 1) := dk_27 (dk_at dksX8_within_0 1 rfl rfl)
theorem dX8_within_2 : decode cX8_within 2 = .ok (.if_icmp .ge 7, 3) := dk_162 0 7 (dk_at dksX8_within_0 2 rfl rfl)
theorem dX8_within_5 : decode cX8_within 5 = .ok (.iload_n 1, 1) := dk_27 (dk_at dksX8_within_0 5 rfl rfl)
theorem dX8_within_6 : decode cX8_within 6 = .ok (.goto 13, 3) := dk_167 0 13 (dk_at dksX8_within_0 6 rfl rfl)
theorem dX8_within_9 : decode cX8_within 9 = .ok (.iload_n 0, 1) := dk_26 (dk_at dksX8_within_0 9 rfl rfl)
theorem dX8_within_10 : decode cX8_within 10 = .ok (.iload_n 2, 1) := dk_28 (dk_at dksX8_within_0 10 rfl rfl)
theorem dX8_within_11 : decode cX8_within 11 = .ok (.if_icmp .le 7, 3) := dk_164 0 7 (dk_at dksX8_within_0 11 rfl rfl)
theorem dX8_within_14 : decode cX8_within 14 = .ok (.iload_n 2, 1) := dk_28 (dk_at dksX8_within_0 14 rfl rfl)
theorem dX8_within_15 : decode cX8_within 15 = .ok (.goto 4, 3) := dk_167 0 4 (dk_at dksX8_within_0 15 rfl rfl)
theorem dX8_within_18 : decode cX8_within 18 = .ok (.iload_n 0, 1) := dk_26 (dk_at dksX8_within_0 18 rfl rfl)
theorem dX8_within_19 : decode cX8_within 19 = .ok (.ireturn, 1) := dk_172 (dk_at dksX8_within_0 19 rfl rfl)
abbrev cX8_playsOf : ByteArray := prog_16_method_41_code
def yX8_playsOf : MethodName := ⟨RX8, "playsOf", "(II)I"⟩
def dkwX8_playsOf_5 : List UInt8 := [54, 6, 21, 6, 3, 17, 3, 231, 184, 0, 243, 172]
abbrev dktX8_playsOf_5 : List UInt8 := dkwX8_playsOf_5 ++ []
def dkwX8_playsOf_4 : List UInt8 := [42, 180, 0, 100, 16, 10, 112, 21, 5, 160, 0, 8, 16, 50, 167, 0, 4, 3, 96, 167, 0, 5, 21, 4]
abbrev dktX8_playsOf_4 : List UInt8 := dkwX8_playsOf_4 ++ dktX8_playsOf_5
def dkwX8_playsOf_3 : List UInt8 := [167, 0, 48, 29, 5, 160, 0, 10, 21, 4, 5, 108, 167, 0, 36, 29, 7, 160, 0, 29, 21, 4, 5, 108]
abbrev dktX8_playsOf_3 : List UInt8 := dkwX8_playsOf_3 ++ dktX8_playsOf_4
def dkwX8_playsOf_2 : List UInt8 := [160, 0, 25, 5, 21, 4, 104, 42, 27, 182, 0, 112, 154, 0, 8, 21, 5, 167, 0, 4, 3, 96]
abbrev dktX8_playsOf_2 : List UInt8 := dkwX8_playsOf_2 ++ dktX8_playsOf_3
def dkwX8_playsOf_1 : List UInt8 := [180, 0, 29, 7, 27, 104, 46, 54, 5, 29, 4, 160, 0, 10, 5, 21, 4, 104, 167, 0, 75, 29, 6]
abbrev dktX8_playsOf_1 : List UInt8 := dkwX8_playsOf_1 ++ dktX8_playsOf_2
def dkwX8_playsOf_0 : List UInt8 := [42, 180, 0, 26, 27, 46, 62, 29, 8, 160, 0, 5, 3, 172, 42, 3, 27, 28, 182, 0, 247, 54, 4, 42]
abbrev dktX8_playsOf_0 : List UInt8 := dkwX8_playsOf_0 ++ dktX8_playsOf_1
theorem dksX8_playsOf_0 : cX8_playsOf.data.toList.drop 0 = dktX8_playsOf_0 := by decide +kernel
theorem dksX8_playsOf_1 : cX8_playsOf.data.toList.drop 24 = dktX8_playsOf_1 := dk_seg dksX8_playsOf_0 24 rfl rfl
theorem dksX8_playsOf_2 : cX8_playsOf.data.toList.drop 47 = dktX8_playsOf_2 := dk_seg dksX8_playsOf_1 23 rfl rfl
theorem dksX8_playsOf_3 : cX8_playsOf.data.toList.drop 69 = dktX8_playsOf_3 := dk_seg dksX8_playsOf_2 22 rfl rfl
theorem dksX8_playsOf_4 : cX8_playsOf.data.toList.drop 93 = dktX8_playsOf_4 := dk_seg dksX8_playsOf_3 24 rfl rfl
theorem dksX8_playsOf_5 : cX8_playsOf.data.toList.drop 117 = dktX8_playsOf_5 := dk_seg dksX8_playsOf_4 24 rfl rfl
theorem dX8_playsOf_0 : decode cX8_playsOf 0 = .ok (.aload_n 0, 1) := dk_42 (dk_at dksX8_playsOf_0 0 rfl rfl)
theorem dX8_playsOf_1 : decode cX8_playsOf 1 = .ok (.getfield 26, 3) := dk_180 0 26 (dk_at dksX8_playsOf_0 1 rfl rfl)
theorem dX8_playsOf_4 : decode cX8_playsOf 4 = .ok (.iload_n 1, 1) := dk_27 (dk_at dksX8_playsOf_0 4 rfl rfl)
theorem dX8_playsOf_5 : decode cX8_playsOf 5 = .ok (.iaload, 1) := dk_46 (dk_at dksX8_playsOf_0 5 rfl rfl)
theorem dX8_playsOf_6 : decode cX8_playsOf 6 = .ok (.istore_n 3, 1) := dk_62 (dk_at dksX8_playsOf_0 6 rfl rfl)
theorem dX8_playsOf_7 : decode cX8_playsOf 7 = .ok (.iload_n 3, 1) := dk_29 (dk_at dksX8_playsOf_0 7 rfl rfl)
theorem dX8_playsOf_8 : decode cX8_playsOf 8 = .ok (.iconst 5, 1) := dk_8 (dk_at dksX8_playsOf_0 8 rfl rfl)
theorem dX8_playsOf_9 : decode cX8_playsOf 9 = .ok (.if_icmp .ne 5, 3) := dk_160 0 5 (dk_at dksX8_playsOf_0 9 rfl rfl)
theorem dX8_playsOf_12 : decode cX8_playsOf 12 = .ok (.iconst 0, 1) := dk_3 (dk_at dksX8_playsOf_0 12 rfl rfl)
theorem dX8_playsOf_13 : decode cX8_playsOf 13 = .ok (.ireturn, 1) := dk_172 (dk_at dksX8_playsOf_0 13 rfl rfl)
theorem dX8_playsOf_14 : decode cX8_playsOf 14 = .ok (.aload_n 0, 1) := dk_42 (dk_at dksX8_playsOf_0 14 rfl rfl)
theorem dX8_playsOf_15 : decode cX8_playsOf 15 = .ok (.iconst 0, 1) := dk_3 (dk_at dksX8_playsOf_0 15 rfl rfl)
theorem dX8_playsOf_16 : decode cX8_playsOf 16 = .ok (.iload_n 1, 1) := dk_27 (dk_at dksX8_playsOf_0 16 rfl rfl)
theorem dX8_playsOf_17 : decode cX8_playsOf 17 = .ok (.iload_n 2, 1) := dk_28 (dk_at dksX8_playsOf_0 17 rfl rfl)
theorem dX8_playsOf_18 : decode cX8_playsOf 18 = .ok (.invokevirtual 247, 3) := dk_182 0 247 (dk_at dksX8_playsOf_0 18 rfl rfl)
theorem dX8_playsOf_21 : decode cX8_playsOf 21 = .ok (.istore 4, 2) := dk_54 4 (dk_at dksX8_playsOf_0 21 rfl rfl)
theorem dX8_playsOf_23 : decode cX8_playsOf 23 = .ok (.aload_n 0, 1) := dk_42 (dk_at dksX8_playsOf_0 23 rfl rfl)
theorem dX8_playsOf_24 : decode cX8_playsOf 24 = .ok (.getfield 29, 3) := dk_180 0 29 (dk_at dksX8_playsOf_1 0 rfl rfl)
theorem dX8_playsOf_27 : decode cX8_playsOf 27 = .ok (.iconst 4, 1) := dk_7 (dk_at dksX8_playsOf_1 3 rfl rfl)
theorem dX8_playsOf_28 : decode cX8_playsOf 28 = .ok (.iload_n 1, 1) := dk_27 (dk_at dksX8_playsOf_1 4 rfl rfl)
theorem dX8_playsOf_29 : decode cX8_playsOf 29 = .ok (.imul, 1) := dk_104 (dk_at dksX8_playsOf_1 5 rfl rfl)
theorem dX8_playsOf_30 : decode cX8_playsOf 30 = .ok (.iaload, 1) := dk_46 (dk_at dksX8_playsOf_1 6 rfl rfl)
theorem dX8_playsOf_31 : decode cX8_playsOf 31 = .ok (.istore 5, 2) := dk_54 5 (dk_at dksX8_playsOf_1 7 rfl rfl)
theorem dX8_playsOf_33 : decode cX8_playsOf 33 = .ok (.iload_n 3, 1) := dk_29 (dk_at dksX8_playsOf_1 9 rfl rfl)
theorem dX8_playsOf_34 : decode cX8_playsOf 34 = .ok (.iconst 1, 1) := dk_4 (dk_at dksX8_playsOf_1 10 rfl rfl)
theorem dX8_playsOf_35 : decode cX8_playsOf 35 = .ok (.if_icmp .ne 10, 3) := dk_160 0 10 (dk_at dksX8_playsOf_1 11 rfl rfl)
theorem dX8_playsOf_38 : decode cX8_playsOf 38 = .ok (.iconst 2, 1) := dk_5 (dk_at dksX8_playsOf_1 14 rfl rfl)
theorem dX8_playsOf_39 : decode cX8_playsOf 39 = .ok (.iload 4, 2) := dk_21 4 (dk_at dksX8_playsOf_1 15 rfl rfl)
theorem dX8_playsOf_41 : decode cX8_playsOf 41 = .ok (.imul, 1) := dk_104 (dk_at dksX8_playsOf_1 17 rfl rfl)
theorem dX8_playsOf_42 : decode cX8_playsOf 42 = .ok (.goto 75, 3) := dk_167 0 75 (dk_at dksX8_playsOf_1 18 rfl rfl)
theorem dX8_playsOf_45 : decode cX8_playsOf 45 = .ok (.iload_n 3, 1) := dk_29 (dk_at dksX8_playsOf_1 21 rfl rfl)
theorem dX8_playsOf_46 : decode cX8_playsOf 46 = .ok (.iconst 3, 1) := dk_6 (dk_at dksX8_playsOf_1 22 rfl rfl)
theorem dX8_playsOf_47 : decode cX8_playsOf 47 = .ok (.if_icmp .ne 25, 3) := dk_160 0 25 (dk_at dksX8_playsOf_2 0 rfl rfl)
theorem dX8_playsOf_50 : decode cX8_playsOf 50 = .ok (.iconst 2, 1) := dk_5 (dk_at dksX8_playsOf_2 3 rfl rfl)
theorem dX8_playsOf_51 : decode cX8_playsOf 51 = .ok (.iload 4, 2) := dk_21 4 (dk_at dksX8_playsOf_2 4 rfl rfl)
theorem dX8_playsOf_53 : decode cX8_playsOf 53 = .ok (.imul, 1) := dk_104 (dk_at dksX8_playsOf_2 6 rfl rfl)
theorem dX8_playsOf_54 : decode cX8_playsOf 54 = .ok (.aload_n 0, 1) := dk_42 (dk_at dksX8_playsOf_2 7 rfl rfl)
theorem dX8_playsOf_55 : decode cX8_playsOf 55 = .ok (.iload_n 1, 1) := dk_27 (dk_at dksX8_playsOf_2 8 rfl rfl)
theorem dX8_playsOf_56 : decode cX8_playsOf 56 = .ok (.invokevirtual 112, 3) := dk_182 0 112 (dk_at dksX8_playsOf_2 9 rfl rfl)
theorem dX8_playsOf_59 : decode cX8_playsOf 59 = .ok (.ifCond .ne 8, 3) := dk_154 0 8 (dk_at dksX8_playsOf_2 12 rfl rfl)
theorem dX8_playsOf_62 : decode cX8_playsOf 62 = .ok (.iload 5, 2) := dk_21 5 (dk_at dksX8_playsOf_2 15 rfl rfl)
theorem dX8_playsOf_64 : decode cX8_playsOf 64 = .ok (.goto 4, 3) := dk_167 0 4 (dk_at dksX8_playsOf_2 17 rfl rfl)
theorem dX8_playsOf_67 : decode cX8_playsOf 67 = .ok (.iconst 0, 1) := dk_3 (dk_at dksX8_playsOf_2 20 rfl rfl)
theorem dX8_playsOf_68 : decode cX8_playsOf 68 = .ok (.iadd, 1) := dk_96 (dk_at dksX8_playsOf_2 21 rfl rfl)
theorem dX8_playsOf_69 : decode cX8_playsOf 69 = .ok (.goto 48, 3) := dk_167 0 48 (dk_at dksX8_playsOf_3 0 rfl rfl)
theorem dX8_playsOf_72 : decode cX8_playsOf 72 = .ok (.iload_n 3, 1) := dk_29 (dk_at dksX8_playsOf_3 3 rfl rfl)
theorem dX8_playsOf_73 : decode cX8_playsOf 73 = .ok (.iconst 2, 1) := dk_5 (dk_at dksX8_playsOf_3 4 rfl rfl)
theorem dX8_playsOf_74 : decode cX8_playsOf 74 = .ok (.if_icmp .ne 10, 3) := dk_160 0 10 (dk_at dksX8_playsOf_3 5 rfl rfl)
theorem dX8_playsOf_77 : decode cX8_playsOf 77 = .ok (.iload 4, 2) := dk_21 4 (dk_at dksX8_playsOf_3 8 rfl rfl)
theorem dX8_playsOf_79 : decode cX8_playsOf 79 = .ok (.iconst 2, 1) := dk_5 (dk_at dksX8_playsOf_3 10 rfl rfl)
theorem dX8_playsOf_80 : decode cX8_playsOf 80 = .ok (.idiv, 1) := dk_108 (dk_at dksX8_playsOf_3 11 rfl rfl)
theorem dX8_playsOf_81 : decode cX8_playsOf 81 = .ok (.goto 36, 3) := dk_167 0 36 (dk_at dksX8_playsOf_3 12 rfl rfl)
theorem dX8_playsOf_84 : decode cX8_playsOf 84 = .ok (.iload_n 3, 1) := dk_29 (dk_at dksX8_playsOf_3 15 rfl rfl)
theorem dX8_playsOf_85 : decode cX8_playsOf 85 = .ok (.iconst 4, 1) := dk_7 (dk_at dksX8_playsOf_3 16 rfl rfl)
theorem dX8_playsOf_86 : decode cX8_playsOf 86 = .ok (.if_icmp .ne 29, 3) := dk_160 0 29 (dk_at dksX8_playsOf_3 17 rfl rfl)
theorem dX8_playsOf_89 : decode cX8_playsOf 89 = .ok (.iload 4, 2) := dk_21 4 (dk_at dksX8_playsOf_3 20 rfl rfl)
theorem dX8_playsOf_91 : decode cX8_playsOf 91 = .ok (.iconst 2, 1) := dk_5 (dk_at dksX8_playsOf_3 22 rfl rfl)
theorem dX8_playsOf_92 : decode cX8_playsOf 92 = .ok (.idiv, 1) := dk_108 (dk_at dksX8_playsOf_3 23 rfl rfl)
theorem dX8_playsOf_93 : decode cX8_playsOf 93 = .ok (.aload_n 0, 1) := dk_42 (dk_at dksX8_playsOf_4 0 rfl rfl)
theorem dX8_playsOf_94 : decode cX8_playsOf 94 = .ok (.getfield 100, 3) := dk_180 0 100 (dk_at dksX8_playsOf_4 1 rfl rfl)
theorem dX8_playsOf_97 : decode cX8_playsOf 97 = .ok (.bipush 10, 2) := dk_16 10 (dk_at dksX8_playsOf_4 4 rfl rfl)
theorem dX8_playsOf_99 : decode cX8_playsOf 99 = .ok (.irem, 1) := dk_112 (dk_at dksX8_playsOf_4 6 rfl rfl)
theorem dX8_playsOf_100 : decode cX8_playsOf 100 = .ok (.iload 5, 2) := dk_21 5 (dk_at dksX8_playsOf_4 7 rfl rfl)
theorem dX8_playsOf_102 : decode cX8_playsOf 102 = .ok (.if_icmp .ne 8, 3) := dk_160 0 8 (dk_at dksX8_playsOf_4 9 rfl rfl)
theorem dX8_playsOf_105 : decode cX8_playsOf 105 = .ok (.bipush 50, 2) := dk_16 50 (dk_at dksX8_playsOf_4 12 rfl rfl)
theorem dX8_playsOf_107 : decode cX8_playsOf 107 = .ok (.goto 4, 3) := dk_167 0 4 (dk_at dksX8_playsOf_4 14 rfl rfl)
theorem dX8_playsOf_110 : decode cX8_playsOf 110 = .ok (.iconst 0, 1) := dk_3 (dk_at dksX8_playsOf_4 17 rfl rfl)
theorem dX8_playsOf_111 : decode cX8_playsOf 111 = .ok (.iadd, 1) := dk_96 (dk_at dksX8_playsOf_4 18 rfl rfl)
theorem dX8_playsOf_112 : decode cX8_playsOf 112 = .ok (.goto 5, 3) := dk_167 0 5 (dk_at dksX8_playsOf_4 19 rfl rfl)
theorem dX8_playsOf_115 : decode cX8_playsOf 115 = .ok (.iload 4, 2) := dk_21 4 (dk_at dksX8_playsOf_4 22 rfl rfl)
theorem dX8_playsOf_117 : decode cX8_playsOf 117 = .ok (.istore 6, 2) := dk_54 6 (dk_at dksX8_playsOf_5 0 rfl rfl)
theorem dX8_playsOf_119 : decode cX8_playsOf 119 = .ok (.iload 6, 2) := dk_21 6 (dk_at dksX8_playsOf_5 2 rfl rfl)
theorem dX8_playsOf_121 : decode cX8_playsOf 121 = .ok (.iconst 0, 1) := dk_3 (dk_at dksX8_playsOf_5 4 rfl rfl)
theorem dX8_playsOf_122 : decode cX8_playsOf 122 = .ok (.sipush 999, 3) := dk_17 3 231 (dk_at dksX8_playsOf_5 5 rfl rfl)
theorem dX8_playsOf_125 : decode cX8_playsOf 125 = .ok (.invokestatic 243, 3) := dk_184 0 243 (dk_at dksX8_playsOf_5 8 rfl rfl)
theorem dX8_playsOf_128 : decode cX8_playsOf 128 = .ok (.ireturn, 1) := dk_172 (dk_at dksX8_playsOf_5 11 rfl rfl)
abbrev cX8_winnerOf : ByteArray := prog_16_method_44_code
def yX8_winnerOf : MethodName := ⟨RX8, "winnerOf", "(II)I"⟩
def dkwX8_winnerOf_1 : List UInt8 := [167, 0, 14, 21, 4, 29, 164, 0, 7, 28, 167, 0, 4, 2, 172]
abbrev dktX8_winnerOf_1 : List UInt8 := dkwX8_winnerOf_1 ++ []
def dkwX8_winnerOf_0 : List UInt8 := [42, 27, 28, 182, 1, 0, 62, 42, 28, 27, 182, 1, 0, 54, 4, 29, 21, 4, 164, 0, 7, 27]
abbrev dktX8_winnerOf_0 : List UInt8 := dkwX8_winnerOf_0 ++ dktX8_winnerOf_1
theorem dksX8_winnerOf_0 : cX8_winnerOf.data.toList.drop 0 = dktX8_winnerOf_0 := by decide +kernel
theorem dksX8_winnerOf_1 : cX8_winnerOf.data.toList.drop 22 = dktX8_winnerOf_1 := dk_seg dksX8_winnerOf_0 22 rfl rfl
theorem dX8_winnerOf_0 : decode cX8_winnerOf 0 = .ok (.aload_n 0, 1) := dk_42 (dk_at dksX8_winnerOf_0 0 rfl rfl)
theorem dX8_winnerOf_1 : decode cX8_winnerOf 1 = .ok (.iload_n 1, 1) := dk_27 (dk_at dksX8_winnerOf_0 1 rfl rfl)
theorem dX8_winnerOf_2 : decode cX8_winnerOf 2 = .ok (.iload_n 2, 1) := dk_28 (dk_at dksX8_winnerOf_0 2 rfl rfl)
theorem dX8_winnerOf_3 : decode cX8_winnerOf 3 = .ok (.invokevirtual 256, 3) := dk_182 1 0 (dk_at dksX8_winnerOf_0 3 rfl rfl)
theorem dX8_winnerOf_6 : decode cX8_winnerOf 6 = .ok (.istore_n 3, 1) := dk_62 (dk_at dksX8_winnerOf_0 6 rfl rfl)
theorem dX8_winnerOf_7 : decode cX8_winnerOf 7 = .ok (.aload_n 0, 1) := dk_42 (dk_at dksX8_winnerOf_0 7 rfl rfl)
theorem dX8_winnerOf_8 : decode cX8_winnerOf 8 = .ok (.iload_n 2, 1) := dk_28 (dk_at dksX8_winnerOf_0 8 rfl rfl)
theorem dX8_winnerOf_9 : decode cX8_winnerOf 9 = .ok (.iload_n 1, 1) := dk_27 (dk_at dksX8_winnerOf_0 9 rfl rfl)
theorem dX8_winnerOf_10 : decode cX8_winnerOf 10 = .ok (.invokevirtual 256, 3) := dk_182 1 0 (dk_at dksX8_winnerOf_0 10 rfl rfl)
theorem dX8_winnerOf_13 : decode cX8_winnerOf 13 = .ok (.istore 4, 2) := dk_54 4 (dk_at dksX8_winnerOf_0 13 rfl rfl)
theorem dX8_winnerOf_15 : decode cX8_winnerOf 15 = .ok (.iload_n 3, 1) := dk_29 (dk_at dksX8_winnerOf_0 15 rfl rfl)
theorem dX8_winnerOf_16 : decode cX8_winnerOf 16 = .ok (.iload 4, 2) := dk_21 4 (dk_at dksX8_winnerOf_0 16 rfl rfl)
theorem dX8_winnerOf_18 : decode cX8_winnerOf 18 = .ok (.if_icmp .le 7, 3) := dk_164 0 7 (dk_at dksX8_winnerOf_0 18 rfl rfl)
theorem dX8_winnerOf_21 : decode cX8_winnerOf 21 = .ok (.iload_n 1, 1) := dk_27 (dk_at dksX8_winnerOf_0 21 rfl rfl)
theorem dX8_winnerOf_22 : decode cX8_winnerOf 22 = .ok (.goto 14, 3) := dk_167 0 14 (dk_at dksX8_winnerOf_1 0 rfl rfl)
theorem dX8_winnerOf_25 : decode cX8_winnerOf 25 = .ok (.iload 4, 2) := dk_21 4 (dk_at dksX8_winnerOf_1 3 rfl rfl)
theorem dX8_winnerOf_27 : decode cX8_winnerOf 27 = .ok (.iload_n 3, 1) := dk_29 (dk_at dksX8_winnerOf_1 5 rfl rfl)
theorem dX8_winnerOf_28 : decode cX8_winnerOf 28 = .ok (.if_icmp .le 7, 3) := dk_164 0 7 (dk_at dksX8_winnerOf_1 6 rfl rfl)
theorem dX8_winnerOf_31 : decode cX8_winnerOf 31 = .ok (.iload_n 2, 1) := dk_28 (dk_at dksX8_winnerOf_1 9 rfl rfl)
theorem dX8_winnerOf_32 : decode cX8_winnerOf 32 = .ok (.goto 4, 3) := dk_167 0 4 (dk_at dksX8_winnerOf_1 10 rfl rfl)
theorem dX8_winnerOf_35 : decode cX8_winnerOf 35 = .ok (.iconst (-1), 1) := dk_2 (dk_at dksX8_winnerOf_1 13 rfl rfl)
theorem dX8_winnerOf_36 : decode cX8_winnerOf 36 = .ok (.ireturn, 1) := dk_172 (dk_at dksX8_winnerOf_1 14 rfl rfl)
abbrev cX8_tiresOf : ByteArray := prog_16_method_43_code
def yX8_tiresOf : MethodName := ⟨RX8, "tiresOf", "(IIZ)I"⟩
def dkwX8_tiresOf_4 : List UInt8 := [184, 0, 243, 172]
abbrev dktX8_tiresOf_4 : List UInt8 := dkwX8_tiresOf_4 ++ []
def dkwX8_tiresOf_3 : List UInt8 := [116, 167, 0, 19, 21, 4, 7, 160, 0, 11, 21, 5, 116, 6, 100, 167, 0, 5, 21, 5, 16, 157, 16, 99]
abbrev dktX8_tiresOf_3 : List UInt8 := dkwX8_tiresOf_3 ++ dktX8_tiresOf_4
def dkwX8_tiresOf_2 : List UInt8 := [167, 0, 44, 21, 4, 6, 160, 0, 10, 21, 6, 4, 96, 167, 0, 31, 21, 4, 5, 160, 0, 9, 21, 5]
abbrev dktX8_tiresOf_2 : List UInt8 := dkwX8_tiresOf_2 ++ dktX8_tiresOf_3
def dkwX8_tiresOf_1 : List UInt8 := [54, 5, 29, 153, 0, 7, 3, 167, 0, 5, 21, 5, 54, 6, 21, 4, 4, 160, 0, 8, 21, 6]
abbrev dktX8_tiresOf_1 : List UInt8 := dkwX8_tiresOf_1 ++ dktX8_tiresOf_2
def dkwX8_tiresOf_0 : List UInt8 := [42, 180, 0, 26, 27, 46, 54, 4, 21, 4, 8, 160, 0, 5, 3, 172, 42, 5, 27, 28, 182, 0, 247]
abbrev dktX8_tiresOf_0 : List UInt8 := dkwX8_tiresOf_0 ++ dktX8_tiresOf_1
theorem dksX8_tiresOf_0 : cX8_tiresOf.data.toList.drop 0 = dktX8_tiresOf_0 := by decide +kernel
theorem dksX8_tiresOf_1 : cX8_tiresOf.data.toList.drop 23 = dktX8_tiresOf_1 := dk_seg dksX8_tiresOf_0 23 rfl rfl
theorem dksX8_tiresOf_2 : cX8_tiresOf.data.toList.drop 45 = dktX8_tiresOf_2 := dk_seg dksX8_tiresOf_1 22 rfl rfl
theorem dksX8_tiresOf_3 : cX8_tiresOf.data.toList.drop 69 = dktX8_tiresOf_3 := dk_seg dksX8_tiresOf_2 24 rfl rfl
theorem dksX8_tiresOf_4 : cX8_tiresOf.data.toList.drop 93 = dktX8_tiresOf_4 := dk_seg dksX8_tiresOf_3 24 rfl rfl
theorem dX8_tiresOf_0 : decode cX8_tiresOf 0 = .ok (.aload_n 0, 1) := dk_42 (dk_at dksX8_tiresOf_0 0 rfl rfl)
theorem dX8_tiresOf_1 : decode cX8_tiresOf 1 = .ok (.getfield 26, 3) := dk_180 0 26 (dk_at dksX8_tiresOf_0 1 rfl rfl)
theorem dX8_tiresOf_4 : decode cX8_tiresOf 4 = .ok (.iload_n 1, 1) := dk_27 (dk_at dksX8_tiresOf_0 4 rfl rfl)
theorem dX8_tiresOf_5 : decode cX8_tiresOf 5 = .ok (.iaload, 1) := dk_46 (dk_at dksX8_tiresOf_0 5 rfl rfl)
theorem dX8_tiresOf_6 : decode cX8_tiresOf 6 = .ok (.istore 4, 2) := dk_54 4 (dk_at dksX8_tiresOf_0 6 rfl rfl)
theorem dX8_tiresOf_8 : decode cX8_tiresOf 8 = .ok (.iload 4, 2) := dk_21 4 (dk_at dksX8_tiresOf_0 8 rfl rfl)
theorem dX8_tiresOf_10 : decode cX8_tiresOf 10 = .ok (.iconst 5, 1) := dk_8 (dk_at dksX8_tiresOf_0 10 rfl rfl)
theorem dX8_tiresOf_11 : decode cX8_tiresOf 11 = .ok (.if_icmp .ne 5, 3) := dk_160 0 5 (dk_at dksX8_tiresOf_0 11 rfl rfl)
theorem dX8_tiresOf_14 : decode cX8_tiresOf 14 = .ok (.iconst 0, 1) := dk_3 (dk_at dksX8_tiresOf_0 14 rfl rfl)
theorem dX8_tiresOf_15 : decode cX8_tiresOf 15 = .ok (.ireturn, 1) := dk_172 (dk_at dksX8_tiresOf_0 15 rfl rfl)
theorem dX8_tiresOf_16 : decode cX8_tiresOf 16 = .ok (.aload_n 0, 1) := dk_42 (dk_at dksX8_tiresOf_0 16 rfl rfl)
theorem dX8_tiresOf_17 : decode cX8_tiresOf 17 = .ok (.iconst 2, 1) := dk_5 (dk_at dksX8_tiresOf_0 17 rfl rfl)
theorem dX8_tiresOf_18 : decode cX8_tiresOf 18 = .ok (.iload_n 1, 1) := dk_27 (dk_at dksX8_tiresOf_0 18 rfl rfl)
theorem dX8_tiresOf_19 : decode cX8_tiresOf 19 = .ok (.iload_n 2, 1) := dk_28 (dk_at dksX8_tiresOf_0 19 rfl rfl)
theorem dX8_tiresOf_20 : decode cX8_tiresOf 20 = .ok (.invokevirtual 247, 3) := dk_182 0 247 (dk_at dksX8_tiresOf_0 20 rfl rfl)
theorem dX8_tiresOf_23 : decode cX8_tiresOf 23 = .ok (.istore 5, 2) := dk_54 5 (dk_at dksX8_tiresOf_1 0 rfl rfl)
theorem dX8_tiresOf_25 : decode cX8_tiresOf 25 = .ok (.iload_n 3, 1) := dk_29 (dk_at dksX8_tiresOf_1 2 rfl rfl)
theorem dX8_tiresOf_26 : decode cX8_tiresOf 26 = .ok (.ifCond .eq 7, 3) := dk_153 0 7 (dk_at dksX8_tiresOf_1 3 rfl rfl)
theorem dX8_tiresOf_29 : decode cX8_tiresOf 29 = .ok (.iconst 0, 1) := dk_3 (dk_at dksX8_tiresOf_1 6 rfl rfl)
theorem dX8_tiresOf_30 : decode cX8_tiresOf 30 = .ok (.goto 5, 3) := dk_167 0 5 (dk_at dksX8_tiresOf_1 7 rfl rfl)
theorem dX8_tiresOf_33 : decode cX8_tiresOf 33 = .ok (.iload 5, 2) := dk_21 5 (dk_at dksX8_tiresOf_1 10 rfl rfl)
theorem dX8_tiresOf_35 : decode cX8_tiresOf 35 = .ok (.istore 6, 2) := dk_54 6 (dk_at dksX8_tiresOf_1 12 rfl rfl)
theorem dX8_tiresOf_37 : decode cX8_tiresOf 37 = .ok (.iload 4, 2) := dk_21 4 (dk_at dksX8_tiresOf_1 14 rfl rfl)
theorem dX8_tiresOf_39 : decode cX8_tiresOf 39 = .ok (.iconst 1, 1) := dk_4 (dk_at dksX8_tiresOf_1 16 rfl rfl)
theorem dX8_tiresOf_40 : decode cX8_tiresOf 40 = .ok (.if_icmp .ne 8, 3) := dk_160 0 8 (dk_at dksX8_tiresOf_1 17 rfl rfl)
theorem dX8_tiresOf_43 : decode cX8_tiresOf 43 = .ok (.iload 6, 2) := dk_21 6 (dk_at dksX8_tiresOf_1 20 rfl rfl)
theorem dX8_tiresOf_45 : decode cX8_tiresOf 45 = .ok (.goto 44, 3) := dk_167 0 44 (dk_at dksX8_tiresOf_2 0 rfl rfl)
theorem dX8_tiresOf_48 : decode cX8_tiresOf 48 = .ok (.iload 4, 2) := dk_21 4 (dk_at dksX8_tiresOf_2 3 rfl rfl)
theorem dX8_tiresOf_50 : decode cX8_tiresOf 50 = .ok (.iconst 3, 1) := dk_6 (dk_at dksX8_tiresOf_2 5 rfl rfl)
theorem dX8_tiresOf_51 : decode cX8_tiresOf 51 = .ok (.if_icmp .ne 10, 3) := dk_160 0 10 (dk_at dksX8_tiresOf_2 6 rfl rfl)
theorem dX8_tiresOf_54 : decode cX8_tiresOf 54 = .ok (.iload 6, 2) := dk_21 6 (dk_at dksX8_tiresOf_2 9 rfl rfl)
theorem dX8_tiresOf_56 : decode cX8_tiresOf 56 = .ok (.iconst 1, 1) := dk_4 (dk_at dksX8_tiresOf_2 11 rfl rfl)
theorem dX8_tiresOf_57 : decode cX8_tiresOf 57 = .ok (.iadd, 1) := dk_96 (dk_at dksX8_tiresOf_2 12 rfl rfl)
theorem dX8_tiresOf_58 : decode cX8_tiresOf 58 = .ok (.goto 31, 3) := dk_167 0 31 (dk_at dksX8_tiresOf_2 13 rfl rfl)
theorem dX8_tiresOf_61 : decode cX8_tiresOf 61 = .ok (.iload 4, 2) := dk_21 4 (dk_at dksX8_tiresOf_2 16 rfl rfl)
theorem dX8_tiresOf_63 : decode cX8_tiresOf 63 = .ok (.iconst 2, 1) := dk_5 (dk_at dksX8_tiresOf_2 18 rfl rfl)
theorem dX8_tiresOf_64 : decode cX8_tiresOf 64 = .ok (.if_icmp .ne 9, 3) := dk_160 0 9 (dk_at dksX8_tiresOf_2 19 rfl rfl)
theorem dX8_tiresOf_67 : decode cX8_tiresOf 67 = .ok (.iload 5, 2) := dk_21 5 (dk_at dksX8_tiresOf_2 22 rfl rfl)
theorem dX8_tiresOf_69 : decode cX8_tiresOf 69 = .ok (.ineg, 1) := dk_116 (dk_at dksX8_tiresOf_3 0 rfl rfl)
theorem dX8_tiresOf_70 : decode cX8_tiresOf 70 = .ok (.goto 19, 3) := dk_167 0 19 (dk_at dksX8_tiresOf_3 1 rfl rfl)
theorem dX8_tiresOf_73 : decode cX8_tiresOf 73 = .ok (.iload 4, 2) := dk_21 4 (dk_at dksX8_tiresOf_3 4 rfl rfl)
theorem dX8_tiresOf_75 : decode cX8_tiresOf 75 = .ok (.iconst 4, 1) := dk_7 (dk_at dksX8_tiresOf_3 6 rfl rfl)
theorem dX8_tiresOf_76 : decode cX8_tiresOf 76 = .ok (.if_icmp .ne 11, 3) := dk_160 0 11 (dk_at dksX8_tiresOf_3 7 rfl rfl)
theorem dX8_tiresOf_79 : decode cX8_tiresOf 79 = .ok (.iload 5, 2) := dk_21 5 (dk_at dksX8_tiresOf_3 10 rfl rfl)
theorem dX8_tiresOf_81 : decode cX8_tiresOf 81 = .ok (.ineg, 1) := dk_116 (dk_at dksX8_tiresOf_3 12 rfl rfl)
theorem dX8_tiresOf_82 : decode cX8_tiresOf 82 = .ok (.iconst 3, 1) := dk_6 (dk_at dksX8_tiresOf_3 13 rfl rfl)
theorem dX8_tiresOf_83 : decode cX8_tiresOf 83 = .ok (.isub, 1) := dk_100 (dk_at dksX8_tiresOf_3 14 rfl rfl)
theorem dX8_tiresOf_84 : decode cX8_tiresOf 84 = .ok (.goto 5, 3) := dk_167 0 5 (dk_at dksX8_tiresOf_3 15 rfl rfl)
theorem dX8_tiresOf_87 : decode cX8_tiresOf 87 = .ok (.iload 5, 2) := dk_21 5 (dk_at dksX8_tiresOf_3 18 rfl rfl)
theorem dX8_tiresOf_89 : decode cX8_tiresOf 89 = .ok (.bipush (-99), 2) := dk_16 157 (dk_at dksX8_tiresOf_3 20 rfl rfl)
theorem dX8_tiresOf_91 : decode cX8_tiresOf 91 = .ok (.bipush 99, 2) := dk_16 99 (dk_at dksX8_tiresOf_3 22 rfl rfl)
theorem dX8_tiresOf_93 : decode cX8_tiresOf 93 = .ok (.invokestatic 243, 3) := dk_184 0 243 (dk_at dksX8_tiresOf_4 0 rfl rfl)
theorem dX8_tiresOf_96 : decode cX8_tiresOf 96 = .ok (.ireturn, 1) := dk_172 (dk_at dksX8_tiresOf_4 3 rfl rfl)
abbrev cX8_hasBehind : ByteArray := prog_16_method_49_code
def yX8_hasBehind : MethodName := ⟨RX8, "hasBehind", "(II)I"⟩
def dkwX8_hasBehind_0 : List UInt8 := [42, 182, 1, 19, 42, 27, 28, 182, 1, 22, 87, 42, 27, 182, 0, 122, 62, 42, 182, 1, 25, 29, 172]
abbrev dktX8_hasBehind_0 : List UInt8 := dkwX8_hasBehind_0 ++ []
theorem dksX8_hasBehind_0 : cX8_hasBehind.data.toList.drop 0 = dktX8_hasBehind_0 := by decide +kernel
theorem dX8_hasBehind_0 : decode cX8_hasBehind 0 = .ok (.aload_n 0, 1) := dk_42 (dk_at dksX8_hasBehind_0 0 rfl rfl)
theorem dX8_hasBehind_1 : decode cX8_hasBehind 1 = .ok (.invokevirtual 275, 3) := dk_182 1 19 (dk_at dksX8_hasBehind_0 1 rfl rfl)
theorem dX8_hasBehind_4 : decode cX8_hasBehind 4 = .ok (.aload_n 0, 1) := dk_42 (dk_at dksX8_hasBehind_0 4 rfl rfl)
theorem dX8_hasBehind_5 : decode cX8_hasBehind 5 = .ok (.iload_n 1, 1) := dk_27 (dk_at dksX8_hasBehind_0 5 rfl rfl)
theorem dX8_hasBehind_6 : decode cX8_hasBehind 6 = .ok (.iload_n 2, 1) := dk_28 (dk_at dksX8_hasBehind_0 6 rfl rfl)
theorem dX8_hasBehind_7 : decode cX8_hasBehind 7 = .ok (.invokevirtual 278, 3) := dk_182 1 22 (dk_at dksX8_hasBehind_0 7 rfl rfl)
theorem dX8_hasBehind_10 : decode cX8_hasBehind 10 = .ok (.pop, 1) := dk_87 (dk_at dksX8_hasBehind_0 10 rfl rfl)
theorem dX8_hasBehind_11 : decode cX8_hasBehind 11 = .ok (.aload_n 0, 1) := dk_42 (dk_at dksX8_hasBehind_0 11 rfl rfl)
theorem dX8_hasBehind_12 : decode cX8_hasBehind 12 = .ok (.iload_n 1, 1) := dk_27 (dk_at dksX8_hasBehind_0 12 rfl rfl)
theorem dX8_hasBehind_13 : decode cX8_hasBehind 13 = .ok (.invokevirtual 122, 3) := dk_182 0 122 (dk_at dksX8_hasBehind_0 13 rfl rfl)
theorem dX8_hasBehind_16 : decode cX8_hasBehind 16 = .ok (.istore_n 3, 1) := dk_62 (dk_at dksX8_hasBehind_0 16 rfl rfl)
theorem dX8_hasBehind_17 : decode cX8_hasBehind 17 = .ok (.aload_n 0, 1) := dk_42 (dk_at dksX8_hasBehind_0 17 rfl rfl)
theorem dX8_hasBehind_18 : decode cX8_hasBehind 18 = .ok (.invokevirtual 281, 3) := dk_182 1 25 (dk_at dksX8_hasBehind_0 18 rfl rfl)
theorem dX8_hasBehind_21 : decode cX8_hasBehind 21 = .ok (.iload_n 3, 1) := dk_29 (dk_at dksX8_hasBehind_0 21 rfl rfl)
theorem dX8_hasBehind_22 : decode cX8_hasBehind 22 = .ok (.ireturn, 1) := dk_172 (dk_at dksX8_hasBehind_0 22 rfl rfl)
abbrev cX8_laysAside : ByteArray := prog_16_method_46_code
def yX8_laysAside : MethodName := ⟨RX8, "laysAside", "()V"⟩
def dkwX8_laysAside_3 : List UInt8 := [180, 0, 100, 79, 42, 89, 180, 1, 10, 4, 96, 181, 1, 10, 177]
abbrev dktX8_laysAside_3 : List UInt8 := dkwX8_laysAside_3 ++ []
def dkwX8_laysAside_2 : List UInt8 := [16, 24, 96, 42, 180, 0, 23, 79, 42, 180, 0, 32, 16, 26, 42, 180, 1, 10, 104, 16, 25, 96, 42]
abbrev dktX8_laysAside_2 : List UInt8 := dkwX8_laysAside_2 ++ dktX8_laysAside_3
def dkwX8_laysAside_1 : List UInt8 := [180, 0, 29, 27, 46, 79, 132, 1, 1, 167, 255, 227, 42, 180, 0, 32, 16, 26, 42, 180, 1, 10, 104]
abbrev dktX8_laysAside_1 : List UInt8 := dkwX8_laysAside_1 ++ dktX8_laysAside_2
def dkwX8_laysAside_0 : List UInt8 := [3, 60, 27, 16, 24, 162, 0, 29, 42, 180, 0, 32, 16, 26, 42, 180, 1, 10, 104, 27, 96, 42]
abbrev dktX8_laysAside_0 : List UInt8 := dkwX8_laysAside_0 ++ dktX8_laysAside_1
theorem dksX8_laysAside_0 : cX8_laysAside.data.toList.drop 0 = dktX8_laysAside_0 := by decide +kernel
theorem dksX8_laysAside_1 : cX8_laysAside.data.toList.drop 22 = dktX8_laysAside_1 := dk_seg dksX8_laysAside_0 22 rfl rfl
theorem dksX8_laysAside_2 : cX8_laysAside.data.toList.drop 45 = dktX8_laysAside_2 := dk_seg dksX8_laysAside_1 23 rfl rfl
theorem dksX8_laysAside_3 : cX8_laysAside.data.toList.drop 68 = dktX8_laysAside_3 := dk_seg dksX8_laysAside_2 23 rfl rfl
theorem dX8_laysAside_0 : decode cX8_laysAside 0 = .ok (.iconst 0, 1) := dk_3 (dk_at dksX8_laysAside_0 0 rfl rfl)
theorem dX8_laysAside_1 : decode cX8_laysAside 1 = .ok (.istore_n 1, 1) := dk_60 (dk_at dksX8_laysAside_0 1 rfl rfl)
theorem dX8_laysAside_2 : decode cX8_laysAside 2 = .ok (.iload_n 1, 1) := dk_27 (dk_at dksX8_laysAside_0 2 rfl rfl)
theorem dX8_laysAside_3 : decode cX8_laysAside 3 = .ok (.bipush 24, 2) := dk_16 24 (dk_at dksX8_laysAside_0 3 rfl rfl)
theorem dX8_laysAside_5 : decode cX8_laysAside 5 = .ok (.if_icmp .ge 29, 3) := dk_162 0 29 (dk_at dksX8_laysAside_0 5 rfl rfl)
theorem dX8_laysAside_8 : decode cX8_laysAside 8 = .ok (.aload_n 0, 1) := dk_42 (dk_at dksX8_laysAside_0 8 rfl rfl)
theorem dX8_laysAside_9 : decode cX8_laysAside 9 = .ok (.getfield 32, 3) := dk_180 0 32 (dk_at dksX8_laysAside_0 9 rfl rfl)
theorem dX8_laysAside_12 : decode cX8_laysAside 12 = .ok (.bipush 26, 2) := dk_16 26 (dk_at dksX8_laysAside_0 12 rfl rfl)
theorem dX8_laysAside_14 : decode cX8_laysAside 14 = .ok (.aload_n 0, 1) := dk_42 (dk_at dksX8_laysAside_0 14 rfl rfl)
theorem dX8_laysAside_15 : decode cX8_laysAside 15 = .ok (.getfield 266, 3) := dk_180 1 10 (dk_at dksX8_laysAside_0 15 rfl rfl)
theorem dX8_laysAside_18 : decode cX8_laysAside 18 = .ok (.imul, 1) := dk_104 (dk_at dksX8_laysAside_0 18 rfl rfl)
theorem dX8_laysAside_19 : decode cX8_laysAside 19 = .ok (.iload_n 1, 1) := dk_27 (dk_at dksX8_laysAside_0 19 rfl rfl)
theorem dX8_laysAside_20 : decode cX8_laysAside 20 = .ok (.iadd, 1) := dk_96 (dk_at dksX8_laysAside_0 20 rfl rfl)
theorem dX8_laysAside_21 : decode cX8_laysAside 21 = .ok (.aload_n 0, 1) := dk_42 (dk_at dksX8_laysAside_0 21 rfl rfl)
theorem dX8_laysAside_22 : decode cX8_laysAside 22 = .ok (.getfield 29, 3) := dk_180 0 29 (dk_at dksX8_laysAside_1 0 rfl rfl)
theorem dX8_laysAside_25 : decode cX8_laysAside 25 = .ok (.iload_n 1, 1) := dk_27 (dk_at dksX8_laysAside_1 3 rfl rfl)
theorem dX8_laysAside_26 : decode cX8_laysAside 26 = .ok (.iaload, 1) := dk_46 (dk_at dksX8_laysAside_1 4 rfl rfl)
theorem dX8_laysAside_27 : decode cX8_laysAside 27 = .ok (.iastore, 1) := dk_79 (dk_at dksX8_laysAside_1 5 rfl rfl)
theorem dX8_laysAside_28 : decode cX8_laysAside 28 = .ok (.iinc 1 1, 3) := dk_132 1 1 (dk_at dksX8_laysAside_1 6 rfl rfl)
theorem dX8_laysAside_31 : decode cX8_laysAside 31 = .ok (.goto (-29), 3) := dk_167 255 227 (dk_at dksX8_laysAside_1 9 rfl rfl)
theorem dX8_laysAside_34 : decode cX8_laysAside 34 = .ok (.aload_n 0, 1) := dk_42 (dk_at dksX8_laysAside_1 12 rfl rfl)
theorem dX8_laysAside_35 : decode cX8_laysAside 35 = .ok (.getfield 32, 3) := dk_180 0 32 (dk_at dksX8_laysAside_1 13 rfl rfl)
theorem dX8_laysAside_38 : decode cX8_laysAside 38 = .ok (.bipush 26, 2) := dk_16 26 (dk_at dksX8_laysAside_1 16 rfl rfl)
theorem dX8_laysAside_40 : decode cX8_laysAside 40 = .ok (.aload_n 0, 1) := dk_42 (dk_at dksX8_laysAside_1 18 rfl rfl)
theorem dX8_laysAside_41 : decode cX8_laysAside 41 = .ok (.getfield 266, 3) := dk_180 1 10 (dk_at dksX8_laysAside_1 19 rfl rfl)
theorem dX8_laysAside_44 : decode cX8_laysAside 44 = .ok (.imul, 1) := dk_104 (dk_at dksX8_laysAside_1 22 rfl rfl)
theorem dX8_laysAside_45 : decode cX8_laysAside 45 = .ok (.bipush 24, 2) := dk_16 24 (dk_at dksX8_laysAside_2 0 rfl rfl)
theorem dX8_laysAside_47 : decode cX8_laysAside 47 = .ok (.iadd, 1) := dk_96 (dk_at dksX8_laysAside_2 2 rfl rfl)
theorem dX8_laysAside_48 : decode cX8_laysAside 48 = .ok (.aload_n 0, 1) := dk_42 (dk_at dksX8_laysAside_2 3 rfl rfl)
theorem dX8_laysAside_49 : decode cX8_laysAside 49 = .ok (.getfield 23, 3) := dk_180 0 23 (dk_at dksX8_laysAside_2 4 rfl rfl)
theorem dX8_laysAside_52 : decode cX8_laysAside 52 = .ok (.iastore, 1) := dk_79 (dk_at dksX8_laysAside_2 7 rfl rfl)
theorem dX8_laysAside_53 : decode cX8_laysAside 53 = .ok (.aload_n 0, 1) := dk_42 (dk_at dksX8_laysAside_2 8 rfl rfl)
theorem dX8_laysAside_54 : decode cX8_laysAside 54 = .ok (.getfield 32, 3) := dk_180 0 32 (dk_at dksX8_laysAside_2 9 rfl rfl)
theorem dX8_laysAside_57 : decode cX8_laysAside 57 = .ok (.bipush 26, 2) := dk_16 26 (dk_at dksX8_laysAside_2 12 rfl rfl)
theorem dX8_laysAside_59 : decode cX8_laysAside 59 = .ok (.aload_n 0, 1) := dk_42 (dk_at dksX8_laysAside_2 14 rfl rfl)
theorem dX8_laysAside_60 : decode cX8_laysAside 60 = .ok (.getfield 266, 3) := dk_180 1 10 (dk_at dksX8_laysAside_2 15 rfl rfl)
theorem dX8_laysAside_63 : decode cX8_laysAside 63 = .ok (.imul, 1) := dk_104 (dk_at dksX8_laysAside_2 18 rfl rfl)
theorem dX8_laysAside_64 : decode cX8_laysAside 64 = .ok (.bipush 25, 2) := dk_16 25 (dk_at dksX8_laysAside_2 19 rfl rfl)
theorem dX8_laysAside_66 : decode cX8_laysAside 66 = .ok (.iadd, 1) := dk_96 (dk_at dksX8_laysAside_2 21 rfl rfl)
theorem dX8_laysAside_67 : decode cX8_laysAside 67 = .ok (.aload_n 0, 1) := dk_42 (dk_at dksX8_laysAside_2 22 rfl rfl)
theorem dX8_laysAside_68 : decode cX8_laysAside 68 = .ok (.getfield 100, 3) := dk_180 0 100 (dk_at dksX8_laysAside_3 0 rfl rfl)
theorem dX8_laysAside_71 : decode cX8_laysAside 71 = .ok (.iastore, 1) := dk_79 (dk_at dksX8_laysAside_3 3 rfl rfl)
theorem dX8_laysAside_72 : decode cX8_laysAside 72 = .ok (.aload_n 0, 1) := dk_42 (dk_at dksX8_laysAside_3 4 rfl rfl)
theorem dX8_laysAside_73 : decode cX8_laysAside 73 = .ok (.dup, 1) := dk_89 (dk_at dksX8_laysAside_3 5 rfl rfl)
theorem dX8_laysAside_74 : decode cX8_laysAside 74 = .ok (.getfield 266, 3) := dk_180 1 10 (dk_at dksX8_laysAside_3 6 rfl rfl)
theorem dX8_laysAside_77 : decode cX8_laysAside 77 = .ok (.iconst 1, 1) := dk_4 (dk_at dksX8_laysAside_3 9 rfl rfl)
theorem dX8_laysAside_78 : decode cX8_laysAside 78 = .ok (.iadd, 1) := dk_96 (dk_at dksX8_laysAside_3 10 rfl rfl)
theorem dX8_laysAside_79 : decode cX8_laysAside 79 = .ok (.putfield 266, 3) := dk_181 1 10 (dk_at dksX8_laysAside_3 11 rfl rfl)
theorem dX8_laysAside_82 : decode cX8_laysAside 82 = .ok (.return_, 1) := dk_177 (dk_at dksX8_laysAside_3 14 rfl rfl)
abbrev cX8_games : ByteArray := prog_16_method_45_code
def yX8_games : MethodName := ⟨RX8, "games", "(II)I"⟩
def dkwX8_games_9 : List UInt8 := [16, 99, 184, 0, 243, 79, 42, 89, 180, 0, 100, 4, 96, 181, 0, 100, 29, 172]
abbrev dktX8_games_9 : List UInt8 := dkwX8_games_9 ++ []
def dkwX8_games_8 : List UInt8 := [42, 180, 0, 29, 7, 28, 104, 4, 96, 42, 180, 0, 29, 7, 28, 104, 4, 96, 46, 21, 5, 100, 3]
abbrev dktX8_games_8 : List UInt8 := dkwX8_games_8 ++ dktX8_games_9
def dkwX8_games_7 : List UInt8 := [27, 104, 4, 96, 42, 180, 0, 29, 7, 27, 104, 4, 96, 46, 21, 4, 100, 3, 16, 99, 184, 0, 243, 79]
abbrev dktX8_games_7 : List UInt8 := dkwX8_games_7 ++ dktX8_games_8
def dkwX8_games_6 : List UInt8 := [180, 0, 29, 7, 29, 104, 5, 96, 46, 4, 96, 3, 17, 3, 231, 184, 0, 243, 79, 42, 180, 0, 29, 7]
abbrev dktX8_games_6 : List UInt8 := dkwX8_games_6 ++ dktX8_games_7
def dkwX8_games_5 : List UInt8 := [42, 180, 0, 29, 7, 21, 7, 104, 6, 96, 21, 6, 79, 42, 180, 0, 29, 7, 29, 104, 5, 96, 42]
abbrev dktX8_games_5 : List UInt8 := dkwX8_games_5 ++ dktX8_games_6
def dkwX8_games_4 : List UInt8 := [167, 0, 4, 3, 181, 0, 23, 29, 2, 159, 0, 57, 29, 27, 160, 0, 7, 28, 167, 0, 4, 27, 54, 7]
abbrev dktX8_games_4 : List UInt8 := dkwX8_games_4 ++ dktX8_games_5
def dkwX8_games_3 : List UInt8 := [96, 3, 79, 42, 180, 0, 29, 7, 28, 104, 6, 96, 3, 79, 42, 29, 2, 160, 0, 8, 21, 6]
abbrev dktX8_games_3 : List UInt8 := dkwX8_games_3 ++ dktX8_games_4
def dkwX8_games_2 : List UInt8 := [182, 0, 112, 42, 28, 182, 0, 112, 128, 42, 180, 0, 23, 128, 54, 6, 42, 180, 0, 29, 7, 27, 104, 6]
abbrev dktX8_games_2 : List UInt8 := dkwX8_games_2 ++ dktX8_games_3
def dkwX8_games_1 : List UInt8 := [54, 4, 42, 28, 27, 29, 28, 160, 0, 7, 4, 167, 0, 4, 3, 182, 1, 6, 54, 5, 42, 27]
abbrev dktX8_games_1 : List UInt8 := dkwX8_games_1 ++ dktX8_games_2
def dkwX8_games_0 : List UInt8 := [42, 27, 28, 182, 1, 3, 62, 42, 27, 28, 29, 27, 160, 0, 7, 4, 167, 0, 4, 3, 182, 1, 6]
abbrev dktX8_games_0 : List UInt8 := dkwX8_games_0 ++ dktX8_games_1
theorem dksX8_games_0 : cX8_games.data.toList.drop 0 = dktX8_games_0 := by decide +kernel
theorem dksX8_games_1 : cX8_games.data.toList.drop 23 = dktX8_games_1 := dk_seg dksX8_games_0 23 rfl rfl
theorem dksX8_games_2 : cX8_games.data.toList.drop 45 = dktX8_games_2 := dk_seg dksX8_games_1 22 rfl rfl
theorem dksX8_games_3 : cX8_games.data.toList.drop 69 = dktX8_games_3 := dk_seg dksX8_games_2 24 rfl rfl
theorem dksX8_games_4 : cX8_games.data.toList.drop 91 = dktX8_games_4 := dk_seg dksX8_games_3 22 rfl rfl
theorem dksX8_games_5 : cX8_games.data.toList.drop 115 = dktX8_games_5 := dk_seg dksX8_games_4 24 rfl rfl
theorem dksX8_games_6 : cX8_games.data.toList.drop 138 = dktX8_games_6 := dk_seg dksX8_games_5 23 rfl rfl
theorem dksX8_games_7 : cX8_games.data.toList.drop 162 = dktX8_games_7 := dk_seg dksX8_games_6 24 rfl rfl
theorem dksX8_games_8 : cX8_games.data.toList.drop 186 = dktX8_games_8 := dk_seg dksX8_games_7 24 rfl rfl
theorem dksX8_games_9 : cX8_games.data.toList.drop 209 = dktX8_games_9 := dk_seg dksX8_games_8 23 rfl rfl
theorem dX8_games_0 : decode cX8_games 0 = .ok (.aload_n 0, 1) := dk_42 (dk_at dksX8_games_0 0 rfl rfl)
theorem dX8_games_1 : decode cX8_games 1 = .ok (.iload_n 1, 1) := dk_27 (dk_at dksX8_games_0 1 rfl rfl)
theorem dX8_games_2 : decode cX8_games 2 = .ok (.iload_n 2, 1) := dk_28 (dk_at dksX8_games_0 2 rfl rfl)
theorem dX8_games_3 : decode cX8_games 3 = .ok (.invokevirtual 259, 3) := dk_182 1 3 (dk_at dksX8_games_0 3 rfl rfl)
theorem dX8_games_6 : decode cX8_games 6 = .ok (.istore_n 3, 1) := dk_62 (dk_at dksX8_games_0 6 rfl rfl)
theorem dX8_games_7 : decode cX8_games 7 = .ok (.aload_n 0, 1) := dk_42 (dk_at dksX8_games_0 7 rfl rfl)
theorem dX8_games_8 : decode cX8_games 8 = .ok (.iload_n 1, 1) := dk_27 (dk_at dksX8_games_0 8 rfl rfl)
theorem dX8_games_9 : decode cX8_games 9 = .ok (.iload_n 2, 1) := dk_28 (dk_at dksX8_games_0 9 rfl rfl)
theorem dX8_games_10 : decode cX8_games 10 = .ok (.iload_n 3, 1) := dk_29 (dk_at dksX8_games_0 10 rfl rfl)
theorem dX8_games_11 : decode cX8_games 11 = .ok (.iload_n 1, 1) := dk_27 (dk_at dksX8_games_0 11 rfl rfl)
theorem dX8_games_12 : decode cX8_games 12 = .ok (.if_icmp .ne 7, 3) := dk_160 0 7 (dk_at dksX8_games_0 12 rfl rfl)
theorem dX8_games_15 : decode cX8_games 15 = .ok (.iconst 1, 1) := dk_4 (dk_at dksX8_games_0 15 rfl rfl)
theorem dX8_games_16 : decode cX8_games 16 = .ok (.goto 4, 3) := dk_167 0 4 (dk_at dksX8_games_0 16 rfl rfl)
theorem dX8_games_19 : decode cX8_games 19 = .ok (.iconst 0, 1) := dk_3 (dk_at dksX8_games_0 19 rfl rfl)
theorem dX8_games_20 : decode cX8_games 20 = .ok (.invokevirtual 262, 3) := dk_182 1 6 (dk_at dksX8_games_0 20 rfl rfl)
theorem dX8_games_23 : decode cX8_games 23 = .ok (.istore 4, 2) := dk_54 4 (dk_at dksX8_games_1 0 rfl rfl)
theorem dX8_games_25 : decode cX8_games 25 = .ok (.aload_n 0, 1) := dk_42 (dk_at dksX8_games_1 2 rfl rfl)
theorem dX8_games_26 : decode cX8_games 26 = .ok (.iload_n 2, 1) := dk_28 (dk_at dksX8_games_1 3 rfl rfl)
theorem dX8_games_27 : decode cX8_games 27 = .ok (.iload_n 1, 1) := dk_27 (dk_at dksX8_games_1 4 rfl rfl)
theorem dX8_games_28 : decode cX8_games 28 = .ok (.iload_n 3, 1) := dk_29 (dk_at dksX8_games_1 5 rfl rfl)
theorem dX8_games_29 : decode cX8_games 29 = .ok (.iload_n 2, 1) := dk_28 (dk_at dksX8_games_1 6 rfl rfl)
theorem dX8_games_30 : decode cX8_games 30 = .ok (.if_icmp .ne 7, 3) := dk_160 0 7 (dk_at dksX8_games_1 7 rfl rfl)
theorem dX8_games_33 : decode cX8_games 33 = .ok (.iconst 1, 1) := dk_4 (dk_at dksX8_games_1 10 rfl rfl)
theorem dX8_games_34 : decode cX8_games 34 = .ok (.goto 4, 3) := dk_167 0 4 (dk_at dksX8_games_1 11 rfl rfl)
theorem dX8_games_37 : decode cX8_games 37 = .ok (.iconst 0, 1) := dk_3 (dk_at dksX8_games_1 14 rfl rfl)
theorem dX8_games_38 : decode cX8_games 38 = .ok (.invokevirtual 262, 3) := dk_182 1 6 (dk_at dksX8_games_1 15 rfl rfl)
theorem dX8_games_41 : decode cX8_games 41 = .ok (.istore 5, 2) := dk_54 5 (dk_at dksX8_games_1 18 rfl rfl)
theorem dX8_games_43 : decode cX8_games 43 = .ok (.aload_n 0, 1) := dk_42 (dk_at dksX8_games_1 20 rfl rfl)
theorem dX8_games_44 : decode cX8_games 44 = .ok (.iload_n 1, 1) := dk_27 (dk_at dksX8_games_1 21 rfl rfl)
theorem dX8_games_45 : decode cX8_games 45 = .ok (.invokevirtual 112, 3) := dk_182 0 112 (dk_at dksX8_games_2 0 rfl rfl)
theorem dX8_games_48 : decode cX8_games 48 = .ok (.aload_n 0, 1) := dk_42 (dk_at dksX8_games_2 3 rfl rfl)
theorem dX8_games_49 : decode cX8_games 49 = .ok (.iload_n 2, 1) := dk_28 (dk_at dksX8_games_2 4 rfl rfl)
theorem dX8_games_50 : decode cX8_games 50 = .ok (.invokevirtual 112, 3) := dk_182 0 112 (dk_at dksX8_games_2 5 rfl rfl)
theorem dX8_games_53 : decode cX8_games 53 = .ok (.ior, 1) := dk_128 (dk_at dksX8_games_2 8 rfl rfl)
theorem dX8_games_54 : decode cX8_games 54 = .ok (.aload_n 0, 1) := dk_42 (dk_at dksX8_games_2 9 rfl rfl)
theorem dX8_games_55 : decode cX8_games 55 = .ok (.getfield 23, 3) := dk_180 0 23 (dk_at dksX8_games_2 10 rfl rfl)
theorem dX8_games_58 : decode cX8_games 58 = .ok (.ior, 1) := dk_128 (dk_at dksX8_games_2 13 rfl rfl)
theorem dX8_games_59 : decode cX8_games 59 = .ok (.istore 6, 2) := dk_54 6 (dk_at dksX8_games_2 14 rfl rfl)
theorem dX8_games_61 : decode cX8_games 61 = .ok (.aload_n 0, 1) := dk_42 (dk_at dksX8_games_2 16 rfl rfl)
theorem dX8_games_62 : decode cX8_games 62 = .ok (.getfield 29, 3) := dk_180 0 29 (dk_at dksX8_games_2 17 rfl rfl)
theorem dX8_games_65 : decode cX8_games 65 = .ok (.iconst 4, 1) := dk_7 (dk_at dksX8_games_2 20 rfl rfl)
theorem dX8_games_66 : decode cX8_games 66 = .ok (.iload_n 1, 1) := dk_27 (dk_at dksX8_games_2 21 rfl rfl)
theorem dX8_games_67 : decode cX8_games 67 = .ok (.imul, 1) := dk_104 (dk_at dksX8_games_2 22 rfl rfl)
theorem dX8_games_68 : decode cX8_games 68 = .ok (.iconst 3, 1) := dk_6 (dk_at dksX8_games_2 23 rfl rfl)
theorem dX8_games_69 : decode cX8_games 69 = .ok (.iadd, 1) := dk_96 (dk_at dksX8_games_3 0 rfl rfl)
theorem dX8_games_70 : decode cX8_games 70 = .ok (.iconst 0, 1) := dk_3 (dk_at dksX8_games_3 1 rfl rfl)
theorem dX8_games_71 : decode cX8_games 71 = .ok (.iastore, 1) := dk_79 (dk_at dksX8_games_3 2 rfl rfl)
theorem dX8_games_72 : decode cX8_games 72 = .ok (.aload_n 0, 1) := dk_42 (dk_at dksX8_games_3 3 rfl rfl)
theorem dX8_games_73 : decode cX8_games 73 = .ok (.getfield 29, 3) := dk_180 0 29 (dk_at dksX8_games_3 4 rfl rfl)
theorem dX8_games_76 : decode cX8_games 76 = .ok (.iconst 4, 1) := dk_7 (dk_at dksX8_games_3 7 rfl rfl)
theorem dX8_games_77 : decode cX8_games 77 = .ok (.iload_n 2, 1) := dk_28 (dk_at dksX8_games_3 8 rfl rfl)
theorem dX8_games_78 : decode cX8_games 78 = .ok (.imul, 1) := dk_104 (dk_at dksX8_games_3 9 rfl rfl)
theorem dX8_games_79 : decode cX8_games 79 = .ok (.iconst 3, 1) := dk_6 (dk_at dksX8_games_3 10 rfl rfl)
theorem dX8_games_80 : decode cX8_games 80 = .ok (.iadd, 1) := dk_96 (dk_at dksX8_games_3 11 rfl rfl)
theorem dX8_games_81 : decode cX8_games 81 = .ok (.iconst 0, 1) := dk_3 (dk_at dksX8_games_3 12 rfl rfl)
theorem dX8_games_82 : decode cX8_games 82 = .ok (.iastore, 1) := dk_79 (dk_at dksX8_games_3 13 rfl rfl)
theorem dX8_games_83 : decode cX8_games 83 = .ok (.aload_n 0, 1) := dk_42 (dk_at dksX8_games_3 14 rfl rfl)
theorem dX8_games_84 : decode cX8_games 84 = .ok (.iload_n 3, 1) := dk_29 (dk_at dksX8_games_3 15 rfl rfl)
theorem dX8_games_85 : decode cX8_games 85 = .ok (.iconst (-1), 1) := dk_2 (dk_at dksX8_games_3 16 rfl rfl)
theorem dX8_games_86 : decode cX8_games 86 = .ok (.if_icmp .ne 8, 3) := dk_160 0 8 (dk_at dksX8_games_3 17 rfl rfl)
theorem dX8_games_89 : decode cX8_games 89 = .ok (.iload 6, 2) := dk_21 6 (dk_at dksX8_games_3 20 rfl rfl)
theorem dX8_games_91 : decode cX8_games 91 = .ok (.goto 4, 3) := dk_167 0 4 (dk_at dksX8_games_4 0 rfl rfl)
theorem dX8_games_94 : decode cX8_games 94 = .ok (.iconst 0, 1) := dk_3 (dk_at dksX8_games_4 3 rfl rfl)
theorem dX8_games_95 : decode cX8_games 95 = .ok (.putfield 23, 3) := dk_181 0 23 (dk_at dksX8_games_4 4 rfl rfl)
theorem dX8_games_98 : decode cX8_games 98 = .ok (.iload_n 3, 1) := dk_29 (dk_at dksX8_games_4 7 rfl rfl)
theorem dX8_games_99 : decode cX8_games 99 = .ok (.iconst (-1), 1) := dk_2 (dk_at dksX8_games_4 8 rfl rfl)
theorem dX8_games_100 : decode cX8_games 100 = .ok (.if_icmp .eq 57, 3) := dk_159 0 57 (dk_at dksX8_games_4 9 rfl rfl)
theorem dX8_games_103 : decode cX8_games 103 = .ok (.iload_n 3, 1) := dk_29 (dk_at dksX8_games_4 12 rfl rfl)
theorem dX8_games_104 : decode cX8_games 104 = .ok (.iload_n 1, 1) := dk_27 (dk_at dksX8_games_4 13 rfl rfl)
theorem dX8_games_105 : decode cX8_games 105 = .ok (.if_icmp .ne 7, 3) := dk_160 0 7 (dk_at dksX8_games_4 14 rfl rfl)
theorem dX8_games_108 : decode cX8_games 108 = .ok (.iload_n 2, 1) := dk_28 (dk_at dksX8_games_4 17 rfl rfl)
theorem dX8_games_109 : decode cX8_games 109 = .ok (.goto 4, 3) := dk_167 0 4 (dk_at dksX8_games_4 18 rfl rfl)
theorem dX8_games_112 : decode cX8_games 112 = .ok (.iload_n 1, 1) := dk_27 (dk_at dksX8_games_4 21 rfl rfl)
theorem dX8_games_113 : decode cX8_games 113 = .ok (.istore 7, 2) := dk_54 7 (dk_at dksX8_games_4 22 rfl rfl)
theorem dX8_games_115 : decode cX8_games 115 = .ok (.aload_n 0, 1) := dk_42 (dk_at dksX8_games_5 0 rfl rfl)
theorem dX8_games_116 : decode cX8_games 116 = .ok (.getfield 29, 3) := dk_180 0 29 (dk_at dksX8_games_5 1 rfl rfl)
theorem dX8_games_119 : decode cX8_games 119 = .ok (.iconst 4, 1) := dk_7 (dk_at dksX8_games_5 4 rfl rfl)
theorem dX8_games_120 : decode cX8_games 120 = .ok (.iload 7, 2) := dk_21 7 (dk_at dksX8_games_5 5 rfl rfl)
theorem dX8_games_122 : decode cX8_games 122 = .ok (.imul, 1) := dk_104 (dk_at dksX8_games_5 7 rfl rfl)
theorem dX8_games_123 : decode cX8_games 123 = .ok (.iconst 3, 1) := dk_6 (dk_at dksX8_games_5 8 rfl rfl)
theorem dX8_games_124 : decode cX8_games 124 = .ok (.iadd, 1) := dk_96 (dk_at dksX8_games_5 9 rfl rfl)
theorem dX8_games_125 : decode cX8_games 125 = .ok (.iload 6, 2) := dk_21 6 (dk_at dksX8_games_5 10 rfl rfl)
theorem dX8_games_127 : decode cX8_games 127 = .ok (.iastore, 1) := dk_79 (dk_at dksX8_games_5 12 rfl rfl)
theorem dX8_games_128 : decode cX8_games 128 = .ok (.aload_n 0, 1) := dk_42 (dk_at dksX8_games_5 13 rfl rfl)
theorem dX8_games_129 : decode cX8_games 129 = .ok (.getfield 29, 3) := dk_180 0 29 (dk_at dksX8_games_5 14 rfl rfl)
theorem dX8_games_132 : decode cX8_games 132 = .ok (.iconst 4, 1) := dk_7 (dk_at dksX8_games_5 17 rfl rfl)
theorem dX8_games_133 : decode cX8_games 133 = .ok (.iload_n 3, 1) := dk_29 (dk_at dksX8_games_5 18 rfl rfl)
theorem dX8_games_134 : decode cX8_games 134 = .ok (.imul, 1) := dk_104 (dk_at dksX8_games_5 19 rfl rfl)
theorem dX8_games_135 : decode cX8_games 135 = .ok (.iconst 2, 1) := dk_5 (dk_at dksX8_games_5 20 rfl rfl)
theorem dX8_games_136 : decode cX8_games 136 = .ok (.iadd, 1) := dk_96 (dk_at dksX8_games_5 21 rfl rfl)
theorem dX8_games_137 : decode cX8_games 137 = .ok (.aload_n 0, 1) := dk_42 (dk_at dksX8_games_5 22 rfl rfl)
theorem dX8_games_138 : decode cX8_games 138 = .ok (.getfield 29, 3) := dk_180 0 29 (dk_at dksX8_games_6 0 rfl rfl)
theorem dX8_games_141 : decode cX8_games 141 = .ok (.iconst 4, 1) := dk_7 (dk_at dksX8_games_6 3 rfl rfl)
theorem dX8_games_142 : decode cX8_games 142 = .ok (.iload_n 3, 1) := dk_29 (dk_at dksX8_games_6 4 rfl rfl)
theorem dX8_games_143 : decode cX8_games 143 = .ok (.imul, 1) := dk_104 (dk_at dksX8_games_6 5 rfl rfl)
theorem dX8_games_144 : decode cX8_games 144 = .ok (.iconst 2, 1) := dk_5 (dk_at dksX8_games_6 6 rfl rfl)
theorem dX8_games_145 : decode cX8_games 145 = .ok (.iadd, 1) := dk_96 (dk_at dksX8_games_6 7 rfl rfl)
theorem dX8_games_146 : decode cX8_games 146 = .ok (.iaload, 1) := dk_46 (dk_at dksX8_games_6 8 rfl rfl)
theorem dX8_games_147 : decode cX8_games 147 = .ok (.iconst 1, 1) := dk_4 (dk_at dksX8_games_6 9 rfl rfl)
theorem dX8_games_148 : decode cX8_games 148 = .ok (.iadd, 1) := dk_96 (dk_at dksX8_games_6 10 rfl rfl)
theorem dX8_games_149 : decode cX8_games 149 = .ok (.iconst 0, 1) := dk_3 (dk_at dksX8_games_6 11 rfl rfl)
theorem dX8_games_150 : decode cX8_games 150 = .ok (.sipush 999, 3) := dk_17 3 231 (dk_at dksX8_games_6 12 rfl rfl)
theorem dX8_games_153 : decode cX8_games 153 = .ok (.invokestatic 243, 3) := dk_184 0 243 (dk_at dksX8_games_6 15 rfl rfl)
theorem dX8_games_156 : decode cX8_games 156 = .ok (.iastore, 1) := dk_79 (dk_at dksX8_games_6 18 rfl rfl)
theorem dX8_games_157 : decode cX8_games 157 = .ok (.aload_n 0, 1) := dk_42 (dk_at dksX8_games_6 19 rfl rfl)
theorem dX8_games_158 : decode cX8_games 158 = .ok (.getfield 29, 3) := dk_180 0 29 (dk_at dksX8_games_6 20 rfl rfl)
theorem dX8_games_161 : decode cX8_games 161 = .ok (.iconst 4, 1) := dk_7 (dk_at dksX8_games_6 23 rfl rfl)
theorem dX8_games_162 : decode cX8_games 162 = .ok (.iload_n 1, 1) := dk_27 (dk_at dksX8_games_7 0 rfl rfl)
theorem dX8_games_163 : decode cX8_games 163 = .ok (.imul, 1) := dk_104 (dk_at dksX8_games_7 1 rfl rfl)
theorem dX8_games_164 : decode cX8_games 164 = .ok (.iconst 1, 1) := dk_4 (dk_at dksX8_games_7 2 rfl rfl)
theorem dX8_games_165 : decode cX8_games 165 = .ok (.iadd, 1) := dk_96 (dk_at dksX8_games_7 3 rfl rfl)
theorem dX8_games_166 : decode cX8_games 166 = .ok (.aload_n 0, 1) := dk_42 (dk_at dksX8_games_7 4 rfl rfl)
theorem dX8_games_167 : decode cX8_games 167 = .ok (.getfield 29, 3) := dk_180 0 29 (dk_at dksX8_games_7 5 rfl rfl)
theorem dX8_games_170 : decode cX8_games 170 = .ok (.iconst 4, 1) := dk_7 (dk_at dksX8_games_7 8 rfl rfl)
theorem dX8_games_171 : decode cX8_games 171 = .ok (.iload_n 1, 1) := dk_27 (dk_at dksX8_games_7 9 rfl rfl)
theorem dX8_games_172 : decode cX8_games 172 = .ok (.imul, 1) := dk_104 (dk_at dksX8_games_7 10 rfl rfl)
theorem dX8_games_173 : decode cX8_games 173 = .ok (.iconst 1, 1) := dk_4 (dk_at dksX8_games_7 11 rfl rfl)
theorem dX8_games_174 : decode cX8_games 174 = .ok (.iadd, 1) := dk_96 (dk_at dksX8_games_7 12 rfl rfl)
theorem dX8_games_175 : decode cX8_games 175 = .ok (.iaload, 1) := dk_46 (dk_at dksX8_games_7 13 rfl rfl)
theorem dX8_games_176 : decode cX8_games 176 = .ok (.iload 4, 2) := dk_21 4 (dk_at dksX8_games_7 14 rfl rfl)
theorem dX8_games_178 : decode cX8_games 178 = .ok (.isub, 1) := dk_100 (dk_at dksX8_games_7 16 rfl rfl)
theorem dX8_games_179 : decode cX8_games 179 = .ok (.iconst 0, 1) := dk_3 (dk_at dksX8_games_7 17 rfl rfl)
theorem dX8_games_180 : decode cX8_games 180 = .ok (.bipush 99, 2) := dk_16 99 (dk_at dksX8_games_7 18 rfl rfl)
theorem dX8_games_182 : decode cX8_games 182 = .ok (.invokestatic 243, 3) := dk_184 0 243 (dk_at dksX8_games_7 20 rfl rfl)
theorem dX8_games_185 : decode cX8_games 185 = .ok (.iastore, 1) := dk_79 (dk_at dksX8_games_7 23 rfl rfl)
theorem dX8_games_186 : decode cX8_games 186 = .ok (.aload_n 0, 1) := dk_42 (dk_at dksX8_games_8 0 rfl rfl)
theorem dX8_games_187 : decode cX8_games 187 = .ok (.getfield 29, 3) := dk_180 0 29 (dk_at dksX8_games_8 1 rfl rfl)
theorem dX8_games_190 : decode cX8_games 190 = .ok (.iconst 4, 1) := dk_7 (dk_at dksX8_games_8 4 rfl rfl)
theorem dX8_games_191 : decode cX8_games 191 = .ok (.iload_n 2, 1) := dk_28 (dk_at dksX8_games_8 5 rfl rfl)
theorem dX8_games_192 : decode cX8_games 192 = .ok (.imul, 1) := dk_104 (dk_at dksX8_games_8 6 rfl rfl)
theorem dX8_games_193 : decode cX8_games 193 = .ok (.iconst 1, 1) := dk_4 (dk_at dksX8_games_8 7 rfl rfl)
theorem dX8_games_194 : decode cX8_games 194 = .ok (.iadd, 1) := dk_96 (dk_at dksX8_games_8 8 rfl rfl)
theorem dX8_games_195 : decode cX8_games 195 = .ok (.aload_n 0, 1) := dk_42 (dk_at dksX8_games_8 9 rfl rfl)
theorem dX8_games_196 : decode cX8_games 196 = .ok (.getfield 29, 3) := dk_180 0 29 (dk_at dksX8_games_8 10 rfl rfl)
theorem dX8_games_199 : decode cX8_games 199 = .ok (.iconst 4, 1) := dk_7 (dk_at dksX8_games_8 13 rfl rfl)
theorem dX8_games_200 : decode cX8_games 200 = .ok (.iload_n 2, 1) := dk_28 (dk_at dksX8_games_8 14 rfl rfl)
theorem dX8_games_201 : decode cX8_games 201 = .ok (.imul, 1) := dk_104 (dk_at dksX8_games_8 15 rfl rfl)
theorem dX8_games_202 : decode cX8_games 202 = .ok (.iconst 1, 1) := dk_4 (dk_at dksX8_games_8 16 rfl rfl)
theorem dX8_games_203 : decode cX8_games 203 = .ok (.iadd, 1) := dk_96 (dk_at dksX8_games_8 17 rfl rfl)
theorem dX8_games_204 : decode cX8_games 204 = .ok (.iaload, 1) := dk_46 (dk_at dksX8_games_8 18 rfl rfl)
theorem dX8_games_205 : decode cX8_games 205 = .ok (.iload 5, 2) := dk_21 5 (dk_at dksX8_games_8 19 rfl rfl)
theorem dX8_games_207 : decode cX8_games 207 = .ok (.isub, 1) := dk_100 (dk_at dksX8_games_8 21 rfl rfl)
theorem dX8_games_208 : decode cX8_games 208 = .ok (.iconst 0, 1) := dk_3 (dk_at dksX8_games_8 22 rfl rfl)
theorem dX8_games_209 : decode cX8_games 209 = .ok (.bipush 99, 2) := dk_16 99 (dk_at dksX8_games_9 0 rfl rfl)
theorem dX8_games_211 : decode cX8_games 211 = .ok (.invokestatic 243, 3) := dk_184 0 243 (dk_at dksX8_games_9 2 rfl rfl)
theorem dX8_games_214 : decode cX8_games 214 = .ok (.iastore, 1) := dk_79 (dk_at dksX8_games_9 5 rfl rfl)
theorem dX8_games_215 : decode cX8_games 215 = .ok (.aload_n 0, 1) := dk_42 (dk_at dksX8_games_9 6 rfl rfl)
theorem dX8_games_216 : decode cX8_games 216 = .ok (.dup, 1) := dk_89 (dk_at dksX8_games_9 7 rfl rfl)
theorem dX8_games_217 : decode cX8_games 217 = .ok (.getfield 100, 3) := dk_180 0 100 (dk_at dksX8_games_9 8 rfl rfl)
theorem dX8_games_220 : decode cX8_games 220 = .ok (.iconst 1, 1) := dk_4 (dk_at dksX8_games_9 11 rfl rfl)
theorem dX8_games_221 : decode cX8_games 221 = .ok (.iadd, 1) := dk_96 (dk_at dksX8_games_9 12 rfl rfl)
theorem dX8_games_222 : decode cX8_games 222 = .ok (.putfield 100, 3) := dk_181 0 100 (dk_at dksX8_games_9 13 rfl rfl)
theorem dX8_games_225 : decode cX8_games 225 = .ok (.iload_n 3, 1) := dk_29 (dk_at dksX8_games_9 16 rfl rfl)
theorem dX8_games_226 : decode cX8_games 226 = .ok (.ireturn, 1) := dk_172 (dk_at dksX8_games_9 17 rfl rfl)
abbrev cX8_laysBack : ByteArray := prog_16_method_47_code
def yX8_laysBack : MethodName := ⟨RX8, "laysBack", "()V"⟩
def dkwX8_laysBack_3 : List UInt8 := [42, 180, 1, 10, 104, 16, 25, 96, 46, 181, 0, 100, 177]
abbrev dktX8_laysBack_3 : List UInt8 := dkwX8_laysBack_3 ++ []
def dkwX8_laysBack_2 : List UInt8 := [180, 0, 32, 16, 26, 42, 180, 1, 10, 104, 16, 24, 96, 46, 181, 0, 23, 42, 42, 180, 0, 32, 16, 26]
abbrev dktX8_laysBack_2 : List UInt8 := dkwX8_laysBack_2 ++ dktX8_laysBack_3
def dkwX8_laysBack_1 : List UInt8 := [180, 0, 32, 16, 26, 42, 180, 1, 10, 104, 27, 96, 46, 79, 132, 1, 1, 167, 255, 227, 42, 42]
abbrev dktX8_laysBack_1 : List UInt8 := dkwX8_laysBack_1 ++ dktX8_laysBack_2
def dkwX8_laysBack_0 : List UInt8 := [42, 89, 180, 1, 10, 4, 100, 181, 1, 10, 3, 60, 27, 16, 24, 162, 0, 29, 42, 180, 0, 29, 27, 42]
abbrev dktX8_laysBack_0 : List UInt8 := dkwX8_laysBack_0 ++ dktX8_laysBack_1
theorem dksX8_laysBack_0 : cX8_laysBack.data.toList.drop 0 = dktX8_laysBack_0 := by decide +kernel
theorem dksX8_laysBack_1 : cX8_laysBack.data.toList.drop 24 = dktX8_laysBack_1 := dk_seg dksX8_laysBack_0 24 rfl rfl
theorem dksX8_laysBack_2 : cX8_laysBack.data.toList.drop 46 = dktX8_laysBack_2 := dk_seg dksX8_laysBack_1 22 rfl rfl
theorem dksX8_laysBack_3 : cX8_laysBack.data.toList.drop 70 = dktX8_laysBack_3 := dk_seg dksX8_laysBack_2 24 rfl rfl
theorem dX8_laysBack_0 : decode cX8_laysBack 0 = .ok (.aload_n 0, 1) := dk_42 (dk_at dksX8_laysBack_0 0 rfl rfl)
theorem dX8_laysBack_1 : decode cX8_laysBack 1 = .ok (.dup, 1) := dk_89 (dk_at dksX8_laysBack_0 1 rfl rfl)
theorem dX8_laysBack_2 : decode cX8_laysBack 2 = .ok (.getfield 266, 3) := dk_180 1 10 (dk_at dksX8_laysBack_0 2 rfl rfl)
theorem dX8_laysBack_5 : decode cX8_laysBack 5 = .ok (.iconst 1, 1) := dk_4 (dk_at dksX8_laysBack_0 5 rfl rfl)
theorem dX8_laysBack_6 : decode cX8_laysBack 6 = .ok (.isub, 1) := dk_100 (dk_at dksX8_laysBack_0 6 rfl rfl)
theorem dX8_laysBack_7 : decode cX8_laysBack 7 = .ok (.putfield 266, 3) := dk_181 1 10 (dk_at dksX8_laysBack_0 7 rfl rfl)
theorem dX8_laysBack_10 : decode cX8_laysBack 10 = .ok (.iconst 0, 1) := dk_3 (dk_at dksX8_laysBack_0 10 rfl rfl)
theorem dX8_laysBack_11 : decode cX8_laysBack 11 = .ok (.istore_n 1, 1) := dk_60 (dk_at dksX8_laysBack_0 11 rfl rfl)
theorem dX8_laysBack_12 : decode cX8_laysBack 12 = .ok (.iload_n 1, 1) := dk_27 (dk_at dksX8_laysBack_0 12 rfl rfl)
theorem dX8_laysBack_13 : decode cX8_laysBack 13 = .ok (.bipush 24, 2) := dk_16 24 (dk_at dksX8_laysBack_0 13 rfl rfl)
theorem dX8_laysBack_15 : decode cX8_laysBack 15 = .ok (.if_icmp .ge 29, 3) := dk_162 0 29 (dk_at dksX8_laysBack_0 15 rfl rfl)
theorem dX8_laysBack_18 : decode cX8_laysBack 18 = .ok (.aload_n 0, 1) := dk_42 (dk_at dksX8_laysBack_0 18 rfl rfl)
theorem dX8_laysBack_19 : decode cX8_laysBack 19 = .ok (.getfield 29, 3) := dk_180 0 29 (dk_at dksX8_laysBack_0 19 rfl rfl)
theorem dX8_laysBack_22 : decode cX8_laysBack 22 = .ok (.iload_n 1, 1) := dk_27 (dk_at dksX8_laysBack_0 22 rfl rfl)
theorem dX8_laysBack_23 : decode cX8_laysBack 23 = .ok (.aload_n 0, 1) := dk_42 (dk_at dksX8_laysBack_0 23 rfl rfl)
theorem dX8_laysBack_24 : decode cX8_laysBack 24 = .ok (.getfield 32, 3) := dk_180 0 32 (dk_at dksX8_laysBack_1 0 rfl rfl)
theorem dX8_laysBack_27 : decode cX8_laysBack 27 = .ok (.bipush 26, 2) := dk_16 26 (dk_at dksX8_laysBack_1 3 rfl rfl)
theorem dX8_laysBack_29 : decode cX8_laysBack 29 = .ok (.aload_n 0, 1) := dk_42 (dk_at dksX8_laysBack_1 5 rfl rfl)
theorem dX8_laysBack_30 : decode cX8_laysBack 30 = .ok (.getfield 266, 3) := dk_180 1 10 (dk_at dksX8_laysBack_1 6 rfl rfl)
theorem dX8_laysBack_33 : decode cX8_laysBack 33 = .ok (.imul, 1) := dk_104 (dk_at dksX8_laysBack_1 9 rfl rfl)
theorem dX8_laysBack_34 : decode cX8_laysBack 34 = .ok (.iload_n 1, 1) := dk_27 (dk_at dksX8_laysBack_1 10 rfl rfl)
theorem dX8_laysBack_35 : decode cX8_laysBack 35 = .ok (.iadd, 1) := dk_96 (dk_at dksX8_laysBack_1 11 rfl rfl)
theorem dX8_laysBack_36 : decode cX8_laysBack 36 = .ok (.iaload, 1) := dk_46 (dk_at dksX8_laysBack_1 12 rfl rfl)
theorem dX8_laysBack_37 : decode cX8_laysBack 37 = .ok (.iastore, 1) := dk_79 (dk_at dksX8_laysBack_1 13 rfl rfl)
theorem dX8_laysBack_38 : decode cX8_laysBack 38 = .ok (.iinc 1 1, 3) := dk_132 1 1 (dk_at dksX8_laysBack_1 14 rfl rfl)
theorem dX8_laysBack_41 : decode cX8_laysBack 41 = .ok (.goto (-29), 3) := dk_167 255 227 (dk_at dksX8_laysBack_1 17 rfl rfl)
theorem dX8_laysBack_44 : decode cX8_laysBack 44 = .ok (.aload_n 0, 1) := dk_42 (dk_at dksX8_laysBack_1 20 rfl rfl)
theorem dX8_laysBack_45 : decode cX8_laysBack 45 = .ok (.aload_n 0, 1) := dk_42 (dk_at dksX8_laysBack_1 21 rfl rfl)
theorem dX8_laysBack_46 : decode cX8_laysBack 46 = .ok (.getfield 32, 3) := dk_180 0 32 (dk_at dksX8_laysBack_2 0 rfl rfl)
theorem dX8_laysBack_49 : decode cX8_laysBack 49 = .ok (.bipush 26, 2) := dk_16 26 (dk_at dksX8_laysBack_2 3 rfl rfl)
theorem dX8_laysBack_51 : decode cX8_laysBack 51 = .ok (.aload_n 0, 1) := dk_42 (dk_at dksX8_laysBack_2 5 rfl rfl)
theorem dX8_laysBack_52 : decode cX8_laysBack 52 = .ok (.getfield 266, 3) := dk_180 1 10 (dk_at dksX8_laysBack_2 6 rfl rfl)
theorem dX8_laysBack_55 : decode cX8_laysBack 55 = .ok (.imul, 1) := dk_104 (dk_at dksX8_laysBack_2 9 rfl rfl)
theorem dX8_laysBack_56 : decode cX8_laysBack 56 = .ok (.bipush 24, 2) := dk_16 24 (dk_at dksX8_laysBack_2 10 rfl rfl)
theorem dX8_laysBack_58 : decode cX8_laysBack 58 = .ok (.iadd, 1) := dk_96 (dk_at dksX8_laysBack_2 12 rfl rfl)
theorem dX8_laysBack_59 : decode cX8_laysBack 59 = .ok (.iaload, 1) := dk_46 (dk_at dksX8_laysBack_2 13 rfl rfl)
theorem dX8_laysBack_60 : decode cX8_laysBack 60 = .ok (.putfield 23, 3) := dk_181 0 23 (dk_at dksX8_laysBack_2 14 rfl rfl)
theorem dX8_laysBack_63 : decode cX8_laysBack 63 = .ok (.aload_n 0, 1) := dk_42 (dk_at dksX8_laysBack_2 17 rfl rfl)
theorem dX8_laysBack_64 : decode cX8_laysBack 64 = .ok (.aload_n 0, 1) := dk_42 (dk_at dksX8_laysBack_2 18 rfl rfl)
theorem dX8_laysBack_65 : decode cX8_laysBack 65 = .ok (.getfield 32, 3) := dk_180 0 32 (dk_at dksX8_laysBack_2 19 rfl rfl)
theorem dX8_laysBack_68 : decode cX8_laysBack 68 = .ok (.bipush 26, 2) := dk_16 26 (dk_at dksX8_laysBack_2 22 rfl rfl)
theorem dX8_laysBack_70 : decode cX8_laysBack 70 = .ok (.aload_n 0, 1) := dk_42 (dk_at dksX8_laysBack_3 0 rfl rfl)
theorem dX8_laysBack_71 : decode cX8_laysBack 71 = .ok (.getfield 266, 3) := dk_180 1 10 (dk_at dksX8_laysBack_3 1 rfl rfl)
theorem dX8_laysBack_74 : decode cX8_laysBack 74 = .ok (.imul, 1) := dk_104 (dk_at dksX8_laysBack_3 4 rfl rfl)
theorem dX8_laysBack_75 : decode cX8_laysBack 75 = .ok (.bipush 25, 2) := dk_16 25 (dk_at dksX8_laysBack_3 5 rfl rfl)
theorem dX8_laysBack_77 : decode cX8_laysBack 77 = .ok (.iadd, 1) := dk_96 (dk_at dksX8_laysBack_3 7 rfl rfl)
theorem dX8_laysBack_78 : decode cX8_laysBack 78 = .ok (.iaload, 1) := dk_46 (dk_at dksX8_laysBack_3 8 rfl rfl)
theorem dX8_laysBack_79 : decode cX8_laysBack 79 = .ok (.putfield 100, 3) := dk_181 0 100 (dk_at dksX8_laysBack_3 9 rfl rfl)
theorem dX8_laysBack_82 : decode cX8_laysBack 82 = .ok (.return_, 1) := dk_177 (dk_at dksX8_laysBack_3 12 rfl rfl)
abbrev cX8_game : ByteArray := prog_16_method_50_code
def yX8_game : MethodName := ⟨RX8, "game", "(II)I"⟩
def dkwX8_game_1 : List UInt8 := [167, 0, 9, 42, 27, 28, 182, 1, 22, 172]
abbrev dktX8_game_1 : List UInt8 := dkwX8_game_1 ++ []
def dkwX8_game_0 : List UInt8 := [42, 27, 28, 182, 1, 13, 154, 0, 6, 16, 254, 172, 42, 180, 0, 100, 17, 3, 231, 160, 0, 8, 16, 253]
abbrev dktX8_game_0 : List UInt8 := dkwX8_game_0 ++ dktX8_game_1
theorem dksX8_game_0 : cX8_game.data.toList.drop 0 = dktX8_game_0 := by decide +kernel
theorem dksX8_game_1 : cX8_game.data.toList.drop 24 = dktX8_game_1 := dk_seg dksX8_game_0 24 rfl rfl
theorem dX8_game_0 : decode cX8_game 0 = .ok (.aload_n 0, 1) := dk_42 (dk_at dksX8_game_0 0 rfl rfl)
theorem dX8_game_1 : decode cX8_game 1 = .ok (.iload_n 1, 1) := dk_27 (dk_at dksX8_game_0 1 rfl rfl)
theorem dX8_game_2 : decode cX8_game 2 = .ok (.iload_n 2, 1) := dk_28 (dk_at dksX8_game_0 2 rfl rfl)
theorem dX8_game_3 : decode cX8_game 3 = .ok (.invokevirtual 269, 3) := dk_182 1 13 (dk_at dksX8_game_0 3 rfl rfl)
theorem dX8_game_6 : decode cX8_game 6 = .ok (.ifCond .ne 6, 3) := dk_154 0 6 (dk_at dksX8_game_0 6 rfl rfl)
theorem dX8_game_9 : decode cX8_game 9 = .ok (.bipush (-2), 2) := dk_16 254 (dk_at dksX8_game_0 9 rfl rfl)
theorem dX8_game_11 : decode cX8_game 11 = .ok (.ireturn, 1) := dk_172 (dk_at dksX8_game_0 11 rfl rfl)
theorem dX8_game_12 : decode cX8_game 12 = .ok (.aload_n 0, 1) := dk_42 (dk_at dksX8_game_0 12 rfl rfl)
theorem dX8_game_13 : decode cX8_game 13 = .ok (.getfield 100, 3) := dk_180 0 100 (dk_at dksX8_game_0 13 rfl rfl)
theorem dX8_game_16 : decode cX8_game 16 = .ok (.sipush 999, 3) := dk_17 3 231 (dk_at dksX8_game_0 16 rfl rfl)
theorem dX8_game_19 : decode cX8_game 19 = .ok (.if_icmp .ne 8, 3) := dk_160 0 8 (dk_at dksX8_game_0 19 rfl rfl)
theorem dX8_game_22 : decode cX8_game 22 = .ok (.bipush (-3), 2) := dk_16 253 (dk_at dksX8_game_0 22 rfl rfl)
theorem dX8_game_24 : decode cX8_game 24 = .ok (.goto 9, 3) := dk_167 0 9 (dk_at dksX8_game_1 0 rfl rfl)
theorem dX8_game_27 : decode cX8_game 27 = .ok (.aload_n 0, 1) := dk_42 (dk_at dksX8_game_1 3 rfl rfl)
theorem dX8_game_28 : decode cX8_game 28 = .ok (.iload_n 1, 1) := dk_27 (dk_at dksX8_game_1 4 rfl rfl)
theorem dX8_game_29 : decode cX8_game 29 = .ok (.iload_n 2, 1) := dk_28 (dk_at dksX8_game_1 5 rfl rfl)
theorem dX8_game_30 : decode cX8_game 30 = .ok (.invokevirtual 278, 3) := dk_182 1 22 (dk_at dksX8_game_1 6 rfl rfl)
theorem dX8_game_33 : decode cX8_game 33 = .ok (.ireturn, 1) := dk_172 (dk_at dksX8_game_1 9 rfl rfl)
abbrev cX8_evening : ByteArray := prog_16_method_54_code
def yX8_evening : MethodName := ⟨RX8, "evening", "(II)I"⟩
def dkwX8_evening_4 : List UInt8 := [160, 0, 8, 21, 4, 167, 0, 7, 42, 182, 1, 41, 54, 5, 42, 182, 1, 25, 21, 5, 172]
abbrev dktX8_evening_4 : List UInt8 := dkwX8_evening_4 ++ []
def dkwX8_evening_3 : List UInt8 := [167, 0, 34, 28, 16, 6, 160, 0, 13, 42, 180, 0, 23, 184, 0, 116, 167, 0, 18, 28, 16, 7]
abbrev dktX8_evening_3 : List UInt8 := dkwX8_evening_3 ++ dktX8_evening_4
def dkwX8_evening_2 : List UInt8 := [29, 172, 42, 182, 1, 19, 42, 27, 182, 1, 38, 54, 4, 28, 16, 6, 162, 0, 11, 42, 28, 182, 0, 122]
abbrev dktX8_evening_2 : List UInt8 := dkwX8_evening_2 ++ dktX8_evening_3
def dkwX8_evening_1 : List UInt8 := [162, 0, 14, 42, 28, 182, 0, 68, 154, 0, 6, 16, 254, 172, 42, 27, 182, 1, 35, 62, 29, 153, 0, 5]
abbrev dktX8_evening_1 : List UInt8 := dkwX8_evening_1 ++ dktX8_evening_2
def dkwX8_evening_0 : List UInt8 := [27, 184, 1, 30, 153, 0, 29, 28, 133, 9, 20, 1, 33, 184, 0, 64, 153, 0, 17, 28, 16, 6]
abbrev dktX8_evening_0 : List UInt8 := dkwX8_evening_0 ++ dktX8_evening_1
theorem dksX8_evening_0 : cX8_evening.data.toList.drop 0 = dktX8_evening_0 := by decide +kernel
theorem dksX8_evening_1 : cX8_evening.data.toList.drop 22 = dktX8_evening_1 := dk_seg dksX8_evening_0 22 rfl rfl
theorem dksX8_evening_2 : cX8_evening.data.toList.drop 46 = dktX8_evening_2 := dk_seg dksX8_evening_1 24 rfl rfl
theorem dksX8_evening_3 : cX8_evening.data.toList.drop 70 = dktX8_evening_3 := dk_seg dksX8_evening_2 24 rfl rfl
theorem dksX8_evening_4 : cX8_evening.data.toList.drop 92 = dktX8_evening_4 := dk_seg dksX8_evening_3 22 rfl rfl
theorem dX8_evening_0 : decode cX8_evening 0 = .ok (.iload_n 1, 1) := dk_27 (dk_at dksX8_evening_0 0 rfl rfl)
theorem dX8_evening_1 : decode cX8_evening 1 = .ok (.invokestatic 286, 3) := dk_184 1 30 (dk_at dksX8_evening_0 1 rfl rfl)
theorem dX8_evening_4 : decode cX8_evening 4 = .ok (.ifCond .eq 29, 3) := dk_153 0 29 (dk_at dksX8_evening_0 4 rfl rfl)
theorem dX8_evening_7 : decode cX8_evening 7 = .ok (.iload_n 2, 1) := dk_28 (dk_at dksX8_evening_0 7 rfl rfl)
theorem dX8_evening_8 : decode cX8_evening 8 = .ok (.i2l, 1) := dk_133 (dk_at dksX8_evening_0 8 rfl rfl)
theorem dX8_evening_9 : decode cX8_evening 9 = .ok (.lconst 0, 1) := dk_9 (dk_at dksX8_evening_0 9 rfl rfl)
theorem dX8_evening_10 : decode cX8_evening 10 = .ok (.ldc2_w 289, 3) := dk_20 1 33 (dk_at dksX8_evening_0 10 rfl rfl)
theorem dX8_evening_13 : decode cX8_evening 13 = .ok (.invokestatic 64, 3) := dk_184 0 64 (dk_at dksX8_evening_0 13 rfl rfl)
theorem dX8_evening_16 : decode cX8_evening 16 = .ok (.ifCond .eq 17, 3) := dk_153 0 17 (dk_at dksX8_evening_0 16 rfl rfl)
theorem dX8_evening_19 : decode cX8_evening 19 = .ok (.iload_n 2, 1) := dk_28 (dk_at dksX8_evening_0 19 rfl rfl)
theorem dX8_evening_20 : decode cX8_evening 20 = .ok (.bipush 6, 2) := dk_16 6 (dk_at dksX8_evening_0 20 rfl rfl)
theorem dX8_evening_22 : decode cX8_evening 22 = .ok (.if_icmp .ge 14, 3) := dk_162 0 14 (dk_at dksX8_evening_1 0 rfl rfl)
theorem dX8_evening_25 : decode cX8_evening 25 = .ok (.aload_n 0, 1) := dk_42 (dk_at dksX8_evening_1 3 rfl rfl)
theorem dX8_evening_26 : decode cX8_evening 26 = .ok (.iload_n 2, 1) := dk_28 (dk_at dksX8_evening_1 4 rfl rfl)
theorem dX8_evening_27 : decode cX8_evening 27 = .ok (.invokevirtual 68, 3) := dk_182 0 68 (dk_at dksX8_evening_1 5 rfl rfl)
theorem dX8_evening_30 : decode cX8_evening 30 = .ok (.ifCond .ne 6, 3) := dk_154 0 6 (dk_at dksX8_evening_1 8 rfl rfl)
theorem dX8_evening_33 : decode cX8_evening 33 = .ok (.bipush (-2), 2) := dk_16 254 (dk_at dksX8_evening_1 11 rfl rfl)
theorem dX8_evening_35 : decode cX8_evening 35 = .ok (.ireturn, 1) := dk_172 (dk_at dksX8_evening_1 13 rfl rfl)
theorem dX8_evening_36 : decode cX8_evening 36 = .ok (.aload_n 0, 1) := dk_42 (dk_at dksX8_evening_1 14 rfl rfl)
theorem dX8_evening_37 : decode cX8_evening 37 = .ok (.iload_n 1, 1) := dk_27 (dk_at dksX8_evening_1 15 rfl rfl)
theorem dX8_evening_38 : decode cX8_evening 38 = .ok (.invokevirtual 291, 3) := dk_182 1 35 (dk_at dksX8_evening_1 16 rfl rfl)
theorem dX8_evening_41 : decode cX8_evening 41 = .ok (.istore_n 3, 1) := dk_62 (dk_at dksX8_evening_1 19 rfl rfl)
theorem dX8_evening_42 : decode cX8_evening 42 = .ok (.iload_n 3, 1) := dk_29 (dk_at dksX8_evening_1 20 rfl rfl)
theorem dX8_evening_43 : decode cX8_evening 43 = .ok (.ifCond .eq 5, 3) := dk_153 0 5 (dk_at dksX8_evening_1 21 rfl rfl)
theorem dX8_evening_46 : decode cX8_evening 46 = .ok (.iload_n 3, 1) := dk_29 (dk_at dksX8_evening_2 0 rfl rfl)
theorem dX8_evening_47 : decode cX8_evening 47 = .ok (.ireturn, 1) := dk_172 (dk_at dksX8_evening_2 1 rfl rfl)
theorem dX8_evening_48 : decode cX8_evening 48 = .ok (.aload_n 0, 1) := dk_42 (dk_at dksX8_evening_2 2 rfl rfl)
theorem dX8_evening_49 : decode cX8_evening 49 = .ok (.invokevirtual 275, 3) := dk_182 1 19 (dk_at dksX8_evening_2 3 rfl rfl)
theorem dX8_evening_52 : decode cX8_evening 52 = .ok (.aload_n 0, 1) := dk_42 (dk_at dksX8_evening_2 6 rfl rfl)
theorem dX8_evening_53 : decode cX8_evening 53 = .ok (.iload_n 1, 1) := dk_27 (dk_at dksX8_evening_2 7 rfl rfl)
theorem dX8_evening_54 : decode cX8_evening 54 = .ok (.invokevirtual 294, 3) := dk_182 1 38 (dk_at dksX8_evening_2 8 rfl rfl)
theorem dX8_evening_57 : decode cX8_evening 57 = .ok (.istore 4, 2) := dk_54 4 (dk_at dksX8_evening_2 11 rfl rfl)
theorem dX8_evening_59 : decode cX8_evening 59 = .ok (.iload_n 2, 1) := dk_28 (dk_at dksX8_evening_2 13 rfl rfl)
theorem dX8_evening_60 : decode cX8_evening 60 = .ok (.bipush 6, 2) := dk_16 6 (dk_at dksX8_evening_2 14 rfl rfl)
theorem dX8_evening_62 : decode cX8_evening 62 = .ok (.if_icmp .ge 11, 3) := dk_162 0 11 (dk_at dksX8_evening_2 16 rfl rfl)
theorem dX8_evening_65 : decode cX8_evening 65 = .ok (.aload_n 0, 1) := dk_42 (dk_at dksX8_evening_2 19 rfl rfl)
theorem dX8_evening_66 : decode cX8_evening 66 = .ok (.iload_n 2, 1) := dk_28 (dk_at dksX8_evening_2 20 rfl rfl)
theorem dX8_evening_67 : decode cX8_evening 67 = .ok (.invokevirtual 122, 3) := dk_182 0 122 (dk_at dksX8_evening_2 21 rfl rfl)
theorem dX8_evening_70 : decode cX8_evening 70 = .ok (.goto 34, 3) := dk_167 0 34 (dk_at dksX8_evening_3 0 rfl rfl)
theorem dX8_evening_73 : decode cX8_evening 73 = .ok (.iload_n 2, 1) := dk_28 (dk_at dksX8_evening_3 3 rfl rfl)
theorem dX8_evening_74 : decode cX8_evening 74 = .ok (.bipush 6, 2) := dk_16 6 (dk_at dksX8_evening_3 4 rfl rfl)
theorem dX8_evening_76 : decode cX8_evening 76 = .ok (.if_icmp .ne 13, 3) := dk_160 0 13 (dk_at dksX8_evening_3 6 rfl rfl)
theorem dX8_evening_79 : decode cX8_evening 79 = .ok (.aload_n 0, 1) := dk_42 (dk_at dksX8_evening_3 9 rfl rfl)
theorem dX8_evening_80 : decode cX8_evening 80 = .ok (.getfield 23, 3) := dk_180 0 23 (dk_at dksX8_evening_3 10 rfl rfl)
theorem dX8_evening_83 : decode cX8_evening 83 = .ok (.invokestatic 116, 3) := dk_184 0 116 (dk_at dksX8_evening_3 13 rfl rfl)
theorem dX8_evening_86 : decode cX8_evening 86 = .ok (.goto 18, 3) := dk_167 0 18 (dk_at dksX8_evening_3 16 rfl rfl)
theorem dX8_evening_89 : decode cX8_evening 89 = .ok (.iload_n 2, 1) := dk_28 (dk_at dksX8_evening_3 19 rfl rfl)
theorem dX8_evening_90 : decode cX8_evening 90 = .ok (.bipush 7, 2) := dk_16 7 (dk_at dksX8_evening_3 20 rfl rfl)
theorem dX8_evening_92 : decode cX8_evening 92 = .ok (.if_icmp .ne 8, 3) := dk_160 0 8 (dk_at dksX8_evening_4 0 rfl rfl)
theorem dX8_evening_95 : decode cX8_evening 95 = .ok (.iload 4, 2) := dk_21 4 (dk_at dksX8_evening_4 3 rfl rfl)
theorem dX8_evening_97 : decode cX8_evening 97 = .ok (.goto 7, 3) := dk_167 0 7 (dk_at dksX8_evening_4 5 rfl rfl)
theorem dX8_evening_100 : decode cX8_evening 100 = .ok (.aload_n 0, 1) := dk_42 (dk_at dksX8_evening_4 8 rfl rfl)
theorem dX8_evening_101 : decode cX8_evening 101 = .ok (.invokevirtual 297, 3) := dk_182 1 41 (dk_at dksX8_evening_4 9 rfl rfl)
theorem dX8_evening_104 : decode cX8_evening 104 = .ok (.istore 5, 2) := dk_54 5 (dk_at dksX8_evening_4 12 rfl rfl)
theorem dX8_evening_106 : decode cX8_evening 106 = .ok (.aload_n 0, 1) := dk_42 (dk_at dksX8_evening_4 14 rfl rfl)
theorem dX8_evening_107 : decode cX8_evening 107 = .ok (.invokevirtual 281, 3) := dk_182 1 25 (dk_at dksX8_evening_4 15 rfl rfl)
theorem dX8_evening_110 : decode cX8_evening 110 = .ok (.iload 5, 2) := dk_21 5 (dk_at dksX8_evening_4 18 rfl rfl)
theorem dX8_evening_112 : decode cX8_evening 112 = .ok (.ireturn, 1) := dk_172 (dk_at dksX8_evening_4 20 rfl rfl)
abbrev cX8_isSheet : ByteArray := prog_16_method_77_code
def yX8_isSheet : MethodName := ⟨RX8, "isSheet", "(I)Z"⟩
def dkwX8_isSheet_0 : List UInt8 := [26, 133, 9, 20, 0, 83, 184, 0, 64, 172]
abbrev dktX8_isSheet_0 : List UInt8 := dkwX8_isSheet_0 ++ []
theorem dksX8_isSheet_0 : cX8_isSheet.data.toList.drop 0 = dktX8_isSheet_0 := by decide +kernel
theorem dX8_isSheet_0 : decode cX8_isSheet 0 = .ok (.iload_n 0, 1) := dk_26 (dk_at dksX8_isSheet_0 0 rfl rfl)
theorem dX8_isSheet_1 : decode cX8_isSheet 1 = .ok (.i2l, 1) := dk_133 (dk_at dksX8_isSheet_0 1 rfl rfl)
theorem dX8_isSheet_2 : decode cX8_isSheet 2 = .ok (.lconst 0, 1) := dk_9 (dk_at dksX8_isSheet_0 2 rfl rfl)
theorem dX8_isSheet_3 : decode cX8_isSheet 3 = .ok (.ldc2_w 83, 3) := dk_20 0 83 (dk_at dksX8_isSheet_0 3 rfl rfl)
theorem dX8_isSheet_6 : decode cX8_isSheet 6 = .ok (.invokestatic 64, 3) := dk_184 0 64 (dk_at dksX8_isSheet_0 6 rfl rfl)
theorem dX8_isSheet_9 : decode cX8_isSheet 9 = .ok (.ireturn, 1) := dk_172 (dk_at dksX8_isSheet_0 9 rfl rfl)
abbrev cX8_eveningBad : ByteArray := prog_16_method_51_code
def yX8_eveningBad : MethodName := ⟨RX8, "eveningBad", "(I)I"⟩
def dkwX8_eveningBad_3 : List UInt8 := [3, 172]
abbrev dktX8_eveningBad_3 : List UInt8 := dkwX8_eveningBad_3 ++ []
def dkwX8_eveningBad_2 : List UInt8 := [42, 29, 16, 10, 108, 29, 16, 10, 112, 182, 1, 13, 154, 0, 6, 16, 254, 172, 132, 2, 1, 167, 255, 201]
abbrev dktX8_eveningBad_2 : List UInt8 := dkwX8_eveningBad_2 ++ dktX8_eveningBad_3
def dkwX8_eveningBad_1 : List UInt8 := [42, 180, 0, 51, 16, 40, 27, 104, 28, 96, 46, 62, 29, 133, 9, 20, 1, 28, 184, 0, 64, 153, 0, 18]
abbrev dktX8_eveningBad_1 : List UInt8 := dkwX8_eveningBad_1 ++ dktX8_eveningBad_2
def dkwX8_eveningBad_0 : List UInt8 := [42, 180, 0, 41, 27, 51, 154, 0, 6, 16, 245, 172, 3, 61, 28, 42, 180, 0, 48, 27, 46, 162, 0, 51]
abbrev dktX8_eveningBad_0 : List UInt8 := dkwX8_eveningBad_0 ++ dktX8_eveningBad_1
theorem dksX8_eveningBad_0 : cX8_eveningBad.data.toList.drop 0 = dktX8_eveningBad_0 := by decide +kernel
theorem dksX8_eveningBad_1 : cX8_eveningBad.data.toList.drop 24 = dktX8_eveningBad_1 := dk_seg dksX8_eveningBad_0 24 rfl rfl
theorem dksX8_eveningBad_2 : cX8_eveningBad.data.toList.drop 48 = dktX8_eveningBad_2 := dk_seg dksX8_eveningBad_1 24 rfl rfl
theorem dksX8_eveningBad_3 : cX8_eveningBad.data.toList.drop 72 = dktX8_eveningBad_3 := dk_seg dksX8_eveningBad_2 24 rfl rfl
theorem dX8_eveningBad_0 : decode cX8_eveningBad 0 = .ok (.aload_n 0, 1) := dk_42 (dk_at dksX8_eveningBad_0 0 rfl rfl)
theorem dX8_eveningBad_1 : decode cX8_eveningBad 1 = .ok (.getfield 41, 3) := dk_180 0 41 (dk_at dksX8_eveningBad_0 1 rfl rfl)
theorem dX8_eveningBad_4 : decode cX8_eveningBad 4 = .ok (.iload_n 1, 1) := dk_27 (dk_at dksX8_eveningBad_0 4 rfl rfl)
theorem dX8_eveningBad_5 : decode cX8_eveningBad 5 = .ok (.baload, 1) := dk_51 (dk_at dksX8_eveningBad_0 5 rfl rfl)
theorem dX8_eveningBad_6 : decode cX8_eveningBad 6 = .ok (.ifCond .ne 6, 3) := dk_154 0 6 (dk_at dksX8_eveningBad_0 6 rfl rfl)
theorem dX8_eveningBad_9 : decode cX8_eveningBad 9 = .ok (.bipush (-11), 2) := dk_16 245 (dk_at dksX8_eveningBad_0 9 rfl rfl)
theorem dX8_eveningBad_11 : decode cX8_eveningBad 11 = .ok (.ireturn, 1) := dk_172 (dk_at dksX8_eveningBad_0 11 rfl rfl)
theorem dX8_eveningBad_12 : decode cX8_eveningBad 12 = .ok (.iconst 0, 1) := dk_3 (dk_at dksX8_eveningBad_0 12 rfl rfl)
theorem dX8_eveningBad_13 : decode cX8_eveningBad 13 = .ok (.istore_n 2, 1) := dk_61 (dk_at dksX8_eveningBad_0 13 rfl rfl)
theorem dX8_eveningBad_14 : decode cX8_eveningBad 14 = .ok (.iload_n 2, 1) := dk_28 (dk_at dksX8_eveningBad_0 14 rfl rfl)
theorem dX8_eveningBad_15 : decode cX8_eveningBad 15 = .ok (.aload_n 0, 1) := dk_42 (dk_at dksX8_eveningBad_0 15 rfl rfl)
theorem dX8_eveningBad_16 : decode cX8_eveningBad 16 = .ok (.getfield 48, 3) := dk_180 0 48 (dk_at dksX8_eveningBad_0 16 rfl rfl)
theorem dX8_eveningBad_19 : decode cX8_eveningBad 19 = .ok (.iload_n 1, 1) := dk_27 (dk_at dksX8_eveningBad_0 19 rfl rfl)
theorem dX8_eveningBad_20 : decode cX8_eveningBad 20 = .ok (.iaload, 1) := dk_46 (dk_at dksX8_eveningBad_0 20 rfl rfl)
theorem dX8_eveningBad_21 : decode cX8_eveningBad 21 = .ok (.if_icmp .ge 51, 3) := dk_162 0 51 (dk_at dksX8_eveningBad_0 21 rfl rfl)
theorem dX8_eveningBad_24 : decode cX8_eveningBad 24 = .ok (.aload_n 0, 1) := dk_42 (dk_at dksX8_eveningBad_1 0 rfl rfl)
theorem dX8_eveningBad_25 : decode cX8_eveningBad 25 = .ok (.getfield 51, 3) := dk_180 0 51 (dk_at dksX8_eveningBad_1 1 rfl rfl)
theorem dX8_eveningBad_28 : decode cX8_eveningBad 28 = .ok (.bipush 40, 2) := dk_16 40 (dk_at dksX8_eveningBad_1 4 rfl rfl)
theorem dX8_eveningBad_30 : decode cX8_eveningBad 30 = .ok (.iload_n 1, 1) := dk_27 (dk_at dksX8_eveningBad_1 6 rfl rfl)
theorem dX8_eveningBad_31 : decode cX8_eveningBad 31 = .ok (.imul, 1) := dk_104 (dk_at dksX8_eveningBad_1 7 rfl rfl)
theorem dX8_eveningBad_32 : decode cX8_eveningBad 32 = .ok (.iload_n 2, 1) := dk_28 (dk_at dksX8_eveningBad_1 8 rfl rfl)
theorem dX8_eveningBad_33 : decode cX8_eveningBad 33 = .ok (.iadd, 1) := dk_96 (dk_at dksX8_eveningBad_1 9 rfl rfl)
theorem dX8_eveningBad_34 : decode cX8_eveningBad 34 = .ok (.iaload, 1) := dk_46 (dk_at dksX8_eveningBad_1 10 rfl rfl)
theorem dX8_eveningBad_35 : decode cX8_eveningBad 35 = .ok (.istore_n 3, 1) := dk_62 (dk_at dksX8_eveningBad_1 11 rfl rfl)
theorem dX8_eveningBad_36 : decode cX8_eveningBad 36 = .ok (.iload_n 3, 1) := dk_29 (dk_at dksX8_eveningBad_1 12 rfl rfl)
theorem dX8_eveningBad_37 : decode cX8_eveningBad 37 = .ok (.i2l, 1) := dk_133 (dk_at dksX8_eveningBad_1 13 rfl rfl)
theorem dX8_eveningBad_38 : decode cX8_eveningBad 38 = .ok (.lconst 0, 1) := dk_9 (dk_at dksX8_eveningBad_1 14 rfl rfl)
theorem dX8_eveningBad_39 : decode cX8_eveningBad 39 = .ok (.ldc2_w 284, 3) := dk_20 1 28 (dk_at dksX8_eveningBad_1 15 rfl rfl)
theorem dX8_eveningBad_42 : decode cX8_eveningBad 42 = .ok (.invokestatic 64, 3) := dk_184 0 64 (dk_at dksX8_eveningBad_1 18 rfl rfl)
theorem dX8_eveningBad_45 : decode cX8_eveningBad 45 = .ok (.ifCond .eq 18, 3) := dk_153 0 18 (dk_at dksX8_eveningBad_1 21 rfl rfl)
theorem dX8_eveningBad_48 : decode cX8_eveningBad 48 = .ok (.aload_n 0, 1) := dk_42 (dk_at dksX8_eveningBad_2 0 rfl rfl)
theorem dX8_eveningBad_49 : decode cX8_eveningBad 49 = .ok (.iload_n 3, 1) := dk_29 (dk_at dksX8_eveningBad_2 1 rfl rfl)
theorem dX8_eveningBad_50 : decode cX8_eveningBad 50 = .ok (.bipush 10, 2) := dk_16 10 (dk_at dksX8_eveningBad_2 2 rfl rfl)
theorem dX8_eveningBad_52 : decode cX8_eveningBad 52 = .ok (.idiv, 1) := dk_108 (dk_at dksX8_eveningBad_2 4 rfl rfl)
theorem dX8_eveningBad_53 : decode cX8_eveningBad 53 = .ok (.iload_n 3, 1) := dk_29 (dk_at dksX8_eveningBad_2 5 rfl rfl)
theorem dX8_eveningBad_54 : decode cX8_eveningBad 54 = .ok (.bipush 10, 2) := dk_16 10 (dk_at dksX8_eveningBad_2 6 rfl rfl)
theorem dX8_eveningBad_56 : decode cX8_eveningBad 56 = .ok (.irem, 1) := dk_112 (dk_at dksX8_eveningBad_2 8 rfl rfl)
theorem dX8_eveningBad_57 : decode cX8_eveningBad 57 = .ok (.invokevirtual 269, 3) := dk_182 1 13 (dk_at dksX8_eveningBad_2 9 rfl rfl)
theorem dX8_eveningBad_60 : decode cX8_eveningBad 60 = .ok (.ifCond .ne 6, 3) := dk_154 0 6 (dk_at dksX8_eveningBad_2 12 rfl rfl)
theorem dX8_eveningBad_63 : decode cX8_eveningBad 63 = .ok (.bipush (-2), 2) := dk_16 254 (dk_at dksX8_eveningBad_2 15 rfl rfl)
theorem dX8_eveningBad_65 : decode cX8_eveningBad 65 = .ok (.ireturn, 1) := dk_172 (dk_at dksX8_eveningBad_2 17 rfl rfl)
theorem dX8_eveningBad_66 : decode cX8_eveningBad 66 = .ok (.iinc 2 1, 3) := dk_132 2 1 (dk_at dksX8_eveningBad_2 18 rfl rfl)
theorem dX8_eveningBad_69 : decode cX8_eveningBad 69 = .ok (.goto (-55), 3) := dk_167 255 201 (dk_at dksX8_eveningBad_2 21 rfl rfl)
theorem dX8_eveningBad_72 : decode cX8_eveningBad 72 = .ok (.iconst 0, 1) := dk_3 (dk_at dksX8_eveningBad_3 0 rfl rfl)
theorem dX8_eveningBad_73 : decode cX8_eveningBad 73 = .ok (.ireturn, 1) := dk_172 (dk_at dksX8_eveningBad_3 1 rfl rfl)
abbrev cX8_goes : ByteArray := prog_16_method_52_code
def yX8_goes : MethodName := ⟨RX8, "goes", "(I)I"⟩
def dkwX8_goes_2 : List UInt8 := [167, 0, 4, 3, 96, 61, 132, 3, 1, 167, 255, 204, 28, 172]
abbrev dktX8_goes_2 : List UInt8 := dkwX8_goes_2 ++ []
def dkwX8_goes_1 : List UInt8 := [46, 54, 4, 28, 42, 21, 4, 16, 10, 108, 21, 4, 16, 10, 112, 182, 1, 22, 2, 160, 0, 7, 4]
abbrev dktX8_goes_1 : List UInt8 := dkwX8_goes_1 ++ dktX8_goes_2
def dkwX8_goes_0 : List UInt8 := [3, 61, 3, 62, 29, 42, 180, 0, 48, 27, 46, 162, 0, 48, 42, 180, 0, 51, 16, 40, 27, 104, 29, 96]
abbrev dktX8_goes_0 : List UInt8 := dkwX8_goes_0 ++ dktX8_goes_1
theorem dksX8_goes_0 : cX8_goes.data.toList.drop 0 = dktX8_goes_0 := by decide +kernel
theorem dksX8_goes_1 : cX8_goes.data.toList.drop 24 = dktX8_goes_1 := dk_seg dksX8_goes_0 24 rfl rfl
theorem dksX8_goes_2 : cX8_goes.data.toList.drop 47 = dktX8_goes_2 := dk_seg dksX8_goes_1 23 rfl rfl
theorem dX8_goes_0 : decode cX8_goes 0 = .ok (.iconst 0, 1) := dk_3 (dk_at dksX8_goes_0 0 rfl rfl)
theorem dX8_goes_1 : decode cX8_goes 1 = .ok (.istore_n 2, 1) := dk_61 (dk_at dksX8_goes_0 1 rfl rfl)
theorem dX8_goes_2 : decode cX8_goes 2 = .ok (.iconst 0, 1) := dk_3 (dk_at dksX8_goes_0 2 rfl rfl)
theorem dX8_goes_3 : decode cX8_goes 3 = .ok (.istore_n 3, 1) := dk_62 (dk_at dksX8_goes_0 3 rfl rfl)
theorem dX8_goes_4 : decode cX8_goes 4 = .ok (.iload_n 3, 1) := dk_29 (dk_at dksX8_goes_0 4 rfl rfl)
theorem dX8_goes_5 : decode cX8_goes 5 = .ok (.aload_n 0, 1) := dk_42 (dk_at dksX8_goes_0 5 rfl rfl)
theorem dX8_goes_6 : decode cX8_goes 6 = .ok (.getfield 48, 3) := dk_180 0 48 (dk_at dksX8_goes_0 6 rfl rfl)
theorem dX8_goes_9 : decode cX8_goes 9 = .ok (.iload_n 1, 1) := dk_27 (dk_at dksX8_goes_0 9 rfl rfl)
theorem dX8_goes_10 : decode cX8_goes 10 = .ok (.iaload, 1) := dk_46 (dk_at dksX8_goes_0 10 rfl rfl)
theorem dX8_goes_11 : decode cX8_goes 11 = .ok (.if_icmp .ge 48, 3) := dk_162 0 48 (dk_at dksX8_goes_0 11 rfl rfl)
theorem dX8_goes_14 : decode cX8_goes 14 = .ok (.aload_n 0, 1) := dk_42 (dk_at dksX8_goes_0 14 rfl rfl)
theorem dX8_goes_15 : decode cX8_goes 15 = .ok (.getfield 51, 3) := dk_180 0 51 (dk_at dksX8_goes_0 15 rfl rfl)
theorem dX8_goes_18 : decode cX8_goes 18 = .ok (.bipush 40, 2) := dk_16 40 (dk_at dksX8_goes_0 18 rfl rfl)
theorem dX8_goes_20 : decode cX8_goes 20 = .ok (.iload_n 1, 1) := dk_27 (dk_at dksX8_goes_0 20 rfl rfl)
theorem dX8_goes_21 : decode cX8_goes 21 = .ok (.imul, 1) := dk_104 (dk_at dksX8_goes_0 21 rfl rfl)
theorem dX8_goes_22 : decode cX8_goes 22 = .ok (.iload_n 3, 1) := dk_29 (dk_at dksX8_goes_0 22 rfl rfl)
theorem dX8_goes_23 : decode cX8_goes 23 = .ok (.iadd, 1) := dk_96 (dk_at dksX8_goes_0 23 rfl rfl)
theorem dX8_goes_24 : decode cX8_goes 24 = .ok (.iaload, 1) := dk_46 (dk_at dksX8_goes_1 0 rfl rfl)
theorem dX8_goes_25 : decode cX8_goes 25 = .ok (.istore 4, 2) := dk_54 4 (dk_at dksX8_goes_1 1 rfl rfl)
theorem dX8_goes_27 : decode cX8_goes 27 = .ok (.iload_n 2, 1) := dk_28 (dk_at dksX8_goes_1 3 rfl rfl)
theorem dX8_goes_28 : decode cX8_goes 28 = .ok (.aload_n 0, 1) := dk_42 (dk_at dksX8_goes_1 4 rfl rfl)
theorem dX8_goes_29 : decode cX8_goes 29 = .ok (.iload 4, 2) := dk_21 4 (dk_at dksX8_goes_1 5 rfl rfl)
theorem dX8_goes_31 : decode cX8_goes 31 = .ok (.bipush 10, 2) := dk_16 10 (dk_at dksX8_goes_1 7 rfl rfl)
theorem dX8_goes_33 : decode cX8_goes 33 = .ok (.idiv, 1) := dk_108 (dk_at dksX8_goes_1 9 rfl rfl)
theorem dX8_goes_34 : decode cX8_goes 34 = .ok (.iload 4, 2) := dk_21 4 (dk_at dksX8_goes_1 10 rfl rfl)
theorem dX8_goes_36 : decode cX8_goes 36 = .ok (.bipush 10, 2) := dk_16 10 (dk_at dksX8_goes_1 12 rfl rfl)
theorem dX8_goes_38 : decode cX8_goes 38 = .ok (.irem, 1) := dk_112 (dk_at dksX8_goes_1 14 rfl rfl)
theorem dX8_goes_39 : decode cX8_goes 39 = .ok (.invokevirtual 278, 3) := dk_182 1 22 (dk_at dksX8_goes_1 15 rfl rfl)
theorem dX8_goes_42 : decode cX8_goes 42 = .ok (.iconst (-1), 1) := dk_2 (dk_at dksX8_goes_1 18 rfl rfl)
theorem dX8_goes_43 : decode cX8_goes 43 = .ok (.if_icmp .ne 7, 3) := dk_160 0 7 (dk_at dksX8_goes_1 19 rfl rfl)
theorem dX8_goes_46 : decode cX8_goes 46 = .ok (.iconst 1, 1) := dk_4 (dk_at dksX8_goes_1 22 rfl rfl)
theorem dX8_goes_47 : decode cX8_goes 47 = .ok (.goto 4, 3) := dk_167 0 4 (dk_at dksX8_goes_2 0 rfl rfl)
theorem dX8_goes_50 : decode cX8_goes 50 = .ok (.iconst 0, 1) := dk_3 (dk_at dksX8_goes_2 3 rfl rfl)
theorem dX8_goes_51 : decode cX8_goes 51 = .ok (.iadd, 1) := dk_96 (dk_at dksX8_goes_2 4 rfl rfl)
theorem dX8_goes_52 : decode cX8_goes 52 = .ok (.istore_n 2, 1) := dk_61 (dk_at dksX8_goes_2 5 rfl rfl)
theorem dX8_goes_53 : decode cX8_goes 53 = .ok (.iinc 3 1, 3) := dk_132 3 1 (dk_at dksX8_goes_2 6 rfl rfl)
theorem dX8_goes_56 : decode cX8_goes 56 = .ok (.goto (-52), 3) := dk_167 255 204 (dk_at dksX8_goes_2 9 rfl rfl)
theorem dX8_goes_59 : decode cX8_goes 59 = .ok (.iload_n 2, 1) := dk_28 (dk_at dksX8_goes_2 12 rfl rfl)
theorem dX8_goes_60 : decode cX8_goes 60 = .ok (.ireturn, 1) := dk_172 (dk_at dksX8_goes_2 13 rfl rfl)
abbrev cX8_richest : ByteArray := prog_16_method_53_code
def yX8_richest : MethodName := ⟨RX8, "richest", "()I"⟩
def dkwX8_richest_2 : List UInt8 := [27, 172]
abbrev dktX8_richest_2 : List UInt8 := dkwX8_richest_2 ++ []
def dkwX8_richest_1 : List UInt8 := [159, 0, 16, 42, 28, 182, 0, 122, 42, 27, 182, 0, 122, 164, 0, 5, 28, 60, 132, 2, 1, 167, 255, 217]
abbrev dktX8_richest_1 : List UInt8 := dkwX8_richest_1 ++ dktX8_richest_2
def dkwX8_richest_0 : List UInt8 := [2, 60, 3, 61, 28, 42, 180, 0, 61, 162, 0, 37, 42, 28, 182, 0, 112, 153, 0, 23, 27, 2]
abbrev dktX8_richest_0 : List UInt8 := dkwX8_richest_0 ++ dktX8_richest_1
theorem dksX8_richest_0 : cX8_richest.data.toList.drop 0 = dktX8_richest_0 := by decide +kernel
theorem dksX8_richest_1 : cX8_richest.data.toList.drop 22 = dktX8_richest_1 := dk_seg dksX8_richest_0 22 rfl rfl
theorem dksX8_richest_2 : cX8_richest.data.toList.drop 46 = dktX8_richest_2 := dk_seg dksX8_richest_1 24 rfl rfl
theorem dX8_richest_0 : decode cX8_richest 0 = .ok (.iconst (-1), 1) := dk_2 (dk_at dksX8_richest_0 0 rfl rfl)
theorem dX8_richest_1 : decode cX8_richest 1 = .ok (.istore_n 1, 1) := dk_60 (dk_at dksX8_richest_0 1 rfl rfl)
theorem dX8_richest_2 : decode cX8_richest 2 = .ok (.iconst 0, 1) := dk_3 (dk_at dksX8_richest_0 2 rfl rfl)
theorem dX8_richest_3 : decode cX8_richest 3 = .ok (.istore_n 2, 1) := dk_61 (dk_at dksX8_richest_0 3 rfl rfl)
theorem dX8_richest_4 : decode cX8_richest 4 = .ok (.iload_n 2, 1) := dk_28 (dk_at dksX8_richest_0 4 rfl rfl)
theorem dX8_richest_5 : decode cX8_richest 5 = .ok (.aload_n 0, 1) := dk_42 (dk_at dksX8_richest_0 5 rfl rfl)
theorem dX8_richest_6 : decode cX8_richest 6 = .ok (.getfield 61, 3) := dk_180 0 61 (dk_at dksX8_richest_0 6 rfl rfl)
theorem dX8_richest_9 : decode cX8_richest 9 = .ok (.if_icmp .ge 37, 3) := dk_162 0 37 (dk_at dksX8_richest_0 9 rfl rfl)
theorem dX8_richest_12 : decode cX8_richest 12 = .ok (.aload_n 0, 1) := dk_42 (dk_at dksX8_richest_0 12 rfl rfl)
theorem dX8_richest_13 : decode cX8_richest 13 = .ok (.iload_n 2, 1) := dk_28 (dk_at dksX8_richest_0 13 rfl rfl)
theorem dX8_richest_14 : decode cX8_richest 14 = .ok (.invokevirtual 112, 3) := dk_182 0 112 (dk_at dksX8_richest_0 14 rfl rfl)
theorem dX8_richest_17 : decode cX8_richest 17 = .ok (.ifCond .eq 23, 3) := dk_153 0 23 (dk_at dksX8_richest_0 17 rfl rfl)
theorem dX8_richest_20 : decode cX8_richest 20 = .ok (.iload_n 1, 1) := dk_27 (dk_at dksX8_richest_0 20 rfl rfl)
theorem dX8_richest_21 : decode cX8_richest 21 = .ok (.iconst (-1), 1) := dk_2 (dk_at dksX8_richest_0 21 rfl rfl)
theorem dX8_richest_22 : decode cX8_richest 22 = .ok (.if_icmp .eq 16, 3) := dk_159 0 16 (dk_at dksX8_richest_1 0 rfl rfl)
theorem dX8_richest_25 : decode cX8_richest 25 = .ok (.aload_n 0, 1) := dk_42 (dk_at dksX8_richest_1 3 rfl rfl)
theorem dX8_richest_26 : decode cX8_richest 26 = .ok (.iload_n 2, 1) := dk_28 (dk_at dksX8_richest_1 4 rfl rfl)
theorem dX8_richest_27 : decode cX8_richest 27 = .ok (.invokevirtual 122, 3) := dk_182 0 122 (dk_at dksX8_richest_1 5 rfl rfl)
theorem dX8_richest_30 : decode cX8_richest 30 = .ok (.aload_n 0, 1) := dk_42 (dk_at dksX8_richest_1 8 rfl rfl)
theorem dX8_richest_31 : decode cX8_richest 31 = .ok (.iload_n 1, 1) := dk_27 (dk_at dksX8_richest_1 9 rfl rfl)
theorem dX8_richest_32 : decode cX8_richest 32 = .ok (.invokevirtual 122, 3) := dk_182 0 122 (dk_at dksX8_richest_1 10 rfl rfl)
theorem dX8_richest_35 : decode cX8_richest 35 = .ok (.if_icmp .le 5, 3) := dk_164 0 5 (dk_at dksX8_richest_1 13 rfl rfl)
theorem dX8_richest_38 : decode cX8_richest 38 = .ok (.iload_n 2, 1) := dk_28 (dk_at dksX8_richest_1 16 rfl rfl)
theorem dX8_richest_39 : decode cX8_richest 39 = .ok (.istore_n 1, 1) := dk_60 (dk_at dksX8_richest_1 17 rfl rfl)
theorem dX8_richest_40 : decode cX8_richest 40 = .ok (.iinc 2 1, 3) := dk_132 2 1 (dk_at dksX8_richest_1 18 rfl rfl)
theorem dX8_richest_43 : decode cX8_richest 43 = .ok (.goto (-39), 3) := dk_167 255 217 (dk_at dksX8_richest_1 21 rfl rfl)
theorem dX8_richest_46 : decode cX8_richest 46 = .ok (.iload_n 1, 1) := dk_27 (dk_at dksX8_richest_2 0 rfl rfl)
theorem dX8_richest_47 : decode cX8_richest 47 = .ok (.ireturn, 1) := dk_172 (dk_at dksX8_richest_2 1 rfl rfl)
abbrev cX8_play : ByteArray := prog_16_method_55_code
def yX8_play : MethodName := ⟨RX8, "play", "(I)I"⟩
def dkwX8_play_2 : List UInt8 := [182, 1, 38, 172]
abbrev dktX8_play_2 : List UInt8 := dkwX8_play_2 ++ []
def dkwX8_play_1 : List UInt8 := [180, 0, 100, 42, 180, 0, 48, 27, 46, 96, 17, 3, 231, 164, 0, 8, 16, 253, 167, 0, 8, 42, 27]
abbrev dktX8_play_1 : List UInt8 := dkwX8_play_1 ++ dktX8_play_2
def dkwX8_play_0 : List UInt8 := [27, 184, 1, 30, 154, 0, 6, 16, 254, 172, 42, 27, 182, 1, 35, 61, 28, 153, 0, 5, 28, 172, 42]
abbrev dktX8_play_0 : List UInt8 := dkwX8_play_0 ++ dktX8_play_1
theorem dksX8_play_0 : cX8_play.data.toList.drop 0 = dktX8_play_0 := by decide +kernel
theorem dksX8_play_1 : cX8_play.data.toList.drop 23 = dktX8_play_1 := dk_seg dksX8_play_0 23 rfl rfl
theorem dksX8_play_2 : cX8_play.data.toList.drop 46 = dktX8_play_2 := dk_seg dksX8_play_1 23 rfl rfl
theorem dX8_play_0 : decode cX8_play 0 = .ok (.iload_n 1, 1) := dk_27 (dk_at dksX8_play_0 0 rfl rfl)
theorem dX8_play_1 : decode cX8_play 1 = .ok (.invokestatic 286, 3) := dk_184 1 30 (dk_at dksX8_play_0 1 rfl rfl)
theorem dX8_play_4 : decode cX8_play 4 = .ok (.ifCond .ne 6, 3) := dk_154 0 6 (dk_at dksX8_play_0 4 rfl rfl)
theorem dX8_play_7 : decode cX8_play 7 = .ok (.bipush (-2), 2) := dk_16 254 (dk_at dksX8_play_0 7 rfl rfl)
theorem dX8_play_9 : decode cX8_play 9 = .ok (.ireturn, 1) := dk_172 (dk_at dksX8_play_0 9 rfl rfl)
theorem dX8_play_10 : decode cX8_play 10 = .ok (.aload_n 0, 1) := dk_42 (dk_at dksX8_play_0 10 rfl rfl)
theorem dX8_play_11 : decode cX8_play 11 = .ok (.iload_n 1, 1) := dk_27 (dk_at dksX8_play_0 11 rfl rfl)
theorem dX8_play_12 : decode cX8_play 12 = .ok (.invokevirtual 291, 3) := dk_182 1 35 (dk_at dksX8_play_0 12 rfl rfl)
theorem dX8_play_15 : decode cX8_play 15 = .ok (.istore_n 2, 1) := dk_61 (dk_at dksX8_play_0 15 rfl rfl)
theorem dX8_play_16 : decode cX8_play 16 = .ok (.iload_n 2, 1) := dk_28 (dk_at dksX8_play_0 16 rfl rfl)
theorem dX8_play_17 : decode cX8_play 17 = .ok (.ifCond .eq 5, 3) := dk_153 0 5 (dk_at dksX8_play_0 17 rfl rfl)
theorem dX8_play_20 : decode cX8_play 20 = .ok (.iload_n 2, 1) := dk_28 (dk_at dksX8_play_0 20 rfl rfl)
theorem dX8_play_21 : decode cX8_play 21 = .ok (.ireturn, 1) := dk_172 (dk_at dksX8_play_0 21 rfl rfl)
theorem dX8_play_22 : decode cX8_play 22 = .ok (.aload_n 0, 1) := dk_42 (dk_at dksX8_play_0 22 rfl rfl)
theorem dX8_play_23 : decode cX8_play 23 = .ok (.getfield 100, 3) := dk_180 0 100 (dk_at dksX8_play_1 0 rfl rfl)
theorem dX8_play_26 : decode cX8_play 26 = .ok (.aload_n 0, 1) := dk_42 (dk_at dksX8_play_1 3 rfl rfl)
theorem dX8_play_27 : decode cX8_play 27 = .ok (.getfield 48, 3) := dk_180 0 48 (dk_at dksX8_play_1 4 rfl rfl)
theorem dX8_play_30 : decode cX8_play 30 = .ok (.iload_n 1, 1) := dk_27 (dk_at dksX8_play_1 7 rfl rfl)
theorem dX8_play_31 : decode cX8_play 31 = .ok (.iaload, 1) := dk_46 (dk_at dksX8_play_1 8 rfl rfl)
theorem dX8_play_32 : decode cX8_play 32 = .ok (.iadd, 1) := dk_96 (dk_at dksX8_play_1 9 rfl rfl)
theorem dX8_play_33 : decode cX8_play 33 = .ok (.sipush 999, 3) := dk_17 3 231 (dk_at dksX8_play_1 10 rfl rfl)
theorem dX8_play_36 : decode cX8_play 36 = .ok (.if_icmp .le 8, 3) := dk_164 0 8 (dk_at dksX8_play_1 13 rfl rfl)
theorem dX8_play_39 : decode cX8_play 39 = .ok (.bipush (-3), 2) := dk_16 253 (dk_at dksX8_play_1 16 rfl rfl)
theorem dX8_play_41 : decode cX8_play 41 = .ok (.goto 8, 3) := dk_167 0 8 (dk_at dksX8_play_1 18 rfl rfl)
theorem dX8_play_44 : decode cX8_play 44 = .ok (.aload_n 0, 1) := dk_42 (dk_at dksX8_play_1 21 rfl rfl)
theorem dX8_play_45 : decode cX8_play 45 = .ok (.iload_n 1, 1) := dk_27 (dk_at dksX8_play_1 22 rfl rfl)
theorem dX8_play_46 : decode cX8_play 46 = .ok (.invokevirtual 294, 3) := dk_182 1 38 (dk_at dksX8_play_2 0 rfl rfl)
theorem dX8_play_49 : decode cX8_play 49 = .ok (.ireturn, 1) := dk_172 (dk_at dksX8_play_2 3 rfl rfl)
abbrev cX8_robin : ByteArray := prog_16_method_60_code
def yX8_robin : MethodName := ⟨RX8, "robin", "(I)I"⟩
def dkwX8_robin_3 : List UInt8 := [180, 0, 23, 167, 0, 8, 42, 27, 182, 0, 112, 61, 42, 182, 1, 25, 28, 172]
abbrev dktX8_robin_3 : List UInt8 := dkwX8_robin_3 ++ []
def dkwX8_robin_2 : List UInt8 := [167, 0, 7, 42, 182, 1, 54, 172, 42, 182, 1, 19, 42, 2, 182, 1, 44, 27, 16, 6, 160, 0, 10, 42]
abbrev dktX8_robin_2 : List UInt8 := dkwX8_robin_2 ++ dktX8_robin_3
def dkwX8_robin_1 : List UInt8 := [154, 0, 6, 16, 254, 172, 27, 16, 6, 164, 0, 21, 27, 16, 7, 160, 0, 10, 42, 182, 1, 51]
abbrev dktX8_robin_1 : List UInt8 := dkwX8_robin_1 ++ dktX8_robin_2
def dkwX8_robin_0 : List UInt8 := [27, 133, 9, 20, 1, 33, 184, 0, 64, 153, 0, 17, 27, 16, 6, 162, 0, 14, 42, 27, 182, 0, 68]
abbrev dktX8_robin_0 : List UInt8 := dkwX8_robin_0 ++ dktX8_robin_1
theorem dksX8_robin_0 : cX8_robin.data.toList.drop 0 = dktX8_robin_0 := by decide +kernel
theorem dksX8_robin_1 : cX8_robin.data.toList.drop 23 = dktX8_robin_1 := dk_seg dksX8_robin_0 23 rfl rfl
theorem dksX8_robin_2 : cX8_robin.data.toList.drop 45 = dktX8_robin_2 := dk_seg dksX8_robin_1 22 rfl rfl
theorem dksX8_robin_3 : cX8_robin.data.toList.drop 69 = dktX8_robin_3 := dk_seg dksX8_robin_2 24 rfl rfl
theorem dX8_robin_0 : decode cX8_robin 0 = .ok (.iload_n 1, 1) := dk_27 (dk_at dksX8_robin_0 0 rfl rfl)
theorem dX8_robin_1 : decode cX8_robin 1 = .ok (.i2l, 1) := dk_133 (dk_at dksX8_robin_0 1 rfl rfl)
theorem dX8_robin_2 : decode cX8_robin 2 = .ok (.lconst 0, 1) := dk_9 (dk_at dksX8_robin_0 2 rfl rfl)
theorem dX8_robin_3 : decode cX8_robin 3 = .ok (.ldc2_w 289, 3) := dk_20 1 33 (dk_at dksX8_robin_0 3 rfl rfl)
theorem dX8_robin_6 : decode cX8_robin 6 = .ok (.invokestatic 64, 3) := dk_184 0 64 (dk_at dksX8_robin_0 6 rfl rfl)
theorem dX8_robin_9 : decode cX8_robin 9 = .ok (.ifCond .eq 17, 3) := dk_153 0 17 (dk_at dksX8_robin_0 9 rfl rfl)
theorem dX8_robin_12 : decode cX8_robin 12 = .ok (.iload_n 1, 1) := dk_27 (dk_at dksX8_robin_0 12 rfl rfl)
theorem dX8_robin_13 : decode cX8_robin 13 = .ok (.bipush 6, 2) := dk_16 6 (dk_at dksX8_robin_0 13 rfl rfl)
theorem dX8_robin_15 : decode cX8_robin 15 = .ok (.if_icmp .ge 14, 3) := dk_162 0 14 (dk_at dksX8_robin_0 15 rfl rfl)
theorem dX8_robin_18 : decode cX8_robin 18 = .ok (.aload_n 0, 1) := dk_42 (dk_at dksX8_robin_0 18 rfl rfl)
theorem dX8_robin_19 : decode cX8_robin 19 = .ok (.iload_n 1, 1) := dk_27 (dk_at dksX8_robin_0 19 rfl rfl)
theorem dX8_robin_20 : decode cX8_robin 20 = .ok (.invokevirtual 68, 3) := dk_182 0 68 (dk_at dksX8_robin_0 20 rfl rfl)
theorem dX8_robin_23 : decode cX8_robin 23 = .ok (.ifCond .ne 6, 3) := dk_154 0 6 (dk_at dksX8_robin_1 0 rfl rfl)
theorem dX8_robin_26 : decode cX8_robin 26 = .ok (.bipush (-2), 2) := dk_16 254 (dk_at dksX8_robin_1 3 rfl rfl)
theorem dX8_robin_28 : decode cX8_robin 28 = .ok (.ireturn, 1) := dk_172 (dk_at dksX8_robin_1 5 rfl rfl)
theorem dX8_robin_29 : decode cX8_robin 29 = .ok (.iload_n 1, 1) := dk_27 (dk_at dksX8_robin_1 6 rfl rfl)
theorem dX8_robin_30 : decode cX8_robin 30 = .ok (.bipush 6, 2) := dk_16 6 (dk_at dksX8_robin_1 7 rfl rfl)
theorem dX8_robin_32 : decode cX8_robin 32 = .ok (.if_icmp .le 21, 3) := dk_164 0 21 (dk_at dksX8_robin_1 9 rfl rfl)
theorem dX8_robin_35 : decode cX8_robin 35 = .ok (.iload_n 1, 1) := dk_27 (dk_at dksX8_robin_1 12 rfl rfl)
theorem dX8_robin_36 : decode cX8_robin 36 = .ok (.bipush 7, 2) := dk_16 7 (dk_at dksX8_robin_1 13 rfl rfl)
theorem dX8_robin_38 : decode cX8_robin 38 = .ok (.if_icmp .ne 10, 3) := dk_160 0 10 (dk_at dksX8_robin_1 15 rfl rfl)
theorem dX8_robin_41 : decode cX8_robin 41 = .ok (.aload_n 0, 1) := dk_42 (dk_at dksX8_robin_1 18 rfl rfl)
theorem dX8_robin_42 : decode cX8_robin 42 = .ok (.invokevirtual 307, 3) := dk_182 1 51 (dk_at dksX8_robin_1 19 rfl rfl)
theorem dX8_robin_45 : decode cX8_robin 45 = .ok (.goto 7, 3) := dk_167 0 7 (dk_at dksX8_robin_2 0 rfl rfl)
theorem dX8_robin_48 : decode cX8_robin 48 = .ok (.aload_n 0, 1) := dk_42 (dk_at dksX8_robin_2 3 rfl rfl)
theorem dX8_robin_49 : decode cX8_robin 49 = .ok (.invokevirtual 310, 3) := dk_182 1 54 (dk_at dksX8_robin_2 4 rfl rfl)
theorem dX8_robin_52 : decode cX8_robin 52 = .ok (.ireturn, 1) := dk_172 (dk_at dksX8_robin_2 7 rfl rfl)
theorem dX8_robin_53 : decode cX8_robin 53 = .ok (.aload_n 0, 1) := dk_42 (dk_at dksX8_robin_2 8 rfl rfl)
theorem dX8_robin_54 : decode cX8_robin 54 = .ok (.invokevirtual 275, 3) := dk_182 1 19 (dk_at dksX8_robin_2 9 rfl rfl)
theorem dX8_robin_57 : decode cX8_robin 57 = .ok (.aload_n 0, 1) := dk_42 (dk_at dksX8_robin_2 12 rfl rfl)
theorem dX8_robin_58 : decode cX8_robin 58 = .ok (.iconst (-1), 1) := dk_2 (dk_at dksX8_robin_2 13 rfl rfl)
theorem dX8_robin_59 : decode cX8_robin 59 = .ok (.invokevirtual 300, 3) := dk_182 1 44 (dk_at dksX8_robin_2 14 rfl rfl)
theorem dX8_robin_62 : decode cX8_robin 62 = .ok (.iload_n 1, 1) := dk_27 (dk_at dksX8_robin_2 17 rfl rfl)
theorem dX8_robin_63 : decode cX8_robin 63 = .ok (.bipush 6, 2) := dk_16 6 (dk_at dksX8_robin_2 18 rfl rfl)
theorem dX8_robin_65 : decode cX8_robin 65 = .ok (.if_icmp .ne 10, 3) := dk_160 0 10 (dk_at dksX8_robin_2 20 rfl rfl)
theorem dX8_robin_68 : decode cX8_robin 68 = .ok (.aload_n 0, 1) := dk_42 (dk_at dksX8_robin_2 23 rfl rfl)
theorem dX8_robin_69 : decode cX8_robin 69 = .ok (.getfield 23, 3) := dk_180 0 23 (dk_at dksX8_robin_3 0 rfl rfl)
theorem dX8_robin_72 : decode cX8_robin 72 = .ok (.goto 8, 3) := dk_167 0 8 (dk_at dksX8_robin_3 3 rfl rfl)
theorem dX8_robin_75 : decode cX8_robin 75 = .ok (.aload_n 0, 1) := dk_42 (dk_at dksX8_robin_3 6 rfl rfl)
theorem dX8_robin_76 : decode cX8_robin 76 = .ok (.iload_n 1, 1) := dk_27 (dk_at dksX8_robin_3 7 rfl rfl)
theorem dX8_robin_77 : decode cX8_robin 77 = .ok (.invokevirtual 112, 3) := dk_182 0 112 (dk_at dksX8_robin_3 8 rfl rfl)
theorem dX8_robin_80 : decode cX8_robin 80 = .ok (.istore_n 2, 1) := dk_61 (dk_at dksX8_robin_3 11 rfl rfl)
theorem dX8_robin_81 : decode cX8_robin 81 = .ok (.aload_n 0, 1) := dk_42 (dk_at dksX8_robin_3 12 rfl rfl)
theorem dX8_robin_82 : decode cX8_robin 82 = .ok (.invokevirtual 281, 3) := dk_182 1 25 (dk_at dksX8_robin_3 13 rfl rfl)
theorem dX8_robin_85 : decode cX8_robin 85 = .ok (.iload_n 2, 1) := dk_28 (dk_at dksX8_robin_3 16 rfl rfl)
theorem dX8_robin_86 : decode cX8_robin 86 = .ok (.ireturn, 1) := dk_172 (dk_at dksX8_robin_3 17 rfl rfl)
abbrev cX8_apart : ByteArray := prog_16_method_58_code
def yX8_apart : MethodName := ⟨RX8, "apart", "()I"⟩
def dkwX8_apart_3 : List UInt8 := [167, 255, 195, 27, 172]
abbrev dktX8_apart_3 : List UInt8 := dkwX8_apart_3 ++ []
def dkwX8_apart_2 : List UInt8 := [28, 162, 0, 14, 16, 10, 29, 104, 21, 4, 96, 60, 21, 5, 61, 132, 4, 1, 167, 255, 214, 132, 3, 1]
abbrev dktX8_apart_2 : List UInt8 := dkwX8_apart_2 ++ dktX8_apart_3
def dkwX8_apart_1 : List UInt8 := [21, 4, 42, 180, 0, 61, 162, 0, 39, 42, 16, 10, 29, 104, 21, 4, 96, 182, 1, 48, 54, 5, 21, 5]
abbrev dktX8_apart_1 : List UInt8 := dkwX8_apart_1 ++ dktX8_apart_2
def dkwX8_apart_0 : List UInt8 := [2, 60, 42, 2, 182, 1, 48, 61, 3, 62, 29, 42, 180, 0, 61, 162, 0, 59, 29, 4, 96, 54, 4]
abbrev dktX8_apart_0 : List UInt8 := dkwX8_apart_0 ++ dktX8_apart_1
theorem dksX8_apart_0 : cX8_apart.data.toList.drop 0 = dktX8_apart_0 := by decide +kernel
theorem dksX8_apart_1 : cX8_apart.data.toList.drop 23 = dktX8_apart_1 := dk_seg dksX8_apart_0 23 rfl rfl
theorem dksX8_apart_2 : cX8_apart.data.toList.drop 47 = dktX8_apart_2 := dk_seg dksX8_apart_1 24 rfl rfl
theorem dksX8_apart_3 : cX8_apart.data.toList.drop 71 = dktX8_apart_3 := dk_seg dksX8_apart_2 24 rfl rfl
theorem dX8_apart_0 : decode cX8_apart 0 = .ok (.iconst (-1), 1) := dk_2 (dk_at dksX8_apart_0 0 rfl rfl)
theorem dX8_apart_1 : decode cX8_apart 1 = .ok (.istore_n 1, 1) := dk_60 (dk_at dksX8_apart_0 1 rfl rfl)
theorem dX8_apart_2 : decode cX8_apart 2 = .ok (.aload_n 0, 1) := dk_42 (dk_at dksX8_apart_0 2 rfl rfl)
theorem dX8_apart_3 : decode cX8_apart 3 = .ok (.iconst (-1), 1) := dk_2 (dk_at dksX8_apart_0 3 rfl rfl)
theorem dX8_apart_4 : decode cX8_apart 4 = .ok (.invokevirtual 304, 3) := dk_182 1 48 (dk_at dksX8_apart_0 4 rfl rfl)
theorem dX8_apart_7 : decode cX8_apart 7 = .ok (.istore_n 2, 1) := dk_61 (dk_at dksX8_apart_0 7 rfl rfl)
theorem dX8_apart_8 : decode cX8_apart 8 = .ok (.iconst 0, 1) := dk_3 (dk_at dksX8_apart_0 8 rfl rfl)
theorem dX8_apart_9 : decode cX8_apart 9 = .ok (.istore_n 3, 1) := dk_62 (dk_at dksX8_apart_0 9 rfl rfl)
theorem dX8_apart_10 : decode cX8_apart 10 = .ok (.iload_n 3, 1) := dk_29 (dk_at dksX8_apart_0 10 rfl rfl)
theorem dX8_apart_11 : decode cX8_apart 11 = .ok (.aload_n 0, 1) := dk_42 (dk_at dksX8_apart_0 11 rfl rfl)
theorem dX8_apart_12 : decode cX8_apart 12 = .ok (.getfield 61, 3) := dk_180 0 61 (dk_at dksX8_apart_0 12 rfl rfl)
theorem dX8_apart_15 : decode cX8_apart 15 = .ok (.if_icmp .ge 59, 3) := dk_162 0 59 (dk_at dksX8_apart_0 15 rfl rfl)
theorem dX8_apart_18 : decode cX8_apart 18 = .ok (.iload_n 3, 1) := dk_29 (dk_at dksX8_apart_0 18 rfl rfl)
theorem dX8_apart_19 : decode cX8_apart 19 = .ok (.iconst 1, 1) := dk_4 (dk_at dksX8_apart_0 19 rfl rfl)
theorem dX8_apart_20 : decode cX8_apart 20 = .ok (.iadd, 1) := dk_96 (dk_at dksX8_apart_0 20 rfl rfl)
theorem dX8_apart_21 : decode cX8_apart 21 = .ok (.istore 4, 2) := dk_54 4 (dk_at dksX8_apart_0 21 rfl rfl)
theorem dX8_apart_23 : decode cX8_apart 23 = .ok (.iload 4, 2) := dk_21 4 (dk_at dksX8_apart_1 0 rfl rfl)
theorem dX8_apart_25 : decode cX8_apart 25 = .ok (.aload_n 0, 1) := dk_42 (dk_at dksX8_apart_1 2 rfl rfl)
theorem dX8_apart_26 : decode cX8_apart 26 = .ok (.getfield 61, 3) := dk_180 0 61 (dk_at dksX8_apart_1 3 rfl rfl)
theorem dX8_apart_29 : decode cX8_apart 29 = .ok (.if_icmp .ge 39, 3) := dk_162 0 39 (dk_at dksX8_apart_1 6 rfl rfl)
theorem dX8_apart_32 : decode cX8_apart 32 = .ok (.aload_n 0, 1) := dk_42 (dk_at dksX8_apart_1 9 rfl rfl)
theorem dX8_apart_33 : decode cX8_apart 33 = .ok (.bipush 10, 2) := dk_16 10 (dk_at dksX8_apart_1 10 rfl rfl)
theorem dX8_apart_35 : decode cX8_apart 35 = .ok (.iload_n 3, 1) := dk_29 (dk_at dksX8_apart_1 12 rfl rfl)
theorem dX8_apart_36 : decode cX8_apart 36 = .ok (.imul, 1) := dk_104 (dk_at dksX8_apart_1 13 rfl rfl)
theorem dX8_apart_37 : decode cX8_apart 37 = .ok (.iload 4, 2) := dk_21 4 (dk_at dksX8_apart_1 14 rfl rfl)
theorem dX8_apart_39 : decode cX8_apart 39 = .ok (.iadd, 1) := dk_96 (dk_at dksX8_apart_1 16 rfl rfl)
theorem dX8_apart_40 : decode cX8_apart 40 = .ok (.invokevirtual 304, 3) := dk_182 1 48 (dk_at dksX8_apart_1 17 rfl rfl)
theorem dX8_apart_43 : decode cX8_apart 43 = .ok (.istore 5, 2) := dk_54 5 (dk_at dksX8_apart_1 20 rfl rfl)
theorem dX8_apart_45 : decode cX8_apart 45 = .ok (.iload 5, 2) := dk_21 5 (dk_at dksX8_apart_1 22 rfl rfl)
theorem dX8_apart_47 : decode cX8_apart 47 = .ok (.iload_n 2, 1) := dk_28 (dk_at dksX8_apart_2 0 rfl rfl)
theorem dX8_apart_48 : decode cX8_apart 48 = .ok (.if_icmp .ge 14, 3) := dk_162 0 14 (dk_at dksX8_apart_2 1 rfl rfl)
theorem dX8_apart_51 : decode cX8_apart 51 = .ok (.bipush 10, 2) := dk_16 10 (dk_at dksX8_apart_2 4 rfl rfl)
theorem dX8_apart_53 : decode cX8_apart 53 = .ok (.iload_n 3, 1) := dk_29 (dk_at dksX8_apart_2 6 rfl rfl)
theorem dX8_apart_54 : decode cX8_apart 54 = .ok (.imul, 1) := dk_104 (dk_at dksX8_apart_2 7 rfl rfl)
theorem dX8_apart_55 : decode cX8_apart 55 = .ok (.iload 4, 2) := dk_21 4 (dk_at dksX8_apart_2 8 rfl rfl)
theorem dX8_apart_57 : decode cX8_apart 57 = .ok (.iadd, 1) := dk_96 (dk_at dksX8_apart_2 10 rfl rfl)
theorem dX8_apart_58 : decode cX8_apart 58 = .ok (.istore_n 1, 1) := dk_60 (dk_at dksX8_apart_2 11 rfl rfl)
theorem dX8_apart_59 : decode cX8_apart 59 = .ok (.iload 5, 2) := dk_21 5 (dk_at dksX8_apart_2 12 rfl rfl)
theorem dX8_apart_61 : decode cX8_apart 61 = .ok (.istore_n 2, 1) := dk_61 (dk_at dksX8_apart_2 14 rfl rfl)
theorem dX8_apart_62 : decode cX8_apart 62 = .ok (.iinc 4 1, 3) := dk_132 4 1 (dk_at dksX8_apart_2 15 rfl rfl)
theorem dX8_apart_65 : decode cX8_apart 65 = .ok (.goto (-42), 3) := dk_167 255 214 (dk_at dksX8_apart_2 18 rfl rfl)
theorem dX8_apart_68 : decode cX8_apart 68 = .ok (.iinc 3 1, 3) := dk_132 3 1 (dk_at dksX8_apart_2 21 rfl rfl)
theorem dX8_apart_71 : decode cX8_apart 71 = .ok (.goto (-61), 3) := dk_167 255 195 (dk_at dksX8_apart_3 0 rfl rfl)
theorem dX8_apart_74 : decode cX8_apart 74 = .ok (.iload_n 1, 1) := dk_27 (dk_at dksX8_apart_3 3 rfl rfl)
theorem dX8_apart_75 : decode cX8_apart 75 = .ok (.ireturn, 1) := dk_172 (dk_at dksX8_apart_3 4 rfl rfl)
abbrev cX8_hallBehind : ByteArray := prog_16_method_57_code
def yX8_hallBehind : MethodName := ⟨RX8, "hallBehind", "(I)I"⟩
def dkwX8_hallBehind_0 : List UInt8 := [42, 182, 1, 19, 42, 27, 182, 1, 44, 42, 180, 0, 23, 184, 0, 116, 61, 42, 182, 1, 25, 28, 172]
abbrev dktX8_hallBehind_0 : List UInt8 := dkwX8_hallBehind_0 ++ []
theorem dksX8_hallBehind_0 : cX8_hallBehind.data.toList.drop 0 = dktX8_hallBehind_0 := by decide +kernel
theorem dX8_hallBehind_0 : decode cX8_hallBehind 0 = .ok (.aload_n 0, 1) := dk_42 (dk_at dksX8_hallBehind_0 0 rfl rfl)
theorem dX8_hallBehind_1 : decode cX8_hallBehind 1 = .ok (.invokevirtual 275, 3) := dk_182 1 19 (dk_at dksX8_hallBehind_0 1 rfl rfl)
theorem dX8_hallBehind_4 : decode cX8_hallBehind 4 = .ok (.aload_n 0, 1) := dk_42 (dk_at dksX8_hallBehind_0 4 rfl rfl)
theorem dX8_hallBehind_5 : decode cX8_hallBehind 5 = .ok (.iload_n 1, 1) := dk_27 (dk_at dksX8_hallBehind_0 5 rfl rfl)
theorem dX8_hallBehind_6 : decode cX8_hallBehind 6 = .ok (.invokevirtual 300, 3) := dk_182 1 44 (dk_at dksX8_hallBehind_0 6 rfl rfl)
theorem dX8_hallBehind_9 : decode cX8_hallBehind 9 = .ok (.aload_n 0, 1) := dk_42 (dk_at dksX8_hallBehind_0 9 rfl rfl)
theorem dX8_hallBehind_10 : decode cX8_hallBehind 10 = .ok (.getfield 23, 3) := dk_180 0 23 (dk_at dksX8_hallBehind_0 10 rfl rfl)
theorem dX8_hallBehind_13 : decode cX8_hallBehind 13 = .ok (.invokestatic 116, 3) := dk_184 0 116 (dk_at dksX8_hallBehind_0 13 rfl rfl)
theorem dX8_hallBehind_16 : decode cX8_hallBehind 16 = .ok (.istore_n 2, 1) := dk_61 (dk_at dksX8_hallBehind_0 16 rfl rfl)
theorem dX8_hallBehind_17 : decode cX8_hallBehind 17 = .ok (.aload_n 0, 1) := dk_42 (dk_at dksX8_hallBehind_0 17 rfl rfl)
theorem dX8_hallBehind_18 : decode cX8_hallBehind 18 = .ok (.invokevirtual 281, 3) := dk_182 1 25 (dk_at dksX8_hallBehind_0 18 rfl rfl)
theorem dX8_hallBehind_21 : decode cX8_hallBehind 21 = .ok (.iload_n 2, 1) := dk_28 (dk_at dksX8_hallBehind_0 21 rfl rfl)
theorem dX8_hallBehind_22 : decode cX8_hallBehind 22 = .ok (.ireturn, 1) := dk_172 (dk_at dksX8_hallBehind_0 22 rfl rfl)
abbrev cX8_robins : ByteArray := prog_16_method_56_code
def yX8_robins : MethodName := ⟨RX8, "robins", "(I)V"⟩
def dkwX8_robins_2 : List UInt8 := [167, 255, 210, 177]
abbrev dktX8_robins_2 : List UInt8 := dkwX8_robins_2 ++ []
def dkwX8_robins_1 : List UInt8 := [28, 104, 29, 96, 27, 159, 0, 10, 42, 28, 29, 182, 1, 22, 87, 132, 3, 1, 167, 255, 228, 132, 2, 1]
abbrev dktX8_robins_1 : List UInt8 := dkwX8_robins_1 ++ dktX8_robins_2
def dkwX8_robins_0 : List UInt8 := [3, 61, 28, 42, 180, 0, 61, 162, 0, 44, 28, 4, 96, 62, 29, 42, 180, 0, 61, 162, 0, 26, 16, 10]
abbrev dktX8_robins_0 : List UInt8 := dkwX8_robins_0 ++ dktX8_robins_1
theorem dksX8_robins_0 : cX8_robins.data.toList.drop 0 = dktX8_robins_0 := by decide +kernel
theorem dksX8_robins_1 : cX8_robins.data.toList.drop 24 = dktX8_robins_1 := dk_seg dksX8_robins_0 24 rfl rfl
theorem dksX8_robins_2 : cX8_robins.data.toList.drop 48 = dktX8_robins_2 := dk_seg dksX8_robins_1 24 rfl rfl
theorem dX8_robins_0 : decode cX8_robins 0 = .ok (.iconst 0, 1) := dk_3 (dk_at dksX8_robins_0 0 rfl rfl)
theorem dX8_robins_1 : decode cX8_robins 1 = .ok (.istore_n 2, 1) := dk_61 (dk_at dksX8_robins_0 1 rfl rfl)
theorem dX8_robins_2 : decode cX8_robins 2 = .ok (.iload_n 2, 1) := dk_28 (dk_at dksX8_robins_0 2 rfl rfl)
theorem dX8_robins_3 : decode cX8_robins 3 = .ok (.aload_n 0, 1) := dk_42 (dk_at dksX8_robins_0 3 rfl rfl)
theorem dX8_robins_4 : decode cX8_robins 4 = .ok (.getfield 61, 3) := dk_180 0 61 (dk_at dksX8_robins_0 4 rfl rfl)
theorem dX8_robins_7 : decode cX8_robins 7 = .ok (.if_icmp .ge 44, 3) := dk_162 0 44 (dk_at dksX8_robins_0 7 rfl rfl)
theorem dX8_robins_10 : decode cX8_robins 10 = .ok (.iload_n 2, 1) := dk_28 (dk_at dksX8_robins_0 10 rfl rfl)
theorem dX8_robins_11 : decode cX8_robins 11 = .ok (.iconst 1, 1) := dk_4 (dk_at dksX8_robins_0 11 rfl rfl)
theorem dX8_robins_12 : decode cX8_robins 12 = .ok (.iadd, 1) := dk_96 (dk_at dksX8_robins_0 12 rfl rfl)
theorem dX8_robins_13 : decode cX8_robins 13 = .ok (.istore_n 3, 1) := dk_62 (dk_at dksX8_robins_0 13 rfl rfl)
theorem dX8_robins_14 : decode cX8_robins 14 = .ok (.iload_n 3, 1) := dk_29 (dk_at dksX8_robins_0 14 rfl rfl)
theorem dX8_robins_15 : decode cX8_robins 15 = .ok (.aload_n 0, 1) := dk_42 (dk_at dksX8_robins_0 15 rfl rfl)
theorem dX8_robins_16 : decode cX8_robins 16 = .ok (.getfield 61, 3) := dk_180 0 61 (dk_at dksX8_robins_0 16 rfl rfl)
theorem dX8_robins_19 : decode cX8_robins 19 = .ok (.if_icmp .ge 26, 3) := dk_162 0 26 (dk_at dksX8_robins_0 19 rfl rfl)
theorem dX8_robins_22 : decode cX8_robins 22 = .ok (.bipush 10, 2) := dk_16 10 (dk_at dksX8_robins_0 22 rfl rfl)
theorem dX8_robins_24 : decode cX8_robins 24 = .ok (.iload_n 2, 1) := dk_28 (dk_at dksX8_robins_1 0 rfl rfl)
theorem dX8_robins_25 : decode cX8_robins 25 = .ok (.imul, 1) := dk_104 (dk_at dksX8_robins_1 1 rfl rfl)
theorem dX8_robins_26 : decode cX8_robins 26 = .ok (.iload_n 3, 1) := dk_29 (dk_at dksX8_robins_1 2 rfl rfl)
theorem dX8_robins_27 : decode cX8_robins 27 = .ok (.iadd, 1) := dk_96 (dk_at dksX8_robins_1 3 rfl rfl)
theorem dX8_robins_28 : decode cX8_robins 28 = .ok (.iload_n 1, 1) := dk_27 (dk_at dksX8_robins_1 4 rfl rfl)
theorem dX8_robins_29 : decode cX8_robins 29 = .ok (.if_icmp .eq 10, 3) := dk_159 0 10 (dk_at dksX8_robins_1 5 rfl rfl)
theorem dX8_robins_32 : decode cX8_robins 32 = .ok (.aload_n 0, 1) := dk_42 (dk_at dksX8_robins_1 8 rfl rfl)
theorem dX8_robins_33 : decode cX8_robins 33 = .ok (.iload_n 2, 1) := dk_28 (dk_at dksX8_robins_1 9 rfl rfl)
theorem dX8_robins_34 : decode cX8_robins 34 = .ok (.iload_n 3, 1) := dk_29 (dk_at dksX8_robins_1 10 rfl rfl)
theorem dX8_robins_35 : decode cX8_robins 35 = .ok (.invokevirtual 278, 3) := dk_182 1 22 (dk_at dksX8_robins_1 11 rfl rfl)
theorem dX8_robins_38 : decode cX8_robins 38 = .ok (.pop, 1) := dk_87 (dk_at dksX8_robins_1 14 rfl rfl)
theorem dX8_robins_39 : decode cX8_robins 39 = .ok (.iinc 3 1, 3) := dk_132 3 1 (dk_at dksX8_robins_1 15 rfl rfl)
theorem dX8_robins_42 : decode cX8_robins 42 = .ok (.goto (-28), 3) := dk_167 255 228 (dk_at dksX8_robins_1 18 rfl rfl)
theorem dX8_robins_45 : decode cX8_robins 45 = .ok (.iinc 2 1, 3) := dk_132 2 1 (dk_at dksX8_robins_1 21 rfl rfl)
theorem dX8_robins_48 : decode cX8_robins 48 = .ok (.goto (-46), 3) := dk_167 255 210 (dk_at dksX8_robins_2 0 rfl rfl)
theorem dX8_robins_51 : decode cX8_robins 51 = .ok (.return_, 1) := dk_177 (dk_at dksX8_robins_2 3 rfl rfl)
abbrev cX8_ringMany : ByteArray := prog_16_method_59_code
def yX8_ringMany : MethodName := ⟨RX8, "ringMany", "()I"⟩
def dkwX8_ringMany_5 : List UInt8 := [132, 3, 1, 167, 255, 153, 132, 2, 1, 167, 255, 135, 27, 172]
abbrev dktX8_ringMany_5 : List UInt8 := dkwX8_ringMany_5 ++ []
def dkwX8_ringMany_4 : List UInt8 := [160, 0, 13, 21, 7, 28, 160, 0, 7, 4, 167, 0, 4, 3, 96, 60, 132, 4, 1, 167, 255, 172]
abbrev dktX8_ringMany_4 : List UInt8 := dkwX8_ringMany_4 ++ dktX8_ringMany_5
def dkwX8_ringMany_3 : List UInt8 := [21, 6, 29, 160, 0, 10, 21, 7, 21, 4, 159, 0, 22, 21, 5, 29, 160, 0, 20, 21, 6, 21, 4]
abbrev dktX8_ringMany_3 : List UInt8 := dkwX8_ringMany_3 ++ dktX8_ringMany_4
def dkwX8_ringMany_2 : List UInt8 := [21, 4, 182, 1, 3, 54, 6, 42, 28, 21, 4, 182, 1, 3, 54, 7, 27, 21, 5, 28, 160, 0, 16]
abbrev dktX8_ringMany_2 : List UInt8 := dkwX8_ringMany_2 ++ dktX8_ringMany_3
def dkwX8_ringMany_1 : List UInt8 := [29, 4, 96, 54, 4, 21, 4, 42, 180, 0, 61, 162, 0, 81, 42, 28, 29, 182, 1, 3, 54, 5, 42, 29]
abbrev dktX8_ringMany_1 : List UInt8 := dkwX8_ringMany_1 ++ dktX8_ringMany_2
def dkwX8_ringMany_0 : List UInt8 := [3, 60, 3, 61, 28, 42, 180, 0, 61, 162, 0, 119, 28, 4, 96, 62, 29, 42, 180, 0, 61, 162, 0, 101]
abbrev dktX8_ringMany_0 : List UInt8 := dkwX8_ringMany_0 ++ dktX8_ringMany_1
theorem dksX8_ringMany_0 : cX8_ringMany.data.toList.drop 0 = dktX8_ringMany_0 := by decide +kernel
theorem dksX8_ringMany_1 : cX8_ringMany.data.toList.drop 24 = dktX8_ringMany_1 := dk_seg dksX8_ringMany_0 24 rfl rfl
theorem dksX8_ringMany_2 : cX8_ringMany.data.toList.drop 48 = dktX8_ringMany_2 := dk_seg dksX8_ringMany_1 24 rfl rfl
theorem dksX8_ringMany_3 : cX8_ringMany.data.toList.drop 71 = dktX8_ringMany_3 := dk_seg dksX8_ringMany_2 23 rfl rfl
theorem dksX8_ringMany_4 : cX8_ringMany.data.toList.drop 94 = dktX8_ringMany_4 := dk_seg dksX8_ringMany_3 23 rfl rfl
theorem dksX8_ringMany_5 : cX8_ringMany.data.toList.drop 116 = dktX8_ringMany_5 := dk_seg dksX8_ringMany_4 22 rfl rfl
theorem dX8_ringMany_0 : decode cX8_ringMany 0 = .ok (.iconst 0, 1) := dk_3 (dk_at dksX8_ringMany_0 0 rfl rfl)
theorem dX8_ringMany_1 : decode cX8_ringMany 1 = .ok (.istore_n 1, 1) := dk_60 (dk_at dksX8_ringMany_0 1 rfl rfl)
theorem dX8_ringMany_2 : decode cX8_ringMany 2 = .ok (.iconst 0, 1) := dk_3 (dk_at dksX8_ringMany_0 2 rfl rfl)
theorem dX8_ringMany_3 : decode cX8_ringMany 3 = .ok (.istore_n 2, 1) := dk_61 (dk_at dksX8_ringMany_0 3 rfl rfl)
theorem dX8_ringMany_4 : decode cX8_ringMany 4 = .ok (.iload_n 2, 1) := dk_28 (dk_at dksX8_ringMany_0 4 rfl rfl)
theorem dX8_ringMany_5 : decode cX8_ringMany 5 = .ok (.aload_n 0, 1) := dk_42 (dk_at dksX8_ringMany_0 5 rfl rfl)
theorem dX8_ringMany_6 : decode cX8_ringMany 6 = .ok (.getfield 61, 3) := dk_180 0 61 (dk_at dksX8_ringMany_0 6 rfl rfl)
theorem dX8_ringMany_9 : decode cX8_ringMany 9 = .ok (.if_icmp .ge 119, 3) := dk_162 0 119 (dk_at dksX8_ringMany_0 9 rfl rfl)
theorem dX8_ringMany_12 : decode cX8_ringMany 12 = .ok (.iload_n 2, 1) := dk_28 (dk_at dksX8_ringMany_0 12 rfl rfl)
theorem dX8_ringMany_13 : decode cX8_ringMany 13 = .ok (.iconst 1, 1) := dk_4 (dk_at dksX8_ringMany_0 13 rfl rfl)
theorem dX8_ringMany_14 : decode cX8_ringMany 14 = .ok (.iadd, 1) := dk_96 (dk_at dksX8_ringMany_0 14 rfl rfl)
theorem dX8_ringMany_15 : decode cX8_ringMany 15 = .ok (.istore_n 3, 1) := dk_62 (dk_at dksX8_ringMany_0 15 rfl rfl)
theorem dX8_ringMany_16 : decode cX8_ringMany 16 = .ok (.iload_n 3, 1) := dk_29 (dk_at dksX8_ringMany_0 16 rfl rfl)
theorem dX8_ringMany_17 : decode cX8_ringMany 17 = .ok (.aload_n 0, 1) := dk_42 (dk_at dksX8_ringMany_0 17 rfl rfl)
theorem dX8_ringMany_18 : decode cX8_ringMany 18 = .ok (.getfield 61, 3) := dk_180 0 61 (dk_at dksX8_ringMany_0 18 rfl rfl)
theorem dX8_ringMany_21 : decode cX8_ringMany 21 = .ok (.if_icmp .ge 101, 3) := dk_162 0 101 (dk_at dksX8_ringMany_0 21 rfl rfl)
theorem dX8_ringMany_24 : decode cX8_ringMany 24 = .ok (.iload_n 3, 1) := dk_29 (dk_at dksX8_ringMany_1 0 rfl rfl)
theorem dX8_ringMany_25 : decode cX8_ringMany 25 = .ok (.iconst 1, 1) := dk_4 (dk_at dksX8_ringMany_1 1 rfl rfl)
theorem dX8_ringMany_26 : decode cX8_ringMany 26 = .ok (.iadd, 1) := dk_96 (dk_at dksX8_ringMany_1 2 rfl rfl)
theorem dX8_ringMany_27 : decode cX8_ringMany 27 = .ok (.istore 4, 2) := dk_54 4 (dk_at dksX8_ringMany_1 3 rfl rfl)
theorem dX8_ringMany_29 : decode cX8_ringMany 29 = .ok (.iload 4, 2) := dk_21 4 (dk_at dksX8_ringMany_1 5 rfl rfl)
theorem dX8_ringMany_31 : decode cX8_ringMany 31 = .ok (.aload_n 0, 1) := dk_42 (dk_at dksX8_ringMany_1 7 rfl rfl)
theorem dX8_ringMany_32 : decode cX8_ringMany 32 = .ok (.getfield 61, 3) := dk_180 0 61 (dk_at dksX8_ringMany_1 8 rfl rfl)
theorem dX8_ringMany_35 : decode cX8_ringMany 35 = .ok (.if_icmp .ge 81, 3) := dk_162 0 81 (dk_at dksX8_ringMany_1 11 rfl rfl)
theorem dX8_ringMany_38 : decode cX8_ringMany 38 = .ok (.aload_n 0, 1) := dk_42 (dk_at dksX8_ringMany_1 14 rfl rfl)
theorem dX8_ringMany_39 : decode cX8_ringMany 39 = .ok (.iload_n 2, 1) := dk_28 (dk_at dksX8_ringMany_1 15 rfl rfl)
theorem dX8_ringMany_40 : decode cX8_ringMany 40 = .ok (.iload_n 3, 1) := dk_29 (dk_at dksX8_ringMany_1 16 rfl rfl)
theorem dX8_ringMany_41 : decode cX8_ringMany 41 = .ok (.invokevirtual 259, 3) := dk_182 1 3 (dk_at dksX8_ringMany_1 17 rfl rfl)
theorem dX8_ringMany_44 : decode cX8_ringMany 44 = .ok (.istore 5, 2) := dk_54 5 (dk_at dksX8_ringMany_1 20 rfl rfl)
theorem dX8_ringMany_46 : decode cX8_ringMany 46 = .ok (.aload_n 0, 1) := dk_42 (dk_at dksX8_ringMany_1 22 rfl rfl)
theorem dX8_ringMany_47 : decode cX8_ringMany 47 = .ok (.iload_n 3, 1) := dk_29 (dk_at dksX8_ringMany_1 23 rfl rfl)
theorem dX8_ringMany_48 : decode cX8_ringMany 48 = .ok (.iload 4, 2) := dk_21 4 (dk_at dksX8_ringMany_2 0 rfl rfl)
theorem dX8_ringMany_50 : decode cX8_ringMany 50 = .ok (.invokevirtual 259, 3) := dk_182 1 3 (dk_at dksX8_ringMany_2 2 rfl rfl)
theorem dX8_ringMany_53 : decode cX8_ringMany 53 = .ok (.istore 6, 2) := dk_54 6 (dk_at dksX8_ringMany_2 5 rfl rfl)
theorem dX8_ringMany_55 : decode cX8_ringMany 55 = .ok (.aload_n 0, 1) := dk_42 (dk_at dksX8_ringMany_2 7 rfl rfl)
theorem dX8_ringMany_56 : decode cX8_ringMany 56 = .ok (.iload_n 2, 1) := dk_28 (dk_at dksX8_ringMany_2 8 rfl rfl)
theorem dX8_ringMany_57 : decode cX8_ringMany 57 = .ok (.iload 4, 2) := dk_21 4 (dk_at dksX8_ringMany_2 9 rfl rfl)
theorem dX8_ringMany_59 : decode cX8_ringMany 59 = .ok (.invokevirtual 259, 3) := dk_182 1 3 (dk_at dksX8_ringMany_2 11 rfl rfl)
theorem dX8_ringMany_62 : decode cX8_ringMany 62 = .ok (.istore 7, 2) := dk_54 7 (dk_at dksX8_ringMany_2 14 rfl rfl)
theorem dX8_ringMany_64 : decode cX8_ringMany 64 = .ok (.iload_n 1, 1) := dk_27 (dk_at dksX8_ringMany_2 16 rfl rfl)
theorem dX8_ringMany_65 : decode cX8_ringMany 65 = .ok (.iload 5, 2) := dk_21 5 (dk_at dksX8_ringMany_2 17 rfl rfl)
theorem dX8_ringMany_67 : decode cX8_ringMany 67 = .ok (.iload_n 2, 1) := dk_28 (dk_at dksX8_ringMany_2 19 rfl rfl)
theorem dX8_ringMany_68 : decode cX8_ringMany 68 = .ok (.if_icmp .ne 16, 3) := dk_160 0 16 (dk_at dksX8_ringMany_2 20 rfl rfl)
theorem dX8_ringMany_71 : decode cX8_ringMany 71 = .ok (.iload 6, 2) := dk_21 6 (dk_at dksX8_ringMany_3 0 rfl rfl)
theorem dX8_ringMany_73 : decode cX8_ringMany 73 = .ok (.iload_n 3, 1) := dk_29 (dk_at dksX8_ringMany_3 2 rfl rfl)
theorem dX8_ringMany_74 : decode cX8_ringMany 74 = .ok (.if_icmp .ne 10, 3) := dk_160 0 10 (dk_at dksX8_ringMany_3 3 rfl rfl)
theorem dX8_ringMany_77 : decode cX8_ringMany 77 = .ok (.iload 7, 2) := dk_21 7 (dk_at dksX8_ringMany_3 6 rfl rfl)
theorem dX8_ringMany_79 : decode cX8_ringMany 79 = .ok (.iload 4, 2) := dk_21 4 (dk_at dksX8_ringMany_3 8 rfl rfl)
theorem dX8_ringMany_81 : decode cX8_ringMany 81 = .ok (.if_icmp .eq 22, 3) := dk_159 0 22 (dk_at dksX8_ringMany_3 10 rfl rfl)
theorem dX8_ringMany_84 : decode cX8_ringMany 84 = .ok (.iload 5, 2) := dk_21 5 (dk_at dksX8_ringMany_3 13 rfl rfl)
theorem dX8_ringMany_86 : decode cX8_ringMany 86 = .ok (.iload_n 3, 1) := dk_29 (dk_at dksX8_ringMany_3 15 rfl rfl)
theorem dX8_ringMany_87 : decode cX8_ringMany 87 = .ok (.if_icmp .ne 20, 3) := dk_160 0 20 (dk_at dksX8_ringMany_3 16 rfl rfl)
theorem dX8_ringMany_90 : decode cX8_ringMany 90 = .ok (.iload 6, 2) := dk_21 6 (dk_at dksX8_ringMany_3 19 rfl rfl)
theorem dX8_ringMany_92 : decode cX8_ringMany 92 = .ok (.iload 4, 2) := dk_21 4 (dk_at dksX8_ringMany_3 21 rfl rfl)
theorem dX8_ringMany_94 : decode cX8_ringMany 94 = .ok (.if_icmp .ne 13, 3) := dk_160 0 13 (dk_at dksX8_ringMany_4 0 rfl rfl)
theorem dX8_ringMany_97 : decode cX8_ringMany 97 = .ok (.iload 7, 2) := dk_21 7 (dk_at dksX8_ringMany_4 3 rfl rfl)
theorem dX8_ringMany_99 : decode cX8_ringMany 99 = .ok (.iload_n 2, 1) := dk_28 (dk_at dksX8_ringMany_4 5 rfl rfl)
theorem dX8_ringMany_100 : decode cX8_ringMany 100 = .ok (.if_icmp .ne 7, 3) := dk_160 0 7 (dk_at dksX8_ringMany_4 6 rfl rfl)
theorem dX8_ringMany_103 : decode cX8_ringMany 103 = .ok (.iconst 1, 1) := dk_4 (dk_at dksX8_ringMany_4 9 rfl rfl)
theorem dX8_ringMany_104 : decode cX8_ringMany 104 = .ok (.goto 4, 3) := dk_167 0 4 (dk_at dksX8_ringMany_4 10 rfl rfl)
theorem dX8_ringMany_107 : decode cX8_ringMany 107 = .ok (.iconst 0, 1) := dk_3 (dk_at dksX8_ringMany_4 13 rfl rfl)
theorem dX8_ringMany_108 : decode cX8_ringMany 108 = .ok (.iadd, 1) := dk_96 (dk_at dksX8_ringMany_4 14 rfl rfl)
theorem dX8_ringMany_109 : decode cX8_ringMany 109 = .ok (.istore_n 1, 1) := dk_60 (dk_at dksX8_ringMany_4 15 rfl rfl)
theorem dX8_ringMany_110 : decode cX8_ringMany 110 = .ok (.iinc 4 1, 3) := dk_132 4 1 (dk_at dksX8_ringMany_4 16 rfl rfl)
theorem dX8_ringMany_113 : decode cX8_ringMany 113 = .ok (.goto (-84), 3) := dk_167 255 172 (dk_at dksX8_ringMany_4 19 rfl rfl)
theorem dX8_ringMany_116 : decode cX8_ringMany 116 = .ok (.iinc 3 1, 3) := dk_132 3 1 (dk_at dksX8_ringMany_5 0 rfl rfl)
theorem dX8_ringMany_119 : decode cX8_ringMany 119 = .ok (.goto (-103), 3) := dk_167 255 153 (dk_at dksX8_ringMany_5 3 rfl rfl)
theorem dX8_ringMany_122 : decode cX8_ringMany 122 = .ok (.iinc 2 1, 3) := dk_132 2 1 (dk_at dksX8_ringMany_5 6 rfl rfl)
theorem dX8_ringMany_125 : decode cX8_ringMany 125 = .ok (.goto (-121), 3) := dk_167 255 135 (dk_at dksX8_ringMany_5 9 rfl rfl)
theorem dX8_ringMany_128 : decode cX8_ringMany 128 = .ok (.iload_n 1, 1) := dk_27 (dk_at dksX8_ringMany_5 12 rfl rfl)
theorem dX8_ringMany_129 : decode cX8_ringMany 129 = .ok (.ireturn, 1) := dk_172 (dk_at dksX8_ringMany_5 13 rfl rfl)
abbrev cX8_best : ByteArray := prog_16_method_61_code
def yX8_best : MethodName := ⟨RX8, "best", "(II)I"⟩
def dkwX8_best_3 : List UInt8 := [132, 5, 1, 167, 255, 211, 28, 154, 0, 7, 29, 167, 0, 5, 21, 4, 172]
abbrev dktX8_best_3 : List UInt8 := dkwX8_best_3 ++ []
def dkwX8_best_2 : List UInt8 := [42, 27, 21, 5, 182, 1, 16, 54, 6, 21, 6, 21, 4, 164, 0, 10, 21, 5, 62, 21, 6, 54, 4]
abbrev dktX8_best_2 : List UInt8 := dkwX8_best_2 ++ dktX8_best_3
def dkwX8_best_1 : List UInt8 := [54, 4, 3, 54, 5, 21, 5, 42, 180, 0, 61, 162, 0, 42, 21, 5, 27, 160, 0, 7, 2, 167, 0, 10]
abbrev dktX8_best_1 : List UInt8 := dkwX8_best_1 ++ dktX8_best_2
def dkwX8_best_0 : List UInt8 := [42, 27, 182, 0, 68, 153, 0, 13, 28, 133, 9, 10, 184, 0, 64, 154, 0, 6, 16, 254, 172, 2, 62, 2]
abbrev dktX8_best_0 : List UInt8 := dkwX8_best_0 ++ dktX8_best_1
theorem dksX8_best_0 : cX8_best.data.toList.drop 0 = dktX8_best_0 := by decide +kernel
theorem dksX8_best_1 : cX8_best.data.toList.drop 24 = dktX8_best_1 := dk_seg dksX8_best_0 24 rfl rfl
theorem dksX8_best_2 : cX8_best.data.toList.drop 48 = dktX8_best_2 := dk_seg dksX8_best_1 24 rfl rfl
theorem dksX8_best_3 : cX8_best.data.toList.drop 71 = dktX8_best_3 := dk_seg dksX8_best_2 23 rfl rfl
theorem dX8_best_0 : decode cX8_best 0 = .ok (.aload_n 0, 1) := dk_42 (dk_at dksX8_best_0 0 rfl rfl)
theorem dX8_best_1 : decode cX8_best 1 = .ok (.iload_n 1, 1) := dk_27 (dk_at dksX8_best_0 1 rfl rfl)
theorem dX8_best_2 : decode cX8_best 2 = .ok (.invokevirtual 68, 3) := dk_182 0 68 (dk_at dksX8_best_0 2 rfl rfl)
theorem dX8_best_5 : decode cX8_best 5 = .ok (.ifCond .eq 13, 3) := dk_153 0 13 (dk_at dksX8_best_0 5 rfl rfl)
theorem dX8_best_8 : decode cX8_best 8 = .ok (.iload_n 2, 1) := dk_28 (dk_at dksX8_best_0 8 rfl rfl)
theorem dX8_best_9 : decode cX8_best 9 = .ok (.i2l, 1) := dk_133 (dk_at dksX8_best_0 9 rfl rfl)
theorem dX8_best_10 : decode cX8_best 10 = .ok (.lconst 0, 1) := dk_9 (dk_at dksX8_best_0 10 rfl rfl)
theorem dX8_best_11 : decode cX8_best 11 = .ok (.lconst 1, 1) := dk_10 (dk_at dksX8_best_0 11 rfl rfl)
theorem dX8_best_12 : decode cX8_best 12 = .ok (.invokestatic 64, 3) := dk_184 0 64 (dk_at dksX8_best_0 12 rfl rfl)
theorem dX8_best_15 : decode cX8_best 15 = .ok (.ifCond .ne 6, 3) := dk_154 0 6 (dk_at dksX8_best_0 15 rfl rfl)
theorem dX8_best_18 : decode cX8_best 18 = .ok (.bipush (-2), 2) := dk_16 254 (dk_at dksX8_best_0 18 rfl rfl)
theorem dX8_best_20 : decode cX8_best 20 = .ok (.ireturn, 1) := dk_172 (dk_at dksX8_best_0 20 rfl rfl)
theorem dX8_best_21 : decode cX8_best 21 = .ok (.iconst (-1), 1) := dk_2 (dk_at dksX8_best_0 21 rfl rfl)
theorem dX8_best_22 : decode cX8_best 22 = .ok (.istore_n 3, 1) := dk_62 (dk_at dksX8_best_0 22 rfl rfl)
theorem dX8_best_23 : decode cX8_best 23 = .ok (.iconst (-1), 1) := dk_2 (dk_at dksX8_best_0 23 rfl rfl)
theorem dX8_best_24 : decode cX8_best 24 = .ok (.istore 4, 2) := dk_54 4 (dk_at dksX8_best_1 0 rfl rfl)
theorem dX8_best_26 : decode cX8_best 26 = .ok (.iconst 0, 1) := dk_3 (dk_at dksX8_best_1 2 rfl rfl)
theorem dX8_best_27 : decode cX8_best 27 = .ok (.istore 5, 2) := dk_54 5 (dk_at dksX8_best_1 3 rfl rfl)
theorem dX8_best_29 : decode cX8_best 29 = .ok (.iload 5, 2) := dk_21 5 (dk_at dksX8_best_1 5 rfl rfl)
theorem dX8_best_31 : decode cX8_best 31 = .ok (.aload_n 0, 1) := dk_42 (dk_at dksX8_best_1 7 rfl rfl)
theorem dX8_best_32 : decode cX8_best 32 = .ok (.getfield 61, 3) := dk_180 0 61 (dk_at dksX8_best_1 8 rfl rfl)
theorem dX8_best_35 : decode cX8_best 35 = .ok (.if_icmp .ge 42, 3) := dk_162 0 42 (dk_at dksX8_best_1 11 rfl rfl)
theorem dX8_best_38 : decode cX8_best 38 = .ok (.iload 5, 2) := dk_21 5 (dk_at dksX8_best_1 14 rfl rfl)
theorem dX8_best_40 : decode cX8_best 40 = .ok (.iload_n 1, 1) := dk_27 (dk_at dksX8_best_1 16 rfl rfl)
theorem dX8_best_41 : decode cX8_best 41 = .ok (.if_icmp .ne 7, 3) := dk_160 0 7 (dk_at dksX8_best_1 17 rfl rfl)
theorem dX8_best_44 : decode cX8_best 44 = .ok (.iconst (-1), 1) := dk_2 (dk_at dksX8_best_1 20 rfl rfl)
theorem dX8_best_45 : decode cX8_best 45 = .ok (.goto 10, 3) := dk_167 0 10 (dk_at dksX8_best_1 21 rfl rfl)
theorem dX8_best_48 : decode cX8_best 48 = .ok (.aload_n 0, 1) := dk_42 (dk_at dksX8_best_2 0 rfl rfl)
theorem dX8_best_49 : decode cX8_best 49 = .ok (.iload_n 1, 1) := dk_27 (dk_at dksX8_best_2 1 rfl rfl)
theorem dX8_best_50 : decode cX8_best 50 = .ok (.iload 5, 2) := dk_21 5 (dk_at dksX8_best_2 2 rfl rfl)
theorem dX8_best_52 : decode cX8_best 52 = .ok (.invokevirtual 272, 3) := dk_182 1 16 (dk_at dksX8_best_2 4 rfl rfl)
theorem dX8_best_55 : decode cX8_best 55 = .ok (.istore 6, 2) := dk_54 6 (dk_at dksX8_best_2 7 rfl rfl)
theorem dX8_best_57 : decode cX8_best 57 = .ok (.iload 6, 2) := dk_21 6 (dk_at dksX8_best_2 9 rfl rfl)
theorem dX8_best_59 : decode cX8_best 59 = .ok (.iload 4, 2) := dk_21 4 (dk_at dksX8_best_2 11 rfl rfl)
theorem dX8_best_61 : decode cX8_best 61 = .ok (.if_icmp .le 10, 3) := dk_164 0 10 (dk_at dksX8_best_2 13 rfl rfl)
theorem dX8_best_64 : decode cX8_best 64 = .ok (.iload 5, 2) := dk_21 5 (dk_at dksX8_best_2 16 rfl rfl)
theorem dX8_best_66 : decode cX8_best 66 = .ok (.istore_n 3, 1) := dk_62 (dk_at dksX8_best_2 18 rfl rfl)
theorem dX8_best_67 : decode cX8_best 67 = .ok (.iload 6, 2) := dk_21 6 (dk_at dksX8_best_2 19 rfl rfl)
theorem dX8_best_69 : decode cX8_best 69 = .ok (.istore 4, 2) := dk_54 4 (dk_at dksX8_best_2 21 rfl rfl)
theorem dX8_best_71 : decode cX8_best 71 = .ok (.iinc 5 1, 3) := dk_132 5 1 (dk_at dksX8_best_3 0 rfl rfl)
theorem dX8_best_74 : decode cX8_best 74 = .ok (.goto (-45), 3) := dk_167 255 211 (dk_at dksX8_best_3 3 rfl rfl)
theorem dX8_best_77 : decode cX8_best 77 = .ok (.iload_n 2, 1) := dk_28 (dk_at dksX8_best_3 6 rfl rfl)
theorem dX8_best_78 : decode cX8_best 78 = .ok (.ifCond .ne 7, 3) := dk_154 0 7 (dk_at dksX8_best_3 7 rfl rfl)
theorem dX8_best_81 : decode cX8_best 81 = .ok (.iload_n 3, 1) := dk_29 (dk_at dksX8_best_3 10 rfl rfl)
theorem dX8_best_82 : decode cX8_best 82 = .ok (.goto 5, 3) := dk_167 0 5 (dk_at dksX8_best_3 11 rfl rfl)
theorem dX8_best_85 : decode cX8_best 85 = .ok (.iload 4, 2) := dk_21 4 (dk_at dksX8_best_3 14 rfl rfl)
theorem dX8_best_87 : decode cX8_best 87 = .ok (.ireturn, 1) := dk_172 (dk_at dksX8_best_3 16 rfl rfl)
abbrev cX8_order : ByteArray := prog_16_method_63_code
def yX8_order : MethodName := ⟨RX8, "order", "(II)I"⟩
def dkwX8_order_2 : List UInt8 := [3, 182, 1, 63, 28, 154, 0, 10, 42, 180, 1, 57, 167, 0, 7, 42, 180, 1, 60, 172]
abbrev dktX8_order_2 : List UInt8 := dkwX8_order_2 ++ []
def dkwX8_order_1 : List UInt8 := [181, 1, 57, 42, 3, 181, 1, 60, 42, 27, 4, 42, 180, 0, 61, 120, 4, 100, 4, 27, 120, 2, 130, 126]
abbrev dktX8_order_1 : List UInt8 := dkwX8_order_1 ++ dktX8_order_2
def dkwX8_order_0 : List UInt8 := [42, 27, 182, 0, 68, 153, 0, 13, 28, 133, 9, 10, 184, 0, 64, 154, 0, 6, 16, 254, 172, 42, 2]
abbrev dktX8_order_0 : List UInt8 := dkwX8_order_0 ++ dktX8_order_1
theorem dksX8_order_0 : cX8_order.data.toList.drop 0 = dktX8_order_0 := by decide +kernel
theorem dksX8_order_1 : cX8_order.data.toList.drop 23 = dktX8_order_1 := dk_seg dksX8_order_0 23 rfl rfl
theorem dksX8_order_2 : cX8_order.data.toList.drop 47 = dktX8_order_2 := dk_seg dksX8_order_1 24 rfl rfl
theorem dX8_order_0 : decode cX8_order 0 = .ok (.aload_n 0, 1) := dk_42 (dk_at dksX8_order_0 0 rfl rfl)
theorem dX8_order_1 : decode cX8_order 1 = .ok (.iload_n 1, 1) := dk_27 (dk_at dksX8_order_0 1 rfl rfl)
theorem dX8_order_2 : decode cX8_order 2 = .ok (.invokevirtual 68, 3) := dk_182 0 68 (dk_at dksX8_order_0 2 rfl rfl)
theorem dX8_order_5 : decode cX8_order 5 = .ok (.ifCond .eq 13, 3) := dk_153 0 13 (dk_at dksX8_order_0 5 rfl rfl)
theorem dX8_order_8 : decode cX8_order 8 = .ok (.iload_n 2, 1) := dk_28 (dk_at dksX8_order_0 8 rfl rfl)
theorem dX8_order_9 : decode cX8_order 9 = .ok (.i2l, 1) := dk_133 (dk_at dksX8_order_0 9 rfl rfl)
theorem dX8_order_10 : decode cX8_order 10 = .ok (.lconst 0, 1) := dk_9 (dk_at dksX8_order_0 10 rfl rfl)
theorem dX8_order_11 : decode cX8_order 11 = .ok (.lconst 1, 1) := dk_10 (dk_at dksX8_order_0 11 rfl rfl)
theorem dX8_order_12 : decode cX8_order 12 = .ok (.invokestatic 64, 3) := dk_184 0 64 (dk_at dksX8_order_0 12 rfl rfl)
theorem dX8_order_15 : decode cX8_order 15 = .ok (.ifCond .ne 6, 3) := dk_154 0 6 (dk_at dksX8_order_0 15 rfl rfl)
theorem dX8_order_18 : decode cX8_order 18 = .ok (.bipush (-2), 2) := dk_16 254 (dk_at dksX8_order_0 18 rfl rfl)
theorem dX8_order_20 : decode cX8_order 20 = .ok (.ireturn, 1) := dk_172 (dk_at dksX8_order_0 20 rfl rfl)
theorem dX8_order_21 : decode cX8_order 21 = .ok (.aload_n 0, 1) := dk_42 (dk_at dksX8_order_0 21 rfl rfl)
theorem dX8_order_22 : decode cX8_order 22 = .ok (.iconst (-1), 1) := dk_2 (dk_at dksX8_order_0 22 rfl rfl)
theorem dX8_order_23 : decode cX8_order 23 = .ok (.putfield 313, 3) := dk_181 1 57 (dk_at dksX8_order_1 0 rfl rfl)
theorem dX8_order_26 : decode cX8_order 26 = .ok (.aload_n 0, 1) := dk_42 (dk_at dksX8_order_1 3 rfl rfl)
theorem dX8_order_27 : decode cX8_order 27 = .ok (.iconst 0, 1) := dk_3 (dk_at dksX8_order_1 4 rfl rfl)
theorem dX8_order_28 : decode cX8_order 28 = .ok (.putfield 316, 3) := dk_181 1 60 (dk_at dksX8_order_1 5 rfl rfl)
theorem dX8_order_31 : decode cX8_order 31 = .ok (.aload_n 0, 1) := dk_42 (dk_at dksX8_order_1 8 rfl rfl)
theorem dX8_order_32 : decode cX8_order 32 = .ok (.iload_n 1, 1) := dk_27 (dk_at dksX8_order_1 9 rfl rfl)
theorem dX8_order_33 : decode cX8_order 33 = .ok (.iconst 1, 1) := dk_4 (dk_at dksX8_order_1 10 rfl rfl)
theorem dX8_order_34 : decode cX8_order 34 = .ok (.aload_n 0, 1) := dk_42 (dk_at dksX8_order_1 11 rfl rfl)
theorem dX8_order_35 : decode cX8_order 35 = .ok (.getfield 61, 3) := dk_180 0 61 (dk_at dksX8_order_1 12 rfl rfl)
theorem dX8_order_38 : decode cX8_order 38 = .ok (.ishl, 1) := dk_120 (dk_at dksX8_order_1 15 rfl rfl)
theorem dX8_order_39 : decode cX8_order 39 = .ok (.iconst 1, 1) := dk_4 (dk_at dksX8_order_1 16 rfl rfl)
theorem dX8_order_40 : decode cX8_order 40 = .ok (.isub, 1) := dk_100 (dk_at dksX8_order_1 17 rfl rfl)
theorem dX8_order_41 : decode cX8_order 41 = .ok (.iconst 1, 1) := dk_4 (dk_at dksX8_order_1 18 rfl rfl)
theorem dX8_order_42 : decode cX8_order 42 = .ok (.iload_n 1, 1) := dk_27 (dk_at dksX8_order_1 19 rfl rfl)
theorem dX8_order_43 : decode cX8_order 43 = .ok (.ishl, 1) := dk_120 (dk_at dksX8_order_1 20 rfl rfl)
theorem dX8_order_44 : decode cX8_order 44 = .ok (.iconst (-1), 1) := dk_2 (dk_at dksX8_order_1 21 rfl rfl)
theorem dX8_order_45 : decode cX8_order 45 = .ok (.ixor, 1) := dk_130 (dk_at dksX8_order_1 22 rfl rfl)
theorem dX8_order_46 : decode cX8_order 46 = .ok (.iand, 1) := dk_126 (dk_at dksX8_order_1 23 rfl rfl)
theorem dX8_order_47 : decode cX8_order 47 = .ok (.iconst 0, 1) := dk_3 (dk_at dksX8_order_2 0 rfl rfl)
theorem dX8_order_48 : decode cX8_order 48 = .ok (.invokevirtual 319, 3) := dk_182 1 63 (dk_at dksX8_order_2 1 rfl rfl)
theorem dX8_order_51 : decode cX8_order 51 = .ok (.iload_n 2, 1) := dk_28 (dk_at dksX8_order_2 4 rfl rfl)
theorem dX8_order_52 : decode cX8_order 52 = .ok (.ifCond .ne 10, 3) := dk_154 0 10 (dk_at dksX8_order_2 5 rfl rfl)
theorem dX8_order_55 : decode cX8_order 55 = .ok (.aload_n 0, 1) := dk_42 (dk_at dksX8_order_2 8 rfl rfl)
theorem dX8_order_56 : decode cX8_order 56 = .ok (.getfield 313, 3) := dk_180 1 57 (dk_at dksX8_order_2 9 rfl rfl)
theorem dX8_order_59 : decode cX8_order 59 = .ok (.goto 7, 3) := dk_167 0 7 (dk_at dksX8_order_2 12 rfl rfl)
theorem dX8_order_62 : decode cX8_order 62 = .ok (.aload_n 0, 1) := dk_42 (dk_at dksX8_order_2 15 rfl rfl)
theorem dX8_order_63 : decode cX8_order 63 = .ok (.getfield 316, 3) := dk_180 1 60 (dk_at dksX8_order_2 16 rfl rfl)
theorem dX8_order_66 : decode cX8_order 66 = .ok (.ireturn, 1) := dk_172 (dk_at dksX8_order_2 19 rfl rfl)
abbrev cX8_orders : ByteArray := prog_16_method_62_code
def yX8_orders : MethodName := ⟨RX8, "orders", "(III)V"⟩
def dkwX8_orders_4 : List UInt8 := [182, 1, 63, 42, 182, 1, 25, 132, 4, 1, 167, 255, 196, 177]
abbrev dktX8_orders_4 : List UInt8 := dkwX8_orders_4 ++ []
def dkwX8_orders_3 : List UInt8 := [182, 1, 22, 87, 42, 27, 28, 4, 21, 4, 120, 2, 130, 126, 16, 10, 29, 104, 21, 4, 96, 4, 96]
abbrev dktX8_orders_3 : List UInt8 := dkwX8_orders_3 ++ dktX8_orders_4
def dkwX8_orders_2 : List UInt8 := [180, 0, 61, 162, 0, 57, 28, 21, 4, 122, 4, 126, 4, 160, 0, 41, 42, 182, 1, 19, 42, 27, 21, 4]
abbrev dktX8_orders_2 : List UInt8 := dkwX8_orders_2 ++ dktX8_orders_3
def dkwX8_orders_1 : List UInt8 := [180, 1, 60, 164, 0, 14, 42, 29, 181, 1, 57, 42, 21, 4, 181, 1, 60, 177, 3, 54, 4, 21, 4, 42]
abbrev dktX8_orders_1 : List UInt8 := dkwX8_orders_1 ++ dktX8_orders_2
def dkwX8_orders_0 : List UInt8 := [28, 154, 0, 39, 42, 27, 182, 0, 122, 54, 4, 42, 180, 1, 57, 2, 159, 0, 12, 21, 4, 42]
abbrev dktX8_orders_0 : List UInt8 := dkwX8_orders_0 ++ dktX8_orders_1
theorem dksX8_orders_0 : cX8_orders.data.toList.drop 0 = dktX8_orders_0 := by decide +kernel
theorem dksX8_orders_1 : cX8_orders.data.toList.drop 22 = dktX8_orders_1 := dk_seg dksX8_orders_0 22 rfl rfl
theorem dksX8_orders_2 : cX8_orders.data.toList.drop 46 = dktX8_orders_2 := dk_seg dksX8_orders_1 24 rfl rfl
theorem dksX8_orders_3 : cX8_orders.data.toList.drop 70 = dktX8_orders_3 := dk_seg dksX8_orders_2 24 rfl rfl
theorem dksX8_orders_4 : cX8_orders.data.toList.drop 93 = dktX8_orders_4 := dk_seg dksX8_orders_3 23 rfl rfl
theorem dX8_orders_0 : decode cX8_orders 0 = .ok (.iload_n 2, 1) := dk_28 (dk_at dksX8_orders_0 0 rfl rfl)
theorem dX8_orders_1 : decode cX8_orders 1 = .ok (.ifCond .ne 39, 3) := dk_154 0 39 (dk_at dksX8_orders_0 1 rfl rfl)
theorem dX8_orders_4 : decode cX8_orders 4 = .ok (.aload_n 0, 1) := dk_42 (dk_at dksX8_orders_0 4 rfl rfl)
theorem dX8_orders_5 : decode cX8_orders 5 = .ok (.iload_n 1, 1) := dk_27 (dk_at dksX8_orders_0 5 rfl rfl)
theorem dX8_orders_6 : decode cX8_orders 6 = .ok (.invokevirtual 122, 3) := dk_182 0 122 (dk_at dksX8_orders_0 6 rfl rfl)
theorem dX8_orders_9 : decode cX8_orders 9 = .ok (.istore 4, 2) := dk_54 4 (dk_at dksX8_orders_0 9 rfl rfl)
theorem dX8_orders_11 : decode cX8_orders 11 = .ok (.aload_n 0, 1) := dk_42 (dk_at dksX8_orders_0 11 rfl rfl)
theorem dX8_orders_12 : decode cX8_orders 12 = .ok (.getfield 313, 3) := dk_180 1 57 (dk_at dksX8_orders_0 12 rfl rfl)
theorem dX8_orders_15 : decode cX8_orders 15 = .ok (.iconst (-1), 1) := dk_2 (dk_at dksX8_orders_0 15 rfl rfl)
theorem dX8_orders_16 : decode cX8_orders 16 = .ok (.if_icmp .eq 12, 3) := dk_159 0 12 (dk_at dksX8_orders_0 16 rfl rfl)
theorem dX8_orders_19 : decode cX8_orders 19 = .ok (.iload 4, 2) := dk_21 4 (dk_at dksX8_orders_0 19 rfl rfl)
theorem dX8_orders_21 : decode cX8_orders 21 = .ok (.aload_n 0, 1) := dk_42 (dk_at dksX8_orders_0 21 rfl rfl)
theorem dX8_orders_22 : decode cX8_orders 22 = .ok (.getfield 316, 3) := dk_180 1 60 (dk_at dksX8_orders_1 0 rfl rfl)
theorem dX8_orders_25 : decode cX8_orders 25 = .ok (.if_icmp .le 14, 3) := dk_164 0 14 (dk_at dksX8_orders_1 3 rfl rfl)
theorem dX8_orders_28 : decode cX8_orders 28 = .ok (.aload_n 0, 1) := dk_42 (dk_at dksX8_orders_1 6 rfl rfl)
theorem dX8_orders_29 : decode cX8_orders 29 = .ok (.iload_n 3, 1) := dk_29 (dk_at dksX8_orders_1 7 rfl rfl)
theorem dX8_orders_30 : decode cX8_orders 30 = .ok (.putfield 313, 3) := dk_181 1 57 (dk_at dksX8_orders_1 8 rfl rfl)
theorem dX8_orders_33 : decode cX8_orders 33 = .ok (.aload_n 0, 1) := dk_42 (dk_at dksX8_orders_1 11 rfl rfl)
theorem dX8_orders_34 : decode cX8_orders 34 = .ok (.iload 4, 2) := dk_21 4 (dk_at dksX8_orders_1 12 rfl rfl)
theorem dX8_orders_36 : decode cX8_orders 36 = .ok (.putfield 316, 3) := dk_181 1 60 (dk_at dksX8_orders_1 14 rfl rfl)
theorem dX8_orders_39 : decode cX8_orders 39 = .ok (.return_, 1) := dk_177 (dk_at dksX8_orders_1 17 rfl rfl)
theorem dX8_orders_40 : decode cX8_orders 40 = .ok (.iconst 0, 1) := dk_3 (dk_at dksX8_orders_1 18 rfl rfl)
theorem dX8_orders_41 : decode cX8_orders 41 = .ok (.istore 4, 2) := dk_54 4 (dk_at dksX8_orders_1 19 rfl rfl)
theorem dX8_orders_43 : decode cX8_orders 43 = .ok (.iload 4, 2) := dk_21 4 (dk_at dksX8_orders_1 21 rfl rfl)
theorem dX8_orders_45 : decode cX8_orders 45 = .ok (.aload_n 0, 1) := dk_42 (dk_at dksX8_orders_1 23 rfl rfl)
theorem dX8_orders_46 : decode cX8_orders 46 = .ok (.getfield 61, 3) := dk_180 0 61 (dk_at dksX8_orders_2 0 rfl rfl)
theorem dX8_orders_49 : decode cX8_orders 49 = .ok (.if_icmp .ge 57, 3) := dk_162 0 57 (dk_at dksX8_orders_2 3 rfl rfl)
theorem dX8_orders_52 : decode cX8_orders 52 = .ok (.iload_n 2, 1) := dk_28 (dk_at dksX8_orders_2 6 rfl rfl)
theorem dX8_orders_53 : decode cX8_orders 53 = .ok (.iload 4, 2) := dk_21 4 (dk_at dksX8_orders_2 7 rfl rfl)
theorem dX8_orders_55 : decode cX8_orders 55 = .ok (.ishr, 1) := dk_122 (dk_at dksX8_orders_2 9 rfl rfl)
theorem dX8_orders_56 : decode cX8_orders 56 = .ok (.iconst 1, 1) := dk_4 (dk_at dksX8_orders_2 10 rfl rfl)
theorem dX8_orders_57 : decode cX8_orders 57 = .ok (.iand, 1) := dk_126 (dk_at dksX8_orders_2 11 rfl rfl)
theorem dX8_orders_58 : decode cX8_orders 58 = .ok (.iconst 1, 1) := dk_4 (dk_at dksX8_orders_2 12 rfl rfl)
theorem dX8_orders_59 : decode cX8_orders 59 = .ok (.if_icmp .ne 41, 3) := dk_160 0 41 (dk_at dksX8_orders_2 13 rfl rfl)
theorem dX8_orders_62 : decode cX8_orders 62 = .ok (.aload_n 0, 1) := dk_42 (dk_at dksX8_orders_2 16 rfl rfl)
theorem dX8_orders_63 : decode cX8_orders 63 = .ok (.invokevirtual 275, 3) := dk_182 1 19 (dk_at dksX8_orders_2 17 rfl rfl)
theorem dX8_orders_66 : decode cX8_orders 66 = .ok (.aload_n 0, 1) := dk_42 (dk_at dksX8_orders_2 20 rfl rfl)
theorem dX8_orders_67 : decode cX8_orders 67 = .ok (.iload_n 1, 1) := dk_27 (dk_at dksX8_orders_2 21 rfl rfl)
theorem dX8_orders_68 : decode cX8_orders 68 = .ok (.iload 4, 2) := dk_21 4 (dk_at dksX8_orders_2 22 rfl rfl)
theorem dX8_orders_70 : decode cX8_orders 70 = .ok (.invokevirtual 278, 3) := dk_182 1 22 (dk_at dksX8_orders_3 0 rfl rfl)
theorem dX8_orders_73 : decode cX8_orders 73 = .ok (.pop, 1) := dk_87 (dk_at dksX8_orders_3 3 rfl rfl)
theorem dX8_orders_74 : decode cX8_orders 74 = .ok (.aload_n 0, 1) := dk_42 (dk_at dksX8_orders_3 4 rfl rfl)
theorem dX8_orders_75 : decode cX8_orders 75 = .ok (.iload_n 1, 1) := dk_27 (dk_at dksX8_orders_3 5 rfl rfl)
theorem dX8_orders_76 : decode cX8_orders 76 = .ok (.iload_n 2, 1) := dk_28 (dk_at dksX8_orders_3 6 rfl rfl)
theorem dX8_orders_77 : decode cX8_orders 77 = .ok (.iconst 1, 1) := dk_4 (dk_at dksX8_orders_3 7 rfl rfl)
theorem dX8_orders_78 : decode cX8_orders 78 = .ok (.iload 4, 2) := dk_21 4 (dk_at dksX8_orders_3 8 rfl rfl)
theorem dX8_orders_80 : decode cX8_orders 80 = .ok (.ishl, 1) := dk_120 (dk_at dksX8_orders_3 10 rfl rfl)
theorem dX8_orders_81 : decode cX8_orders 81 = .ok (.iconst (-1), 1) := dk_2 (dk_at dksX8_orders_3 11 rfl rfl)
theorem dX8_orders_82 : decode cX8_orders 82 = .ok (.ixor, 1) := dk_130 (dk_at dksX8_orders_3 12 rfl rfl)
theorem dX8_orders_83 : decode cX8_orders 83 = .ok (.iand, 1) := dk_126 (dk_at dksX8_orders_3 13 rfl rfl)
theorem dX8_orders_84 : decode cX8_orders 84 = .ok (.bipush 10, 2) := dk_16 10 (dk_at dksX8_orders_3 14 rfl rfl)
theorem dX8_orders_86 : decode cX8_orders 86 = .ok (.iload_n 3, 1) := dk_29 (dk_at dksX8_orders_3 16 rfl rfl)
theorem dX8_orders_87 : decode cX8_orders 87 = .ok (.imul, 1) := dk_104 (dk_at dksX8_orders_3 17 rfl rfl)
theorem dX8_orders_88 : decode cX8_orders 88 = .ok (.iload 4, 2) := dk_21 4 (dk_at dksX8_orders_3 18 rfl rfl)
theorem dX8_orders_90 : decode cX8_orders 90 = .ok (.iadd, 1) := dk_96 (dk_at dksX8_orders_3 20 rfl rfl)
theorem dX8_orders_91 : decode cX8_orders 91 = .ok (.iconst 1, 1) := dk_4 (dk_at dksX8_orders_3 21 rfl rfl)
theorem dX8_orders_92 : decode cX8_orders 92 = .ok (.iadd, 1) := dk_96 (dk_at dksX8_orders_3 22 rfl rfl)
theorem dX8_orders_93 : decode cX8_orders 93 = .ok (.invokevirtual 319, 3) := dk_182 1 63 (dk_at dksX8_orders_4 0 rfl rfl)
theorem dX8_orders_96 : decode cX8_orders 96 = .ok (.aload_n 0, 1) := dk_42 (dk_at dksX8_orders_4 3 rfl rfl)
theorem dX8_orders_97 : decode cX8_orders 97 = .ok (.invokevirtual 281, 3) := dk_182 1 25 (dk_at dksX8_orders_4 4 rfl rfl)
theorem dX8_orders_100 : decode cX8_orders 100 = .ok (.iinc 4 1, 3) := dk_132 4 1 (dk_at dksX8_orders_4 7 rfl rfl)
theorem dX8_orders_103 : decode cX8_orders 103 = .ok (.goto (-60), 3) := dk_167 255 196 (dk_at dksX8_orders_4 10 rfl rfl)
theorem dX8_orders_106 : decode cX8_orders 106 = .ok (.return_, 1) := dk_177 (dk_at dksX8_orders_4 13 rfl rfl)
abbrev cX8_all : ByteArray := prog_16_method_65_code
def yX8_all : MethodName := ⟨RX8, "all", "(I)I"⟩
def dkwX8_all_1 : List UInt8 := [7, 164, 0, 6, 16, 253, 172, 42, 3, 181, 1, 66, 42, 27, 182, 1, 69, 42, 180, 1, 66, 172]
abbrev dktX8_all_1 : List UInt8 := dkwX8_all_1 ++ []
def dkwX8_all_0 : List UInt8 := [27, 133, 9, 20, 0, 83, 184, 0, 64, 154, 0, 6, 16, 254, 172, 27, 6, 160, 0, 14, 42, 180, 0, 61]
abbrev dktX8_all_0 : List UInt8 := dkwX8_all_0 ++ dktX8_all_1
theorem dksX8_all_0 : cX8_all.data.toList.drop 0 = dktX8_all_0 := by decide +kernel
theorem dksX8_all_1 : cX8_all.data.toList.drop 24 = dktX8_all_1 := dk_seg dksX8_all_0 24 rfl rfl
theorem dX8_all_0 : decode cX8_all 0 = .ok (.iload_n 1, 1) := dk_27 (dk_at dksX8_all_0 0 rfl rfl)
theorem dX8_all_1 : decode cX8_all 1 = .ok (.i2l, 1) := dk_133 (dk_at dksX8_all_0 1 rfl rfl)
theorem dX8_all_2 : decode cX8_all 2 = .ok (.lconst 0, 1) := dk_9 (dk_at dksX8_all_0 2 rfl rfl)
theorem dX8_all_3 : decode cX8_all 3 = .ok (.ldc2_w 83, 3) := dk_20 0 83 (dk_at dksX8_all_0 3 rfl rfl)
theorem dX8_all_6 : decode cX8_all 6 = .ok (.invokestatic 64, 3) := dk_184 0 64 (dk_at dksX8_all_0 6 rfl rfl)
theorem dX8_all_9 : decode cX8_all 9 = .ok (.ifCond .ne 6, 3) := dk_154 0 6 (dk_at dksX8_all_0 9 rfl rfl)
theorem dX8_all_12 : decode cX8_all 12 = .ok (.bipush (-2), 2) := dk_16 254 (dk_at dksX8_all_0 12 rfl rfl)
theorem dX8_all_14 : decode cX8_all 14 = .ok (.ireturn, 1) := dk_172 (dk_at dksX8_all_0 14 rfl rfl)
theorem dX8_all_15 : decode cX8_all 15 = .ok (.iload_n 1, 1) := dk_27 (dk_at dksX8_all_0 15 rfl rfl)
theorem dX8_all_16 : decode cX8_all 16 = .ok (.iconst 3, 1) := dk_6 (dk_at dksX8_all_0 16 rfl rfl)
theorem dX8_all_17 : decode cX8_all 17 = .ok (.if_icmp .ne 14, 3) := dk_160 0 14 (dk_at dksX8_all_0 17 rfl rfl)
theorem dX8_all_20 : decode cX8_all 20 = .ok (.aload_n 0, 1) := dk_42 (dk_at dksX8_all_0 20 rfl rfl)
theorem dX8_all_21 : decode cX8_all 21 = .ok (.getfield 61, 3) := dk_180 0 61 (dk_at dksX8_all_0 21 rfl rfl)
theorem dX8_all_24 : decode cX8_all 24 = .ok (.iconst 4, 1) := dk_7 (dk_at dksX8_all_1 0 rfl rfl)
theorem dX8_all_25 : decode cX8_all 25 = .ok (.if_icmp .le 6, 3) := dk_164 0 6 (dk_at dksX8_all_1 1 rfl rfl)
theorem dX8_all_28 : decode cX8_all 28 = .ok (.bipush (-3), 2) := dk_16 253 (dk_at dksX8_all_1 4 rfl rfl)
theorem dX8_all_30 : decode cX8_all 30 = .ok (.ireturn, 1) := dk_172 (dk_at dksX8_all_1 6 rfl rfl)
theorem dX8_all_31 : decode cX8_all 31 = .ok (.aload_n 0, 1) := dk_42 (dk_at dksX8_all_1 7 rfl rfl)
theorem dX8_all_32 : decode cX8_all 32 = .ok (.iconst 0, 1) := dk_3 (dk_at dksX8_all_1 8 rfl rfl)
theorem dX8_all_33 : decode cX8_all 33 = .ok (.putfield 322, 3) := dk_181 1 66 (dk_at dksX8_all_1 9 rfl rfl)
theorem dX8_all_36 : decode cX8_all 36 = .ok (.aload_n 0, 1) := dk_42 (dk_at dksX8_all_1 12 rfl rfl)
theorem dX8_all_37 : decode cX8_all 37 = .ok (.iload_n 1, 1) := dk_27 (dk_at dksX8_all_1 13 rfl rfl)
theorem dX8_all_38 : decode cX8_all 38 = .ok (.invokevirtual 325, 3) := dk_182 1 69 (dk_at dksX8_all_1 14 rfl rfl)
theorem dX8_all_41 : decode cX8_all 41 = .ok (.aload_n 0, 1) := dk_42 (dk_at dksX8_all_1 17 rfl rfl)
theorem dX8_all_42 : decode cX8_all 42 = .ok (.getfield 322, 3) := dk_180 1 66 (dk_at dksX8_all_1 18 rfl rfl)
theorem dX8_all_45 : decode cX8_all 45 = .ok (.ireturn, 1) := dk_172 (dk_at dksX8_all_1 21 rfl rfl)
abbrev cX8_tries : ByteArray := prog_16_method_64_code
def yX8_tries : MethodName := ⟨RX8, "tries", "(I)V"⟩
def dkwX8_tries_4 : List UInt8 := [167, 255, 223, 132, 2, 1, 167, 255, 205, 177]
abbrev dktX8_tries_4 : List UInt8 := dkwX8_tries_4 ++ []
def dkwX8_tries_3 : List UInt8 := [182, 1, 19, 42, 28, 29, 182, 1, 22, 87, 42, 27, 4, 100, 182, 1, 69, 42, 182, 1, 25, 132, 3, 1]
abbrev dktX8_tries_3 : List UInt8 := dkwX8_tries_3 ++ dktX8_tries_4
def dkwX8_tries_2 : List UInt8 := [177, 3, 61, 28, 42, 180, 0, 61, 162, 0, 49, 28, 4, 96, 62, 29, 42, 180, 0, 61, 162, 0, 31, 42]
abbrev dktX8_tries_2 : List UInt8 := dkwX8_tries_2 ++ dktX8_tries_3
def dkwX8_tries_1 : List UInt8 := [160, 0, 7, 4, 167, 0, 4, 3, 28, 120, 128, 181, 1, 66, 132, 2, 1, 167, 255, 218, 27, 154, 0, 4]
abbrev dktX8_tries_1 : List UInt8 := dkwX8_tries_1 ++ dktX8_tries_2
def dkwX8_tries_0 : List UInt8 := [3, 61, 28, 42, 180, 0, 61, 162, 0, 36, 42, 89, 180, 1, 66, 42, 28, 182, 0, 112, 17, 0, 255]
abbrev dktX8_tries_0 : List UInt8 := dkwX8_tries_0 ++ dktX8_tries_1
theorem dksX8_tries_0 : cX8_tries.data.toList.drop 0 = dktX8_tries_0 := by decide +kernel
theorem dksX8_tries_1 : cX8_tries.data.toList.drop 23 = dktX8_tries_1 := dk_seg dksX8_tries_0 23 rfl rfl
theorem dksX8_tries_2 : cX8_tries.data.toList.drop 47 = dktX8_tries_2 := dk_seg dksX8_tries_1 24 rfl rfl
theorem dksX8_tries_3 : cX8_tries.data.toList.drop 71 = dktX8_tries_3 := dk_seg dksX8_tries_2 24 rfl rfl
theorem dksX8_tries_4 : cX8_tries.data.toList.drop 95 = dktX8_tries_4 := dk_seg dksX8_tries_3 24 rfl rfl
theorem dX8_tries_0 : decode cX8_tries 0 = .ok (.iconst 0, 1) := dk_3 (dk_at dksX8_tries_0 0 rfl rfl)
theorem dX8_tries_1 : decode cX8_tries 1 = .ok (.istore_n 2, 1) := dk_61 (dk_at dksX8_tries_0 1 rfl rfl)
theorem dX8_tries_2 : decode cX8_tries 2 = .ok (.iload_n 2, 1) := dk_28 (dk_at dksX8_tries_0 2 rfl rfl)
theorem dX8_tries_3 : decode cX8_tries 3 = .ok (.aload_n 0, 1) := dk_42 (dk_at dksX8_tries_0 3 rfl rfl)
theorem dX8_tries_4 : decode cX8_tries 4 = .ok (.getfield 61, 3) := dk_180 0 61 (dk_at dksX8_tries_0 4 rfl rfl)
theorem dX8_tries_7 : decode cX8_tries 7 = .ok (.if_icmp .ge 36, 3) := dk_162 0 36 (dk_at dksX8_tries_0 7 rfl rfl)
theorem dX8_tries_10 : decode cX8_tries 10 = .ok (.aload_n 0, 1) := dk_42 (dk_at dksX8_tries_0 10 rfl rfl)
theorem dX8_tries_11 : decode cX8_tries 11 = .ok (.dup, 1) := dk_89 (dk_at dksX8_tries_0 11 rfl rfl)
theorem dX8_tries_12 : decode cX8_tries 12 = .ok (.getfield 322, 3) := dk_180 1 66 (dk_at dksX8_tries_0 12 rfl rfl)
theorem dX8_tries_15 : decode cX8_tries 15 = .ok (.aload_n 0, 1) := dk_42 (dk_at dksX8_tries_0 15 rfl rfl)
theorem dX8_tries_16 : decode cX8_tries 16 = .ok (.iload_n 2, 1) := dk_28 (dk_at dksX8_tries_0 16 rfl rfl)
theorem dX8_tries_17 : decode cX8_tries 17 = .ok (.invokevirtual 112, 3) := dk_182 0 112 (dk_at dksX8_tries_0 17 rfl rfl)
theorem dX8_tries_20 : decode cX8_tries 20 = .ok (.sipush 255, 3) := dk_17 0 255 (dk_at dksX8_tries_0 20 rfl rfl)
theorem dX8_tries_23 : decode cX8_tries 23 = .ok (.if_icmp .ne 7, 3) := dk_160 0 7 (dk_at dksX8_tries_1 0 rfl rfl)
theorem dX8_tries_26 : decode cX8_tries 26 = .ok (.iconst 1, 1) := dk_4 (dk_at dksX8_tries_1 3 rfl rfl)
theorem dX8_tries_27 : decode cX8_tries 27 = .ok (.goto 4, 3) := dk_167 0 4 (dk_at dksX8_tries_1 4 rfl rfl)
theorem dX8_tries_30 : decode cX8_tries 30 = .ok (.iconst 0, 1) := dk_3 (dk_at dksX8_tries_1 7 rfl rfl)
theorem dX8_tries_31 : decode cX8_tries 31 = .ok (.iload_n 2, 1) := dk_28 (dk_at dksX8_tries_1 8 rfl rfl)
theorem dX8_tries_32 : decode cX8_tries 32 = .ok (.ishl, 1) := dk_120 (dk_at dksX8_tries_1 9 rfl rfl)
theorem dX8_tries_33 : decode cX8_tries 33 = .ok (.ior, 1) := dk_128 (dk_at dksX8_tries_1 10 rfl rfl)
theorem dX8_tries_34 : decode cX8_tries 34 = .ok (.putfield 322, 3) := dk_181 1 66 (dk_at dksX8_tries_1 11 rfl rfl)
theorem dX8_tries_37 : decode cX8_tries 37 = .ok (.iinc 2 1, 3) := dk_132 2 1 (dk_at dksX8_tries_1 14 rfl rfl)
theorem dX8_tries_40 : decode cX8_tries 40 = .ok (.goto (-38), 3) := dk_167 255 218 (dk_at dksX8_tries_1 17 rfl rfl)
theorem dX8_tries_43 : decode cX8_tries 43 = .ok (.iload_n 1, 1) := dk_27 (dk_at dksX8_tries_1 20 rfl rfl)
theorem dX8_tries_44 : decode cX8_tries 44 = .ok (.ifCond .ne 4, 3) := dk_154 0 4 (dk_at dksX8_tries_1 21 rfl rfl)
theorem dX8_tries_47 : decode cX8_tries 47 = .ok (.return_, 1) := dk_177 (dk_at dksX8_tries_2 0 rfl rfl)
theorem dX8_tries_48 : decode cX8_tries 48 = .ok (.iconst 0, 1) := dk_3 (dk_at dksX8_tries_2 1 rfl rfl)
theorem dX8_tries_49 : decode cX8_tries 49 = .ok (.istore_n 2, 1) := dk_61 (dk_at dksX8_tries_2 2 rfl rfl)
theorem dX8_tries_50 : decode cX8_tries 50 = .ok (.iload_n 2, 1) := dk_28 (dk_at dksX8_tries_2 3 rfl rfl)
theorem dX8_tries_51 : decode cX8_tries 51 = .ok (.aload_n 0, 1) := dk_42 (dk_at dksX8_tries_2 4 rfl rfl)
theorem dX8_tries_52 : decode cX8_tries 52 = .ok (.getfield 61, 3) := dk_180 0 61 (dk_at dksX8_tries_2 5 rfl rfl)
theorem dX8_tries_55 : decode cX8_tries 55 = .ok (.if_icmp .ge 49, 3) := dk_162 0 49 (dk_at dksX8_tries_2 8 rfl rfl)
theorem dX8_tries_58 : decode cX8_tries 58 = .ok (.iload_n 2, 1) := dk_28 (dk_at dksX8_tries_2 11 rfl rfl)
theorem dX8_tries_59 : decode cX8_tries 59 = .ok (.iconst 1, 1) := dk_4 (dk_at dksX8_tries_2 12 rfl rfl)
theorem dX8_tries_60 : decode cX8_tries 60 = .ok (.iadd, 1) := dk_96 (dk_at dksX8_tries_2 13 rfl rfl)
theorem dX8_tries_61 : decode cX8_tries 61 = .ok (.istore_n 3, 1) := dk_62 (dk_at dksX8_tries_2 14 rfl rfl)
theorem dX8_tries_62 : decode cX8_tries 62 = .ok (.iload_n 3, 1) := dk_29 (dk_at dksX8_tries_2 15 rfl rfl)
theorem dX8_tries_63 : decode cX8_tries 63 = .ok (.aload_n 0, 1) := dk_42 (dk_at dksX8_tries_2 16 rfl rfl)
theorem dX8_tries_64 : decode cX8_tries 64 = .ok (.getfield 61, 3) := dk_180 0 61 (dk_at dksX8_tries_2 17 rfl rfl)
theorem dX8_tries_67 : decode cX8_tries 67 = .ok (.if_icmp .ge 31, 3) := dk_162 0 31 (dk_at dksX8_tries_2 20 rfl rfl)
theorem dX8_tries_70 : decode cX8_tries 70 = .ok (.aload_n 0, 1) := dk_42 (dk_at dksX8_tries_2 23 rfl rfl)
theorem dX8_tries_71 : decode cX8_tries 71 = .ok (.invokevirtual 275, 3) := dk_182 1 19 (dk_at dksX8_tries_3 0 rfl rfl)
theorem dX8_tries_74 : decode cX8_tries 74 = .ok (.aload_n 0, 1) := dk_42 (dk_at dksX8_tries_3 3 rfl rfl)
theorem dX8_tries_75 : decode cX8_tries 75 = .ok (.iload_n 2, 1) := dk_28 (dk_at dksX8_tries_3 4 rfl rfl)
theorem dX8_tries_76 : decode cX8_tries 76 = .ok (.iload_n 3, 1) := dk_29 (dk_at dksX8_tries_3 5 rfl rfl)
theorem dX8_tries_77 : decode cX8_tries 77 = .ok (.invokevirtual 278, 3) := dk_182 1 22 (dk_at dksX8_tries_3 6 rfl rfl)
theorem dX8_tries_80 : decode cX8_tries 80 = .ok (.pop, 1) := dk_87 (dk_at dksX8_tries_3 9 rfl rfl)
theorem dX8_tries_81 : decode cX8_tries 81 = .ok (.aload_n 0, 1) := dk_42 (dk_at dksX8_tries_3 10 rfl rfl)
theorem dX8_tries_82 : decode cX8_tries 82 = .ok (.iload_n 1, 1) := dk_27 (dk_at dksX8_tries_3 11 rfl rfl)
theorem dX8_tries_83 : decode cX8_tries 83 = .ok (.iconst 1, 1) := dk_4 (dk_at dksX8_tries_3 12 rfl rfl)
theorem dX8_tries_84 : decode cX8_tries 84 = .ok (.isub, 1) := dk_100 (dk_at dksX8_tries_3 13 rfl rfl)
theorem dX8_tries_85 : decode cX8_tries 85 = .ok (.invokevirtual 325, 3) := dk_182 1 69 (dk_at dksX8_tries_3 14 rfl rfl)
theorem dX8_tries_88 : decode cX8_tries 88 = .ok (.aload_n 0, 1) := dk_42 (dk_at dksX8_tries_3 17 rfl rfl)
theorem dX8_tries_89 : decode cX8_tries 89 = .ok (.invokevirtual 281, 3) := dk_182 1 25 (dk_at dksX8_tries_3 18 rfl rfl)
theorem dX8_tries_92 : decode cX8_tries 92 = .ok (.iinc 3 1, 3) := dk_132 3 1 (dk_at dksX8_tries_3 21 rfl rfl)
theorem dX8_tries_95 : decode cX8_tries 95 = .ok (.goto (-33), 3) := dk_167 255 223 (dk_at dksX8_tries_4 0 rfl rfl)
theorem dX8_tries_98 : decode cX8_tries 98 = .ok (.iinc 2 1, 3) := dk_132 2 1 (dk_at dksX8_tries_4 3 rfl rfl)
theorem dX8_tries_101 : decode cX8_tries 101 = .ok (.goto (-51), 3) := dk_167 255 205 (dk_at dksX8_tries_4 6 rfl rfl)
theorem dX8_tries_104 : decode cX8_tries 104 = .ok (.return_, 1) := dk_177 (dk_at dksX8_tries_4 9 rfl rfl)
abbrev cX8_soon : ByteArray := prog_16_method_66_code
def yX8_soon : MethodName := ⟨RX8, "soon", "(II)I"⟩
def dkwX8_soon_2 : List UInt8 := [182, 1, 25, 29, 16, 20, 164, 0, 7, 2, 167, 0, 4, 29, 172]
abbrev dktX8_soon_2 : List UInt8 := dkwX8_soon_2 ++ []
def dkwX8_soon_1 : List UInt8 := [42, 27, 182, 0, 112, 153, 0, 16, 42, 27, 28, 182, 1, 22, 87, 132, 3, 1, 167, 255, 232, 42]
abbrev dktX8_soon_1 : List UInt8 := dkwX8_soon_1 ++ dktX8_soon_2
def dkwX8_soon_0 : List UInt8 := [42, 27, 28, 182, 1, 13, 154, 0, 6, 16, 254, 172, 42, 182, 1, 19, 3, 62, 29, 16, 20, 163, 0, 24]
abbrev dktX8_soon_0 : List UInt8 := dkwX8_soon_0 ++ dktX8_soon_1
theorem dksX8_soon_0 : cX8_soon.data.toList.drop 0 = dktX8_soon_0 := by decide +kernel
theorem dksX8_soon_1 : cX8_soon.data.toList.drop 24 = dktX8_soon_1 := dk_seg dksX8_soon_0 24 rfl rfl
theorem dksX8_soon_2 : cX8_soon.data.toList.drop 46 = dktX8_soon_2 := dk_seg dksX8_soon_1 22 rfl rfl
theorem dX8_soon_0 : decode cX8_soon 0 = .ok (.aload_n 0, 1) := dk_42 (dk_at dksX8_soon_0 0 rfl rfl)
theorem dX8_soon_1 : decode cX8_soon 1 = .ok (.iload_n 1, 1) := dk_27 (dk_at dksX8_soon_0 1 rfl rfl)
theorem dX8_soon_2 : decode cX8_soon 2 = .ok (.iload_n 2, 1) := dk_28 (dk_at dksX8_soon_0 2 rfl rfl)
theorem dX8_soon_3 : decode cX8_soon 3 = .ok (.invokevirtual 269, 3) := dk_182 1 13 (dk_at dksX8_soon_0 3 rfl rfl)
theorem dX8_soon_6 : decode cX8_soon 6 = .ok (.ifCond .ne 6, 3) := dk_154 0 6 (dk_at dksX8_soon_0 6 rfl rfl)
theorem dX8_soon_9 : decode cX8_soon 9 = .ok (.bipush (-2), 2) := dk_16 254 (dk_at dksX8_soon_0 9 rfl rfl)
theorem dX8_soon_11 : decode cX8_soon 11 = .ok (.ireturn, 1) := dk_172 (dk_at dksX8_soon_0 11 rfl rfl)
theorem dX8_soon_12 : decode cX8_soon 12 = .ok (.aload_n 0, 1) := dk_42 (dk_at dksX8_soon_0 12 rfl rfl)
theorem dX8_soon_13 : decode cX8_soon 13 = .ok (.invokevirtual 275, 3) := dk_182 1 19 (dk_at dksX8_soon_0 13 rfl rfl)
theorem dX8_soon_16 : decode cX8_soon 16 = .ok (.iconst 0, 1) := dk_3 (dk_at dksX8_soon_0 16 rfl rfl)
theorem dX8_soon_17 : decode cX8_soon 17 = .ok (.istore_n 3, 1) := dk_62 (dk_at dksX8_soon_0 17 rfl rfl)
theorem dX8_soon_18 : decode cX8_soon 18 = .ok (.iload_n 3, 1) := dk_29 (dk_at dksX8_soon_0 18 rfl rfl)
theorem dX8_soon_19 : decode cX8_soon 19 = .ok (.bipush 20, 2) := dk_16 20 (dk_at dksX8_soon_0 19 rfl rfl)
theorem dX8_soon_21 : decode cX8_soon 21 = .ok (.if_icmp .gt 24, 3) := dk_163 0 24 (dk_at dksX8_soon_0 21 rfl rfl)
theorem dX8_soon_24 : decode cX8_soon 24 = .ok (.aload_n 0, 1) := dk_42 (dk_at dksX8_soon_1 0 rfl rfl)
theorem dX8_soon_25 : decode cX8_soon 25 = .ok (.iload_n 1, 1) := dk_27 (dk_at dksX8_soon_1 1 rfl rfl)
theorem dX8_soon_26 : decode cX8_soon 26 = .ok (.invokevirtual 112, 3) := dk_182 0 112 (dk_at dksX8_soon_1 2 rfl rfl)
theorem dX8_soon_29 : decode cX8_soon 29 = .ok (.ifCond .eq 16, 3) := dk_153 0 16 (dk_at dksX8_soon_1 5 rfl rfl)
theorem dX8_soon_32 : decode cX8_soon 32 = .ok (.aload_n 0, 1) := dk_42 (dk_at dksX8_soon_1 8 rfl rfl)
theorem dX8_soon_33 : decode cX8_soon 33 = .ok (.iload_n 1, 1) := dk_27 (dk_at dksX8_soon_1 9 rfl rfl)
theorem dX8_soon_34 : decode cX8_soon 34 = .ok (.iload_n 2, 1) := dk_28 (dk_at dksX8_soon_1 10 rfl rfl)
theorem dX8_soon_35 : decode cX8_soon 35 = .ok (.invokevirtual 278, 3) := dk_182 1 22 (dk_at dksX8_soon_1 11 rfl rfl)
theorem dX8_soon_38 : decode cX8_soon 38 = .ok (.pop, 1) := dk_87 (dk_at dksX8_soon_1 14 rfl rfl)
theorem dX8_soon_39 : decode cX8_soon 39 = .ok (.iinc 3 1, 3) := dk_132 3 1 (dk_at dksX8_soon_1 15 rfl rfl)
theorem dX8_soon_42 : decode cX8_soon 42 = .ok (.goto (-24), 3) := dk_167 255 232 (dk_at dksX8_soon_1 18 rfl rfl)
theorem dX8_soon_45 : decode cX8_soon 45 = .ok (.aload_n 0, 1) := dk_42 (dk_at dksX8_soon_1 21 rfl rfl)
theorem dX8_soon_46 : decode cX8_soon 46 = .ok (.invokevirtual 281, 3) := dk_182 1 25 (dk_at dksX8_soon_2 0 rfl rfl)
theorem dX8_soon_49 : decode cX8_soon 49 = .ok (.iload_n 3, 1) := dk_29 (dk_at dksX8_soon_2 3 rfl rfl)
theorem dX8_soon_50 : decode cX8_soon 50 = .ok (.bipush 20, 2) := dk_16 20 (dk_at dksX8_soon_2 4 rfl rfl)
theorem dX8_soon_52 : decode cX8_soon 52 = .ok (.if_icmp .le 7, 3) := dk_164 0 7 (dk_at dksX8_soon_2 6 rfl rfl)
theorem dX8_soon_55 : decode cX8_soon 55 = .ok (.iconst (-1), 1) := dk_2 (dk_at dksX8_soon_2 9 rfl rfl)
theorem dX8_soon_56 : decode cX8_soon 56 = .ok (.goto 4, 3) := dk_167 0 4 (dk_at dksX8_soon_2 10 rfl rfl)
theorem dX8_soon_59 : decode cX8_soon 59 = .ok (.iload_n 3, 1) := dk_29 (dk_at dksX8_soon_2 13 rfl rfl)
theorem dX8_soon_60 : decode cX8_soon 60 = .ok (.ireturn, 1) := dk_172 (dk_at dksX8_soon_2 14 rfl rfl)
abbrev cX8_tells : ByteArray := prog_16_method_69_code
def yX8_tells : MethodName := ⟨RX8, "tells", "(III)I"⟩
def dkwX8_tells_12 : List UInt8 := [7, 159, 0, 9, 29, 16, 6, 160, 0, 8, 21, 9, 167, 0, 5, 21, 7, 172]
abbrev dktX8_tells_12 : List UInt8 := dkwX8_tells_12 ++ []
def dkwX8_tells_11 : List UInt8 := [21, 4, 28, 21, 5, 182, 0, 96, 29, 6, 159, 0, 8, 29, 8, 160, 0, 8, 21, 8, 167, 0, 21, 29]
abbrev dktX8_tells_11 : List UInt8 := dkwX8_tells_11 ++ dktX8_tells_12
def dkwX8_tells_10 : List UInt8 := [21, 10, 120, 167, 0, 4, 3, 128, 54, 7, 132, 8, 1, 21, 10, 54, 9, 132, 10, 255, 167, 255, 202, 42]
abbrev dktX8_tells_10 : List UInt8 := dkwX8_tells_10 ++ dktX8_tells_11
def dkwX8_tells_9 : List UInt8 := [182, 0, 96, 42, 27, 28, 182, 1, 72, 2, 160, 0, 30, 21, 7, 21, 10, 16, 10, 162, 0, 10, 4]
abbrev dktX8_tells_9 : List UInt8 := dkwX8_tells_9 ++ dktX8_tells_10
def dkwX8_tells_8 : List UInt8 := [54, 7, 3, 54, 8, 2, 54, 9, 21, 6, 54, 10, 21, 10, 155, 0, 55, 42, 21, 4, 28, 21, 10]
abbrev dktX8_tells_8 : List UInt8 := dkwX8_tells_8 ++ dktX8_tells_9
def dkwX8_tells_7 : List UInt8 := [160, 0, 7, 8, 167, 0, 16, 21, 4, 5, 160, 0, 8, 16, 9, 167, 0, 5, 16, 99, 54, 6, 3]
abbrev dktX8_tells_7 : List UInt8 := dkwX8_tells_7 ++ dktX8_tells_8
def dkwX8_tells_6 : List UInt8 := [182, 0, 92, 54, 5, 21, 4, 8, 160, 0, 12, 42, 180, 0, 58, 4, 100, 167, 0, 26, 21, 4, 7]
abbrev dktX8_tells_6 : List UInt8 := dkwX8_tells_6 ++ dktX8_tells_7
def dkwX8_tells_5 : List UInt8 := [3, 167, 0, 4, 8, 54, 4, 21, 4, 8, 160, 0, 10, 42, 180, 0, 107, 167, 0, 10, 42, 28, 21, 4]
abbrev dktX8_tells_5 : List UInt8 := dkwX8_tells_5 ++ dktX8_tells_6
def dkwX8_tells_4 : List UInt8 := [29, 5, 160, 0, 7, 5, 167, 0, 23, 29, 8, 162, 0, 7, 6, 167, 0, 14, 29, 16, 7, 162, 0, 7]
abbrev dktX8_tells_4 : List UInt8 := dkwX8_tells_4 ++ dktX8_tells_5
def dkwX8_tells_3 : List UInt8 := [42, 27, 28, 182, 1, 72, 167, 0, 8, 42, 27, 182, 1, 75, 172, 29, 4, 160, 0, 7, 7, 167, 0, 32]
abbrev dktX8_tells_3 : List UInt8 := dkwX8_tells_3 ++ dktX8_tells_4
def dkwX8_tells_2 : List UInt8 := [42, 180, 0, 61, 159, 0, 6, 16, 254, 172, 29, 153, 0, 9, 29, 16, 8, 160, 0, 22, 29, 154, 0, 12]
abbrev dktX8_tells_2 : List UInt8 := dkwX8_tells_2 ++ dktX8_tells_3
def dkwX8_tells_1 : List UInt8 := [154, 0, 6, 16, 254, 172, 42, 180, 0, 41, 27, 51, 154, 0, 6, 16, 245, 172, 42, 180, 0, 48, 27, 46]
abbrev dktX8_tells_1 : List UInt8 := dkwX8_tells_1 ++ dktX8_tells_2
def dkwX8_tells_0 : List UInt8 := [27, 184, 1, 30, 153, 0, 23, 42, 28, 182, 0, 68, 153, 0, 15, 29, 133, 9, 20, 1, 33, 184, 0, 64]
abbrev dktX8_tells_0 : List UInt8 := dkwX8_tells_0 ++ dktX8_tells_1
theorem dksX8_tells_0 : cX8_tells.data.toList.drop 0 = dktX8_tells_0 := by decide +kernel
theorem dksX8_tells_1 : cX8_tells.data.toList.drop 24 = dktX8_tells_1 := dk_seg dksX8_tells_0 24 rfl rfl
theorem dksX8_tells_2 : cX8_tells.data.toList.drop 48 = dktX8_tells_2 := dk_seg dksX8_tells_1 24 rfl rfl
theorem dksX8_tells_3 : cX8_tells.data.toList.drop 72 = dktX8_tells_3 := dk_seg dksX8_tells_2 24 rfl rfl
theorem dksX8_tells_4 : cX8_tells.data.toList.drop 96 = dktX8_tells_4 := dk_seg dksX8_tells_3 24 rfl rfl
theorem dksX8_tells_5 : cX8_tells.data.toList.drop 120 = dktX8_tells_5 := dk_seg dksX8_tells_4 24 rfl rfl
theorem dksX8_tells_6 : cX8_tells.data.toList.drop 144 = dktX8_tells_6 := dk_seg dksX8_tells_5 24 rfl rfl
theorem dksX8_tells_7 : cX8_tells.data.toList.drop 167 = dktX8_tells_7 := dk_seg dksX8_tells_6 23 rfl rfl
theorem dksX8_tells_8 : cX8_tells.data.toList.drop 190 = dktX8_tells_8 := dk_seg dksX8_tells_7 23 rfl rfl
theorem dksX8_tells_9 : cX8_tells.data.toList.drop 213 = dktX8_tells_9 := dk_seg dksX8_tells_8 23 rfl rfl
theorem dksX8_tells_10 : cX8_tells.data.toList.drop 236 = dktX8_tells_10 := dk_seg dksX8_tells_9 23 rfl rfl
theorem dksX8_tells_11 : cX8_tells.data.toList.drop 260 = dktX8_tells_11 := dk_seg dksX8_tells_10 24 rfl rfl
theorem dksX8_tells_12 : cX8_tells.data.toList.drop 284 = dktX8_tells_12 := dk_seg dksX8_tells_11 24 rfl rfl
theorem dX8_tells_0 : decode cX8_tells 0 = .ok (.iload_n 1, 1) := dk_27 (dk_at dksX8_tells_0 0 rfl rfl)
theorem dX8_tells_1 : decode cX8_tells 1 = .ok (.invokestatic 286, 3) := dk_184 1 30 (dk_at dksX8_tells_0 1 rfl rfl)
theorem dX8_tells_4 : decode cX8_tells 4 = .ok (.ifCond .eq 23, 3) := dk_153 0 23 (dk_at dksX8_tells_0 4 rfl rfl)
theorem dX8_tells_7 : decode cX8_tells 7 = .ok (.aload_n 0, 1) := dk_42 (dk_at dksX8_tells_0 7 rfl rfl)
theorem dX8_tells_8 : decode cX8_tells 8 = .ok (.iload_n 2, 1) := dk_28 (dk_at dksX8_tells_0 8 rfl rfl)
theorem dX8_tells_9 : decode cX8_tells 9 = .ok (.invokevirtual 68, 3) := dk_182 0 68 (dk_at dksX8_tells_0 9 rfl rfl)
theorem dX8_tells_12 : decode cX8_tells 12 = .ok (.ifCond .eq 15, 3) := dk_153 0 15 (dk_at dksX8_tells_0 12 rfl rfl)
theorem dX8_tells_15 : decode cX8_tells 15 = .ok (.iload_n 3, 1) := dk_29 (dk_at dksX8_tells_0 15 rfl rfl)
theorem dX8_tells_16 : decode cX8_tells 16 = .ok (.i2l, 1) := dk_133 (dk_at dksX8_tells_0 16 rfl rfl)
theorem dX8_tells_17 : decode cX8_tells 17 = .ok (.lconst 0, 1) := dk_9 (dk_at dksX8_tells_0 17 rfl rfl)
theorem dX8_tells_18 : decode cX8_tells 18 = .ok (.ldc2_w 289, 3) := dk_20 1 33 (dk_at dksX8_tells_0 18 rfl rfl)
theorem dX8_tells_21 : decode cX8_tells 21 = .ok (.invokestatic 64, 3) := dk_184 0 64 (dk_at dksX8_tells_0 21 rfl rfl)
theorem dX8_tells_24 : decode cX8_tells 24 = .ok (.ifCond .ne 6, 3) := dk_154 0 6 (dk_at dksX8_tells_1 0 rfl rfl)
theorem dX8_tells_27 : decode cX8_tells 27 = .ok (.bipush (-2), 2) := dk_16 254 (dk_at dksX8_tells_1 3 rfl rfl)
theorem dX8_tells_29 : decode cX8_tells 29 = .ok (.ireturn, 1) := dk_172 (dk_at dksX8_tells_1 5 rfl rfl)
theorem dX8_tells_30 : decode cX8_tells 30 = .ok (.aload_n 0, 1) := dk_42 (dk_at dksX8_tells_1 6 rfl rfl)
theorem dX8_tells_31 : decode cX8_tells 31 = .ok (.getfield 41, 3) := dk_180 0 41 (dk_at dksX8_tells_1 7 rfl rfl)
theorem dX8_tells_34 : decode cX8_tells 34 = .ok (.iload_n 1, 1) := dk_27 (dk_at dksX8_tells_1 10 rfl rfl)
theorem dX8_tells_35 : decode cX8_tells 35 = .ok (.baload, 1) := dk_51 (dk_at dksX8_tells_1 11 rfl rfl)
theorem dX8_tells_36 : decode cX8_tells 36 = .ok (.ifCond .ne 6, 3) := dk_154 0 6 (dk_at dksX8_tells_1 12 rfl rfl)
theorem dX8_tells_39 : decode cX8_tells 39 = .ok (.bipush (-11), 2) := dk_16 245 (dk_at dksX8_tells_1 15 rfl rfl)
theorem dX8_tells_41 : decode cX8_tells 41 = .ok (.ireturn, 1) := dk_172 (dk_at dksX8_tells_1 17 rfl rfl)
theorem dX8_tells_42 : decode cX8_tells 42 = .ok (.aload_n 0, 1) := dk_42 (dk_at dksX8_tells_1 18 rfl rfl)
theorem dX8_tells_43 : decode cX8_tells 43 = .ok (.getfield 48, 3) := dk_180 0 48 (dk_at dksX8_tells_1 19 rfl rfl)
theorem dX8_tells_46 : decode cX8_tells 46 = .ok (.iload_n 1, 1) := dk_27 (dk_at dksX8_tells_1 22 rfl rfl)
theorem dX8_tells_47 : decode cX8_tells 47 = .ok (.iaload, 1) := dk_46 (dk_at dksX8_tells_1 23 rfl rfl)
theorem dX8_tells_48 : decode cX8_tells 48 = .ok (.aload_n 0, 1) := dk_42 (dk_at dksX8_tells_2 0 rfl rfl)
theorem dX8_tells_49 : decode cX8_tells 49 = .ok (.getfield 61, 3) := dk_180 0 61 (dk_at dksX8_tells_2 1 rfl rfl)
theorem dX8_tells_52 : decode cX8_tells 52 = .ok (.if_icmp .eq 6, 3) := dk_159 0 6 (dk_at dksX8_tells_2 4 rfl rfl)
theorem dX8_tells_55 : decode cX8_tells 55 = .ok (.bipush (-2), 2) := dk_16 254 (dk_at dksX8_tells_2 7 rfl rfl)
theorem dX8_tells_57 : decode cX8_tells 57 = .ok (.ireturn, 1) := dk_172 (dk_at dksX8_tells_2 9 rfl rfl)
theorem dX8_tells_58 : decode cX8_tells 58 = .ok (.iload_n 3, 1) := dk_29 (dk_at dksX8_tells_2 10 rfl rfl)
theorem dX8_tells_59 : decode cX8_tells 59 = .ok (.ifCond .eq 9, 3) := dk_153 0 9 (dk_at dksX8_tells_2 11 rfl rfl)
theorem dX8_tells_62 : decode cX8_tells 62 = .ok (.iload_n 3, 1) := dk_29 (dk_at dksX8_tells_2 14 rfl rfl)
theorem dX8_tells_63 : decode cX8_tells 63 = .ok (.bipush 8, 2) := dk_16 8 (dk_at dksX8_tells_2 15 rfl rfl)
theorem dX8_tells_65 : decode cX8_tells 65 = .ok (.if_icmp .ne 22, 3) := dk_160 0 22 (dk_at dksX8_tells_2 17 rfl rfl)
theorem dX8_tells_68 : decode cX8_tells 68 = .ok (.iload_n 3, 1) := dk_29 (dk_at dksX8_tells_2 20 rfl rfl)
theorem dX8_tells_69 : decode cX8_tells 69 = .ok (.ifCond .ne 12, 3) := dk_154 0 12 (dk_at dksX8_tells_2 21 rfl rfl)
theorem dX8_tells_72 : decode cX8_tells 72 = .ok (.aload_n 0, 1) := dk_42 (dk_at dksX8_tells_3 0 rfl rfl)
theorem dX8_tells_73 : decode cX8_tells 73 = .ok (.iload_n 1, 1) := dk_27 (dk_at dksX8_tells_3 1 rfl rfl)
theorem dX8_tells_74 : decode cX8_tells 74 = .ok (.iload_n 2, 1) := dk_28 (dk_at dksX8_tells_3 2 rfl rfl)
theorem dX8_tells_75 : decode cX8_tells 75 = .ok (.invokevirtual 328, 3) := dk_182 1 72 (dk_at dksX8_tells_3 3 rfl rfl)
theorem dX8_tells_78 : decode cX8_tells 78 = .ok (.goto 8, 3) := dk_167 0 8 (dk_at dksX8_tells_3 6 rfl rfl)
theorem dX8_tells_81 : decode cX8_tells 81 = .ok (.aload_n 0, 1) := dk_42 (dk_at dksX8_tells_3 9 rfl rfl)
theorem dX8_tells_82 : decode cX8_tells 82 = .ok (.iload_n 1, 1) := dk_27 (dk_at dksX8_tells_3 10 rfl rfl)
theorem dX8_tells_83 : decode cX8_tells 83 = .ok (.invokevirtual 331, 3) := dk_182 1 75 (dk_at dksX8_tells_3 11 rfl rfl)
theorem dX8_tells_86 : decode cX8_tells 86 = .ok (.ireturn, 1) := dk_172 (dk_at dksX8_tells_3 14 rfl rfl)
theorem dX8_tells_87 : decode cX8_tells 87 = .ok (.iload_n 3, 1) := dk_29 (dk_at dksX8_tells_3 15 rfl rfl)
theorem dX8_tells_88 : decode cX8_tells 88 = .ok (.iconst 1, 1) := dk_4 (dk_at dksX8_tells_3 16 rfl rfl)
theorem dX8_tells_89 : decode cX8_tells 89 = .ok (.if_icmp .ne 7, 3) := dk_160 0 7 (dk_at dksX8_tells_3 17 rfl rfl)
theorem dX8_tells_92 : decode cX8_tells 92 = .ok (.iconst 4, 1) := dk_7 (dk_at dksX8_tells_3 20 rfl rfl)
theorem dX8_tells_93 : decode cX8_tells 93 = .ok (.goto 32, 3) := dk_167 0 32 (dk_at dksX8_tells_3 21 rfl rfl)
theorem dX8_tells_96 : decode cX8_tells 96 = .ok (.iload_n 3, 1) := dk_29 (dk_at dksX8_tells_4 0 rfl rfl)
theorem dX8_tells_97 : decode cX8_tells 97 = .ok (.iconst 2, 1) := dk_5 (dk_at dksX8_tells_4 1 rfl rfl)
theorem dX8_tells_98 : decode cX8_tells 98 = .ok (.if_icmp .ne 7, 3) := dk_160 0 7 (dk_at dksX8_tells_4 2 rfl rfl)
theorem dX8_tells_101 : decode cX8_tells 101 = .ok (.iconst 2, 1) := dk_5 (dk_at dksX8_tells_4 5 rfl rfl)
theorem dX8_tells_102 : decode cX8_tells 102 = .ok (.goto 23, 3) := dk_167 0 23 (dk_at dksX8_tells_4 6 rfl rfl)
theorem dX8_tells_105 : decode cX8_tells 105 = .ok (.iload_n 3, 1) := dk_29 (dk_at dksX8_tells_4 9 rfl rfl)
theorem dX8_tells_106 : decode cX8_tells 106 = .ok (.iconst 5, 1) := dk_8 (dk_at dksX8_tells_4 10 rfl rfl)
theorem dX8_tells_107 : decode cX8_tells 107 = .ok (.if_icmp .ge 7, 3) := dk_162 0 7 (dk_at dksX8_tells_4 11 rfl rfl)
theorem dX8_tells_110 : decode cX8_tells 110 = .ok (.iconst 3, 1) := dk_6 (dk_at dksX8_tells_4 14 rfl rfl)
theorem dX8_tells_111 : decode cX8_tells 111 = .ok (.goto 14, 3) := dk_167 0 14 (dk_at dksX8_tells_4 15 rfl rfl)
theorem dX8_tells_114 : decode cX8_tells 114 = .ok (.iload_n 3, 1) := dk_29 (dk_at dksX8_tells_4 18 rfl rfl)
theorem dX8_tells_115 : decode cX8_tells 115 = .ok (.bipush 7, 2) := dk_16 7 (dk_at dksX8_tells_4 19 rfl rfl)
theorem dX8_tells_117 : decode cX8_tells 117 = .ok (.if_icmp .ge 7, 3) := dk_162 0 7 (dk_at dksX8_tells_4 21 rfl rfl)
theorem dX8_tells_120 : decode cX8_tells 120 = .ok (.iconst 0, 1) := dk_3 (dk_at dksX8_tells_5 0 rfl rfl)
theorem dX8_tells_121 : decode cX8_tells 121 = .ok (.goto 4, 3) := dk_167 0 4 (dk_at dksX8_tells_5 1 rfl rfl)
theorem dX8_tells_124 : decode cX8_tells 124 = .ok (.iconst 5, 1) := dk_8 (dk_at dksX8_tells_5 4 rfl rfl)
theorem dX8_tells_125 : decode cX8_tells 125 = .ok (.istore 4, 2) := dk_54 4 (dk_at dksX8_tells_5 5 rfl rfl)
theorem dX8_tells_127 : decode cX8_tells 127 = .ok (.iload 4, 2) := dk_21 4 (dk_at dksX8_tells_5 7 rfl rfl)
theorem dX8_tells_129 : decode cX8_tells 129 = .ok (.iconst 5, 1) := dk_8 (dk_at dksX8_tells_5 9 rfl rfl)
theorem dX8_tells_130 : decode cX8_tells 130 = .ok (.if_icmp .ne 10, 3) := dk_160 0 10 (dk_at dksX8_tells_5 10 rfl rfl)
theorem dX8_tells_133 : decode cX8_tells 133 = .ok (.aload_n 0, 1) := dk_42 (dk_at dksX8_tells_5 13 rfl rfl)
theorem dX8_tells_134 : decode cX8_tells 134 = .ok (.getfield 107, 3) := dk_180 0 107 (dk_at dksX8_tells_5 14 rfl rfl)
theorem dX8_tells_137 : decode cX8_tells 137 = .ok (.goto 10, 3) := dk_167 0 10 (dk_at dksX8_tells_5 17 rfl rfl)
theorem dX8_tells_140 : decode cX8_tells 140 = .ok (.aload_n 0, 1) := dk_42 (dk_at dksX8_tells_5 20 rfl rfl)
theorem dX8_tells_141 : decode cX8_tells 141 = .ok (.iload_n 2, 1) := dk_28 (dk_at dksX8_tells_5 21 rfl rfl)
theorem dX8_tells_142 : decode cX8_tells 142 = .ok (.iload 4, 2) := dk_21 4 (dk_at dksX8_tells_5 22 rfl rfl)
theorem dX8_tells_144 : decode cX8_tells 144 = .ok (.invokevirtual 92, 3) := dk_182 0 92 (dk_at dksX8_tells_6 0 rfl rfl)
theorem dX8_tells_147 : decode cX8_tells 147 = .ok (.istore 5, 2) := dk_54 5 (dk_at dksX8_tells_6 3 rfl rfl)
theorem dX8_tells_149 : decode cX8_tells 149 = .ok (.iload 4, 2) := dk_21 4 (dk_at dksX8_tells_6 5 rfl rfl)
theorem dX8_tells_151 : decode cX8_tells 151 = .ok (.iconst 5, 1) := dk_8 (dk_at dksX8_tells_6 7 rfl rfl)
theorem dX8_tells_152 : decode cX8_tells 152 = .ok (.if_icmp .ne 12, 3) := dk_160 0 12 (dk_at dksX8_tells_6 8 rfl rfl)
theorem dX8_tells_155 : decode cX8_tells 155 = .ok (.aload_n 0, 1) := dk_42 (dk_at dksX8_tells_6 11 rfl rfl)
theorem dX8_tells_156 : decode cX8_tells 156 = .ok (.getfield 58, 3) := dk_180 0 58 (dk_at dksX8_tells_6 12 rfl rfl)
theorem dX8_tells_159 : decode cX8_tells 159 = .ok (.iconst 1, 1) := dk_4 (dk_at dksX8_tells_6 15 rfl rfl)
theorem dX8_tells_160 : decode cX8_tells 160 = .ok (.isub, 1) := dk_100 (dk_at dksX8_tells_6 16 rfl rfl)
theorem dX8_tells_161 : decode cX8_tells 161 = .ok (.goto 26, 3) := dk_167 0 26 (dk_at dksX8_tells_6 17 rfl rfl)
theorem dX8_tells_164 : decode cX8_tells 164 = .ok (.iload 4, 2) := dk_21 4 (dk_at dksX8_tells_6 20 rfl rfl)
theorem dX8_tells_166 : decode cX8_tells 166 = .ok (.iconst 4, 1) := dk_7 (dk_at dksX8_tells_6 22 rfl rfl)
theorem dX8_tells_167 : decode cX8_tells 167 = .ok (.if_icmp .ne 7, 3) := dk_160 0 7 (dk_at dksX8_tells_7 0 rfl rfl)
theorem dX8_tells_170 : decode cX8_tells 170 = .ok (.iconst 5, 1) := dk_8 (dk_at dksX8_tells_7 3 rfl rfl)
theorem dX8_tells_171 : decode cX8_tells 171 = .ok (.goto 16, 3) := dk_167 0 16 (dk_at dksX8_tells_7 4 rfl rfl)
theorem dX8_tells_174 : decode cX8_tells 174 = .ok (.iload 4, 2) := dk_21 4 (dk_at dksX8_tells_7 7 rfl rfl)
theorem dX8_tells_176 : decode cX8_tells 176 = .ok (.iconst 2, 1) := dk_5 (dk_at dksX8_tells_7 9 rfl rfl)
theorem dX8_tells_177 : decode cX8_tells 177 = .ok (.if_icmp .ne 8, 3) := dk_160 0 8 (dk_at dksX8_tells_7 10 rfl rfl)
theorem dX8_tells_180 : decode cX8_tells 180 = .ok (.bipush 9, 2) := dk_16 9 (dk_at dksX8_tells_7 13 rfl rfl)
theorem dX8_tells_182 : decode cX8_tells 182 = .ok (.goto 5, 3) := dk_167 0 5 (dk_at dksX8_tells_7 15 rfl rfl)
theorem dX8_tells_185 : decode cX8_tells 185 = .ok (.bipush 99, 2) := dk_16 99 (dk_at dksX8_tells_7 18 rfl rfl)
theorem dX8_tells_187 : decode cX8_tells 187 = .ok (.istore 6, 2) := dk_54 6 (dk_at dksX8_tells_7 20 rfl rfl)
theorem dX8_tells_189 : decode cX8_tells 189 = .ok (.iconst 0, 1) := dk_3 (dk_at dksX8_tells_7 22 rfl rfl)
theorem dX8_tells_190 : decode cX8_tells 190 = .ok (.istore 7, 2) := dk_54 7 (dk_at dksX8_tells_8 0 rfl rfl)
theorem dX8_tells_192 : decode cX8_tells 192 = .ok (.iconst 0, 1) := dk_3 (dk_at dksX8_tells_8 2 rfl rfl)
theorem dX8_tells_193 : decode cX8_tells 193 = .ok (.istore 8, 2) := dk_54 8 (dk_at dksX8_tells_8 3 rfl rfl)
theorem dX8_tells_195 : decode cX8_tells 195 = .ok (.iconst (-1), 1) := dk_2 (dk_at dksX8_tells_8 5 rfl rfl)
theorem dX8_tells_196 : decode cX8_tells 196 = .ok (.istore 9, 2) := dk_54 9 (dk_at dksX8_tells_8 6 rfl rfl)
theorem dX8_tells_198 : decode cX8_tells 198 = .ok (.iload 6, 2) := dk_21 6 (dk_at dksX8_tells_8 8 rfl rfl)
theorem dX8_tells_200 : decode cX8_tells 200 = .ok (.istore 10, 2) := dk_54 10 (dk_at dksX8_tells_8 10 rfl rfl)
theorem dX8_tells_202 : decode cX8_tells 202 = .ok (.iload 10, 2) := dk_21 10 (dk_at dksX8_tells_8 12 rfl rfl)
theorem dX8_tells_204 : decode cX8_tells 204 = .ok (.ifCond .lt 55, 3) := dk_155 0 55 (dk_at dksX8_tells_8 14 rfl rfl)
theorem dX8_tells_207 : decode cX8_tells 207 = .ok (.aload_n 0, 1) := dk_42 (dk_at dksX8_tells_8 17 rfl rfl)
theorem dX8_tells_208 : decode cX8_tells 208 = .ok (.iload 4, 2) := dk_21 4 (dk_at dksX8_tells_8 18 rfl rfl)
theorem dX8_tells_210 : decode cX8_tells 210 = .ok (.iload_n 2, 1) := dk_28 (dk_at dksX8_tells_8 20 rfl rfl)
theorem dX8_tells_211 : decode cX8_tells 211 = .ok (.iload 10, 2) := dk_21 10 (dk_at dksX8_tells_8 21 rfl rfl)
theorem dX8_tells_213 : decode cX8_tells 213 = .ok (.invokevirtual 96, 3) := dk_182 0 96 (dk_at dksX8_tells_9 0 rfl rfl)
theorem dX8_tells_216 : decode cX8_tells 216 = .ok (.aload_n 0, 1) := dk_42 (dk_at dksX8_tells_9 3 rfl rfl)
theorem dX8_tells_217 : decode cX8_tells 217 = .ok (.iload_n 1, 1) := dk_27 (dk_at dksX8_tells_9 4 rfl rfl)
theorem dX8_tells_218 : decode cX8_tells 218 = .ok (.iload_n 2, 1) := dk_28 (dk_at dksX8_tells_9 5 rfl rfl)
theorem dX8_tells_219 : decode cX8_tells 219 = .ok (.invokevirtual 328, 3) := dk_182 1 72 (dk_at dksX8_tells_9 6 rfl rfl)
theorem dX8_tells_222 : decode cX8_tells 222 = .ok (.iconst (-1), 1) := dk_2 (dk_at dksX8_tells_9 9 rfl rfl)
theorem dX8_tells_223 : decode cX8_tells 223 = .ok (.if_icmp .ne 30, 3) := dk_160 0 30 (dk_at dksX8_tells_9 10 rfl rfl)
theorem dX8_tells_226 : decode cX8_tells 226 = .ok (.iload 7, 2) := dk_21 7 (dk_at dksX8_tells_9 13 rfl rfl)
theorem dX8_tells_228 : decode cX8_tells 228 = .ok (.iload 10, 2) := dk_21 10 (dk_at dksX8_tells_9 15 rfl rfl)
theorem dX8_tells_230 : decode cX8_tells 230 = .ok (.bipush 10, 2) := dk_16 10 (dk_at dksX8_tells_9 17 rfl rfl)
theorem dX8_tells_232 : decode cX8_tells 232 = .ok (.if_icmp .ge 10, 3) := dk_162 0 10 (dk_at dksX8_tells_9 19 rfl rfl)
theorem dX8_tells_235 : decode cX8_tells 235 = .ok (.iconst 1, 1) := dk_4 (dk_at dksX8_tells_9 22 rfl rfl)
theorem dX8_tells_236 : decode cX8_tells 236 = .ok (.iload 10, 2) := dk_21 10 (dk_at dksX8_tells_10 0 rfl rfl)
theorem dX8_tells_238 : decode cX8_tells 238 = .ok (.ishl, 1) := dk_120 (dk_at dksX8_tells_10 2 rfl rfl)
theorem dX8_tells_239 : decode cX8_tells 239 = .ok (.goto 4, 3) := dk_167 0 4 (dk_at dksX8_tells_10 3 rfl rfl)
theorem dX8_tells_242 : decode cX8_tells 242 = .ok (.iconst 0, 1) := dk_3 (dk_at dksX8_tells_10 6 rfl rfl)
theorem dX8_tells_243 : decode cX8_tells 243 = .ok (.ior, 1) := dk_128 (dk_at dksX8_tells_10 7 rfl rfl)
theorem dX8_tells_244 : decode cX8_tells 244 = .ok (.istore 7, 2) := dk_54 7 (dk_at dksX8_tells_10 8 rfl rfl)
theorem dX8_tells_246 : decode cX8_tells 246 = .ok (.iinc 8 1, 3) := dk_132 8 1 (dk_at dksX8_tells_10 10 rfl rfl)
theorem dX8_tells_249 : decode cX8_tells 249 = .ok (.iload 10, 2) := dk_21 10 (dk_at dksX8_tells_10 13 rfl rfl)
theorem dX8_tells_251 : decode cX8_tells 251 = .ok (.istore 9, 2) := dk_54 9 (dk_at dksX8_tells_10 15 rfl rfl)
theorem dX8_tells_253 : decode cX8_tells 253 = .ok (.iinc 10 (-1), 3) := dk_132 10 255 (dk_at dksX8_tells_10 17 rfl rfl)
theorem dX8_tells_256 : decode cX8_tells 256 = .ok (.goto (-54), 3) := dk_167 255 202 (dk_at dksX8_tells_10 20 rfl rfl)
theorem dX8_tells_259 : decode cX8_tells 259 = .ok (.aload_n 0, 1) := dk_42 (dk_at dksX8_tells_10 23 rfl rfl)
theorem dX8_tells_260 : decode cX8_tells 260 = .ok (.iload 4, 2) := dk_21 4 (dk_at dksX8_tells_11 0 rfl rfl)
theorem dX8_tells_262 : decode cX8_tells 262 = .ok (.iload_n 2, 1) := dk_28 (dk_at dksX8_tells_11 2 rfl rfl)
theorem dX8_tells_263 : decode cX8_tells 263 = .ok (.iload 5, 2) := dk_21 5 (dk_at dksX8_tells_11 3 rfl rfl)
theorem dX8_tells_265 : decode cX8_tells 265 = .ok (.invokevirtual 96, 3) := dk_182 0 96 (dk_at dksX8_tells_11 5 rfl rfl)
theorem dX8_tells_268 : decode cX8_tells 268 = .ok (.iload_n 3, 1) := dk_29 (dk_at dksX8_tells_11 8 rfl rfl)
theorem dX8_tells_269 : decode cX8_tells 269 = .ok (.iconst 3, 1) := dk_6 (dk_at dksX8_tells_11 9 rfl rfl)
theorem dX8_tells_270 : decode cX8_tells 270 = .ok (.if_icmp .eq 8, 3) := dk_159 0 8 (dk_at dksX8_tells_11 10 rfl rfl)
theorem dX8_tells_273 : decode cX8_tells 273 = .ok (.iload_n 3, 1) := dk_29 (dk_at dksX8_tells_11 13 rfl rfl)
theorem dX8_tells_274 : decode cX8_tells 274 = .ok (.iconst 5, 1) := dk_8 (dk_at dksX8_tells_11 14 rfl rfl)
theorem dX8_tells_275 : decode cX8_tells 275 = .ok (.if_icmp .ne 8, 3) := dk_160 0 8 (dk_at dksX8_tells_11 15 rfl rfl)
theorem dX8_tells_278 : decode cX8_tells 278 = .ok (.iload 8, 2) := dk_21 8 (dk_at dksX8_tells_11 18 rfl rfl)
theorem dX8_tells_280 : decode cX8_tells 280 = .ok (.goto 21, 3) := dk_167 0 21 (dk_at dksX8_tells_11 20 rfl rfl)
theorem dX8_tells_283 : decode cX8_tells 283 = .ok (.iload_n 3, 1) := dk_29 (dk_at dksX8_tells_11 23 rfl rfl)
theorem dX8_tells_284 : decode cX8_tells 284 = .ok (.iconst 4, 1) := dk_7 (dk_at dksX8_tells_12 0 rfl rfl)
theorem dX8_tells_285 : decode cX8_tells 285 = .ok (.if_icmp .eq 9, 3) := dk_159 0 9 (dk_at dksX8_tells_12 1 rfl rfl)
theorem dX8_tells_288 : decode cX8_tells 288 = .ok (.iload_n 3, 1) := dk_29 (dk_at dksX8_tells_12 4 rfl rfl)
theorem dX8_tells_289 : decode cX8_tells 289 = .ok (.bipush 6, 2) := dk_16 6 (dk_at dksX8_tells_12 5 rfl rfl)
theorem dX8_tells_291 : decode cX8_tells 291 = .ok (.if_icmp .ne 8, 3) := dk_160 0 8 (dk_at dksX8_tells_12 7 rfl rfl)
theorem dX8_tells_294 : decode cX8_tells 294 = .ok (.iload 9, 2) := dk_21 9 (dk_at dksX8_tells_12 10 rfl rfl)
theorem dX8_tells_296 : decode cX8_tells 296 = .ok (.goto 5, 3) := dk_167 0 5 (dk_at dksX8_tells_12 12 rfl rfl)
theorem dX8_tells_299 : decode cX8_tells 299 = .ok (.iload 7, 2) := dk_21 7 (dk_at dksX8_tells_12 15 rfl rfl)
theorem dX8_tells_301 : decode cX8_tells 301 = .ok (.ireturn, 1) := dk_172 (dk_at dksX8_tells_12 17 rfl rfl)
abbrev cX8_firstOther : ByteArray := prog_16_method_67_code
def yX8_firstOther : MethodName := ⟨RX8, "firstOther", "(II)I"⟩
def dkwX8_firstOther_2 : List UInt8 := [167, 255, 214, 2, 172]
abbrev dktX8_firstOther_2 : List UInt8 := dkwX8_firstOther_2 ++ []
def dkwX8_firstOther_1 : List UInt8 := [182, 1, 0, 42, 180, 0, 51, 16, 40, 27, 104, 29, 96, 46, 159, 0, 5, 29, 172, 132, 3, 1]
abbrev dktX8_firstOther_1 : List UInt8 := dkwX8_firstOther_1 ++ dktX8_firstOther_2
def dkwX8_firstOther_0 : List UInt8 := [3, 62, 29, 42, 180, 0, 61, 162, 0, 40, 29, 28, 160, 0, 7, 3, 167, 0, 9, 42, 28, 29]
abbrev dktX8_firstOther_0 : List UInt8 := dkwX8_firstOther_0 ++ dktX8_firstOther_1
theorem dksX8_firstOther_0 : cX8_firstOther.data.toList.drop 0 = dktX8_firstOther_0 := by decide +kernel
theorem dksX8_firstOther_1 : cX8_firstOther.data.toList.drop 22 = dktX8_firstOther_1 := dk_seg dksX8_firstOther_0 22 rfl rfl
theorem dksX8_firstOther_2 : cX8_firstOther.data.toList.drop 44 = dktX8_firstOther_2 := dk_seg dksX8_firstOther_1 22 rfl rfl
theorem dX8_firstOther_0 : decode cX8_firstOther 0 = .ok (.iconst 0, 1) := dk_3 (dk_at dksX8_firstOther_0 0 rfl rfl)
theorem dX8_firstOther_1 : decode cX8_firstOther 1 = .ok (.istore_n 3, 1) := dk_62 (dk_at dksX8_firstOther_0 1 rfl rfl)
theorem dX8_firstOther_2 : decode cX8_firstOther 2 = .ok (.iload_n 3, 1) := dk_29 (dk_at dksX8_firstOther_0 2 rfl rfl)
theorem dX8_firstOther_3 : decode cX8_firstOther 3 = .ok (.aload_n 0, 1) := dk_42 (dk_at dksX8_firstOther_0 3 rfl rfl)
theorem dX8_firstOther_4 : decode cX8_firstOther 4 = .ok (.getfield 61, 3) := dk_180 0 61 (dk_at dksX8_firstOther_0 4 rfl rfl)
theorem dX8_firstOther_7 : decode cX8_firstOther 7 = .ok (.if_icmp .ge 40, 3) := dk_162 0 40 (dk_at dksX8_firstOther_0 7 rfl rfl)
theorem dX8_firstOther_10 : decode cX8_firstOther 10 = .ok (.iload_n 3, 1) := dk_29 (dk_at dksX8_firstOther_0 10 rfl rfl)
theorem dX8_firstOther_11 : decode cX8_firstOther 11 = .ok (.iload_n 2, 1) := dk_28 (dk_at dksX8_firstOther_0 11 rfl rfl)
theorem dX8_firstOther_12 : decode cX8_firstOther 12 = .ok (.if_icmp .ne 7, 3) := dk_160 0 7 (dk_at dksX8_firstOther_0 12 rfl rfl)
theorem dX8_firstOther_15 : decode cX8_firstOther 15 = .ok (.iconst 0, 1) := dk_3 (dk_at dksX8_firstOther_0 15 rfl rfl)
theorem dX8_firstOther_16 : decode cX8_firstOther 16 = .ok (.goto 9, 3) := dk_167 0 9 (dk_at dksX8_firstOther_0 16 rfl rfl)
theorem dX8_firstOther_19 : decode cX8_firstOther 19 = .ok (.aload_n 0, 1) := dk_42 (dk_at dksX8_firstOther_0 19 rfl rfl)
theorem dX8_firstOther_20 : decode cX8_firstOther 20 = .ok (.iload_n 2, 1) := dk_28 (dk_at dksX8_firstOther_0 20 rfl rfl)
theorem dX8_firstOther_21 : decode cX8_firstOther 21 = .ok (.iload_n 3, 1) := dk_29 (dk_at dksX8_firstOther_0 21 rfl rfl)
theorem dX8_firstOther_22 : decode cX8_firstOther 22 = .ok (.invokevirtual 256, 3) := dk_182 1 0 (dk_at dksX8_firstOther_1 0 rfl rfl)
theorem dX8_firstOther_25 : decode cX8_firstOther 25 = .ok (.aload_n 0, 1) := dk_42 (dk_at dksX8_firstOther_1 3 rfl rfl)
theorem dX8_firstOther_26 : decode cX8_firstOther 26 = .ok (.getfield 51, 3) := dk_180 0 51 (dk_at dksX8_firstOther_1 4 rfl rfl)
theorem dX8_firstOther_29 : decode cX8_firstOther 29 = .ok (.bipush 40, 2) := dk_16 40 (dk_at dksX8_firstOther_1 7 rfl rfl)
theorem dX8_firstOther_31 : decode cX8_firstOther 31 = .ok (.iload_n 1, 1) := dk_27 (dk_at dksX8_firstOther_1 9 rfl rfl)
theorem dX8_firstOther_32 : decode cX8_firstOther 32 = .ok (.imul, 1) := dk_104 (dk_at dksX8_firstOther_1 10 rfl rfl)
theorem dX8_firstOther_33 : decode cX8_firstOther 33 = .ok (.iload_n 3, 1) := dk_29 (dk_at dksX8_firstOther_1 11 rfl rfl)
theorem dX8_firstOther_34 : decode cX8_firstOther 34 = .ok (.iadd, 1) := dk_96 (dk_at dksX8_firstOther_1 12 rfl rfl)
theorem dX8_firstOther_35 : decode cX8_firstOther 35 = .ok (.iaload, 1) := dk_46 (dk_at dksX8_firstOther_1 13 rfl rfl)
theorem dX8_firstOther_36 : decode cX8_firstOther 36 = .ok (.if_icmp .eq 5, 3) := dk_159 0 5 (dk_at dksX8_firstOther_1 14 rfl rfl)
theorem dX8_firstOther_39 : decode cX8_firstOther 39 = .ok (.iload_n 3, 1) := dk_29 (dk_at dksX8_firstOther_1 17 rfl rfl)
theorem dX8_firstOther_40 : decode cX8_firstOther 40 = .ok (.ireturn, 1) := dk_172 (dk_at dksX8_firstOther_1 18 rfl rfl)
theorem dX8_firstOther_41 : decode cX8_firstOther 41 = .ok (.iinc 3 1, 3) := dk_132 3 1 (dk_at dksX8_firstOther_1 19 rfl rfl)
theorem dX8_firstOther_44 : decode cX8_firstOther 44 = .ok (.goto (-42), 3) := dk_167 255 214 (dk_at dksX8_firstOther_2 0 rfl rfl)
theorem dX8_firstOther_47 : decode cX8_firstOther 47 = .ok (.iconst (-1), 1) := dk_2 (dk_at dksX8_firstOther_2 3 rfl rfl)
theorem dX8_firstOther_48 : decode cX8_firstOther 48 = .ok (.ireturn, 1) := dk_172 (dk_at dksX8_firstOther_2 4 rfl rfl)
abbrev cX8_likeSet : ByteArray := prog_16_method_68_code
def yX8_likeSet : MethodName := ⟨RX8, "likeSet", "(I)I"⟩
def dkwX8_likeSet_1 : List UInt8 := [167, 0, 4, 3, 29, 120, 128, 61, 132, 3, 1, 167, 255, 225, 28, 172]
abbrev dktX8_likeSet_1 : List UInt8 := dkwX8_likeSet_1 ++ []
def dkwX8_likeSet_0 : List UInt8 := [3, 61, 3, 62, 29, 42, 180, 0, 61, 162, 0, 29, 28, 42, 27, 29, 182, 1, 72, 2, 160, 0, 7, 4]
abbrev dktX8_likeSet_0 : List UInt8 := dkwX8_likeSet_0 ++ dktX8_likeSet_1
theorem dksX8_likeSet_0 : cX8_likeSet.data.toList.drop 0 = dktX8_likeSet_0 := by decide +kernel
theorem dksX8_likeSet_1 : cX8_likeSet.data.toList.drop 24 = dktX8_likeSet_1 := dk_seg dksX8_likeSet_0 24 rfl rfl
theorem dX8_likeSet_0 : decode cX8_likeSet 0 = .ok (.iconst 0, 1) := dk_3 (dk_at dksX8_likeSet_0 0 rfl rfl)
theorem dX8_likeSet_1 : decode cX8_likeSet 1 = .ok (.istore_n 2, 1) := dk_61 (dk_at dksX8_likeSet_0 1 rfl rfl)
theorem dX8_likeSet_2 : decode cX8_likeSet 2 = .ok (.iconst 0, 1) := dk_3 (dk_at dksX8_likeSet_0 2 rfl rfl)
theorem dX8_likeSet_3 : decode cX8_likeSet 3 = .ok (.istore_n 3, 1) := dk_62 (dk_at dksX8_likeSet_0 3 rfl rfl)
theorem dX8_likeSet_4 : decode cX8_likeSet 4 = .ok (.iload_n 3, 1) := dk_29 (dk_at dksX8_likeSet_0 4 rfl rfl)
theorem dX8_likeSet_5 : decode cX8_likeSet 5 = .ok (.aload_n 0, 1) := dk_42 (dk_at dksX8_likeSet_0 5 rfl rfl)
theorem dX8_likeSet_6 : decode cX8_likeSet 6 = .ok (.getfield 61, 3) := dk_180 0 61 (dk_at dksX8_likeSet_0 6 rfl rfl)
theorem dX8_likeSet_9 : decode cX8_likeSet 9 = .ok (.if_icmp .ge 29, 3) := dk_162 0 29 (dk_at dksX8_likeSet_0 9 rfl rfl)
theorem dX8_likeSet_12 : decode cX8_likeSet 12 = .ok (.iload_n 2, 1) := dk_28 (dk_at dksX8_likeSet_0 12 rfl rfl)
theorem dX8_likeSet_13 : decode cX8_likeSet 13 = .ok (.aload_n 0, 1) := dk_42 (dk_at dksX8_likeSet_0 13 rfl rfl)
theorem dX8_likeSet_14 : decode cX8_likeSet 14 = .ok (.iload_n 1, 1) := dk_27 (dk_at dksX8_likeSet_0 14 rfl rfl)
theorem dX8_likeSet_15 : decode cX8_likeSet 15 = .ok (.iload_n 3, 1) := dk_29 (dk_at dksX8_likeSet_0 15 rfl rfl)
theorem dX8_likeSet_16 : decode cX8_likeSet 16 = .ok (.invokevirtual 328, 3) := dk_182 1 72 (dk_at dksX8_likeSet_0 16 rfl rfl)
theorem dX8_likeSet_19 : decode cX8_likeSet 19 = .ok (.iconst (-1), 1) := dk_2 (dk_at dksX8_likeSet_0 19 rfl rfl)
theorem dX8_likeSet_20 : decode cX8_likeSet 20 = .ok (.if_icmp .ne 7, 3) := dk_160 0 7 (dk_at dksX8_likeSet_0 20 rfl rfl)
theorem dX8_likeSet_23 : decode cX8_likeSet 23 = .ok (.iconst 1, 1) := dk_4 (dk_at dksX8_likeSet_0 23 rfl rfl)
theorem dX8_likeSet_24 : decode cX8_likeSet 24 = .ok (.goto 4, 3) := dk_167 0 4 (dk_at dksX8_likeSet_1 0 rfl rfl)
theorem dX8_likeSet_27 : decode cX8_likeSet 27 = .ok (.iconst 0, 1) := dk_3 (dk_at dksX8_likeSet_1 3 rfl rfl)
theorem dX8_likeSet_28 : decode cX8_likeSet 28 = .ok (.iload_n 3, 1) := dk_29 (dk_at dksX8_likeSet_1 4 rfl rfl)
theorem dX8_likeSet_29 : decode cX8_likeSet 29 = .ok (.ishl, 1) := dk_120 (dk_at dksX8_likeSet_1 5 rfl rfl)
theorem dX8_likeSet_30 : decode cX8_likeSet 30 = .ok (.ior, 1) := dk_128 (dk_at dksX8_likeSet_1 6 rfl rfl)
theorem dX8_likeSet_31 : decode cX8_likeSet 31 = .ok (.istore_n 2, 1) := dk_61 (dk_at dksX8_likeSet_1 7 rfl rfl)
theorem dX8_likeSet_32 : decode cX8_likeSet 32 = .ok (.iinc 3 1, 3) := dk_132 3 1 (dk_at dksX8_likeSet_1 8 rfl rfl)
theorem dX8_likeSet_35 : decode cX8_likeSet 35 = .ok (.goto (-31), 3) := dk_167 255 225 (dk_at dksX8_likeSet_1 11 rfl rfl)
theorem dX8_likeSet_38 : decode cX8_likeSet 38 = .ok (.iload_n 2, 1) := dk_28 (dk_at dksX8_likeSet_1 14 rfl rfl)
theorem dX8_likeSet_39 : decode cX8_likeSet 39 = .ok (.ireturn, 1) := dk_172 (dk_at dksX8_likeSet_1 15 rfl rfl)
abbrev cX8_film : ByteArray := prog_16_method_70_code
def yX8_film : MethodName := ⟨RX8, "film", "(II)I"⟩
def dkwX8_film_3 : List UInt8 := [167, 255, 219, 42, 180, 0, 61, 172]
abbrev dktX8_film_3 : List UInt8 := dkwX8_film_3 ++ []
def dkwX8_film_2 : List UInt8 := [104, 29, 96, 29, 28, 160, 0, 7, 3, 167, 0, 9, 42, 28, 29, 182, 1, 0, 79, 132, 3, 1]
abbrev dktX8_film_2 : List UInt8 := dkwX8_film_2 ++ dktX8_film_3
def dkwX8_film_1 : List UInt8 := [180, 0, 61, 182, 1, 78, 87, 3, 62, 29, 42, 180, 0, 61, 162, 0, 35, 42, 180, 0, 51, 16, 40, 27]
abbrev dktX8_film_1 : List UInt8 := dkwX8_film_1 ++ dktX8_film_2
def dkwX8_film_0 : List UInt8 := [27, 184, 1, 30, 153, 0, 11, 42, 28, 182, 0, 68, 154, 0, 6, 16, 254, 172, 42, 27, 4, 42]
abbrev dktX8_film_0 : List UInt8 := dkwX8_film_0 ++ dktX8_film_1
theorem dksX8_film_0 : cX8_film.data.toList.drop 0 = dktX8_film_0 := by decide +kernel
theorem dksX8_film_1 : cX8_film.data.toList.drop 22 = dktX8_film_1 := dk_seg dksX8_film_0 22 rfl rfl
theorem dksX8_film_2 : cX8_film.data.toList.drop 46 = dktX8_film_2 := dk_seg dksX8_film_1 24 rfl rfl
theorem dksX8_film_3 : cX8_film.data.toList.drop 68 = dktX8_film_3 := dk_seg dksX8_film_2 22 rfl rfl
theorem dX8_film_0 : decode cX8_film 0 = .ok (.iload_n 1, 1) := dk_27 (dk_at dksX8_film_0 0 rfl rfl)
theorem dX8_film_1 : decode cX8_film 1 = .ok (.invokestatic 286, 3) := dk_184 1 30 (dk_at dksX8_film_0 1 rfl rfl)
theorem dX8_film_4 : decode cX8_film 4 = .ok (.ifCond .eq 11, 3) := dk_153 0 11 (dk_at dksX8_film_0 4 rfl rfl)
theorem dX8_film_7 : decode cX8_film 7 = .ok (.aload_n 0, 1) := dk_42 (dk_at dksX8_film_0 7 rfl rfl)
theorem dX8_film_8 : decode cX8_film 8 = .ok (.iload_n 2, 1) := dk_28 (dk_at dksX8_film_0 8 rfl rfl)
theorem dX8_film_9 : decode cX8_film 9 = .ok (.invokevirtual 68, 3) := dk_182 0 68 (dk_at dksX8_film_0 9 rfl rfl)
theorem dX8_film_12 : decode cX8_film 12 = .ok (.ifCond .ne 6, 3) := dk_154 0 6 (dk_at dksX8_film_0 12 rfl rfl)
theorem dX8_film_15 : decode cX8_film 15 = .ok (.bipush (-2), 2) := dk_16 254 (dk_at dksX8_film_0 15 rfl rfl)
theorem dX8_film_17 : decode cX8_film 17 = .ok (.ireturn, 1) := dk_172 (dk_at dksX8_film_0 17 rfl rfl)
theorem dX8_film_18 : decode cX8_film 18 = .ok (.aload_n 0, 1) := dk_42 (dk_at dksX8_film_0 18 rfl rfl)
theorem dX8_film_19 : decode cX8_film 19 = .ok (.iload_n 1, 1) := dk_27 (dk_at dksX8_film_0 19 rfl rfl)
theorem dX8_film_20 : decode cX8_film 20 = .ok (.iconst 1, 1) := dk_4 (dk_at dksX8_film_0 20 rfl rfl)
theorem dX8_film_21 : decode cX8_film 21 = .ok (.aload_n 0, 1) := dk_42 (dk_at dksX8_film_0 21 rfl rfl)
theorem dX8_film_22 : decode cX8_film 22 = .ok (.getfield 61, 3) := dk_180 0 61 (dk_at dksX8_film_1 0 rfl rfl)
theorem dX8_film_25 : decode cX8_film 25 = .ok (.invokevirtual 334, 3) := dk_182 1 78 (dk_at dksX8_film_1 3 rfl rfl)
theorem dX8_film_28 : decode cX8_film 28 = .ok (.pop, 1) := dk_87 (dk_at dksX8_film_1 6 rfl rfl)
theorem dX8_film_29 : decode cX8_film 29 = .ok (.iconst 0, 1) := dk_3 (dk_at dksX8_film_1 7 rfl rfl)
theorem dX8_film_30 : decode cX8_film 30 = .ok (.istore_n 3, 1) := dk_62 (dk_at dksX8_film_1 8 rfl rfl)
theorem dX8_film_31 : decode cX8_film 31 = .ok (.iload_n 3, 1) := dk_29 (dk_at dksX8_film_1 9 rfl rfl)
theorem dX8_film_32 : decode cX8_film 32 = .ok (.aload_n 0, 1) := dk_42 (dk_at dksX8_film_1 10 rfl rfl)
theorem dX8_film_33 : decode cX8_film 33 = .ok (.getfield 61, 3) := dk_180 0 61 (dk_at dksX8_film_1 11 rfl rfl)
theorem dX8_film_36 : decode cX8_film 36 = .ok (.if_icmp .ge 35, 3) := dk_162 0 35 (dk_at dksX8_film_1 14 rfl rfl)
theorem dX8_film_39 : decode cX8_film 39 = .ok (.aload_n 0, 1) := dk_42 (dk_at dksX8_film_1 17 rfl rfl)
theorem dX8_film_40 : decode cX8_film 40 = .ok (.getfield 51, 3) := dk_180 0 51 (dk_at dksX8_film_1 18 rfl rfl)
theorem dX8_film_43 : decode cX8_film 43 = .ok (.bipush 40, 2) := dk_16 40 (dk_at dksX8_film_1 21 rfl rfl)
theorem dX8_film_45 : decode cX8_film 45 = .ok (.iload_n 1, 1) := dk_27 (dk_at dksX8_film_1 23 rfl rfl)
theorem dX8_film_46 : decode cX8_film 46 = .ok (.imul, 1) := dk_104 (dk_at dksX8_film_2 0 rfl rfl)
theorem dX8_film_47 : decode cX8_film 47 = .ok (.iload_n 3, 1) := dk_29 (dk_at dksX8_film_2 1 rfl rfl)
theorem dX8_film_48 : decode cX8_film 48 = .ok (.iadd, 1) := dk_96 (dk_at dksX8_film_2 2 rfl rfl)
theorem dX8_film_49 : decode cX8_film 49 = .ok (.iload_n 3, 1) := dk_29 (dk_at dksX8_film_2 3 rfl rfl)
theorem dX8_film_50 : decode cX8_film 50 = .ok (.iload_n 2, 1) := dk_28 (dk_at dksX8_film_2 4 rfl rfl)
theorem dX8_film_51 : decode cX8_film 51 = .ok (.if_icmp .ne 7, 3) := dk_160 0 7 (dk_at dksX8_film_2 5 rfl rfl)
theorem dX8_film_54 : decode cX8_film 54 = .ok (.iconst 0, 1) := dk_3 (dk_at dksX8_film_2 8 rfl rfl)
theorem dX8_film_55 : decode cX8_film 55 = .ok (.goto 9, 3) := dk_167 0 9 (dk_at dksX8_film_2 9 rfl rfl)
theorem dX8_film_58 : decode cX8_film 58 = .ok (.aload_n 0, 1) := dk_42 (dk_at dksX8_film_2 12 rfl rfl)
theorem dX8_film_59 : decode cX8_film 59 = .ok (.iload_n 2, 1) := dk_28 (dk_at dksX8_film_2 13 rfl rfl)
theorem dX8_film_60 : decode cX8_film 60 = .ok (.iload_n 3, 1) := dk_29 (dk_at dksX8_film_2 14 rfl rfl)
theorem dX8_film_61 : decode cX8_film 61 = .ok (.invokevirtual 256, 3) := dk_182 1 0 (dk_at dksX8_film_2 15 rfl rfl)
theorem dX8_film_64 : decode cX8_film 64 = .ok (.iastore, 1) := dk_79 (dk_at dksX8_film_2 18 rfl rfl)
theorem dX8_film_65 : decode cX8_film 65 = .ok (.iinc 3 1, 3) := dk_132 3 1 (dk_at dksX8_film_2 19 rfl rfl)
theorem dX8_film_68 : decode cX8_film 68 = .ok (.goto (-37), 3) := dk_167 255 219 (dk_at dksX8_film_3 0 rfl rfl)
theorem dX8_film_71 : decode cX8_film 71 = .ok (.aload_n 0, 1) := dk_42 (dk_at dksX8_film_3 3 rfl rfl)
theorem dX8_film_72 : decode cX8_film 72 = .ok (.getfield 61, 3) := dk_180 0 61 (dk_at dksX8_film_3 4 rfl rfl)
theorem dX8_film_75 : decode cX8_film 75 = .ok (.ireturn, 1) := dk_172 (dk_at dksX8_film_3 7 rfl rfl)
abbrev cX8_sheet : ByteArray := prog_16_method_78_code
def yX8_sheet : MethodName := ⟨RX8, "sheet", "(III)I"⟩
def dkwX8_sheet_4 : List UInt8 := [16, 40, 27, 104, 21, 4, 96, 3, 79, 132, 4, 1, 167, 255, 230, 4, 172]
abbrev dktX8_sheet_4 : List UInt8 := dkwX8_sheet_4 ++ []
def dkwX8_sheet_3 : List UInt8 := [180, 0, 48, 27, 29, 79, 3, 54, 4, 21, 4, 29, 162, 0, 26, 28, 155, 0, 22, 42, 180, 0, 51]
abbrev dktX8_sheet_3 : List UInt8 := dkwX8_sheet_3 ++ dktX8_sheet_4
def dkwX8_sheet_2 : List UInt8 := [180, 0, 41, 27, 28, 155, 0, 7, 4, 167, 0, 4, 3, 84, 42, 180, 0, 45, 27, 28, 79, 42]
abbrev dktX8_sheet_2 : List UInt8 := dkwX8_sheet_2 ++ dktX8_sheet_3
def dkwX8_sheet_1 : List UInt8 := [155, 0, 12, 29, 16, 40, 164, 0, 6, 16, 254, 172, 28, 155, 0, 10, 29, 156, 0, 6, 16, 242, 172, 42]
abbrev dktX8_sheet_1 : List UInt8 := dkwX8_sheet_1 ++ dktX8_sheet_2
def dkwX8_sheet_0 : List UInt8 := [27, 184, 1, 30, 153, 0, 27, 28, 133, 20, 1, 98, 20, 1, 100, 184, 0, 64, 153, 0, 13, 28]
abbrev dktX8_sheet_0 : List UInt8 := dkwX8_sheet_0 ++ dktX8_sheet_1
theorem dksX8_sheet_0 : cX8_sheet.data.toList.drop 0 = dktX8_sheet_0 := by decide +kernel
theorem dksX8_sheet_1 : cX8_sheet.data.toList.drop 22 = dktX8_sheet_1 := dk_seg dksX8_sheet_0 22 rfl rfl
theorem dksX8_sheet_2 : cX8_sheet.data.toList.drop 46 = dktX8_sheet_2 := dk_seg dksX8_sheet_1 24 rfl rfl
theorem dksX8_sheet_3 : cX8_sheet.data.toList.drop 68 = dktX8_sheet_3 := dk_seg dksX8_sheet_2 22 rfl rfl
theorem dksX8_sheet_4 : cX8_sheet.data.toList.drop 91 = dktX8_sheet_4 := dk_seg dksX8_sheet_3 23 rfl rfl
theorem dX8_sheet_0 : decode cX8_sheet 0 = .ok (.iload_n 1, 1) := dk_27 (dk_at dksX8_sheet_0 0 rfl rfl)
theorem dX8_sheet_1 : decode cX8_sheet 1 = .ok (.invokestatic 286, 3) := dk_184 1 30 (dk_at dksX8_sheet_0 1 rfl rfl)
theorem dX8_sheet_4 : decode cX8_sheet 4 = .ok (.ifCond .eq 27, 3) := dk_153 0 27 (dk_at dksX8_sheet_0 4 rfl rfl)
theorem dX8_sheet_7 : decode cX8_sheet 7 = .ok (.iload_n 2, 1) := dk_28 (dk_at dksX8_sheet_0 7 rfl rfl)
theorem dX8_sheet_8 : decode cX8_sheet 8 = .ok (.i2l, 1) := dk_133 (dk_at dksX8_sheet_0 8 rfl rfl)
theorem dX8_sheet_9 : decode cX8_sheet 9 = .ok (.ldc2_w 354, 3) := dk_20 1 98 (dk_at dksX8_sheet_0 9 rfl rfl)
theorem dX8_sheet_12 : decode cX8_sheet 12 = .ok (.ldc2_w 356, 3) := dk_20 1 100 (dk_at dksX8_sheet_0 12 rfl rfl)
theorem dX8_sheet_15 : decode cX8_sheet 15 = .ok (.invokestatic 64, 3) := dk_184 0 64 (dk_at dksX8_sheet_0 15 rfl rfl)
theorem dX8_sheet_18 : decode cX8_sheet 18 = .ok (.ifCond .eq 13, 3) := dk_153 0 13 (dk_at dksX8_sheet_0 18 rfl rfl)
theorem dX8_sheet_21 : decode cX8_sheet 21 = .ok (.iload_n 2, 1) := dk_28 (dk_at dksX8_sheet_0 21 rfl rfl)
theorem dX8_sheet_22 : decode cX8_sheet 22 = .ok (.ifCond .lt 12, 3) := dk_155 0 12 (dk_at dksX8_sheet_1 0 rfl rfl)
theorem dX8_sheet_25 : decode cX8_sheet 25 = .ok (.iload_n 3, 1) := dk_29 (dk_at dksX8_sheet_1 3 rfl rfl)
theorem dX8_sheet_26 : decode cX8_sheet 26 = .ok (.bipush 40, 2) := dk_16 40 (dk_at dksX8_sheet_1 4 rfl rfl)
theorem dX8_sheet_28 : decode cX8_sheet 28 = .ok (.if_icmp .le 6, 3) := dk_164 0 6 (dk_at dksX8_sheet_1 6 rfl rfl)
theorem dX8_sheet_31 : decode cX8_sheet 31 = .ok (.bipush (-2), 2) := dk_16 254 (dk_at dksX8_sheet_1 9 rfl rfl)
theorem dX8_sheet_33 : decode cX8_sheet 33 = .ok (.ireturn, 1) := dk_172 (dk_at dksX8_sheet_1 11 rfl rfl)
theorem dX8_sheet_34 : decode cX8_sheet 34 = .ok (.iload_n 2, 1) := dk_28 (dk_at dksX8_sheet_1 12 rfl rfl)
theorem dX8_sheet_35 : decode cX8_sheet 35 = .ok (.ifCond .lt 10, 3) := dk_155 0 10 (dk_at dksX8_sheet_1 13 rfl rfl)
theorem dX8_sheet_38 : decode cX8_sheet 38 = .ok (.iload_n 3, 1) := dk_29 (dk_at dksX8_sheet_1 16 rfl rfl)
theorem dX8_sheet_39 : decode cX8_sheet 39 = .ok (.ifCond .ge 6, 3) := dk_156 0 6 (dk_at dksX8_sheet_1 17 rfl rfl)
theorem dX8_sheet_42 : decode cX8_sheet 42 = .ok (.bipush (-14), 2) := dk_16 242 (dk_at dksX8_sheet_1 20 rfl rfl)
theorem dX8_sheet_44 : decode cX8_sheet 44 = .ok (.ireturn, 1) := dk_172 (dk_at dksX8_sheet_1 22 rfl rfl)
theorem dX8_sheet_45 : decode cX8_sheet 45 = .ok (.aload_n 0, 1) := dk_42 (dk_at dksX8_sheet_1 23 rfl rfl)
theorem dX8_sheet_46 : decode cX8_sheet 46 = .ok (.getfield 41, 3) := dk_180 0 41 (dk_at dksX8_sheet_2 0 rfl rfl)
theorem dX8_sheet_49 : decode cX8_sheet 49 = .ok (.iload_n 1, 1) := dk_27 (dk_at dksX8_sheet_2 3 rfl rfl)
theorem dX8_sheet_50 : decode cX8_sheet 50 = .ok (.iload_n 2, 1) := dk_28 (dk_at dksX8_sheet_2 4 rfl rfl)
theorem dX8_sheet_51 : decode cX8_sheet 51 = .ok (.ifCond .lt 7, 3) := dk_155 0 7 (dk_at dksX8_sheet_2 5 rfl rfl)
theorem dX8_sheet_54 : decode cX8_sheet 54 = .ok (.iconst 1, 1) := dk_4 (dk_at dksX8_sheet_2 8 rfl rfl)
theorem dX8_sheet_55 : decode cX8_sheet 55 = .ok (.goto 4, 3) := dk_167 0 4 (dk_at dksX8_sheet_2 9 rfl rfl)
theorem dX8_sheet_58 : decode cX8_sheet 58 = .ok (.iconst 0, 1) := dk_3 (dk_at dksX8_sheet_2 12 rfl rfl)
theorem dX8_sheet_59 : decode cX8_sheet 59 = .ok (.bastore, 1) := dk_84 (dk_at dksX8_sheet_2 13 rfl rfl)
theorem dX8_sheet_60 : decode cX8_sheet 60 = .ok (.aload_n 0, 1) := dk_42 (dk_at dksX8_sheet_2 14 rfl rfl)
theorem dX8_sheet_61 : decode cX8_sheet 61 = .ok (.getfield 45, 3) := dk_180 0 45 (dk_at dksX8_sheet_2 15 rfl rfl)
theorem dX8_sheet_64 : decode cX8_sheet 64 = .ok (.iload_n 1, 1) := dk_27 (dk_at dksX8_sheet_2 18 rfl rfl)
theorem dX8_sheet_65 : decode cX8_sheet 65 = .ok (.iload_n 2, 1) := dk_28 (dk_at dksX8_sheet_2 19 rfl rfl)
theorem dX8_sheet_66 : decode cX8_sheet 66 = .ok (.iastore, 1) := dk_79 (dk_at dksX8_sheet_2 20 rfl rfl)
theorem dX8_sheet_67 : decode cX8_sheet 67 = .ok (.aload_n 0, 1) := dk_42 (dk_at dksX8_sheet_2 21 rfl rfl)
theorem dX8_sheet_68 : decode cX8_sheet 68 = .ok (.getfield 48, 3) := dk_180 0 48 (dk_at dksX8_sheet_3 0 rfl rfl)
theorem dX8_sheet_71 : decode cX8_sheet 71 = .ok (.iload_n 1, 1) := dk_27 (dk_at dksX8_sheet_3 3 rfl rfl)
theorem dX8_sheet_72 : decode cX8_sheet 72 = .ok (.iload_n 3, 1) := dk_29 (dk_at dksX8_sheet_3 4 rfl rfl)
theorem dX8_sheet_73 : decode cX8_sheet 73 = .ok (.iastore, 1) := dk_79 (dk_at dksX8_sheet_3 5 rfl rfl)
theorem dX8_sheet_74 : decode cX8_sheet 74 = .ok (.iconst 0, 1) := dk_3 (dk_at dksX8_sheet_3 6 rfl rfl)
theorem dX8_sheet_75 : decode cX8_sheet 75 = .ok (.istore 4, 2) := dk_54 4 (dk_at dksX8_sheet_3 7 rfl rfl)
theorem dX8_sheet_77 : decode cX8_sheet 77 = .ok (.iload 4, 2) := dk_21 4 (dk_at dksX8_sheet_3 9 rfl rfl)
theorem dX8_sheet_79 : decode cX8_sheet 79 = .ok (.iload_n 3, 1) := dk_29 (dk_at dksX8_sheet_3 11 rfl rfl)
theorem dX8_sheet_80 : decode cX8_sheet 80 = .ok (.if_icmp .ge 26, 3) := dk_162 0 26 (dk_at dksX8_sheet_3 12 rfl rfl)
theorem dX8_sheet_83 : decode cX8_sheet 83 = .ok (.iload_n 2, 1) := dk_28 (dk_at dksX8_sheet_3 15 rfl rfl)
theorem dX8_sheet_84 : decode cX8_sheet 84 = .ok (.ifCond .lt 22, 3) := dk_155 0 22 (dk_at dksX8_sheet_3 16 rfl rfl)
theorem dX8_sheet_87 : decode cX8_sheet 87 = .ok (.aload_n 0, 1) := dk_42 (dk_at dksX8_sheet_3 19 rfl rfl)
theorem dX8_sheet_88 : decode cX8_sheet 88 = .ok (.getfield 51, 3) := dk_180 0 51 (dk_at dksX8_sheet_3 20 rfl rfl)
theorem dX8_sheet_91 : decode cX8_sheet 91 = .ok (.bipush 40, 2) := dk_16 40 (dk_at dksX8_sheet_4 0 rfl rfl)
theorem dX8_sheet_93 : decode cX8_sheet 93 = .ok (.iload_n 1, 1) := dk_27 (dk_at dksX8_sheet_4 2 rfl rfl)
theorem dX8_sheet_94 : decode cX8_sheet 94 = .ok (.imul, 1) := dk_104 (dk_at dksX8_sheet_4 3 rfl rfl)
theorem dX8_sheet_95 : decode cX8_sheet 95 = .ok (.iload 4, 2) := dk_21 4 (dk_at dksX8_sheet_4 4 rfl rfl)
theorem dX8_sheet_97 : decode cX8_sheet 97 = .ok (.iadd, 1) := dk_96 (dk_at dksX8_sheet_4 6 rfl rfl)
theorem dX8_sheet_98 : decode cX8_sheet 98 = .ok (.iconst 0, 1) := dk_3 (dk_at dksX8_sheet_4 7 rfl rfl)
theorem dX8_sheet_99 : decode cX8_sheet 99 = .ok (.iastore, 1) := dk_79 (dk_at dksX8_sheet_4 8 rfl rfl)
theorem dX8_sheet_100 : decode cX8_sheet 100 = .ok (.iinc 4 1, 3) := dk_132 4 1 (dk_at dksX8_sheet_4 9 rfl rfl)
theorem dX8_sheet_103 : decode cX8_sheet 103 = .ok (.goto (-26), 3) := dk_167 255 230 (dk_at dksX8_sheet_4 12 rfl rfl)
theorem dX8_sheet_106 : decode cX8_sheet 106 = .ok (.iconst 1, 1) := dk_4 (dk_at dksX8_sheet_4 15 rfl rfl)
theorem dX8_sheet_107 : decode cX8_sheet 107 = .ok (.ireturn, 1) := dk_172 (dk_at dksX8_sheet_4 16 rfl rfl)
abbrev cX8_drawn : ByteArray := prog_16_method_72_code
def yX8_drawn : MethodName := ⟨RX8, "drawn", "(III)I"⟩
def dkwX8_drawn_1 : List UInt8 := [182, 1, 82, 167, 0, 5, 16, 254, 172]
abbrev dktX8_drawn_1 : List UInt8 := dkwX8_drawn_1 ++ []
def dkwX8_drawn_0 : List UInt8 := [42, 28, 182, 0, 68, 153, 0, 25, 29, 133, 9, 20, 0, 231, 184, 0, 64, 153, 0, 13, 42, 27, 28, 29]
abbrev dktX8_drawn_0 : List UInt8 := dkwX8_drawn_0 ++ dktX8_drawn_1
theorem dksX8_drawn_0 : cX8_drawn.data.toList.drop 0 = dktX8_drawn_0 := by decide +kernel
theorem dksX8_drawn_1 : cX8_drawn.data.toList.drop 24 = dktX8_drawn_1 := dk_seg dksX8_drawn_0 24 rfl rfl
theorem dX8_drawn_0 : decode cX8_drawn 0 = .ok (.aload_n 0, 1) := dk_42 (dk_at dksX8_drawn_0 0 rfl rfl)
theorem dX8_drawn_1 : decode cX8_drawn 1 = .ok (.iload_n 2, 1) := dk_28 (dk_at dksX8_drawn_0 1 rfl rfl)
theorem dX8_drawn_2 : decode cX8_drawn 2 = .ok (.invokevirtual 68, 3) := dk_182 0 68 (dk_at dksX8_drawn_0 2 rfl rfl)
theorem dX8_drawn_5 : decode cX8_drawn 5 = .ok (.ifCond .eq 25, 3) := dk_153 0 25 (dk_at dksX8_drawn_0 5 rfl rfl)
theorem dX8_drawn_8 : decode cX8_drawn 8 = .ok (.iload_n 3, 1) := dk_29 (dk_at dksX8_drawn_0 8 rfl rfl)
theorem dX8_drawn_9 : decode cX8_drawn 9 = .ok (.i2l, 1) := dk_133 (dk_at dksX8_drawn_0 9 rfl rfl)
theorem dX8_drawn_10 : decode cX8_drawn 10 = .ok (.lconst 0, 1) := dk_9 (dk_at dksX8_drawn_0 10 rfl rfl)
theorem dX8_drawn_11 : decode cX8_drawn 11 = .ok (.ldc2_w 231, 3) := dk_20 0 231 (dk_at dksX8_drawn_0 11 rfl rfl)
theorem dX8_drawn_14 : decode cX8_drawn 14 = .ok (.invokestatic 64, 3) := dk_184 0 64 (dk_at dksX8_drawn_0 14 rfl rfl)
theorem dX8_drawn_17 : decode cX8_drawn 17 = .ok (.ifCond .eq 13, 3) := dk_153 0 13 (dk_at dksX8_drawn_0 17 rfl rfl)
theorem dX8_drawn_20 : decode cX8_drawn 20 = .ok (.aload_n 0, 1) := dk_42 (dk_at dksX8_drawn_0 20 rfl rfl)
theorem dX8_drawn_21 : decode cX8_drawn 21 = .ok (.iload_n 1, 1) := dk_27 (dk_at dksX8_drawn_0 21 rfl rfl)
theorem dX8_drawn_22 : decode cX8_drawn 22 = .ok (.iload_n 2, 1) := dk_28 (dk_at dksX8_drawn_0 22 rfl rfl)
theorem dX8_drawn_23 : decode cX8_drawn 23 = .ok (.iload_n 3, 1) := dk_29 (dk_at dksX8_drawn_0 23 rfl rfl)
theorem dX8_drawn_24 : decode cX8_drawn 24 = .ok (.invokevirtual 338, 3) := dk_182 1 82 (dk_at dksX8_drawn_1 0 rfl rfl)
theorem dX8_drawn_27 : decode cX8_drawn 27 = .ok (.goto 5, 3) := dk_167 0 5 (dk_at dksX8_drawn_1 3 rfl rfl)
theorem dX8_drawn_30 : decode cX8_drawn 30 = .ok (.bipush (-2), 2) := dk_16 254 (dk_at dksX8_drawn_1 6 rfl rfl)
theorem dX8_drawn_32 : decode cX8_drawn 32 = .ok (.ireturn, 1) := dk_172 (dk_at dksX8_drawn_1 8 rfl rfl)
abbrev cX8_hasDrawn : ByteArray := prog_16_method_71_code
def yX8_hasDrawn : MethodName := ⟨RX8, "hasDrawn", "(III)I"⟩
def dkwX8_hasDrawn_4 : List UInt8 := [182, 1, 25, 21, 5, 172]
abbrev dktX8_hasDrawn_4 : List UInt8 := dkwX8_hasDrawn_4 ++ []
def dkwX8_hasDrawn_3 : List UInt8 := [42, 21, 6, 21, 7, 182, 1, 22, 87, 132, 5, 1, 167, 255, 182, 42, 28, 182, 0, 112, 54, 5, 42]
abbrev dktX8_hasDrawn_3 : List UInt8 := dkwX8_hasDrawn_3 ++ dktX8_hasDrawn_4
def dkwX8_hasDrawn_2 : List UInt8 := [21, 6, 4, 96, 21, 4, 16, 17, 124, 42, 180, 0, 61, 4, 100, 112, 96, 42, 180, 0, 61, 112, 54, 7]
abbrev dktX8_hasDrawn_2 : List UInt8 := dkwX8_hasDrawn_2 ++ dktX8_hasDrawn_3
def dkwX8_hasDrawn_1 : List UInt8 := [21, 4, 19, 1, 81, 104, 17, 48, 57, 96, 54, 4, 21, 4, 16, 9, 124, 42, 180, 0, 61, 112, 54, 6]
abbrev dktX8_hasDrawn_1 : List UInt8 := dkwX8_hasDrawn_1 ++ dktX8_hasDrawn_2
def dkwX8_hasDrawn_0 : List UInt8 := [42, 182, 1, 19, 27, 54, 4, 3, 54, 5, 21, 5, 29, 162, 0, 74, 42, 180, 0, 61, 4, 164, 0, 66]
abbrev dktX8_hasDrawn_0 : List UInt8 := dkwX8_hasDrawn_0 ++ dktX8_hasDrawn_1
theorem dksX8_hasDrawn_0 : cX8_hasDrawn.data.toList.drop 0 = dktX8_hasDrawn_0 := by decide +kernel
theorem dksX8_hasDrawn_1 : cX8_hasDrawn.data.toList.drop 24 = dktX8_hasDrawn_1 := dk_seg dksX8_hasDrawn_0 24 rfl rfl
theorem dksX8_hasDrawn_2 : cX8_hasDrawn.data.toList.drop 48 = dktX8_hasDrawn_2 := dk_seg dksX8_hasDrawn_1 24 rfl rfl
theorem dksX8_hasDrawn_3 : cX8_hasDrawn.data.toList.drop 72 = dktX8_hasDrawn_3 := dk_seg dksX8_hasDrawn_2 24 rfl rfl
theorem dksX8_hasDrawn_4 : cX8_hasDrawn.data.toList.drop 95 = dktX8_hasDrawn_4 := dk_seg dksX8_hasDrawn_3 23 rfl rfl
theorem dX8_hasDrawn_0 : decode cX8_hasDrawn 0 = .ok (.aload_n 0, 1) := dk_42 (dk_at dksX8_hasDrawn_0 0 rfl rfl)
theorem dX8_hasDrawn_1 : decode cX8_hasDrawn 1 = .ok (.invokevirtual 275, 3) := dk_182 1 19 (dk_at dksX8_hasDrawn_0 1 rfl rfl)
theorem dX8_hasDrawn_4 : decode cX8_hasDrawn 4 = .ok (.iload_n 1, 1) := dk_27 (dk_at dksX8_hasDrawn_0 4 rfl rfl)
theorem dX8_hasDrawn_5 : decode cX8_hasDrawn 5 = .ok (.istore 4, 2) := dk_54 4 (dk_at dksX8_hasDrawn_0 5 rfl rfl)
theorem dX8_hasDrawn_7 : decode cX8_hasDrawn 7 = .ok (.iconst 0, 1) := dk_3 (dk_at dksX8_hasDrawn_0 7 rfl rfl)
theorem dX8_hasDrawn_8 : decode cX8_hasDrawn 8 = .ok (.istore 5, 2) := dk_54 5 (dk_at dksX8_hasDrawn_0 8 rfl rfl)
theorem dX8_hasDrawn_10 : decode cX8_hasDrawn 10 = .ok (.iload 5, 2) := dk_21 5 (dk_at dksX8_hasDrawn_0 10 rfl rfl)
theorem dX8_hasDrawn_12 : decode cX8_hasDrawn 12 = .ok (.iload_n 3, 1) := dk_29 (dk_at dksX8_hasDrawn_0 12 rfl rfl)
theorem dX8_hasDrawn_13 : decode cX8_hasDrawn 13 = .ok (.if_icmp .ge 74, 3) := dk_162 0 74 (dk_at dksX8_hasDrawn_0 13 rfl rfl)
theorem dX8_hasDrawn_16 : decode cX8_hasDrawn 16 = .ok (.aload_n 0, 1) := dk_42 (dk_at dksX8_hasDrawn_0 16 rfl rfl)
theorem dX8_hasDrawn_17 : decode cX8_hasDrawn 17 = .ok (.getfield 61, 3) := dk_180 0 61 (dk_at dksX8_hasDrawn_0 17 rfl rfl)
theorem dX8_hasDrawn_20 : decode cX8_hasDrawn 20 = .ok (.iconst 1, 1) := dk_4 (dk_at dksX8_hasDrawn_0 20 rfl rfl)
theorem dX8_hasDrawn_21 : decode cX8_hasDrawn 21 = .ok (.if_icmp .le 66, 3) := dk_164 0 66 (dk_at dksX8_hasDrawn_0 21 rfl rfl)
theorem dX8_hasDrawn_24 : decode cX8_hasDrawn 24 = .ok (.iload 4, 2) := dk_21 4 (dk_at dksX8_hasDrawn_1 0 rfl rfl)
theorem dX8_hasDrawn_26 : decode cX8_hasDrawn 26 = .ok (.ldc_w 337, 3) := dk_19 1 81 (dk_at dksX8_hasDrawn_1 2 rfl rfl)
theorem dX8_hasDrawn_29 : decode cX8_hasDrawn 29 = .ok (.imul, 1) := dk_104 (dk_at dksX8_hasDrawn_1 5 rfl rfl)
theorem dX8_hasDrawn_30 : decode cX8_hasDrawn 30 = .ok (.sipush 12345, 3) := dk_17 48 57 (dk_at dksX8_hasDrawn_1 6 rfl rfl)
theorem dX8_hasDrawn_33 : decode cX8_hasDrawn 33 = .ok (.iadd, 1) := dk_96 (dk_at dksX8_hasDrawn_1 9 rfl rfl)
theorem dX8_hasDrawn_34 : decode cX8_hasDrawn 34 = .ok (.istore 4, 2) := dk_54 4 (dk_at dksX8_hasDrawn_1 10 rfl rfl)
theorem dX8_hasDrawn_36 : decode cX8_hasDrawn 36 = .ok (.iload 4, 2) := dk_21 4 (dk_at dksX8_hasDrawn_1 12 rfl rfl)
theorem dX8_hasDrawn_38 : decode cX8_hasDrawn 38 = .ok (.bipush 9, 2) := dk_16 9 (dk_at dksX8_hasDrawn_1 14 rfl rfl)
theorem dX8_hasDrawn_40 : decode cX8_hasDrawn 40 = .ok (.iushr, 1) := dk_124 (dk_at dksX8_hasDrawn_1 16 rfl rfl)
theorem dX8_hasDrawn_41 : decode cX8_hasDrawn 41 = .ok (.aload_n 0, 1) := dk_42 (dk_at dksX8_hasDrawn_1 17 rfl rfl)
theorem dX8_hasDrawn_42 : decode cX8_hasDrawn 42 = .ok (.getfield 61, 3) := dk_180 0 61 (dk_at dksX8_hasDrawn_1 18 rfl rfl)
theorem dX8_hasDrawn_45 : decode cX8_hasDrawn 45 = .ok (.irem, 1) := dk_112 (dk_at dksX8_hasDrawn_1 21 rfl rfl)
theorem dX8_hasDrawn_46 : decode cX8_hasDrawn 46 = .ok (.istore 6, 2) := dk_54 6 (dk_at dksX8_hasDrawn_1 22 rfl rfl)
theorem dX8_hasDrawn_48 : decode cX8_hasDrawn 48 = .ok (.iload 6, 2) := dk_21 6 (dk_at dksX8_hasDrawn_2 0 rfl rfl)
theorem dX8_hasDrawn_50 : decode cX8_hasDrawn 50 = .ok (.iconst 1, 1) := dk_4 (dk_at dksX8_hasDrawn_2 2 rfl rfl)
theorem dX8_hasDrawn_51 : decode cX8_hasDrawn 51 = .ok (.iadd, 1) := dk_96 (dk_at dksX8_hasDrawn_2 3 rfl rfl)
theorem dX8_hasDrawn_52 : decode cX8_hasDrawn 52 = .ok (.iload 4, 2) := dk_21 4 (dk_at dksX8_hasDrawn_2 4 rfl rfl)
theorem dX8_hasDrawn_54 : decode cX8_hasDrawn 54 = .ok (.bipush 17, 2) := dk_16 17 (dk_at dksX8_hasDrawn_2 6 rfl rfl)
theorem dX8_hasDrawn_56 : decode cX8_hasDrawn 56 = .ok (.iushr, 1) := dk_124 (dk_at dksX8_hasDrawn_2 8 rfl rfl)
theorem dX8_hasDrawn_57 : decode cX8_hasDrawn 57 = .ok (.aload_n 0, 1) := dk_42 (dk_at dksX8_hasDrawn_2 9 rfl rfl)
theorem dX8_hasDrawn_58 : decode cX8_hasDrawn 58 = .ok (.getfield 61, 3) := dk_180 0 61 (dk_at dksX8_hasDrawn_2 10 rfl rfl)
theorem dX8_hasDrawn_61 : decode cX8_hasDrawn 61 = .ok (.iconst 1, 1) := dk_4 (dk_at dksX8_hasDrawn_2 13 rfl rfl)
theorem dX8_hasDrawn_62 : decode cX8_hasDrawn 62 = .ok (.isub, 1) := dk_100 (dk_at dksX8_hasDrawn_2 14 rfl rfl)
theorem dX8_hasDrawn_63 : decode cX8_hasDrawn 63 = .ok (.irem, 1) := dk_112 (dk_at dksX8_hasDrawn_2 15 rfl rfl)
theorem dX8_hasDrawn_64 : decode cX8_hasDrawn 64 = .ok (.iadd, 1) := dk_96 (dk_at dksX8_hasDrawn_2 16 rfl rfl)
theorem dX8_hasDrawn_65 : decode cX8_hasDrawn 65 = .ok (.aload_n 0, 1) := dk_42 (dk_at dksX8_hasDrawn_2 17 rfl rfl)
theorem dX8_hasDrawn_66 : decode cX8_hasDrawn 66 = .ok (.getfield 61, 3) := dk_180 0 61 (dk_at dksX8_hasDrawn_2 18 rfl rfl)
theorem dX8_hasDrawn_69 : decode cX8_hasDrawn 69 = .ok (.irem, 1) := dk_112 (dk_at dksX8_hasDrawn_2 21 rfl rfl)
theorem dX8_hasDrawn_70 : decode cX8_hasDrawn 70 = .ok (.istore 7, 2) := dk_54 7 (dk_at dksX8_hasDrawn_2 22 rfl rfl)
theorem dX8_hasDrawn_72 : decode cX8_hasDrawn 72 = .ok (.aload_n 0, 1) := dk_42 (dk_at dksX8_hasDrawn_3 0 rfl rfl)
theorem dX8_hasDrawn_73 : decode cX8_hasDrawn 73 = .ok (.iload 6, 2) := dk_21 6 (dk_at dksX8_hasDrawn_3 1 rfl rfl)
theorem dX8_hasDrawn_75 : decode cX8_hasDrawn 75 = .ok (.iload 7, 2) := dk_21 7 (dk_at dksX8_hasDrawn_3 3 rfl rfl)
theorem dX8_hasDrawn_77 : decode cX8_hasDrawn 77 = .ok (.invokevirtual 278, 3) := dk_182 1 22 (dk_at dksX8_hasDrawn_3 5 rfl rfl)
theorem dX8_hasDrawn_80 : decode cX8_hasDrawn 80 = .ok (.pop, 1) := dk_87 (dk_at dksX8_hasDrawn_3 8 rfl rfl)
theorem dX8_hasDrawn_81 : decode cX8_hasDrawn 81 = .ok (.iinc 5 1, 3) := dk_132 5 1 (dk_at dksX8_hasDrawn_3 9 rfl rfl)
theorem dX8_hasDrawn_84 : decode cX8_hasDrawn 84 = .ok (.goto (-74), 3) := dk_167 255 182 (dk_at dksX8_hasDrawn_3 12 rfl rfl)
theorem dX8_hasDrawn_87 : decode cX8_hasDrawn 87 = .ok (.aload_n 0, 1) := dk_42 (dk_at dksX8_hasDrawn_3 15 rfl rfl)
theorem dX8_hasDrawn_88 : decode cX8_hasDrawn 88 = .ok (.iload_n 2, 1) := dk_28 (dk_at dksX8_hasDrawn_3 16 rfl rfl)
theorem dX8_hasDrawn_89 : decode cX8_hasDrawn 89 = .ok (.invokevirtual 112, 3) := dk_182 0 112 (dk_at dksX8_hasDrawn_3 17 rfl rfl)
theorem dX8_hasDrawn_92 : decode cX8_hasDrawn 92 = .ok (.istore 5, 2) := dk_54 5 (dk_at dksX8_hasDrawn_3 20 rfl rfl)
theorem dX8_hasDrawn_94 : decode cX8_hasDrawn 94 = .ok (.aload_n 0, 1) := dk_42 (dk_at dksX8_hasDrawn_3 22 rfl rfl)
theorem dX8_hasDrawn_95 : decode cX8_hasDrawn 95 = .ok (.invokevirtual 281, 3) := dk_182 1 25 (dk_at dksX8_hasDrawn_4 0 rfl rfl)
theorem dX8_hasDrawn_98 : decode cX8_hasDrawn 98 = .ok (.iload 5, 2) := dk_21 5 (dk_at dksX8_hasDrawn_4 3 rfl rfl)
theorem dX8_hasDrawn_100 : decode cX8_hasDrawn 100 = .ok (.ireturn, 1) := dk_172 (dk_at dksX8_hasDrawn_4 5 rfl rfl)
abbrev cX8_chance : ByteArray := prog_16_method_73_code
def yX8_chance : MethodName := ⟨RX8, "chance", "(IIIII)J"⟩
def dkwX8_chance_6 : List UInt8 := [167, 0, 8, 28, 133, 22, 8, 109, 173]
abbrev dktX8_chance_6 : List UInt8 := dkwX8_chance_6 ++ []
def dkwX8_chance_5 : List UInt8 := [55, 12, 22, 10, 55, 8, 22, 12, 55, 10, 167, 255, 234, 21, 5, 154, 0, 11, 22, 6, 22, 8, 109]
abbrev dktX8_chance_5 : List UInt8 := dkwX8_chance_5 ++ dktX8_chance_6
def dkwX8_chance_4 : List UInt8 := [167, 255, 218, 22, 6, 55, 8, 28, 133, 55, 10, 22, 10, 9, 148, 153, 0, 21, 22, 8, 22, 10, 113]
abbrev dktX8_chance_4 : List UInt8 := dkwX8_chance_4 ++ dktX8_chance_5
def dkwX8_chance_3 : List UInt8 := [182, 1, 82, 184, 0, 116, 21, 4, 161, 0, 7, 10, 167, 0, 4, 9, 97, 55, 6, 132, 8, 1]
abbrev dktX8_chance_3 : List UInt8 := dkwX8_chance_3 ++ dktX8_chance_4
def dkwX8_chance_2 : List UInt8 := [9, 55, 6, 3, 54, 8, 21, 8, 28, 162, 0, 38, 22, 6, 42, 27, 21, 8, 96, 29, 16, 6]
abbrev dktX8_chance_2 : List UInt8 := dkwX8_chance_2 ++ dktX8_chance_3
def dkwX8_chance_1 : List UInt8 := [20, 1, 33, 184, 0, 64, 153, 0, 14, 21, 5, 133, 9, 10, 184, 0, 64, 154, 0, 7, 20, 1, 87, 173]
abbrev dktX8_chance_1 : List UInt8 := dkwX8_chance_1 ++ dktX8_chance_2
def dkwX8_chance_0 : List UInt8 := [28, 133, 10, 20, 1, 85, 184, 0, 64, 153, 0, 35, 42, 29, 182, 0, 68, 153, 0, 27, 21, 4, 133, 9]
abbrev dktX8_chance_0 : List UInt8 := dkwX8_chance_0 ++ dktX8_chance_1
theorem dksX8_chance_0 : cX8_chance.data.toList.drop 0 = dktX8_chance_0 := by decide +kernel
theorem dksX8_chance_1 : cX8_chance.data.toList.drop 24 = dktX8_chance_1 := dk_seg dksX8_chance_0 24 rfl rfl
theorem dksX8_chance_2 : cX8_chance.data.toList.drop 48 = dktX8_chance_2 := dk_seg dksX8_chance_1 24 rfl rfl
theorem dksX8_chance_3 : cX8_chance.data.toList.drop 70 = dktX8_chance_3 := dk_seg dksX8_chance_2 22 rfl rfl
theorem dksX8_chance_4 : cX8_chance.data.toList.drop 92 = dktX8_chance_4 := dk_seg dksX8_chance_3 22 rfl rfl
theorem dksX8_chance_5 : cX8_chance.data.toList.drop 115 = dktX8_chance_5 := dk_seg dksX8_chance_4 23 rfl rfl
theorem dksX8_chance_6 : cX8_chance.data.toList.drop 138 = dktX8_chance_6 := dk_seg dksX8_chance_5 23 rfl rfl
theorem dX8_chance_0 : decode cX8_chance 0 = .ok (.iload_n 2, 1) := dk_28 (dk_at dksX8_chance_0 0 rfl rfl)
theorem dX8_chance_1 : decode cX8_chance 1 = .ok (.i2l, 1) := dk_133 (dk_at dksX8_chance_0 1 rfl rfl)
theorem dX8_chance_2 : decode cX8_chance 2 = .ok (.lconst 1, 1) := dk_10 (dk_at dksX8_chance_0 2 rfl rfl)
theorem dX8_chance_3 : decode cX8_chance 3 = .ok (.ldc2_w 341, 3) := dk_20 1 85 (dk_at dksX8_chance_0 3 rfl rfl)
theorem dX8_chance_6 : decode cX8_chance 6 = .ok (.invokestatic 64, 3) := dk_184 0 64 (dk_at dksX8_chance_0 6 rfl rfl)
theorem dX8_chance_9 : decode cX8_chance 9 = .ok (.ifCond .eq 35, 3) := dk_153 0 35 (dk_at dksX8_chance_0 9 rfl rfl)
theorem dX8_chance_12 : decode cX8_chance 12 = .ok (.aload_n 0, 1) := dk_42 (dk_at dksX8_chance_0 12 rfl rfl)
theorem dX8_chance_13 : decode cX8_chance 13 = .ok (.iload_n 3, 1) := dk_29 (dk_at dksX8_chance_0 13 rfl rfl)
theorem dX8_chance_14 : decode cX8_chance 14 = .ok (.invokevirtual 68, 3) := dk_182 0 68 (dk_at dksX8_chance_0 14 rfl rfl)
theorem dX8_chance_17 : decode cX8_chance 17 = .ok (.ifCond .eq 27, 3) := dk_153 0 27 (dk_at dksX8_chance_0 17 rfl rfl)
theorem dX8_chance_20 : decode cX8_chance 20 = .ok (.iload 4, 2) := dk_21 4 (dk_at dksX8_chance_0 20 rfl rfl)
theorem dX8_chance_22 : decode cX8_chance 22 = .ok (.i2l, 1) := dk_133 (dk_at dksX8_chance_0 22 rfl rfl)
theorem dX8_chance_23 : decode cX8_chance 23 = .ok (.lconst 0, 1) := dk_9 (dk_at dksX8_chance_0 23 rfl rfl)
theorem dX8_chance_24 : decode cX8_chance 24 = .ok (.ldc2_w 289, 3) := dk_20 1 33 (dk_at dksX8_chance_1 0 rfl rfl)
theorem dX8_chance_27 : decode cX8_chance 27 = .ok (.invokestatic 64, 3) := dk_184 0 64 (dk_at dksX8_chance_1 3 rfl rfl)
theorem dX8_chance_30 : decode cX8_chance 30 = .ok (.ifCond .eq 14, 3) := dk_153 0 14 (dk_at dksX8_chance_1 6 rfl rfl)
theorem dX8_chance_33 : decode cX8_chance 33 = .ok (.iload 5, 2) := dk_21 5 (dk_at dksX8_chance_1 9 rfl rfl)
theorem dX8_chance_35 : decode cX8_chance 35 = .ok (.i2l, 1) := dk_133 (dk_at dksX8_chance_1 11 rfl rfl)
theorem dX8_chance_36 : decode cX8_chance 36 = .ok (.lconst 0, 1) := dk_9 (dk_at dksX8_chance_1 12 rfl rfl)
theorem dX8_chance_37 : decode cX8_chance 37 = .ok (.lconst 1, 1) := dk_10 (dk_at dksX8_chance_1 13 rfl rfl)
theorem dX8_chance_38 : decode cX8_chance 38 = .ok (.invokestatic 64, 3) := dk_184 0 64 (dk_at dksX8_chance_1 14 rfl rfl)
theorem dX8_chance_41 : decode cX8_chance 41 = .ok (.ifCond .ne 7, 3) := dk_154 0 7 (dk_at dksX8_chance_1 17 rfl rfl)
theorem dX8_chance_44 : decode cX8_chance 44 = .ok (.ldc2_w 343, 3) := dk_20 1 87 (dk_at dksX8_chance_1 20 rfl rfl)
theorem dX8_chance_47 : decode cX8_chance 47 = .ok (.lreturn, 1) := dk_173 (dk_at dksX8_chance_1 23 rfl rfl)
theorem dX8_chance_48 : decode cX8_chance 48 = .ok (.lconst 0, 1) := dk_9 (dk_at dksX8_chance_2 0 rfl rfl)
theorem dX8_chance_49 : decode cX8_chance 49 = .ok (.lstore 6, 2) := dk_55 6 (dk_at dksX8_chance_2 1 rfl rfl)
theorem dX8_chance_51 : decode cX8_chance 51 = .ok (.iconst 0, 1) := dk_3 (dk_at dksX8_chance_2 3 rfl rfl)
theorem dX8_chance_52 : decode cX8_chance 52 = .ok (.istore 8, 2) := dk_54 8 (dk_at dksX8_chance_2 4 rfl rfl)
theorem dX8_chance_54 : decode cX8_chance 54 = .ok (.iload 8, 2) := dk_21 8 (dk_at dksX8_chance_2 6 rfl rfl)
theorem dX8_chance_56 : decode cX8_chance 56 = .ok (.iload_n 2, 1) := dk_28 (dk_at dksX8_chance_2 8 rfl rfl)
theorem dX8_chance_57 : decode cX8_chance 57 = .ok (.if_icmp .ge 38, 3) := dk_162 0 38 (dk_at dksX8_chance_2 9 rfl rfl)
theorem dX8_chance_60 : decode cX8_chance 60 = .ok (.lload 6, 2) := dk_22 6 (dk_at dksX8_chance_2 12 rfl rfl)
theorem dX8_chance_62 : decode cX8_chance 62 = .ok (.aload_n 0, 1) := dk_42 (dk_at dksX8_chance_2 14 rfl rfl)
theorem dX8_chance_63 : decode cX8_chance 63 = .ok (.iload_n 1, 1) := dk_27 (dk_at dksX8_chance_2 15 rfl rfl)
theorem dX8_chance_64 : decode cX8_chance 64 = .ok (.iload 8, 2) := dk_21 8 (dk_at dksX8_chance_2 16 rfl rfl)
theorem dX8_chance_66 : decode cX8_chance 66 = .ok (.iadd, 1) := dk_96 (dk_at dksX8_chance_2 18 rfl rfl)
theorem dX8_chance_67 : decode cX8_chance 67 = .ok (.iload_n 3, 1) := dk_29 (dk_at dksX8_chance_2 19 rfl rfl)
theorem dX8_chance_68 : decode cX8_chance 68 = .ok (.bipush 6, 2) := dk_16 6 (dk_at dksX8_chance_2 20 rfl rfl)
theorem dX8_chance_70 : decode cX8_chance 70 = .ok (.invokevirtual 338, 3) := dk_182 1 82 (dk_at dksX8_chance_3 0 rfl rfl)
theorem dX8_chance_73 : decode cX8_chance 73 = .ok (.invokestatic 116, 3) := dk_184 0 116 (dk_at dksX8_chance_3 3 rfl rfl)
theorem dX8_chance_76 : decode cX8_chance 76 = .ok (.iload 4, 2) := dk_21 4 (dk_at dksX8_chance_3 6 rfl rfl)
theorem dX8_chance_78 : decode cX8_chance 78 = .ok (.if_icmp .lt 7, 3) := dk_161 0 7 (dk_at dksX8_chance_3 8 rfl rfl)
theorem dX8_chance_81 : decode cX8_chance 81 = .ok (.lconst 1, 1) := dk_10 (dk_at dksX8_chance_3 11 rfl rfl)
theorem dX8_chance_82 : decode cX8_chance 82 = .ok (.goto 4, 3) := dk_167 0 4 (dk_at dksX8_chance_3 12 rfl rfl)
theorem dX8_chance_85 : decode cX8_chance 85 = .ok (.lconst 0, 1) := dk_9 (dk_at dksX8_chance_3 15 rfl rfl)
theorem dX8_chance_86 : decode cX8_chance 86 = .ok (.ladd, 1) := dk_97 (dk_at dksX8_chance_3 16 rfl rfl)
theorem dX8_chance_87 : decode cX8_chance 87 = .ok (.lstore 6, 2) := dk_55 6 (dk_at dksX8_chance_3 17 rfl rfl)
theorem dX8_chance_89 : decode cX8_chance 89 = .ok (.iinc 8 1, 3) := dk_132 8 1 (dk_at dksX8_chance_3 19 rfl rfl)
theorem dX8_chance_92 : decode cX8_chance 92 = .ok (.goto (-38), 3) := dk_167 255 218 (dk_at dksX8_chance_4 0 rfl rfl)
theorem dX8_chance_95 : decode cX8_chance 95 = .ok (.lload 6, 2) := dk_22 6 (dk_at dksX8_chance_4 3 rfl rfl)
theorem dX8_chance_97 : decode cX8_chance 97 = .ok (.lstore 8, 2) := dk_55 8 (dk_at dksX8_chance_4 5 rfl rfl)
theorem dX8_chance_99 : decode cX8_chance 99 = .ok (.iload_n 2, 1) := dk_28 (dk_at dksX8_chance_4 7 rfl rfl)
theorem dX8_chance_100 : decode cX8_chance 100 = .ok (.i2l, 1) := dk_133 (dk_at dksX8_chance_4 8 rfl rfl)
theorem dX8_chance_101 : decode cX8_chance 101 = .ok (.lstore 10, 2) := dk_55 10 (dk_at dksX8_chance_4 9 rfl rfl)
theorem dX8_chance_103 : decode cX8_chance 103 = .ok (.lload 10, 2) := dk_22 10 (dk_at dksX8_chance_4 11 rfl rfl)
theorem dX8_chance_105 : decode cX8_chance 105 = .ok (.lconst 0, 1) := dk_9 (dk_at dksX8_chance_4 13 rfl rfl)
theorem dX8_chance_106 : decode cX8_chance 106 = .ok (.lcmp, 1) := dk_148 (dk_at dksX8_chance_4 14 rfl rfl)
theorem dX8_chance_107 : decode cX8_chance 107 = .ok (.ifCond .eq 21, 3) := dk_153 0 21 (dk_at dksX8_chance_4 15 rfl rfl)
theorem dX8_chance_110 : decode cX8_chance 110 = .ok (.lload 8, 2) := dk_22 8 (dk_at dksX8_chance_4 18 rfl rfl)
theorem dX8_chance_112 : decode cX8_chance 112 = .ok (.lload 10, 2) := dk_22 10 (dk_at dksX8_chance_4 20 rfl rfl)
theorem dX8_chance_114 : decode cX8_chance 114 = .ok (.lrem, 1) := dk_113 (dk_at dksX8_chance_4 22 rfl rfl)
theorem dX8_chance_115 : decode cX8_chance 115 = .ok (.lstore 12, 2) := dk_55 12 (dk_at dksX8_chance_5 0 rfl rfl)
theorem dX8_chance_117 : decode cX8_chance 117 = .ok (.lload 10, 2) := dk_22 10 (dk_at dksX8_chance_5 2 rfl rfl)
theorem dX8_chance_119 : decode cX8_chance 119 = .ok (.lstore 8, 2) := dk_55 8 (dk_at dksX8_chance_5 4 rfl rfl)
theorem dX8_chance_121 : decode cX8_chance 121 = .ok (.lload 12, 2) := dk_22 12 (dk_at dksX8_chance_5 6 rfl rfl)
theorem dX8_chance_123 : decode cX8_chance 123 = .ok (.lstore 10, 2) := dk_55 10 (dk_at dksX8_chance_5 8 rfl rfl)
theorem dX8_chance_125 : decode cX8_chance 125 = .ok (.goto (-22), 3) := dk_167 255 234 (dk_at dksX8_chance_5 10 rfl rfl)
theorem dX8_chance_128 : decode cX8_chance 128 = .ok (.iload 5, 2) := dk_21 5 (dk_at dksX8_chance_5 13 rfl rfl)
theorem dX8_chance_130 : decode cX8_chance 130 = .ok (.ifCond .ne 11, 3) := dk_154 0 11 (dk_at dksX8_chance_5 15 rfl rfl)
theorem dX8_chance_133 : decode cX8_chance 133 = .ok (.lload 6, 2) := dk_22 6 (dk_at dksX8_chance_5 18 rfl rfl)
theorem dX8_chance_135 : decode cX8_chance 135 = .ok (.lload 8, 2) := dk_22 8 (dk_at dksX8_chance_5 20 rfl rfl)
theorem dX8_chance_137 : decode cX8_chance 137 = .ok (.ldiv, 1) := dk_109 (dk_at dksX8_chance_5 22 rfl rfl)
theorem dX8_chance_138 : decode cX8_chance 138 = .ok (.goto 8, 3) := dk_167 0 8 (dk_at dksX8_chance_6 0 rfl rfl)
theorem dX8_chance_141 : decode cX8_chance 141 = .ok (.iload_n 2, 1) := dk_28 (dk_at dksX8_chance_6 3 rfl rfl)
theorem dX8_chance_142 : decode cX8_chance 142 = .ok (.i2l, 1) := dk_133 (dk_at dksX8_chance_6 4 rfl rfl)
theorem dX8_chance_143 : decode cX8_chance 143 = .ok (.lload 8, 2) := dk_22 8 (dk_at dksX8_chance_6 5 rfl rfl)
theorem dX8_chance_145 : decode cX8_chance 145 = .ok (.ldiv, 1) := dk_109 (dk_at dksX8_chance_6 7 rfl rfl)
theorem dX8_chance_146 : decode cX8_chance 146 = .ok (.lreturn, 1) := dk_173 (dk_at dksX8_chance_6 8 rfl rfl)
abbrev cX8_image : ByteArray := prog_16_method_74_code
def yX8_image : MethodName := ⟨RX8, "image", "()I"⟩
def dkwX8_image_2 : List UInt8 := [181, 1, 92, 42, 42, 180, 0, 107, 181, 1, 95, 42, 180, 0, 61, 172]
abbrev dktX8_image_2 : List UInt8 := dkwX8_image_2 ++ []
def dkwX8_image_1 : List UInt8 := [167, 255, 235, 42, 42, 180, 0, 23, 181, 1, 89, 42, 42, 180, 0, 61, 181, 0, 38, 42, 42, 180, 0, 100]
abbrev dktX8_image_1 : List UInt8 := dkwX8_image_1 ++ dktX8_image_2
def dkwX8_image_0 : List UInt8 := [3, 60, 27, 16, 24, 162, 0, 21, 42, 180, 0, 35, 27, 42, 180, 0, 29, 27, 46, 79, 132, 1, 1]
abbrev dktX8_image_0 : List UInt8 := dkwX8_image_0 ++ dktX8_image_1
theorem dksX8_image_0 : cX8_image.data.toList.drop 0 = dktX8_image_0 := by decide +kernel
theorem dksX8_image_1 : cX8_image.data.toList.drop 23 = dktX8_image_1 := dk_seg dksX8_image_0 23 rfl rfl
theorem dksX8_image_2 : cX8_image.data.toList.drop 47 = dktX8_image_2 := dk_seg dksX8_image_1 24 rfl rfl
theorem dX8_image_0 : decode cX8_image 0 = .ok (.iconst 0, 1) := dk_3 (dk_at dksX8_image_0 0 rfl rfl)
theorem dX8_image_1 : decode cX8_image 1 = .ok (.istore_n 1, 1) := dk_60 (dk_at dksX8_image_0 1 rfl rfl)
theorem dX8_image_2 : decode cX8_image 2 = .ok (.iload_n 1, 1) := dk_27 (dk_at dksX8_image_0 2 rfl rfl)
theorem dX8_image_3 : decode cX8_image 3 = .ok (.bipush 24, 2) := dk_16 24 (dk_at dksX8_image_0 3 rfl rfl)
theorem dX8_image_5 : decode cX8_image 5 = .ok (.if_icmp .ge 21, 3) := dk_162 0 21 (dk_at dksX8_image_0 5 rfl rfl)
theorem dX8_image_8 : decode cX8_image 8 = .ok (.aload_n 0, 1) := dk_42 (dk_at dksX8_image_0 8 rfl rfl)
theorem dX8_image_9 : decode cX8_image 9 = .ok (.getfield 35, 3) := dk_180 0 35 (dk_at dksX8_image_0 9 rfl rfl)
theorem dX8_image_12 : decode cX8_image 12 = .ok (.iload_n 1, 1) := dk_27 (dk_at dksX8_image_0 12 rfl rfl)
theorem dX8_image_13 : decode cX8_image 13 = .ok (.aload_n 0, 1) := dk_42 (dk_at dksX8_image_0 13 rfl rfl)
theorem dX8_image_14 : decode cX8_image 14 = .ok (.getfield 29, 3) := dk_180 0 29 (dk_at dksX8_image_0 14 rfl rfl)
theorem dX8_image_17 : decode cX8_image 17 = .ok (.iload_n 1, 1) := dk_27 (dk_at dksX8_image_0 17 rfl rfl)
theorem dX8_image_18 : decode cX8_image 18 = .ok (.iaload, 1) := dk_46 (dk_at dksX8_image_0 18 rfl rfl)
theorem dX8_image_19 : decode cX8_image 19 = .ok (.iastore, 1) := dk_79 (dk_at dksX8_image_0 19 rfl rfl)
theorem dX8_image_20 : decode cX8_image 20 = .ok (.iinc 1 1, 3) := dk_132 1 1 (dk_at dksX8_image_0 20 rfl rfl)
theorem dX8_image_23 : decode cX8_image 23 = .ok (.goto (-21), 3) := dk_167 255 235 (dk_at dksX8_image_1 0 rfl rfl)
theorem dX8_image_26 : decode cX8_image 26 = .ok (.aload_n 0, 1) := dk_42 (dk_at dksX8_image_1 3 rfl rfl)
theorem dX8_image_27 : decode cX8_image 27 = .ok (.aload_n 0, 1) := dk_42 (dk_at dksX8_image_1 4 rfl rfl)
theorem dX8_image_28 : decode cX8_image 28 = .ok (.getfield 23, 3) := dk_180 0 23 (dk_at dksX8_image_1 5 rfl rfl)
theorem dX8_image_31 : decode cX8_image 31 = .ok (.putfield 345, 3) := dk_181 1 89 (dk_at dksX8_image_1 8 rfl rfl)
theorem dX8_image_34 : decode cX8_image 34 = .ok (.aload_n 0, 1) := dk_42 (dk_at dksX8_image_1 11 rfl rfl)
theorem dX8_image_35 : decode cX8_image 35 = .ok (.aload_n 0, 1) := dk_42 (dk_at dksX8_image_1 12 rfl rfl)
theorem dX8_image_36 : decode cX8_image 36 = .ok (.getfield 61, 3) := dk_180 0 61 (dk_at dksX8_image_1 13 rfl rfl)
theorem dX8_image_39 : decode cX8_image 39 = .ok (.putfield 38, 3) := dk_181 0 38 (dk_at dksX8_image_1 16 rfl rfl)
theorem dX8_image_42 : decode cX8_image 42 = .ok (.aload_n 0, 1) := dk_42 (dk_at dksX8_image_1 19 rfl rfl)
theorem dX8_image_43 : decode cX8_image 43 = .ok (.aload_n 0, 1) := dk_42 (dk_at dksX8_image_1 20 rfl rfl)
theorem dX8_image_44 : decode cX8_image 44 = .ok (.getfield 100, 3) := dk_180 0 100 (dk_at dksX8_image_1 21 rfl rfl)
theorem dX8_image_47 : decode cX8_image 47 = .ok (.putfield 348, 3) := dk_181 1 92 (dk_at dksX8_image_2 0 rfl rfl)
theorem dX8_image_50 : decode cX8_image 50 = .ok (.aload_n 0, 1) := dk_42 (dk_at dksX8_image_2 3 rfl rfl)
theorem dX8_image_51 : decode cX8_image 51 = .ok (.aload_n 0, 1) := dk_42 (dk_at dksX8_image_2 4 rfl rfl)
theorem dX8_image_52 : decode cX8_image 52 = .ok (.getfield 107, 3) := dk_180 0 107 (dk_at dksX8_image_2 5 rfl rfl)
theorem dX8_image_55 : decode cX8_image 55 = .ok (.putfield 351, 3) := dk_181 1 95 (dk_at dksX8_image_2 8 rfl rfl)
theorem dX8_image_58 : decode cX8_image 58 = .ok (.aload_n 0, 1) := dk_42 (dk_at dksX8_image_2 11 rfl rfl)
theorem dX8_image_59 : decode cX8_image 59 = .ok (.getfield 61, 3) := dk_180 0 61 (dk_at dksX8_image_2 12 rfl rfl)
theorem dX8_image_62 : decode cX8_image 62 = .ok (.ireturn, 1) := dk_172 (dk_at dksX8_image_2 15 rfl rfl)
abbrev cX8_back : ByteArray := prog_16_method_75_code
def yX8_back : MethodName := ⟨RX8, "back", "()I"⟩
def dkwX8_back_3 : List UInt8 := [180, 0, 61, 172]
abbrev dktX8_back_3 : List UInt8 := dkwX8_back_3 ++ []
def dkwX8_back_2 : List UInt8 := [180, 0, 38, 181, 0, 61, 42, 42, 180, 1, 92, 181, 0, 100, 42, 42, 180, 1, 95, 181, 0, 107, 42]
abbrev dktX8_back_2 : List UInt8 := dkwX8_back_2 ++ dktX8_back_3
def dkwX8_back_1 : List UInt8 := [42, 180, 0, 35, 27, 46, 79, 132, 1, 1, 167, 255, 235, 42, 42, 180, 1, 89, 181, 0, 23, 42, 42]
abbrev dktX8_back_1 : List UInt8 := dkwX8_back_1 ++ dktX8_back_2
def dkwX8_back_0 : List UInt8 := [42, 180, 0, 38, 2, 160, 0, 6, 16, 253, 172, 3, 60, 27, 16, 24, 162, 0, 21, 42, 180, 0, 29, 27]
abbrev dktX8_back_0 : List UInt8 := dkwX8_back_0 ++ dktX8_back_1
theorem dksX8_back_0 : cX8_back.data.toList.drop 0 = dktX8_back_0 := by decide +kernel
theorem dksX8_back_1 : cX8_back.data.toList.drop 24 = dktX8_back_1 := dk_seg dksX8_back_0 24 rfl rfl
theorem dksX8_back_2 : cX8_back.data.toList.drop 47 = dktX8_back_2 := dk_seg dksX8_back_1 23 rfl rfl
theorem dksX8_back_3 : cX8_back.data.toList.drop 70 = dktX8_back_3 := dk_seg dksX8_back_2 23 rfl rfl
theorem dX8_back_0 : decode cX8_back 0 = .ok (.aload_n 0, 1) := dk_42 (dk_at dksX8_back_0 0 rfl rfl)
theorem dX8_back_1 : decode cX8_back 1 = .ok (.getfield 38, 3) := dk_180 0 38 (dk_at dksX8_back_0 1 rfl rfl)
theorem dX8_back_4 : decode cX8_back 4 = .ok (.iconst (-1), 1) := dk_2 (dk_at dksX8_back_0 4 rfl rfl)
theorem dX8_back_5 : decode cX8_back 5 = .ok (.if_icmp .ne 6, 3) := dk_160 0 6 (dk_at dksX8_back_0 5 rfl rfl)
theorem dX8_back_8 : decode cX8_back 8 = .ok (.bipush (-3), 2) := dk_16 253 (dk_at dksX8_back_0 8 rfl rfl)
theorem dX8_back_10 : decode cX8_back 10 = .ok (.ireturn, 1) := dk_172 (dk_at dksX8_back_0 10 rfl rfl)
theorem dX8_back_11 : decode cX8_back 11 = .ok (.iconst 0, 1) := dk_3 (dk_at dksX8_back_0 11 rfl rfl)
theorem dX8_back_12 : decode cX8_back 12 = .ok (.istore_n 1, 1) := dk_60 (dk_at dksX8_back_0 12 rfl rfl)
theorem dX8_back_13 : decode cX8_back 13 = .ok (.iload_n 1, 1) := dk_27 (dk_at dksX8_back_0 13 rfl rfl)
theorem dX8_back_14 : decode cX8_back 14 = .ok (.bipush 24, 2) := dk_16 24 (dk_at dksX8_back_0 14 rfl rfl)
theorem dX8_back_16 : decode cX8_back 16 = .ok (.if_icmp .ge 21, 3) := dk_162 0 21 (dk_at dksX8_back_0 16 rfl rfl)
theorem dX8_back_19 : decode cX8_back 19 = .ok (.aload_n 0, 1) := dk_42 (dk_at dksX8_back_0 19 rfl rfl)
theorem dX8_back_20 : decode cX8_back 20 = .ok (.getfield 29, 3) := dk_180 0 29 (dk_at dksX8_back_0 20 rfl rfl)
theorem dX8_back_23 : decode cX8_back 23 = .ok (.iload_n 1, 1) := dk_27 (dk_at dksX8_back_0 23 rfl rfl)
theorem dX8_back_24 : decode cX8_back 24 = .ok (.aload_n 0, 1) := dk_42 (dk_at dksX8_back_1 0 rfl rfl)
theorem dX8_back_25 : decode cX8_back 25 = .ok (.getfield 35, 3) := dk_180 0 35 (dk_at dksX8_back_1 1 rfl rfl)
theorem dX8_back_28 : decode cX8_back 28 = .ok (.iload_n 1, 1) := dk_27 (dk_at dksX8_back_1 4 rfl rfl)
theorem dX8_back_29 : decode cX8_back 29 = .ok (.iaload, 1) := dk_46 (dk_at dksX8_back_1 5 rfl rfl)
theorem dX8_back_30 : decode cX8_back 30 = .ok (.iastore, 1) := dk_79 (dk_at dksX8_back_1 6 rfl rfl)
theorem dX8_back_31 : decode cX8_back 31 = .ok (.iinc 1 1, 3) := dk_132 1 1 (dk_at dksX8_back_1 7 rfl rfl)
theorem dX8_back_34 : decode cX8_back 34 = .ok (.goto (-21), 3) := dk_167 255 235 (dk_at dksX8_back_1 10 rfl rfl)
theorem dX8_back_37 : decode cX8_back 37 = .ok (.aload_n 0, 1) := dk_42 (dk_at dksX8_back_1 13 rfl rfl)
theorem dX8_back_38 : decode cX8_back 38 = .ok (.aload_n 0, 1) := dk_42 (dk_at dksX8_back_1 14 rfl rfl)
theorem dX8_back_39 : decode cX8_back 39 = .ok (.getfield 345, 3) := dk_180 1 89 (dk_at dksX8_back_1 15 rfl rfl)
theorem dX8_back_42 : decode cX8_back 42 = .ok (.putfield 23, 3) := dk_181 0 23 (dk_at dksX8_back_1 18 rfl rfl)
theorem dX8_back_45 : decode cX8_back 45 = .ok (.aload_n 0, 1) := dk_42 (dk_at dksX8_back_1 21 rfl rfl)
theorem dX8_back_46 : decode cX8_back 46 = .ok (.aload_n 0, 1) := dk_42 (dk_at dksX8_back_1 22 rfl rfl)
theorem dX8_back_47 : decode cX8_back 47 = .ok (.getfield 38, 3) := dk_180 0 38 (dk_at dksX8_back_2 0 rfl rfl)
theorem dX8_back_50 : decode cX8_back 50 = .ok (.putfield 61, 3) := dk_181 0 61 (dk_at dksX8_back_2 3 rfl rfl)
theorem dX8_back_53 : decode cX8_back 53 = .ok (.aload_n 0, 1) := dk_42 (dk_at dksX8_back_2 6 rfl rfl)
theorem dX8_back_54 : decode cX8_back 54 = .ok (.aload_n 0, 1) := dk_42 (dk_at dksX8_back_2 7 rfl rfl)
theorem dX8_back_55 : decode cX8_back 55 = .ok (.getfield 348, 3) := dk_180 1 92 (dk_at dksX8_back_2 8 rfl rfl)
theorem dX8_back_58 : decode cX8_back 58 = .ok (.putfield 100, 3) := dk_181 0 100 (dk_at dksX8_back_2 11 rfl rfl)
theorem dX8_back_61 : decode cX8_back 61 = .ok (.aload_n 0, 1) := dk_42 (dk_at dksX8_back_2 14 rfl rfl)
theorem dX8_back_62 : decode cX8_back 62 = .ok (.aload_n 0, 1) := dk_42 (dk_at dksX8_back_2 15 rfl rfl)
theorem dX8_back_63 : decode cX8_back 63 = .ok (.getfield 351, 3) := dk_180 1 95 (dk_at dksX8_back_2 16 rfl rfl)
theorem dX8_back_66 : decode cX8_back 66 = .ok (.putfield 107, 3) := dk_181 0 107 (dk_at dksX8_back_2 19 rfl rfl)
theorem dX8_back_69 : decode cX8_back 69 = .ok (.aload_n 0, 1) := dk_42 (dk_at dksX8_back_2 22 rfl rfl)
theorem dX8_back_70 : decode cX8_back 70 = .ok (.getfield 61, 3) := dk_180 0 61 (dk_at dksX8_back_3 0 rfl rfl)
theorem dX8_back_73 : decode cX8_back 73 = .ok (.ireturn, 1) := dk_172 (dk_at dksX8_back_3 3 rfl rfl)
abbrev cX8_count : ByteArray := prog_16_method_76_code
def yX8_count : MethodName := ⟨RX8, "count", "(I)I"⟩
def dkwX8_count_3 : List UInt8 := [180, 0, 127, 167, 0, 7, 42, 180, 0, 107, 172]
abbrev dktX8_count_3 : List UInt8 := dkwX8_count_3 ++ []
def dkwX8_count_2 : List UInt8 := [180, 0, 100, 167, 0, 31, 27, 6, 160, 0, 10, 42, 180, 0, 58, 167, 0, 19, 27, 7, 160, 0, 10, 42]
abbrev dktX8_count_2 : List UInt8 := dkwX8_count_2 ++ dktX8_count_3
def dkwX8_count_1 : List UInt8 := [167, 0, 58, 27, 4, 160, 0, 13, 42, 180, 0, 23, 184, 0, 116, 167, 0, 43, 27, 5, 160, 0, 10, 42]
abbrev dktX8_count_1 : List UInt8 := dkwX8_count_1 ++ dktX8_count_2
def dkwX8_count_0 : List UInt8 := [27, 133, 9, 20, 0, 110, 184, 0, 64, 154, 0, 6, 16, 254, 172, 27, 154, 0, 10, 42, 180, 0, 61]
abbrev dktX8_count_0 : List UInt8 := dkwX8_count_0 ++ dktX8_count_1
theorem dksX8_count_0 : cX8_count.data.toList.drop 0 = dktX8_count_0 := by decide +kernel
theorem dksX8_count_1 : cX8_count.data.toList.drop 23 = dktX8_count_1 := dk_seg dksX8_count_0 23 rfl rfl
theorem dksX8_count_2 : cX8_count.data.toList.drop 47 = dktX8_count_2 := dk_seg dksX8_count_1 24 rfl rfl
theorem dksX8_count_3 : cX8_count.data.toList.drop 71 = dktX8_count_3 := dk_seg dksX8_count_2 24 rfl rfl
theorem dX8_count_0 : decode cX8_count 0 = .ok (.iload_n 1, 1) := dk_27 (dk_at dksX8_count_0 0 rfl rfl)
theorem dX8_count_1 : decode cX8_count 1 = .ok (.i2l, 1) := dk_133 (dk_at dksX8_count_0 1 rfl rfl)
theorem dX8_count_2 : decode cX8_count 2 = .ok (.lconst 0, 1) := dk_9 (dk_at dksX8_count_0 2 rfl rfl)
theorem dX8_count_3 : decode cX8_count 3 = .ok (.ldc2_w 110, 3) := dk_20 0 110 (dk_at dksX8_count_0 3 rfl rfl)
theorem dX8_count_6 : decode cX8_count 6 = .ok (.invokestatic 64, 3) := dk_184 0 64 (dk_at dksX8_count_0 6 rfl rfl)
theorem dX8_count_9 : decode cX8_count 9 = .ok (.ifCond .ne 6, 3) := dk_154 0 6 (dk_at dksX8_count_0 9 rfl rfl)
theorem dX8_count_12 : decode cX8_count 12 = .ok (.bipush (-2), 2) := dk_16 254 (dk_at dksX8_count_0 12 rfl rfl)
theorem dX8_count_14 : decode cX8_count 14 = .ok (.ireturn, 1) := dk_172 (dk_at dksX8_count_0 14 rfl rfl)
theorem dX8_count_15 : decode cX8_count 15 = .ok (.iload_n 1, 1) := dk_27 (dk_at dksX8_count_0 15 rfl rfl)
theorem dX8_count_16 : decode cX8_count 16 = .ok (.ifCond .ne 10, 3) := dk_154 0 10 (dk_at dksX8_count_0 16 rfl rfl)
theorem dX8_count_19 : decode cX8_count 19 = .ok (.aload_n 0, 1) := dk_42 (dk_at dksX8_count_0 19 rfl rfl)
theorem dX8_count_20 : decode cX8_count 20 = .ok (.getfield 61, 3) := dk_180 0 61 (dk_at dksX8_count_0 20 rfl rfl)
theorem dX8_count_23 : decode cX8_count 23 = .ok (.goto 58, 3) := dk_167 0 58 (dk_at dksX8_count_1 0 rfl rfl)
theorem dX8_count_26 : decode cX8_count 26 = .ok (.iload_n 1, 1) := dk_27 (dk_at dksX8_count_1 3 rfl rfl)
theorem dX8_count_27 : decode cX8_count 27 = .ok (.iconst 1, 1) := dk_4 (dk_at dksX8_count_1 4 rfl rfl)
theorem dX8_count_28 : decode cX8_count 28 = .ok (.if_icmp .ne 13, 3) := dk_160 0 13 (dk_at dksX8_count_1 5 rfl rfl)
theorem dX8_count_31 : decode cX8_count 31 = .ok (.aload_n 0, 1) := dk_42 (dk_at dksX8_count_1 8 rfl rfl)
theorem dX8_count_32 : decode cX8_count 32 = .ok (.getfield 23, 3) := dk_180 0 23 (dk_at dksX8_count_1 9 rfl rfl)
theorem dX8_count_35 : decode cX8_count 35 = .ok (.invokestatic 116, 3) := dk_184 0 116 (dk_at dksX8_count_1 12 rfl rfl)
theorem dX8_count_38 : decode cX8_count 38 = .ok (.goto 43, 3) := dk_167 0 43 (dk_at dksX8_count_1 15 rfl rfl)
theorem dX8_count_41 : decode cX8_count 41 = .ok (.iload_n 1, 1) := dk_27 (dk_at dksX8_count_1 18 rfl rfl)
theorem dX8_count_42 : decode cX8_count 42 = .ok (.iconst 2, 1) := dk_5 (dk_at dksX8_count_1 19 rfl rfl)
theorem dX8_count_43 : decode cX8_count 43 = .ok (.if_icmp .ne 10, 3) := dk_160 0 10 (dk_at dksX8_count_1 20 rfl rfl)
theorem dX8_count_46 : decode cX8_count 46 = .ok (.aload_n 0, 1) := dk_42 (dk_at dksX8_count_1 23 rfl rfl)
theorem dX8_count_47 : decode cX8_count 47 = .ok (.getfield 100, 3) := dk_180 0 100 (dk_at dksX8_count_2 0 rfl rfl)
theorem dX8_count_50 : decode cX8_count 50 = .ok (.goto 31, 3) := dk_167 0 31 (dk_at dksX8_count_2 3 rfl rfl)
theorem dX8_count_53 : decode cX8_count 53 = .ok (.iload_n 1, 1) := dk_27 (dk_at dksX8_count_2 6 rfl rfl)
theorem dX8_count_54 : decode cX8_count 54 = .ok (.iconst 3, 1) := dk_6 (dk_at dksX8_count_2 7 rfl rfl)
theorem dX8_count_55 : decode cX8_count 55 = .ok (.if_icmp .ne 10, 3) := dk_160 0 10 (dk_at dksX8_count_2 8 rfl rfl)
theorem dX8_count_58 : decode cX8_count 58 = .ok (.aload_n 0, 1) := dk_42 (dk_at dksX8_count_2 11 rfl rfl)
theorem dX8_count_59 : decode cX8_count 59 = .ok (.getfield 58, 3) := dk_180 0 58 (dk_at dksX8_count_2 12 rfl rfl)
theorem dX8_count_62 : decode cX8_count 62 = .ok (.goto 19, 3) := dk_167 0 19 (dk_at dksX8_count_2 15 rfl rfl)
theorem dX8_count_65 : decode cX8_count 65 = .ok (.iload_n 1, 1) := dk_27 (dk_at dksX8_count_2 18 rfl rfl)
theorem dX8_count_66 : decode cX8_count 66 = .ok (.iconst 4, 1) := dk_7 (dk_at dksX8_count_2 19 rfl rfl)
theorem dX8_count_67 : decode cX8_count 67 = .ok (.if_icmp .ne 10, 3) := dk_160 0 10 (dk_at dksX8_count_2 20 rfl rfl)
theorem dX8_count_70 : decode cX8_count 70 = .ok (.aload_n 0, 1) := dk_42 (dk_at dksX8_count_2 23 rfl rfl)
theorem dX8_count_71 : decode cX8_count 71 = .ok (.getfield 127, 3) := dk_180 0 127 (dk_at dksX8_count_3 0 rfl rfl)
theorem dX8_count_74 : decode cX8_count 74 = .ok (.goto 7, 3) := dk_167 0 7 (dk_at dksX8_count_3 3 rfl rfl)
theorem dX8_count_77 : decode cX8_count 77 = .ok (.aload_n 0, 1) := dk_42 (dk_at dksX8_count_3 6 rfl rfl)
theorem dX8_count_78 : decode cX8_count 78 = .ok (.getfield 107, 3) := dk_180 0 107 (dk_at dksX8_count_3 7 rfl rfl)
theorem dX8_count_81 : decode cX8_count 81 = .ok (.ireturn, 1) := dk_172 (dk_at dksX8_count_3 10 rfl rfl)
abbrev cX8_cell : ByteArray := prog_16_method_79_code
def yX8_cell : MethodName := ⟨RX8, "cell", "(III)I"⟩
def dkwX8_cell_3 : List UInt8 := [27, 46, 4, 160, 0, 8, 29, 147, 167, 0, 4, 29, 79, 4, 172]
abbrev dktX8_cell_3 : List UInt8 := dkwX8_cell_3 ++ []
def dkwX8_cell_2 : List UInt8 := [16, 40, 27, 104, 28, 96, 42, 180, 0, 45, 27, 46, 154, 0, 8, 29, 145, 167, 0, 19, 42, 180, 0, 45]
abbrev dktX8_cell_2 : List UInt8 := dkwX8_cell_2 ++ dktX8_cell_3
def dkwX8_cell_1 : List UInt8 := [9, 42, 180, 0, 48, 27, 46, 4, 100, 133, 184, 0, 64, 154, 0, 6, 16, 244, 172, 42, 180, 0, 51]
abbrev dktX8_cell_1 : List UInt8 := dkwX8_cell_1 ++ dktX8_cell_2
def dkwX8_cell_0 : List UInt8 := [27, 184, 1, 30, 154, 0, 6, 16, 254, 172, 42, 180, 0, 41, 27, 51, 154, 0, 6, 16, 245, 172, 28, 133]
abbrev dktX8_cell_0 : List UInt8 := dkwX8_cell_0 ++ dktX8_cell_1
theorem dksX8_cell_0 : cX8_cell.data.toList.drop 0 = dktX8_cell_0 := by decide +kernel
theorem dksX8_cell_1 : cX8_cell.data.toList.drop 24 = dktX8_cell_1 := dk_seg dksX8_cell_0 24 rfl rfl
theorem dksX8_cell_2 : cX8_cell.data.toList.drop 47 = dktX8_cell_2 := dk_seg dksX8_cell_1 23 rfl rfl
theorem dksX8_cell_3 : cX8_cell.data.toList.drop 71 = dktX8_cell_3 := dk_seg dksX8_cell_2 24 rfl rfl
theorem dX8_cell_0 : decode cX8_cell 0 = .ok (.iload_n 1, 1) := dk_27 (dk_at dksX8_cell_0 0 rfl rfl)
theorem dX8_cell_1 : decode cX8_cell 1 = .ok (.invokestatic 286, 3) := dk_184 1 30 (dk_at dksX8_cell_0 1 rfl rfl)
theorem dX8_cell_4 : decode cX8_cell 4 = .ok (.ifCond .ne 6, 3) := dk_154 0 6 (dk_at dksX8_cell_0 4 rfl rfl)
theorem dX8_cell_7 : decode cX8_cell 7 = .ok (.bipush (-2), 2) := dk_16 254 (dk_at dksX8_cell_0 7 rfl rfl)
theorem dX8_cell_9 : decode cX8_cell 9 = .ok (.ireturn, 1) := dk_172 (dk_at dksX8_cell_0 9 rfl rfl)
theorem dX8_cell_10 : decode cX8_cell 10 = .ok (.aload_n 0, 1) := dk_42 (dk_at dksX8_cell_0 10 rfl rfl)
theorem dX8_cell_11 : decode cX8_cell 11 = .ok (.getfield 41, 3) := dk_180 0 41 (dk_at dksX8_cell_0 11 rfl rfl)
theorem dX8_cell_14 : decode cX8_cell 14 = .ok (.iload_n 1, 1) := dk_27 (dk_at dksX8_cell_0 14 rfl rfl)
theorem dX8_cell_15 : decode cX8_cell 15 = .ok (.baload, 1) := dk_51 (dk_at dksX8_cell_0 15 rfl rfl)
theorem dX8_cell_16 : decode cX8_cell 16 = .ok (.ifCond .ne 6, 3) := dk_154 0 6 (dk_at dksX8_cell_0 16 rfl rfl)
theorem dX8_cell_19 : decode cX8_cell 19 = .ok (.bipush (-11), 2) := dk_16 245 (dk_at dksX8_cell_0 19 rfl rfl)
theorem dX8_cell_21 : decode cX8_cell 21 = .ok (.ireturn, 1) := dk_172 (dk_at dksX8_cell_0 21 rfl rfl)
theorem dX8_cell_22 : decode cX8_cell 22 = .ok (.iload_n 2, 1) := dk_28 (dk_at dksX8_cell_0 22 rfl rfl)
theorem dX8_cell_23 : decode cX8_cell 23 = .ok (.i2l, 1) := dk_133 (dk_at dksX8_cell_0 23 rfl rfl)
theorem dX8_cell_24 : decode cX8_cell 24 = .ok (.lconst 0, 1) := dk_9 (dk_at dksX8_cell_1 0 rfl rfl)
theorem dX8_cell_25 : decode cX8_cell 25 = .ok (.aload_n 0, 1) := dk_42 (dk_at dksX8_cell_1 1 rfl rfl)
theorem dX8_cell_26 : decode cX8_cell 26 = .ok (.getfield 48, 3) := dk_180 0 48 (dk_at dksX8_cell_1 2 rfl rfl)
theorem dX8_cell_29 : decode cX8_cell 29 = .ok (.iload_n 1, 1) := dk_27 (dk_at dksX8_cell_1 5 rfl rfl)
theorem dX8_cell_30 : decode cX8_cell 30 = .ok (.iaload, 1) := dk_46 (dk_at dksX8_cell_1 6 rfl rfl)
theorem dX8_cell_31 : decode cX8_cell 31 = .ok (.iconst 1, 1) := dk_4 (dk_at dksX8_cell_1 7 rfl rfl)
theorem dX8_cell_32 : decode cX8_cell 32 = .ok (.isub, 1) := dk_100 (dk_at dksX8_cell_1 8 rfl rfl)
theorem dX8_cell_33 : decode cX8_cell 33 = .ok (.i2l, 1) := dk_133 (dk_at dksX8_cell_1 9 rfl rfl)
theorem dX8_cell_34 : decode cX8_cell 34 = .ok (.invokestatic 64, 3) := dk_184 0 64 (dk_at dksX8_cell_1 10 rfl rfl)
theorem dX8_cell_37 : decode cX8_cell 37 = .ok (.ifCond .ne 6, 3) := dk_154 0 6 (dk_at dksX8_cell_1 13 rfl rfl)
theorem dX8_cell_40 : decode cX8_cell 40 = .ok (.bipush (-12), 2) := dk_16 244 (dk_at dksX8_cell_1 16 rfl rfl)
theorem dX8_cell_42 : decode cX8_cell 42 = .ok (.ireturn, 1) := dk_172 (dk_at dksX8_cell_1 18 rfl rfl)
theorem dX8_cell_43 : decode cX8_cell 43 = .ok (.aload_n 0, 1) := dk_42 (dk_at dksX8_cell_1 19 rfl rfl)
theorem dX8_cell_44 : decode cX8_cell 44 = .ok (.getfield 51, 3) := dk_180 0 51 (dk_at dksX8_cell_1 20 rfl rfl)
theorem dX8_cell_47 : decode cX8_cell 47 = .ok (.bipush 40, 2) := dk_16 40 (dk_at dksX8_cell_2 0 rfl rfl)
theorem dX8_cell_49 : decode cX8_cell 49 = .ok (.iload_n 1, 1) := dk_27 (dk_at dksX8_cell_2 2 rfl rfl)
theorem dX8_cell_50 : decode cX8_cell 50 = .ok (.imul, 1) := dk_104 (dk_at dksX8_cell_2 3 rfl rfl)
theorem dX8_cell_51 : decode cX8_cell 51 = .ok (.iload_n 2, 1) := dk_28 (dk_at dksX8_cell_2 4 rfl rfl)
theorem dX8_cell_52 : decode cX8_cell 52 = .ok (.iadd, 1) := dk_96 (dk_at dksX8_cell_2 5 rfl rfl)
theorem dX8_cell_53 : decode cX8_cell 53 = .ok (.aload_n 0, 1) := dk_42 (dk_at dksX8_cell_2 6 rfl rfl)
theorem dX8_cell_54 : decode cX8_cell 54 = .ok (.getfield 45, 3) := dk_180 0 45 (dk_at dksX8_cell_2 7 rfl rfl)
theorem dX8_cell_57 : decode cX8_cell 57 = .ok (.iload_n 1, 1) := dk_27 (dk_at dksX8_cell_2 10 rfl rfl)
theorem dX8_cell_58 : decode cX8_cell 58 = .ok (.iaload, 1) := dk_46 (dk_at dksX8_cell_2 11 rfl rfl)
theorem dX8_cell_59 : decode cX8_cell 59 = .ok (.ifCond .ne 8, 3) := dk_154 0 8 (dk_at dksX8_cell_2 12 rfl rfl)
theorem dX8_cell_62 : decode cX8_cell 62 = .ok (.iload_n 3, 1) := dk_29 (dk_at dksX8_cell_2 15 rfl rfl)
theorem dX8_cell_63 : decode cX8_cell 63 = .ok (.i2b, 1) := dk_145 (dk_at dksX8_cell_2 16 rfl rfl)
theorem dX8_cell_64 : decode cX8_cell 64 = .ok (.goto 19, 3) := dk_167 0 19 (dk_at dksX8_cell_2 17 rfl rfl)
theorem dX8_cell_67 : decode cX8_cell 67 = .ok (.aload_n 0, 1) := dk_42 (dk_at dksX8_cell_2 20 rfl rfl)
theorem dX8_cell_68 : decode cX8_cell 68 = .ok (.getfield 45, 3) := dk_180 0 45 (dk_at dksX8_cell_2 21 rfl rfl)
theorem dX8_cell_71 : decode cX8_cell 71 = .ok (.iload_n 1, 1) := dk_27 (dk_at dksX8_cell_3 0 rfl rfl)
theorem dX8_cell_72 : decode cX8_cell 72 = .ok (.iaload, 1) := dk_46 (dk_at dksX8_cell_3 1 rfl rfl)
theorem dX8_cell_73 : decode cX8_cell 73 = .ok (.iconst 1, 1) := dk_4 (dk_at dksX8_cell_3 2 rfl rfl)
theorem dX8_cell_74 : decode cX8_cell 74 = .ok (.if_icmp .ne 8, 3) := dk_160 0 8 (dk_at dksX8_cell_3 3 rfl rfl)
theorem dX8_cell_77 : decode cX8_cell 77 = .ok (.iload_n 3, 1) := dk_29 (dk_at dksX8_cell_3 6 rfl rfl)
theorem dX8_cell_78 : decode cX8_cell 78 = .ok (.i2s, 1) := dk_147 (dk_at dksX8_cell_3 7 rfl rfl)
theorem dX8_cell_79 : decode cX8_cell 79 = .ok (.goto 4, 3) := dk_167 0 4 (dk_at dksX8_cell_3 8 rfl rfl)
theorem dX8_cell_82 : decode cX8_cell 82 = .ok (.iload_n 3, 1) := dk_29 (dk_at dksX8_cell_3 11 rfl rfl)
theorem dX8_cell_83 : decode cX8_cell 83 = .ok (.iastore, 1) := dk_79 (dk_at dksX8_cell_3 12 rfl rfl)
theorem dX8_cell_84 : decode cX8_cell 84 = .ok (.iconst 1, 1) := dk_4 (dk_at dksX8_cell_3 13 rfl rfl)
theorem dX8_cell_85 : decode cX8_cell 85 = .ok (.ireturn, 1) := dk_172 (dk_at dksX8_cell_3 14 rfl rfl)
abbrev cX8_copy : ByteArray := prog_16_method_80_code
def yX8_copy : MethodName := ⟨RX8, "copy", "(IIIII)I"⟩
def dkwX8_copy_7 : List UInt8 := [180, 0, 51, 16, 40, 27, 104, 28, 96, 21, 8, 96, 46, 79, 132, 7, 1, 167, 255, 198, 21, 5, 172]
abbrev dktX8_copy_7 : List UInt8 := dkwX8_copy_7 ++ []
def dkwX8_copy_6 : List UInt8 := [100, 167, 0, 5, 21, 7, 54, 8, 42, 180, 0, 51, 16, 40, 29, 104, 21, 4, 96, 21, 8, 96, 42]
abbrev dktX8_copy_6 : List UInt8 := dkwX8_copy_6 ++ dktX8_copy_7
def dkwX8_copy_5 : List UInt8 := [3, 54, 6, 3, 54, 7, 21, 7, 21, 5, 162, 0, 57, 21, 6, 153, 0, 13, 21, 5, 4, 100, 21, 7]
abbrev dktX8_copy_5 : List UInt8 := dkwX8_copy_5 ++ dktX8_copy_6
def dkwX8_copy_4 : List UInt8 := [21, 5, 100, 164, 0, 6, 16, 244, 172, 27, 29, 160, 0, 13, 28, 21, 4, 162, 0, 7, 4, 167, 0, 4]
abbrev dktX8_copy_4 : List UInt8 := dkwX8_copy_4 ++ dktX8_copy_5
def dkwX8_copy_3 : List UInt8 := [155, 0, 30, 28, 42, 180, 0, 48, 27, 46, 21, 5, 100, 163, 0, 17, 21, 4, 42, 180, 0, 48, 29, 46]
abbrev dktX8_copy_3 : List UInt8 := dkwX8_copy_3 ++ dktX8_copy_4
def dkwX8_copy_2 : List UInt8 := [180, 0, 45, 29, 46, 159, 0, 6, 16, 243, 172, 21, 5, 155, 0, 39, 28, 155, 0, 35, 21, 4]
abbrev dktX8_copy_2 : List UInt8 := dkwX8_copy_2 ++ dktX8_copy_3
def dkwX8_copy_1 : List UInt8 := [153, 0, 12, 42, 180, 0, 41, 29, 51, 154, 0, 6, 16, 245, 172, 42, 180, 0, 45, 27, 46, 42]
abbrev dktX8_copy_1 : List UInt8 := dkwX8_copy_1 ++ dktX8_copy_2
def dkwX8_copy_0 : List UInt8 := [27, 184, 1, 30, 153, 0, 10, 29, 184, 1, 30, 154, 0, 6, 16, 254, 172, 42, 180, 0, 41, 27, 51]
abbrev dktX8_copy_0 : List UInt8 := dkwX8_copy_0 ++ dktX8_copy_1
theorem dksX8_copy_0 : cX8_copy.data.toList.drop 0 = dktX8_copy_0 := by decide +kernel
theorem dksX8_copy_1 : cX8_copy.data.toList.drop 23 = dktX8_copy_1 := dk_seg dksX8_copy_0 23 rfl rfl
theorem dksX8_copy_2 : cX8_copy.data.toList.drop 45 = dktX8_copy_2 := dk_seg dksX8_copy_1 22 rfl rfl
theorem dksX8_copy_3 : cX8_copy.data.toList.drop 67 = dktX8_copy_3 := dk_seg dksX8_copy_2 22 rfl rfl
theorem dksX8_copy_4 : cX8_copy.data.toList.drop 91 = dktX8_copy_4 := dk_seg dksX8_copy_3 24 rfl rfl
theorem dksX8_copy_5 : cX8_copy.data.toList.drop 115 = dktX8_copy_5 := dk_seg dksX8_copy_4 24 rfl rfl
theorem dksX8_copy_6 : cX8_copy.data.toList.drop 139 = dktX8_copy_6 := dk_seg dksX8_copy_5 24 rfl rfl
theorem dksX8_copy_7 : cX8_copy.data.toList.drop 162 = dktX8_copy_7 := dk_seg dksX8_copy_6 23 rfl rfl
theorem dX8_copy_0 : decode cX8_copy 0 = .ok (.iload_n 1, 1) := dk_27 (dk_at dksX8_copy_0 0 rfl rfl)
theorem dX8_copy_1 : decode cX8_copy 1 = .ok (.invokestatic 286, 3) := dk_184 1 30 (dk_at dksX8_copy_0 1 rfl rfl)
theorem dX8_copy_4 : decode cX8_copy 4 = .ok (.ifCond .eq 10, 3) := dk_153 0 10 (dk_at dksX8_copy_0 4 rfl rfl)
theorem dX8_copy_7 : decode cX8_copy 7 = .ok (.iload_n 3, 1) := dk_29 (dk_at dksX8_copy_0 7 rfl rfl)
theorem dX8_copy_8 : decode cX8_copy 8 = .ok (.invokestatic 286, 3) := dk_184 1 30 (dk_at dksX8_copy_0 8 rfl rfl)
theorem dX8_copy_11 : decode cX8_copy 11 = .ok (.ifCond .ne 6, 3) := dk_154 0 6 (dk_at dksX8_copy_0 11 rfl rfl)
theorem dX8_copy_14 : decode cX8_copy 14 = .ok (.bipush (-2), 2) := dk_16 254 (dk_at dksX8_copy_0 14 rfl rfl)
theorem dX8_copy_16 : decode cX8_copy 16 = .ok (.ireturn, 1) := dk_172 (dk_at dksX8_copy_0 16 rfl rfl)
theorem dX8_copy_17 : decode cX8_copy 17 = .ok (.aload_n 0, 1) := dk_42 (dk_at dksX8_copy_0 17 rfl rfl)
theorem dX8_copy_18 : decode cX8_copy 18 = .ok (.getfield 41, 3) := dk_180 0 41 (dk_at dksX8_copy_0 18 rfl rfl)
theorem dX8_copy_21 : decode cX8_copy 21 = .ok (.iload_n 1, 1) := dk_27 (dk_at dksX8_copy_0 21 rfl rfl)
theorem dX8_copy_22 : decode cX8_copy 22 = .ok (.baload, 1) := dk_51 (dk_at dksX8_copy_0 22 rfl rfl)
theorem dX8_copy_23 : decode cX8_copy 23 = .ok (.ifCond .eq 12, 3) := dk_153 0 12 (dk_at dksX8_copy_1 0 rfl rfl)
theorem dX8_copy_26 : decode cX8_copy 26 = .ok (.aload_n 0, 1) := dk_42 (dk_at dksX8_copy_1 3 rfl rfl)
theorem dX8_copy_27 : decode cX8_copy 27 = .ok (.getfield 41, 3) := dk_180 0 41 (dk_at dksX8_copy_1 4 rfl rfl)
theorem dX8_copy_30 : decode cX8_copy 30 = .ok (.iload_n 3, 1) := dk_29 (dk_at dksX8_copy_1 7 rfl rfl)
theorem dX8_copy_31 : decode cX8_copy 31 = .ok (.baload, 1) := dk_51 (dk_at dksX8_copy_1 8 rfl rfl)
theorem dX8_copy_32 : decode cX8_copy 32 = .ok (.ifCond .ne 6, 3) := dk_154 0 6 (dk_at dksX8_copy_1 9 rfl rfl)
theorem dX8_copy_35 : decode cX8_copy 35 = .ok (.bipush (-11), 2) := dk_16 245 (dk_at dksX8_copy_1 12 rfl rfl)
theorem dX8_copy_37 : decode cX8_copy 37 = .ok (.ireturn, 1) := dk_172 (dk_at dksX8_copy_1 14 rfl rfl)
theorem dX8_copy_38 : decode cX8_copy 38 = .ok (.aload_n 0, 1) := dk_42 (dk_at dksX8_copy_1 15 rfl rfl)
theorem dX8_copy_39 : decode cX8_copy 39 = .ok (.getfield 45, 3) := dk_180 0 45 (dk_at dksX8_copy_1 16 rfl rfl)
theorem dX8_copy_42 : decode cX8_copy 42 = .ok (.iload_n 1, 1) := dk_27 (dk_at dksX8_copy_1 19 rfl rfl)
theorem dX8_copy_43 : decode cX8_copy 43 = .ok (.iaload, 1) := dk_46 (dk_at dksX8_copy_1 20 rfl rfl)
theorem dX8_copy_44 : decode cX8_copy 44 = .ok (.aload_n 0, 1) := dk_42 (dk_at dksX8_copy_1 21 rfl rfl)
theorem dX8_copy_45 : decode cX8_copy 45 = .ok (.getfield 45, 3) := dk_180 0 45 (dk_at dksX8_copy_2 0 rfl rfl)
theorem dX8_copy_48 : decode cX8_copy 48 = .ok (.iload_n 3, 1) := dk_29 (dk_at dksX8_copy_2 3 rfl rfl)
theorem dX8_copy_49 : decode cX8_copy 49 = .ok (.iaload, 1) := dk_46 (dk_at dksX8_copy_2 4 rfl rfl)
theorem dX8_copy_50 : decode cX8_copy 50 = .ok (.if_icmp .eq 6, 3) := dk_159 0 6 (dk_at dksX8_copy_2 5 rfl rfl)
theorem dX8_copy_53 : decode cX8_copy 53 = .ok (.bipush (-13), 2) := dk_16 243 (dk_at dksX8_copy_2 8 rfl rfl)
theorem dX8_copy_55 : decode cX8_copy 55 = .ok (.ireturn, 1) := dk_172 (dk_at dksX8_copy_2 10 rfl rfl)
theorem dX8_copy_56 : decode cX8_copy 56 = .ok (.iload 5, 2) := dk_21 5 (dk_at dksX8_copy_2 11 rfl rfl)
theorem dX8_copy_58 : decode cX8_copy 58 = .ok (.ifCond .lt 39, 3) := dk_155 0 39 (dk_at dksX8_copy_2 13 rfl rfl)
theorem dX8_copy_61 : decode cX8_copy 61 = .ok (.iload_n 2, 1) := dk_28 (dk_at dksX8_copy_2 16 rfl rfl)
theorem dX8_copy_62 : decode cX8_copy 62 = .ok (.ifCond .lt 35, 3) := dk_155 0 35 (dk_at dksX8_copy_2 17 rfl rfl)
theorem dX8_copy_65 : decode cX8_copy 65 = .ok (.iload 4, 2) := dk_21 4 (dk_at dksX8_copy_2 20 rfl rfl)
theorem dX8_copy_67 : decode cX8_copy 67 = .ok (.ifCond .lt 30, 3) := dk_155 0 30 (dk_at dksX8_copy_3 0 rfl rfl)
theorem dX8_copy_70 : decode cX8_copy 70 = .ok (.iload_n 2, 1) := dk_28 (dk_at dksX8_copy_3 3 rfl rfl)
theorem dX8_copy_71 : decode cX8_copy 71 = .ok (.aload_n 0, 1) := dk_42 (dk_at dksX8_copy_3 4 rfl rfl)
theorem dX8_copy_72 : decode cX8_copy 72 = .ok (.getfield 48, 3) := dk_180 0 48 (dk_at dksX8_copy_3 5 rfl rfl)
theorem dX8_copy_75 : decode cX8_copy 75 = .ok (.iload_n 1, 1) := dk_27 (dk_at dksX8_copy_3 8 rfl rfl)
theorem dX8_copy_76 : decode cX8_copy 76 = .ok (.iaload, 1) := dk_46 (dk_at dksX8_copy_3 9 rfl rfl)
theorem dX8_copy_77 : decode cX8_copy 77 = .ok (.iload 5, 2) := dk_21 5 (dk_at dksX8_copy_3 10 rfl rfl)
theorem dX8_copy_79 : decode cX8_copy 79 = .ok (.isub, 1) := dk_100 (dk_at dksX8_copy_3 12 rfl rfl)
theorem dX8_copy_80 : decode cX8_copy 80 = .ok (.if_icmp .gt 17, 3) := dk_163 0 17 (dk_at dksX8_copy_3 13 rfl rfl)
theorem dX8_copy_83 : decode cX8_copy 83 = .ok (.iload 4, 2) := dk_21 4 (dk_at dksX8_copy_3 16 rfl rfl)
theorem dX8_copy_85 : decode cX8_copy 85 = .ok (.aload_n 0, 1) := dk_42 (dk_at dksX8_copy_3 18 rfl rfl)
theorem dX8_copy_86 : decode cX8_copy 86 = .ok (.getfield 48, 3) := dk_180 0 48 (dk_at dksX8_copy_3 19 rfl rfl)
theorem dX8_copy_89 : decode cX8_copy 89 = .ok (.iload_n 3, 1) := dk_29 (dk_at dksX8_copy_3 22 rfl rfl)
theorem dX8_copy_90 : decode cX8_copy 90 = .ok (.iaload, 1) := dk_46 (dk_at dksX8_copy_3 23 rfl rfl)
theorem dX8_copy_91 : decode cX8_copy 91 = .ok (.iload 5, 2) := dk_21 5 (dk_at dksX8_copy_4 0 rfl rfl)
theorem dX8_copy_93 : decode cX8_copy 93 = .ok (.isub, 1) := dk_100 (dk_at dksX8_copy_4 2 rfl rfl)
theorem dX8_copy_94 : decode cX8_copy 94 = .ok (.if_icmp .le 6, 3) := dk_164 0 6 (dk_at dksX8_copy_4 3 rfl rfl)
theorem dX8_copy_97 : decode cX8_copy 97 = .ok (.bipush (-12), 2) := dk_16 244 (dk_at dksX8_copy_4 6 rfl rfl)
theorem dX8_copy_99 : decode cX8_copy 99 = .ok (.ireturn, 1) := dk_172 (dk_at dksX8_copy_4 8 rfl rfl)
theorem dX8_copy_100 : decode cX8_copy 100 = .ok (.iload_n 1, 1) := dk_27 (dk_at dksX8_copy_4 9 rfl rfl)
theorem dX8_copy_101 : decode cX8_copy 101 = .ok (.iload_n 3, 1) := dk_29 (dk_at dksX8_copy_4 10 rfl rfl)
theorem dX8_copy_102 : decode cX8_copy 102 = .ok (.if_icmp .ne 13, 3) := dk_160 0 13 (dk_at dksX8_copy_4 11 rfl rfl)
theorem dX8_copy_105 : decode cX8_copy 105 = .ok (.iload_n 2, 1) := dk_28 (dk_at dksX8_copy_4 14 rfl rfl)
theorem dX8_copy_106 : decode cX8_copy 106 = .ok (.iload 4, 2) := dk_21 4 (dk_at dksX8_copy_4 15 rfl rfl)
theorem dX8_copy_108 : decode cX8_copy 108 = .ok (.if_icmp .ge 7, 3) := dk_162 0 7 (dk_at dksX8_copy_4 17 rfl rfl)
theorem dX8_copy_111 : decode cX8_copy 111 = .ok (.iconst 1, 1) := dk_4 (dk_at dksX8_copy_4 20 rfl rfl)
theorem dX8_copy_112 : decode cX8_copy 112 = .ok (.goto 4, 3) := dk_167 0 4 (dk_at dksX8_copy_4 21 rfl rfl)
theorem dX8_copy_115 : decode cX8_copy 115 = .ok (.iconst 0, 1) := dk_3 (dk_at dksX8_copy_5 0 rfl rfl)
theorem dX8_copy_116 : decode cX8_copy 116 = .ok (.istore 6, 2) := dk_54 6 (dk_at dksX8_copy_5 1 rfl rfl)
theorem dX8_copy_118 : decode cX8_copy 118 = .ok (.iconst 0, 1) := dk_3 (dk_at dksX8_copy_5 3 rfl rfl)
theorem dX8_copy_119 : decode cX8_copy 119 = .ok (.istore 7, 2) := dk_54 7 (dk_at dksX8_copy_5 4 rfl rfl)
theorem dX8_copy_121 : decode cX8_copy 121 = .ok (.iload 7, 2) := dk_21 7 (dk_at dksX8_copy_5 6 rfl rfl)
theorem dX8_copy_123 : decode cX8_copy 123 = .ok (.iload 5, 2) := dk_21 5 (dk_at dksX8_copy_5 8 rfl rfl)
theorem dX8_copy_125 : decode cX8_copy 125 = .ok (.if_icmp .ge 57, 3) := dk_162 0 57 (dk_at dksX8_copy_5 10 rfl rfl)
theorem dX8_copy_128 : decode cX8_copy 128 = .ok (.iload 6, 2) := dk_21 6 (dk_at dksX8_copy_5 13 rfl rfl)
theorem dX8_copy_130 : decode cX8_copy 130 = .ok (.ifCond .eq 13, 3) := dk_153 0 13 (dk_at dksX8_copy_5 15 rfl rfl)
theorem dX8_copy_133 : decode cX8_copy 133 = .ok (.iload 5, 2) := dk_21 5 (dk_at dksX8_copy_5 18 rfl rfl)
theorem dX8_copy_135 : decode cX8_copy 135 = .ok (.iconst 1, 1) := dk_4 (dk_at dksX8_copy_5 20 rfl rfl)
theorem dX8_copy_136 : decode cX8_copy 136 = .ok (.isub, 1) := dk_100 (dk_at dksX8_copy_5 21 rfl rfl)
theorem dX8_copy_137 : decode cX8_copy 137 = .ok (.iload 7, 2) := dk_21 7 (dk_at dksX8_copy_5 22 rfl rfl)
theorem dX8_copy_139 : decode cX8_copy 139 = .ok (.isub, 1) := dk_100 (dk_at dksX8_copy_6 0 rfl rfl)
theorem dX8_copy_140 : decode cX8_copy 140 = .ok (.goto 5, 3) := dk_167 0 5 (dk_at dksX8_copy_6 1 rfl rfl)
theorem dX8_copy_143 : decode cX8_copy 143 = .ok (.iload 7, 2) := dk_21 7 (dk_at dksX8_copy_6 4 rfl rfl)
theorem dX8_copy_145 : decode cX8_copy 145 = .ok (.istore 8, 2) := dk_54 8 (dk_at dksX8_copy_6 6 rfl rfl)
theorem dX8_copy_147 : decode cX8_copy 147 = .ok (.aload_n 0, 1) := dk_42 (dk_at dksX8_copy_6 8 rfl rfl)
theorem dX8_copy_148 : decode cX8_copy 148 = .ok (.getfield 51, 3) := dk_180 0 51 (dk_at dksX8_copy_6 9 rfl rfl)
theorem dX8_copy_151 : decode cX8_copy 151 = .ok (.bipush 40, 2) := dk_16 40 (dk_at dksX8_copy_6 12 rfl rfl)
theorem dX8_copy_153 : decode cX8_copy 153 = .ok (.iload_n 3, 1) := dk_29 (dk_at dksX8_copy_6 14 rfl rfl)
theorem dX8_copy_154 : decode cX8_copy 154 = .ok (.imul, 1) := dk_104 (dk_at dksX8_copy_6 15 rfl rfl)
theorem dX8_copy_155 : decode cX8_copy 155 = .ok (.iload 4, 2) := dk_21 4 (dk_at dksX8_copy_6 16 rfl rfl)
theorem dX8_copy_157 : decode cX8_copy 157 = .ok (.iadd, 1) := dk_96 (dk_at dksX8_copy_6 18 rfl rfl)
theorem dX8_copy_158 : decode cX8_copy 158 = .ok (.iload 8, 2) := dk_21 8 (dk_at dksX8_copy_6 19 rfl rfl)
theorem dX8_copy_160 : decode cX8_copy 160 = .ok (.iadd, 1) := dk_96 (dk_at dksX8_copy_6 21 rfl rfl)
theorem dX8_copy_161 : decode cX8_copy 161 = .ok (.aload_n 0, 1) := dk_42 (dk_at dksX8_copy_6 22 rfl rfl)
theorem dX8_copy_162 : decode cX8_copy 162 = .ok (.getfield 51, 3) := dk_180 0 51 (dk_at dksX8_copy_7 0 rfl rfl)
theorem dX8_copy_165 : decode cX8_copy 165 = .ok (.bipush 40, 2) := dk_16 40 (dk_at dksX8_copy_7 3 rfl rfl)
theorem dX8_copy_167 : decode cX8_copy 167 = .ok (.iload_n 1, 1) := dk_27 (dk_at dksX8_copy_7 5 rfl rfl)
theorem dX8_copy_168 : decode cX8_copy 168 = .ok (.imul, 1) := dk_104 (dk_at dksX8_copy_7 6 rfl rfl)
theorem dX8_copy_169 : decode cX8_copy 169 = .ok (.iload_n 2, 1) := dk_28 (dk_at dksX8_copy_7 7 rfl rfl)
theorem dX8_copy_170 : decode cX8_copy 170 = .ok (.iadd, 1) := dk_96 (dk_at dksX8_copy_7 8 rfl rfl)
theorem dX8_copy_171 : decode cX8_copy 171 = .ok (.iload 8, 2) := dk_21 8 (dk_at dksX8_copy_7 9 rfl rfl)
theorem dX8_copy_173 : decode cX8_copy 173 = .ok (.iadd, 1) := dk_96 (dk_at dksX8_copy_7 11 rfl rfl)
theorem dX8_copy_174 : decode cX8_copy 174 = .ok (.iaload, 1) := dk_46 (dk_at dksX8_copy_7 12 rfl rfl)
theorem dX8_copy_175 : decode cX8_copy 175 = .ok (.iastore, 1) := dk_79 (dk_at dksX8_copy_7 13 rfl rfl)
theorem dX8_copy_176 : decode cX8_copy 176 = .ok (.iinc 7 1, 3) := dk_132 7 1 (dk_at dksX8_copy_7 14 rfl rfl)
theorem dX8_copy_179 : decode cX8_copy 179 = .ok (.goto (-58), 3) := dk_167 255 198 (dk_at dksX8_copy_7 17 rfl rfl)
theorem dX8_copy_182 : decode cX8_copy 182 = .ok (.iload 5, 2) := dk_21 5 (dk_at dksX8_copy_7 20 rfl rfl)
theorem dX8_copy_184 : decode cX8_copy 184 = .ok (.ireturn, 1) := dk_172 (dk_at dksX8_copy_7 22 rfl rfl)
abbrev cX8_players : ByteArray := prog_16_method_81_code
def yX8_players : MethodName := ⟨RX8, "players", "(IIII)I"⟩
def dkwX8_players_6 : List UInt8 := [155, 0, 7, 4, 167, 0, 4, 3, 96, 54, 5, 132, 6, 1, 167, 255, 176, 21, 5, 172]
abbrev dktX8_players_6 : List UInt8 := dkwX8_players_6 ++ []
def dkwX8_players_5 : List UInt8 := [54, 7, 21, 5, 42, 42, 180, 0, 51, 21, 7, 46, 42, 180, 0, 51, 21, 7, 4, 96, 46, 182, 1, 104]
abbrev dktX8_players_5 : List UInt8 := dkwX8_players_5 ++ dktX8_players_6
def dkwX8_players_4 : List UInt8 := [5, 21, 6, 104, 100, 5, 100, 164, 0, 6, 16, 244, 172, 16, 40, 27, 104, 29, 96, 5, 21, 6, 104, 96]
abbrev dktX8_players_4 : List UInt8 := dkwX8_players_4 ++ dktX8_players_5
def dkwX8_players_3 : List UInt8 := [3, 54, 5, 3, 54, 6, 21, 6, 21, 4, 162, 0, 79, 29, 155, 0, 20, 29, 42, 180, 0, 48, 27, 46]
abbrev dktX8_players_3 : List UInt8 := dkwX8_players_3 ++ dktX8_players_4
def dkwX8_players_2 : List UInt8 := [180, 0, 45, 27, 46, 28, 159, 0, 6, 16, 243, 172, 42, 180, 0, 41, 27, 51, 154, 0, 6, 16, 245, 172]
abbrev dktX8_players_2 : List UInt8 := dkwX8_players_2 ++ dktX8_players_3
def dkwX8_players_1 : List UInt8 := [20, 1, 102, 184, 0, 64, 154, 0, 6, 16, 254, 172, 42, 180, 0, 41, 27, 51, 153, 0, 16, 42]
abbrev dktX8_players_1 : List UInt8 := dkwX8_players_1 ++ dktX8_players_2
def dkwX8_players_0 : List UInt8 := [27, 184, 1, 30, 153, 0, 28, 28, 133, 9, 20, 1, 100, 184, 0, 64, 153, 0, 16, 21, 4, 133, 9]
abbrev dktX8_players_0 : List UInt8 := dkwX8_players_0 ++ dktX8_players_1
theorem dksX8_players_0 : cX8_players.data.toList.drop 0 = dktX8_players_0 := by decide +kernel
theorem dksX8_players_1 : cX8_players.data.toList.drop 23 = dktX8_players_1 := dk_seg dksX8_players_0 23 rfl rfl
theorem dksX8_players_2 : cX8_players.data.toList.drop 45 = dktX8_players_2 := dk_seg dksX8_players_1 22 rfl rfl
theorem dksX8_players_3 : cX8_players.data.toList.drop 69 = dktX8_players_3 := dk_seg dksX8_players_2 24 rfl rfl
theorem dksX8_players_4 : cX8_players.data.toList.drop 93 = dktX8_players_4 := dk_seg dksX8_players_3 24 rfl rfl
theorem dksX8_players_5 : cX8_players.data.toList.drop 117 = dktX8_players_5 := dk_seg dksX8_players_4 24 rfl rfl
theorem dksX8_players_6 : cX8_players.data.toList.drop 141 = dktX8_players_6 := dk_seg dksX8_players_5 24 rfl rfl
theorem dX8_players_0 : decode cX8_players 0 = .ok (.iload_n 1, 1) := dk_27 (dk_at dksX8_players_0 0 rfl rfl)
theorem dX8_players_1 : decode cX8_players 1 = .ok (.invokestatic 286, 3) := dk_184 1 30 (dk_at dksX8_players_0 1 rfl rfl)
theorem dX8_players_4 : decode cX8_players 4 = .ok (.ifCond .eq 28, 3) := dk_153 0 28 (dk_at dksX8_players_0 4 rfl rfl)
theorem dX8_players_7 : decode cX8_players 7 = .ok (.iload_n 2, 1) := dk_28 (dk_at dksX8_players_0 7 rfl rfl)
theorem dX8_players_8 : decode cX8_players 8 = .ok (.i2l, 1) := dk_133 (dk_at dksX8_players_0 8 rfl rfl)
theorem dX8_players_9 : decode cX8_players 9 = .ok (.lconst 0, 1) := dk_9 (dk_at dksX8_players_0 9 rfl rfl)
theorem dX8_players_10 : decode cX8_players 10 = .ok (.ldc2_w 356, 3) := dk_20 1 100 (dk_at dksX8_players_0 10 rfl rfl)
theorem dX8_players_13 : decode cX8_players 13 = .ok (.invokestatic 64, 3) := dk_184 0 64 (dk_at dksX8_players_0 13 rfl rfl)
theorem dX8_players_16 : decode cX8_players 16 = .ok (.ifCond .eq 16, 3) := dk_153 0 16 (dk_at dksX8_players_0 16 rfl rfl)
theorem dX8_players_19 : decode cX8_players 19 = .ok (.iload 4, 2) := dk_21 4 (dk_at dksX8_players_0 19 rfl rfl)
theorem dX8_players_21 : decode cX8_players 21 = .ok (.i2l, 1) := dk_133 (dk_at dksX8_players_0 21 rfl rfl)
theorem dX8_players_22 : decode cX8_players 22 = .ok (.lconst 0, 1) := dk_9 (dk_at dksX8_players_0 22 rfl rfl)
theorem dX8_players_23 : decode cX8_players 23 = .ok (.ldc2_w 358, 3) := dk_20 1 102 (dk_at dksX8_players_1 0 rfl rfl)
theorem dX8_players_26 : decode cX8_players 26 = .ok (.invokestatic 64, 3) := dk_184 0 64 (dk_at dksX8_players_1 3 rfl rfl)
theorem dX8_players_29 : decode cX8_players 29 = .ok (.ifCond .ne 6, 3) := dk_154 0 6 (dk_at dksX8_players_1 6 rfl rfl)
theorem dX8_players_32 : decode cX8_players 32 = .ok (.bipush (-2), 2) := dk_16 254 (dk_at dksX8_players_1 9 rfl rfl)
theorem dX8_players_34 : decode cX8_players 34 = .ok (.ireturn, 1) := dk_172 (dk_at dksX8_players_1 11 rfl rfl)
theorem dX8_players_35 : decode cX8_players 35 = .ok (.aload_n 0, 1) := dk_42 (dk_at dksX8_players_1 12 rfl rfl)
theorem dX8_players_36 : decode cX8_players 36 = .ok (.getfield 41, 3) := dk_180 0 41 (dk_at dksX8_players_1 13 rfl rfl)
theorem dX8_players_39 : decode cX8_players 39 = .ok (.iload_n 1, 1) := dk_27 (dk_at dksX8_players_1 16 rfl rfl)
theorem dX8_players_40 : decode cX8_players 40 = .ok (.baload, 1) := dk_51 (dk_at dksX8_players_1 17 rfl rfl)
theorem dX8_players_41 : decode cX8_players 41 = .ok (.ifCond .eq 16, 3) := dk_153 0 16 (dk_at dksX8_players_1 18 rfl rfl)
theorem dX8_players_44 : decode cX8_players 44 = .ok (.aload_n 0, 1) := dk_42 (dk_at dksX8_players_1 21 rfl rfl)
theorem dX8_players_45 : decode cX8_players 45 = .ok (.getfield 45, 3) := dk_180 0 45 (dk_at dksX8_players_2 0 rfl rfl)
theorem dX8_players_48 : decode cX8_players 48 = .ok (.iload_n 1, 1) := dk_27 (dk_at dksX8_players_2 3 rfl rfl)
theorem dX8_players_49 : decode cX8_players 49 = .ok (.iaload, 1) := dk_46 (dk_at dksX8_players_2 4 rfl rfl)
theorem dX8_players_50 : decode cX8_players 50 = .ok (.iload_n 2, 1) := dk_28 (dk_at dksX8_players_2 5 rfl rfl)
theorem dX8_players_51 : decode cX8_players 51 = .ok (.if_icmp .eq 6, 3) := dk_159 0 6 (dk_at dksX8_players_2 6 rfl rfl)
theorem dX8_players_54 : decode cX8_players 54 = .ok (.bipush (-13), 2) := dk_16 243 (dk_at dksX8_players_2 9 rfl rfl)
theorem dX8_players_56 : decode cX8_players 56 = .ok (.ireturn, 1) := dk_172 (dk_at dksX8_players_2 11 rfl rfl)
theorem dX8_players_57 : decode cX8_players 57 = .ok (.aload_n 0, 1) := dk_42 (dk_at dksX8_players_2 12 rfl rfl)
theorem dX8_players_58 : decode cX8_players 58 = .ok (.getfield 41, 3) := dk_180 0 41 (dk_at dksX8_players_2 13 rfl rfl)
theorem dX8_players_61 : decode cX8_players 61 = .ok (.iload_n 1, 1) := dk_27 (dk_at dksX8_players_2 16 rfl rfl)
theorem dX8_players_62 : decode cX8_players 62 = .ok (.baload, 1) := dk_51 (dk_at dksX8_players_2 17 rfl rfl)
theorem dX8_players_63 : decode cX8_players 63 = .ok (.ifCond .ne 6, 3) := dk_154 0 6 (dk_at dksX8_players_2 18 rfl rfl)
theorem dX8_players_66 : decode cX8_players 66 = .ok (.bipush (-11), 2) := dk_16 245 (dk_at dksX8_players_2 21 rfl rfl)
theorem dX8_players_68 : decode cX8_players 68 = .ok (.ireturn, 1) := dk_172 (dk_at dksX8_players_2 23 rfl rfl)
theorem dX8_players_69 : decode cX8_players 69 = .ok (.iconst 0, 1) := dk_3 (dk_at dksX8_players_3 0 rfl rfl)
theorem dX8_players_70 : decode cX8_players 70 = .ok (.istore 5, 2) := dk_54 5 (dk_at dksX8_players_3 1 rfl rfl)
theorem dX8_players_72 : decode cX8_players 72 = .ok (.iconst 0, 1) := dk_3 (dk_at dksX8_players_3 3 rfl rfl)
theorem dX8_players_73 : decode cX8_players 73 = .ok (.istore 6, 2) := dk_54 6 (dk_at dksX8_players_3 4 rfl rfl)
theorem dX8_players_75 : decode cX8_players 75 = .ok (.iload 6, 2) := dk_21 6 (dk_at dksX8_players_3 6 rfl rfl)
theorem dX8_players_77 : decode cX8_players 77 = .ok (.iload 4, 2) := dk_21 4 (dk_at dksX8_players_3 8 rfl rfl)
theorem dX8_players_79 : decode cX8_players 79 = .ok (.if_icmp .ge 79, 3) := dk_162 0 79 (dk_at dksX8_players_3 10 rfl rfl)
theorem dX8_players_82 : decode cX8_players 82 = .ok (.iload_n 3, 1) := dk_29 (dk_at dksX8_players_3 13 rfl rfl)
theorem dX8_players_83 : decode cX8_players 83 = .ok (.ifCond .lt 20, 3) := dk_155 0 20 (dk_at dksX8_players_3 14 rfl rfl)
theorem dX8_players_86 : decode cX8_players 86 = .ok (.iload_n 3, 1) := dk_29 (dk_at dksX8_players_3 17 rfl rfl)
theorem dX8_players_87 : decode cX8_players 87 = .ok (.aload_n 0, 1) := dk_42 (dk_at dksX8_players_3 18 rfl rfl)
theorem dX8_players_88 : decode cX8_players 88 = .ok (.getfield 48, 3) := dk_180 0 48 (dk_at dksX8_players_3 19 rfl rfl)
theorem dX8_players_91 : decode cX8_players 91 = .ok (.iload_n 1, 1) := dk_27 (dk_at dksX8_players_3 22 rfl rfl)
theorem dX8_players_92 : decode cX8_players 92 = .ok (.iaload, 1) := dk_46 (dk_at dksX8_players_3 23 rfl rfl)
theorem dX8_players_93 : decode cX8_players 93 = .ok (.iconst 2, 1) := dk_5 (dk_at dksX8_players_4 0 rfl rfl)
theorem dX8_players_94 : decode cX8_players 94 = .ok (.iload 6, 2) := dk_21 6 (dk_at dksX8_players_4 1 rfl rfl)
theorem dX8_players_96 : decode cX8_players 96 = .ok (.imul, 1) := dk_104 (dk_at dksX8_players_4 3 rfl rfl)
theorem dX8_players_97 : decode cX8_players 97 = .ok (.isub, 1) := dk_100 (dk_at dksX8_players_4 4 rfl rfl)
theorem dX8_players_98 : decode cX8_players 98 = .ok (.iconst 2, 1) := dk_5 (dk_at dksX8_players_4 5 rfl rfl)
theorem dX8_players_99 : decode cX8_players 99 = .ok (.isub, 1) := dk_100 (dk_at dksX8_players_4 6 rfl rfl)
theorem dX8_players_100 : decode cX8_players 100 = .ok (.if_icmp .le 6, 3) := dk_164 0 6 (dk_at dksX8_players_4 7 rfl rfl)
theorem dX8_players_103 : decode cX8_players 103 = .ok (.bipush (-12), 2) := dk_16 244 (dk_at dksX8_players_4 10 rfl rfl)
theorem dX8_players_105 : decode cX8_players 105 = .ok (.ireturn, 1) := dk_172 (dk_at dksX8_players_4 12 rfl rfl)
theorem dX8_players_106 : decode cX8_players 106 = .ok (.bipush 40, 2) := dk_16 40 (dk_at dksX8_players_4 13 rfl rfl)
theorem dX8_players_108 : decode cX8_players 108 = .ok (.iload_n 1, 1) := dk_27 (dk_at dksX8_players_4 15 rfl rfl)
theorem dX8_players_109 : decode cX8_players 109 = .ok (.imul, 1) := dk_104 (dk_at dksX8_players_4 16 rfl rfl)
theorem dX8_players_110 : decode cX8_players 110 = .ok (.iload_n 3, 1) := dk_29 (dk_at dksX8_players_4 17 rfl rfl)
theorem dX8_players_111 : decode cX8_players 111 = .ok (.iadd, 1) := dk_96 (dk_at dksX8_players_4 18 rfl rfl)
theorem dX8_players_112 : decode cX8_players 112 = .ok (.iconst 2, 1) := dk_5 (dk_at dksX8_players_4 19 rfl rfl)
theorem dX8_players_113 : decode cX8_players 113 = .ok (.iload 6, 2) := dk_21 6 (dk_at dksX8_players_4 20 rfl rfl)
theorem dX8_players_115 : decode cX8_players 115 = .ok (.imul, 1) := dk_104 (dk_at dksX8_players_4 22 rfl rfl)
theorem dX8_players_116 : decode cX8_players 116 = .ok (.iadd, 1) := dk_96 (dk_at dksX8_players_4 23 rfl rfl)
theorem dX8_players_117 : decode cX8_players 117 = .ok (.istore 7, 2) := dk_54 7 (dk_at dksX8_players_5 0 rfl rfl)
theorem dX8_players_119 : decode cX8_players 119 = .ok (.iload 5, 2) := dk_21 5 (dk_at dksX8_players_5 2 rfl rfl)
theorem dX8_players_121 : decode cX8_players 121 = .ok (.aload_n 0, 1) := dk_42 (dk_at dksX8_players_5 4 rfl rfl)
theorem dX8_players_122 : decode cX8_players 122 = .ok (.aload_n 0, 1) := dk_42 (dk_at dksX8_players_5 5 rfl rfl)
theorem dX8_players_123 : decode cX8_players 123 = .ok (.getfield 51, 3) := dk_180 0 51 (dk_at dksX8_players_5 6 rfl rfl)
theorem dX8_players_126 : decode cX8_players 126 = .ok (.iload 7, 2) := dk_21 7 (dk_at dksX8_players_5 9 rfl rfl)
theorem dX8_players_128 : decode cX8_players 128 = .ok (.iaload, 1) := dk_46 (dk_at dksX8_players_5 11 rfl rfl)
theorem dX8_players_129 : decode cX8_players 129 = .ok (.aload_n 0, 1) := dk_42 (dk_at dksX8_players_5 12 rfl rfl)
theorem dX8_players_130 : decode cX8_players 130 = .ok (.getfield 51, 3) := dk_180 0 51 (dk_at dksX8_players_5 13 rfl rfl)
theorem dX8_players_133 : decode cX8_players 133 = .ok (.iload 7, 2) := dk_21 7 (dk_at dksX8_players_5 16 rfl rfl)
theorem dX8_players_135 : decode cX8_players 135 = .ok (.iconst 1, 1) := dk_4 (dk_at dksX8_players_5 18 rfl rfl)
theorem dX8_players_136 : decode cX8_players 136 = .ok (.iadd, 1) := dk_96 (dk_at dksX8_players_5 19 rfl rfl)
theorem dX8_players_137 : decode cX8_players 137 = .ok (.iaload, 1) := dk_46 (dk_at dksX8_players_5 20 rfl rfl)
theorem dX8_players_138 : decode cX8_players 138 = .ok (.invokevirtual 360, 3) := dk_182 1 104 (dk_at dksX8_players_5 21 rfl rfl)
theorem dX8_players_141 : decode cX8_players 141 = .ok (.ifCond .lt 7, 3) := dk_155 0 7 (dk_at dksX8_players_6 0 rfl rfl)
theorem dX8_players_144 : decode cX8_players 144 = .ok (.iconst 1, 1) := dk_4 (dk_at dksX8_players_6 3 rfl rfl)
theorem dX8_players_145 : decode cX8_players 145 = .ok (.goto 4, 3) := dk_167 0 4 (dk_at dksX8_players_6 4 rfl rfl)
theorem dX8_players_148 : decode cX8_players 148 = .ok (.iconst 0, 1) := dk_3 (dk_at dksX8_players_6 7 rfl rfl)
theorem dX8_players_149 : decode cX8_players 149 = .ok (.iadd, 1) := dk_96 (dk_at dksX8_players_6 8 rfl rfl)
theorem dX8_players_150 : decode cX8_players 150 = .ok (.istore 5, 2) := dk_54 5 (dk_at dksX8_players_6 9 rfl rfl)
theorem dX8_players_152 : decode cX8_players 152 = .ok (.iinc 6 1, 3) := dk_132 6 1 (dk_at dksX8_players_6 11 rfl rfl)
theorem dX8_players_155 : decode cX8_players 155 = .ok (.goto (-80), 3) := dk_167 255 176 (dk_at dksX8_players_6 14 rfl rfl)
theorem dX8_players_158 : decode cX8_players 158 = .ok (.iload 5, 2) := dk_21 5 (dk_at dksX8_players_6 17 rfl rfl)
theorem dX8_players_160 : decode cX8_players 160 = .ok (.ireturn, 1) := dk_172 (dk_at dksX8_players_6 19 rfl rfl)
abbrev cX8_taken : ByteArray := prog_16_method_83_code
def yX8_taken : MethodName := ⟨RX8, "taken", "(II)I"⟩
def dkwX8_taken_2 : List UInt8 := [62, 167, 255, 241, 29, 28, 160, 0, 14, 42, 180, 0, 29, 7, 27, 104, 46, 167, 0, 5, 16, 243, 172]
abbrev dktX8_taken_2 : List UInt8 := dkwX8_taken_2 ++ []
def dkwX8_taken_1 : List UInt8 := [16, 245, 172, 42, 180, 0, 26, 27, 46, 62, 29, 2, 159, 0, 16, 29, 28, 159, 0, 11, 29, 184, 1, 107]
abbrev dktX8_taken_1 : List UInt8 := dkwX8_taken_1 ++ dktX8_taken_2
def dkwX8_taken_0 : List UInt8 := [28, 133, 9, 20, 0, 110, 184, 0, 64, 154, 0, 6, 16, 254, 172, 42, 27, 182, 0, 68, 154, 0, 6]
abbrev dktX8_taken_0 : List UInt8 := dkwX8_taken_0 ++ dktX8_taken_1
theorem dksX8_taken_0 : cX8_taken.data.toList.drop 0 = dktX8_taken_0 := by decide +kernel
theorem dksX8_taken_1 : cX8_taken.data.toList.drop 23 = dktX8_taken_1 := dk_seg dksX8_taken_0 23 rfl rfl
theorem dksX8_taken_2 : cX8_taken.data.toList.drop 47 = dktX8_taken_2 := dk_seg dksX8_taken_1 24 rfl rfl
theorem dX8_taken_0 : decode cX8_taken 0 = .ok (.iload_n 2, 1) := dk_28 (dk_at dksX8_taken_0 0 rfl rfl)
theorem dX8_taken_1 : decode cX8_taken 1 = .ok (.i2l, 1) := dk_133 (dk_at dksX8_taken_0 1 rfl rfl)
theorem dX8_taken_2 : decode cX8_taken 2 = .ok (.lconst 0, 1) := dk_9 (dk_at dksX8_taken_0 2 rfl rfl)
theorem dX8_taken_3 : decode cX8_taken 3 = .ok (.ldc2_w 110, 3) := dk_20 0 110 (dk_at dksX8_taken_0 3 rfl rfl)
theorem dX8_taken_6 : decode cX8_taken 6 = .ok (.invokestatic 64, 3) := dk_184 0 64 (dk_at dksX8_taken_0 6 rfl rfl)
theorem dX8_taken_9 : decode cX8_taken 9 = .ok (.ifCond .ne 6, 3) := dk_154 0 6 (dk_at dksX8_taken_0 9 rfl rfl)
theorem dX8_taken_12 : decode cX8_taken 12 = .ok (.bipush (-2), 2) := dk_16 254 (dk_at dksX8_taken_0 12 rfl rfl)
theorem dX8_taken_14 : decode cX8_taken 14 = .ok (.ireturn, 1) := dk_172 (dk_at dksX8_taken_0 14 rfl rfl)
theorem dX8_taken_15 : decode cX8_taken 15 = .ok (.aload_n 0, 1) := dk_42 (dk_at dksX8_taken_0 15 rfl rfl)
theorem dX8_taken_16 : decode cX8_taken 16 = .ok (.iload_n 1, 1) := dk_27 (dk_at dksX8_taken_0 16 rfl rfl)
theorem dX8_taken_17 : decode cX8_taken 17 = .ok (.invokevirtual 68, 3) := dk_182 0 68 (dk_at dksX8_taken_0 17 rfl rfl)
theorem dX8_taken_20 : decode cX8_taken 20 = .ok (.ifCond .ne 6, 3) := dk_154 0 6 (dk_at dksX8_taken_0 20 rfl rfl)
theorem dX8_taken_23 : decode cX8_taken 23 = .ok (.bipush (-11), 2) := dk_16 245 (dk_at dksX8_taken_1 0 rfl rfl)
theorem dX8_taken_25 : decode cX8_taken 25 = .ok (.ireturn, 1) := dk_172 (dk_at dksX8_taken_1 2 rfl rfl)
theorem dX8_taken_26 : decode cX8_taken 26 = .ok (.aload_n 0, 1) := dk_42 (dk_at dksX8_taken_1 3 rfl rfl)
theorem dX8_taken_27 : decode cX8_taken 27 = .ok (.getfield 26, 3) := dk_180 0 26 (dk_at dksX8_taken_1 4 rfl rfl)
theorem dX8_taken_30 : decode cX8_taken 30 = .ok (.iload_n 1, 1) := dk_27 (dk_at dksX8_taken_1 7 rfl rfl)
theorem dX8_taken_31 : decode cX8_taken 31 = .ok (.iaload, 1) := dk_46 (dk_at dksX8_taken_1 8 rfl rfl)
theorem dX8_taken_32 : decode cX8_taken 32 = .ok (.istore_n 3, 1) := dk_62 (dk_at dksX8_taken_1 9 rfl rfl)
theorem dX8_taken_33 : decode cX8_taken 33 = .ok (.iload_n 3, 1) := dk_29 (dk_at dksX8_taken_1 10 rfl rfl)
theorem dX8_taken_34 : decode cX8_taken 34 = .ok (.iconst (-1), 1) := dk_2 (dk_at dksX8_taken_1 11 rfl rfl)
theorem dX8_taken_35 : decode cX8_taken 35 = .ok (.if_icmp .eq 16, 3) := dk_159 0 16 (dk_at dksX8_taken_1 12 rfl rfl)
theorem dX8_taken_38 : decode cX8_taken 38 = .ok (.iload_n 3, 1) := dk_29 (dk_at dksX8_taken_1 15 rfl rfl)
theorem dX8_taken_39 : decode cX8_taken 39 = .ok (.iload_n 2, 1) := dk_28 (dk_at dksX8_taken_1 16 rfl rfl)
theorem dX8_taken_40 : decode cX8_taken 40 = .ok (.if_icmp .eq 11, 3) := dk_159 0 11 (dk_at dksX8_taken_1 17 rfl rfl)
theorem dX8_taken_43 : decode cX8_taken 43 = .ok (.iload_n 3, 1) := dk_29 (dk_at dksX8_taken_1 20 rfl rfl)
theorem dX8_taken_44 : decode cX8_taken 44 = .ok (.invokestatic 363, 3) := dk_184 1 107 (dk_at dksX8_taken_1 21 rfl rfl)
theorem dX8_taken_47 : decode cX8_taken 47 = .ok (.istore_n 3, 1) := dk_62 (dk_at dksX8_taken_2 0 rfl rfl)
theorem dX8_taken_48 : decode cX8_taken 48 = .ok (.goto (-15), 3) := dk_167 255 241 (dk_at dksX8_taken_2 1 rfl rfl)
theorem dX8_taken_51 : decode cX8_taken 51 = .ok (.iload_n 3, 1) := dk_29 (dk_at dksX8_taken_2 4 rfl rfl)
theorem dX8_taken_52 : decode cX8_taken 52 = .ok (.iload_n 2, 1) := dk_28 (dk_at dksX8_taken_2 5 rfl rfl)
theorem dX8_taken_53 : decode cX8_taken 53 = .ok (.if_icmp .ne 14, 3) := dk_160 0 14 (dk_at dksX8_taken_2 6 rfl rfl)
theorem dX8_taken_56 : decode cX8_taken 56 = .ok (.aload_n 0, 1) := dk_42 (dk_at dksX8_taken_2 9 rfl rfl)
theorem dX8_taken_57 : decode cX8_taken 57 = .ok (.getfield 29, 3) := dk_180 0 29 (dk_at dksX8_taken_2 10 rfl rfl)
theorem dX8_taken_60 : decode cX8_taken 60 = .ok (.iconst 4, 1) := dk_7 (dk_at dksX8_taken_2 13 rfl rfl)
theorem dX8_taken_61 : decode cX8_taken 61 = .ok (.iload_n 1, 1) := dk_27 (dk_at dksX8_taken_2 14 rfl rfl)
theorem dX8_taken_62 : decode cX8_taken 62 = .ok (.imul, 1) := dk_104 (dk_at dksX8_taken_2 15 rfl rfl)
theorem dX8_taken_63 : decode cX8_taken 63 = .ok (.iaload, 1) := dk_46 (dk_at dksX8_taken_2 16 rfl rfl)
theorem dX8_taken_64 : decode cX8_taken 64 = .ok (.goto 5, 3) := dk_167 0 5 (dk_at dksX8_taken_2 17 rfl rfl)
theorem dX8_taken_67 : decode cX8_taken 67 = .ok (.bipush (-13), 2) := dk_16 243 (dk_at dksX8_taken_2 20 rfl rfl)
theorem dX8_taken_69 : decode cX8_taken 69 = .ok (.ireturn, 1) := dk_172 (dk_at dksX8_taken_2 22 rfl rfl)
abbrev cX8_over : ByteArray := prog_16_method_82_code
def yX8_over : MethodName := ⟨RX8, "over", "(I)I"⟩
def dkwX8_over_1 : List UInt8 := [167, 0, 4, 3, 172]
abbrev dktX8_over_1 : List UInt8 := dkwX8_over_1 ++ []
def dkwX8_over_0 : List UInt8 := [26, 154, 0, 7, 2, 167, 0, 22, 26, 6, 160, 0, 7, 4, 167, 0, 13, 26, 7, 160, 0, 7, 5]
abbrev dktX8_over_0 : List UInt8 := dkwX8_over_0 ++ dktX8_over_1
theorem dksX8_over_0 : cX8_over.data.toList.drop 0 = dktX8_over_0 := by decide +kernel
theorem dksX8_over_1 : cX8_over.data.toList.drop 23 = dktX8_over_1 := dk_seg dksX8_over_0 23 rfl rfl
theorem dX8_over_0 : decode cX8_over 0 = .ok (.iload_n 0, 1) := dk_26 (dk_at dksX8_over_0 0 rfl rfl)
theorem dX8_over_1 : decode cX8_over 1 = .ok (.ifCond .ne 7, 3) := dk_154 0 7 (dk_at dksX8_over_0 1 rfl rfl)
theorem dX8_over_4 : decode cX8_over 4 = .ok (.iconst (-1), 1) := dk_2 (dk_at dksX8_over_0 4 rfl rfl)
theorem dX8_over_5 : decode cX8_over 5 = .ok (.goto 22, 3) := dk_167 0 22 (dk_at dksX8_over_0 5 rfl rfl)
theorem dX8_over_8 : decode cX8_over 8 = .ok (.iload_n 0, 1) := dk_26 (dk_at dksX8_over_0 8 rfl rfl)
theorem dX8_over_9 : decode cX8_over 9 = .ok (.iconst 3, 1) := dk_6 (dk_at dksX8_over_0 9 rfl rfl)
theorem dX8_over_10 : decode cX8_over 10 = .ok (.if_icmp .ne 7, 3) := dk_160 0 7 (dk_at dksX8_over_0 10 rfl rfl)
theorem dX8_over_13 : decode cX8_over 13 = .ok (.iconst 1, 1) := dk_4 (dk_at dksX8_over_0 13 rfl rfl)
theorem dX8_over_14 : decode cX8_over 14 = .ok (.goto 13, 3) := dk_167 0 13 (dk_at dksX8_over_0 14 rfl rfl)
theorem dX8_over_17 : decode cX8_over 17 = .ok (.iload_n 0, 1) := dk_26 (dk_at dksX8_over_0 17 rfl rfl)
theorem dX8_over_18 : decode cX8_over 18 = .ok (.iconst 4, 1) := dk_7 (dk_at dksX8_over_0 18 rfl rfl)
theorem dX8_over_19 : decode cX8_over 19 = .ok (.if_icmp .ne 7, 3) := dk_160 0 7 (dk_at dksX8_over_0 19 rfl rfl)
theorem dX8_over_22 : decode cX8_over 22 = .ok (.iconst 2, 1) := dk_5 (dk_at dksX8_over_0 22 rfl rfl)
theorem dX8_over_23 : decode cX8_over 23 = .ok (.goto 4, 3) := dk_167 0 4 (dk_at dksX8_over_1 0 rfl rfl)
theorem dX8_over_26 : decode cX8_over 26 = .ok (.iconst 0, 1) := dk_3 (dk_at dksX8_over_1 3 rfl rfl)
theorem dX8_over_27 : decode cX8_over 27 = .ok (.ireturn, 1) := dk_172 (dk_at dksX8_over_1 4 rfl rfl)
theorem q122 : (Jvm.Cond.initialized "LoserKeepsTheBoardModel") ∈ lw_all := lw_g (lw_at lw_m1 18 rfl) rfl
theorem q1260 : (Jvm.Cond.instantiable "LoserKeepsTheBoardModel" (41 : Nat)) ∈ lw_all := lw_g (lw_at lw_m5 196 rfl) rfl
theorem q1262 : (Jvm.Cond.instanceMethod ({ cls := "LoserKeepsTheBoardModel", name := "<init>", desc := "()V" } : Jvm.MethodName)) ∈ lw_all := lw_g (lw_at lw_m5 198 rfl) rfl
theorem q1263 : (Jvm.Cond.code ({ cls := "LoserKeepsTheBoardModel", name := "<init>", desc := "()V" } : Jvm.MethodName) prog_16_method_4_code (1 : Nat) (Option.none : Option Jvm.ClassFile.FieldType)) ∈ lw_all := lw_g (lw_at lw_m5 199 rfl) rfl
theorem q1264 : (Jvm.Cond.methodLink "LoserKeepsTheBoardModel" (7 : Nat) ({ cls := "java/lang/Object", name := "<init>", desc := "()V" } : Jvm.MethodName)) ∈ lw_all := lw_g (lw_at lw_m5 200 rfl) rfl
theorem q1265 : (Jvm.Cond.methodLink "LoserKeepsTheBoardModel" (54 : Nat) ({ cls := "LoserKeepsTheBoardModel", name := "spell", desc := "(IIIIIIIII)V" } : Jvm.MethodName)) ∈ lw_all := lw_g (lw_at lw_m5 201 rfl) rfl
theorem q1266 : (Jvm.Cond.privateMethod ({ cls := "LoserKeepsTheBoardModel", name := "spell", desc := "(IIIIIIIII)V" } : Jvm.MethodName)) ∈ lw_tbl := lw_at lw_m5 202 rfl
theorem q1267 : (Jvm.Cond.instanceMethod ({ cls := "LoserKeepsTheBoardModel", name := "spell", desc := "(IIIIIIIII)V" } : Jvm.MethodName)) ∈ lw_all := lw_g (lw_at lw_m5 203 rfl) rfl
theorem q1268 : (Jvm.Cond.code ({ cls := "LoserKeepsTheBoardModel", name := "spell", desc := "(IIIIIIIII)V" } : Jvm.MethodName) prog_16_method_5_code (10 : Nat) (Option.none : Option Jvm.ClassFile.FieldType)) ∈ lw_all := lw_g (lw_at lw_m5 204 rfl) rfl
theorem q1269 : (Jvm.Cond.fieldLink "LoserKeepsTheBoardModel" (13 : Nat) "LoserKeepsTheBoardModel" "texts" "[I") ∈ lw_all := lw_g (lw_at lw_m5 205 rfl) rfl
theorem q1270 : (Jvm.Cond.fieldLink "LoserKeepsTheBoardModel" (17 : Nat) "LoserKeepsTheBoardModel" "textSize" "[I") ∈ lw_all := lw_g (lw_at lw_m5 206 rfl) rfl
theorem q1271 : (Jvm.Cond.fieldLink "LoserKeepsTheBoardModel" (58 : Nat) "LoserKeepsTheBoardModel" "textCount" "I") ∈ lw_all := lw_g (lw_at lw_m5 207 rfl) rfl
theorem q1272 : (Jvm.Cond.fieldLink "LoserKeepsTheBoardModel" (107 : Nat) "LoserKeepsTheBoardModel" "rule" "I") ∈ lw_all := lw_g (lw_at lw_m5 208 rfl) rfl
theorem q1273 : (Jvm.Cond.fieldLink "LoserKeepsTheBoardModel" (20 : Nat) "LoserKeepsTheBoardModel" "tape" "[I") ∈ lw_all := lw_g (lw_at lw_m5 209 rfl) rfl
theorem q1274 : (Jvm.Cond.fieldLink "LoserKeepsTheBoardModel" (127 : Nat) "LoserKeepsTheBoardModel" "taped" "I") ∈ lw_all := lw_g (lw_at lw_m5 210 rfl) rfl
theorem q1275 : (Jvm.Cond.fieldLink "LoserKeepsTheBoardModel" (100 : Nat) "LoserKeepsTheBoardModel" "roundNow" "I") ∈ lw_all := lw_g (lw_at lw_m5 211 rfl) rfl
theorem q1276 : (Jvm.Cond.fieldLink "LoserKeepsTheBoardModel" (23 : Nat) "LoserKeepsTheBoardModel" "hall" "I") ∈ lw_all := lw_g (lw_at lw_m5 212 rfl) rfl
theorem q1277 : (Jvm.Cond.fieldLink "LoserKeepsTheBoardModel" (26 : Nat) "LoserKeepsTheBoardModel" "kinds" "[I") ∈ lw_all := lw_g (lw_at lw_m5 213 rfl) rfl
theorem q1278 : (Jvm.Cond.fieldLink "LoserKeepsTheBoardModel" (29 : Nat) "LoserKeepsTheBoardModel" "rows" "[I") ∈ lw_all := lw_g (lw_at lw_m5 214 rfl) rfl
theorem q1279 : (Jvm.Cond.fieldLink "LoserKeepsTheBoardModel" (61 : Nat) "LoserKeepsTheBoardModel" "many" "I") ∈ lw_all := lw_g (lw_at lw_m5 215 rfl) rfl
theorem q1280 : (Jvm.Cond.fieldLink "LoserKeepsTheBoardModel" (185 : Nat) "LoserKeepsTheBoardModel" "ofStrong" "I") ∈ lw_all := lw_g (lw_at lw_m5 216 rfl) rfl
theorem q1281 : (Jvm.Cond.fieldLink "LoserKeepsTheBoardModel" (188 : Nat) "LoserKeepsTheBoardModel" "ofHas" "I") ∈ lw_all := lw_g (lw_at lw_m5 217 rfl) rfl
theorem q1282 : (Jvm.Cond.fieldLink "LoserKeepsTheBoardModel" (191 : Nat) "LoserKeepsTheBoardModel" "ofNumber" "I") ∈ lw_all := lw_g (lw_at lw_m5 218 rfl) rfl
theorem q1283 : (Jvm.Cond.fieldLink "LoserKeepsTheBoardModel" (194 : Nat) "LoserKeepsTheBoardModel" "ofTheirs" "I") ∈ lw_all := lw_g (lw_at lw_m5 219 rfl) rfl
theorem q1284 : (Jvm.Cond.fieldLink "LoserKeepsTheBoardModel" (197 : Nat) "LoserKeepsTheBoardModel" "ofRound" "I") ∈ lw_all := lw_g (lw_at lw_m5 220 rfl) rfl
theorem q1285 : (Jvm.Cond.fieldLink "LoserKeepsTheBoardModel" (200 : Nat) "LoserKeepsTheBoardModel" "ofStake" "I") ∈ lw_all := lw_g (lw_at lw_m5 221 rfl) rfl
theorem q1286 : (Jvm.Cond.fieldLink "LoserKeepsTheBoardModel" (133 : Nat) "LoserKeepsTheBoardModel" "from" "I") ∈ lw_all := lw_g (lw_at lw_m5 222 rfl) rfl
theorem q1287 : (Jvm.Cond.fieldLink "LoserKeepsTheBoardModel" (130 : Nat) "LoserKeepsTheBoardModel" "size" "I") ∈ lw_all := lw_g (lw_at lw_m5 223 rfl) rfl
theorem q1288 : (Jvm.Cond.fieldLink "LoserKeepsTheBoardModel" (136 : Nat) "LoserKeepsTheBoardModel" "here" "I") ∈ lw_all := lw_g (lw_at lw_m5 224 rfl) rfl
theorem q1289 : (Jvm.Cond.fieldLink "LoserKeepsTheBoardModel" (145 : Nat) "LoserKeepsTheBoardModel" "token" "I") ∈ lw_all := lw_g (lw_at lw_m5 225 rfl) rfl
theorem q1290 : (Jvm.Cond.fieldLink "LoserKeepsTheBoardModel" (142 : Nat) "LoserKeepsTheBoardModel" "tokenAt" "I") ∈ lw_all := lw_g (lw_at lw_m5 226 rfl) rfl
theorem q1291 : (Jvm.Cond.fieldLink "LoserKeepsTheBoardModel" (156 : Nat) "LoserKeepsTheBoardModel" "tokenWorth" "J") ∈ lw_all := lw_g (lw_at lw_m5 227 rfl) rfl
theorem q1292 : (Jvm.Cond.fieldLink "LoserKeepsTheBoardModel" (172 : Nat) "LoserKeepsTheBoardModel" "open" "I") ∈ lw_all := lw_g (lw_at lw_m5 228 rfl) rfl
theorem q1293 : (Jvm.Cond.fieldLink "LoserKeepsTheBoardModel" (162 : Nat) "LoserKeepsTheBoardModel" "bad" "Z") ∈ lw_all := lw_g (lw_at lw_m5 229 rfl) rfl
theorem q1294 : (Jvm.Cond.fieldLink "LoserKeepsTheBoardModel" (166 : Nat) "LoserKeepsTheBoardModel" "fault" "I") ∈ lw_all := lw_g (lw_at lw_m5 230 rfl) rfl
theorem q1295 : (Jvm.Cond.fieldLink "LoserKeepsTheBoardModel" (32 : Nat) "LoserKeepsTheBoardModel" "aside" "[I") ∈ lw_all := lw_g (lw_at lw_m5 231 rfl) rfl
theorem q1296 : (Jvm.Cond.fieldLink "LoserKeepsTheBoardModel" (266 : Nat) "LoserKeepsTheBoardModel" "asideMany" "I") ∈ lw_all := lw_g (lw_at lw_m5 232 rfl) rfl
theorem q1297 : (Jvm.Cond.fieldLink "LoserKeepsTheBoardModel" (313 : Nat) "LoserKeepsTheBoardModel" "bestDigits" "I") ∈ lw_all := lw_g (lw_at lw_m5 233 rfl) rfl
theorem q1298 : (Jvm.Cond.fieldLink "LoserKeepsTheBoardModel" (316 : Nat) "LoserKeepsTheBoardModel" "bestMany" "I") ∈ lw_all := lw_g (lw_at lw_m5 234 rfl) rfl
theorem q1299 : (Jvm.Cond.fieldLink "LoserKeepsTheBoardModel" (322 : Nat) "LoserKeepsTheBoardModel" "allSet" "I") ∈ lw_all := lw_g (lw_at lw_m5 235 rfl) rfl
theorem q1300 : (Jvm.Cond.fieldLink "LoserKeepsTheBoardModel" (35 : Nat) "LoserKeepsTheBoardModel" "rowsKept" "[I") ∈ lw_all := lw_g (lw_at lw_m5 236 rfl) rfl
theorem q1301 : (Jvm.Cond.fieldLink "LoserKeepsTheBoardModel" (345 : Nat) "LoserKeepsTheBoardModel" "hallKept" "I") ∈ lw_all := lw_g (lw_at lw_m5 237 rfl) rfl
theorem q1302 : (Jvm.Cond.fieldLink "LoserKeepsTheBoardModel" (38 : Nat) "LoserKeepsTheBoardModel" "manyKept" "I") ∈ lw_all := lw_g (lw_at lw_m5 238 rfl) rfl
theorem q1303 : (Jvm.Cond.fieldLink "LoserKeepsTheBoardModel" (348 : Nat) "LoserKeepsTheBoardModel" "roundKept" "I") ∈ lw_all := lw_g (lw_at lw_m5 239 rfl) rfl
theorem q1304 : (Jvm.Cond.fieldLink "LoserKeepsTheBoardModel" (351 : Nat) "LoserKeepsTheBoardModel" "ruleKept" "I") ∈ lw_all := lw_g (lw_at lw_m6 0 rfl) rfl
theorem q1305 : (Jvm.Cond.fieldLink "LoserKeepsTheBoardModel" (41 : Nat) "LoserKeepsTheBoardModel" "isThere" "[Z") ∈ lw_all := lw_g (lw_at lw_m6 1 rfl) rfl
theorem q1306 : (Jvm.Cond.fieldLink "LoserKeepsTheBoardModel" (45 : Nat) "LoserKeepsTheBoardModel" "sorts" "[I") ∈ lw_all := lw_g (lw_at lw_m6 2 rfl) rfl
theorem q1307 : (Jvm.Cond.fieldLink "LoserKeepsTheBoardModel" (48 : Nat) "LoserKeepsTheBoardModel" "sheetSize" "[I") ∈ lw_all := lw_g (lw_at lw_m6 3 rfl) rfl
theorem q1308 : (Jvm.Cond.fieldLink "LoserKeepsTheBoardModel" (51 : Nat) "LoserKeepsTheBoardModel" "items" "[I") ∈ lw_all := lw_g (lw_at lw_m6 4 rfl) rfl
theorem q1309 : (Jvm.Cond.lays "LoserKeepsTheBoardModel" "LoserKeepsTheBoardModel" "thrown" "I") ∈ lw_all := lw_g (lw_at lw_m6 5 rfl) rfl
theorem q1310 : (Jvm.Cond.soleField "LoserKeepsTheBoardModel" "thrown") ∈ lw_all := lw_g (lw_at lw_m6 6 rfl) rfl
theorem q1311 : (Jvm.Cond.laysFinal "LoserKeepsTheBoardModel" "LoserKeepsTheBoardModel" "texts" "[I") ∈ lw_all := lw_g (lw_at lw_m6 7 rfl) rfl
theorem q1312 : (Jvm.Cond.soleField "LoserKeepsTheBoardModel" "texts") ∈ lw_all := lw_g (lw_at lw_m6 8 rfl) rfl
theorem q1313 : (Jvm.Cond.laysFinal "LoserKeepsTheBoardModel" "LoserKeepsTheBoardModel" "textSize" "[I") ∈ lw_all := lw_g (lw_at lw_m6 9 rfl) rfl
theorem q1314 : (Jvm.Cond.soleField "LoserKeepsTheBoardModel" "textSize") ∈ lw_all := lw_g (lw_at lw_m6 10 rfl) rfl
theorem q1315 : (Jvm.Cond.lays "LoserKeepsTheBoardModel" "LoserKeepsTheBoardModel" "textCount" "I") ∈ lw_all := lw_g (lw_at lw_m6 11 rfl) rfl
theorem q1316 : (Jvm.Cond.soleField "LoserKeepsTheBoardModel" "textCount") ∈ lw_all := lw_g (lw_at lw_m6 12 rfl) rfl
theorem q1317 : (Jvm.Cond.lays "LoserKeepsTheBoardModel" "LoserKeepsTheBoardModel" "rule" "I") ∈ lw_all := lw_g (lw_at lw_m6 13 rfl) rfl
theorem q1318 : (Jvm.Cond.soleField "LoserKeepsTheBoardModel" "rule") ∈ lw_all := lw_g (lw_at lw_m6 14 rfl) rfl
theorem q1319 : (Jvm.Cond.laysFinal "LoserKeepsTheBoardModel" "LoserKeepsTheBoardModel" "tape" "[I") ∈ lw_all := lw_g (lw_at lw_m6 15 rfl) rfl
theorem q1320 : (Jvm.Cond.soleField "LoserKeepsTheBoardModel" "tape") ∈ lw_all := lw_g (lw_at lw_m6 16 rfl) rfl
theorem q1321 : (Jvm.Cond.lays "LoserKeepsTheBoardModel" "LoserKeepsTheBoardModel" "taped" "I") ∈ lw_all := lw_g (lw_at lw_m6 17 rfl) rfl
theorem q1322 : (Jvm.Cond.soleField "LoserKeepsTheBoardModel" "taped") ∈ lw_all := lw_g (lw_at lw_m6 18 rfl) rfl
theorem q1323 : (Jvm.Cond.lays "LoserKeepsTheBoardModel" "LoserKeepsTheBoardModel" "roundNow" "I") ∈ lw_all := lw_g (lw_at lw_m6 19 rfl) rfl
theorem q1324 : (Jvm.Cond.soleField "LoserKeepsTheBoardModel" "roundNow") ∈ lw_all := lw_g (lw_at lw_m6 20 rfl) rfl
theorem q1325 : (Jvm.Cond.lays "LoserKeepsTheBoardModel" "LoserKeepsTheBoardModel" "hall" "I") ∈ lw_all := lw_g (lw_at lw_m6 21 rfl) rfl
theorem q1326 : (Jvm.Cond.soleField "LoserKeepsTheBoardModel" "hall") ∈ lw_all := lw_g (lw_at lw_m6 22 rfl) rfl
theorem q1327 : (Jvm.Cond.laysFinal "LoserKeepsTheBoardModel" "LoserKeepsTheBoardModel" "kinds" "[I") ∈ lw_all := lw_g (lw_at lw_m6 23 rfl) rfl
theorem q1328 : (Jvm.Cond.soleField "LoserKeepsTheBoardModel" "kinds") ∈ lw_all := lw_g (lw_at lw_m6 24 rfl) rfl
theorem q1329 : (Jvm.Cond.laysFinal "LoserKeepsTheBoardModel" "LoserKeepsTheBoardModel" "rows" "[I") ∈ lw_all := lw_g (lw_at lw_m6 25 rfl) rfl
theorem q1330 : (Jvm.Cond.soleField "LoserKeepsTheBoardModel" "rows") ∈ lw_all := lw_g (lw_at lw_m6 26 rfl) rfl
theorem q1331 : (Jvm.Cond.lays "LoserKeepsTheBoardModel" "LoserKeepsTheBoardModel" "many" "I") ∈ lw_all := lw_g (lw_at lw_m6 27 rfl) rfl
theorem q1332 : (Jvm.Cond.soleField "LoserKeepsTheBoardModel" "many") ∈ lw_all := lw_g (lw_at lw_m6 28 rfl) rfl
theorem q1333 : (Jvm.Cond.lays "LoserKeepsTheBoardModel" "LoserKeepsTheBoardModel" "ofStrong" "I") ∈ lw_all := lw_g (lw_at lw_m6 29 rfl) rfl
theorem q1334 : (Jvm.Cond.soleField "LoserKeepsTheBoardModel" "ofStrong") ∈ lw_all := lw_g (lw_at lw_m6 30 rfl) rfl
theorem q1335 : (Jvm.Cond.lays "LoserKeepsTheBoardModel" "LoserKeepsTheBoardModel" "ofHas" "I") ∈ lw_all := lw_g (lw_at lw_m6 31 rfl) rfl
theorem q1336 : (Jvm.Cond.soleField "LoserKeepsTheBoardModel" "ofHas") ∈ lw_all := lw_g (lw_at lw_m6 32 rfl) rfl
theorem q1337 : (Jvm.Cond.lays "LoserKeepsTheBoardModel" "LoserKeepsTheBoardModel" "ofNumber" "I") ∈ lw_all := lw_g (lw_at lw_m6 33 rfl) rfl
theorem q1338 : (Jvm.Cond.soleField "LoserKeepsTheBoardModel" "ofNumber") ∈ lw_all := lw_g (lw_at lw_m6 34 rfl) rfl
theorem q1339 : (Jvm.Cond.lays "LoserKeepsTheBoardModel" "LoserKeepsTheBoardModel" "ofTheirs" "I") ∈ lw_all := lw_g (lw_at lw_m6 35 rfl) rfl
theorem q1340 : (Jvm.Cond.soleField "LoserKeepsTheBoardModel" "ofTheirs") ∈ lw_all := lw_g (lw_at lw_m6 36 rfl) rfl
theorem q1341 : (Jvm.Cond.lays "LoserKeepsTheBoardModel" "LoserKeepsTheBoardModel" "ofRound" "I") ∈ lw_all := lw_g (lw_at lw_m6 37 rfl) rfl
theorem q1342 : (Jvm.Cond.soleField "LoserKeepsTheBoardModel" "ofRound") ∈ lw_all := lw_g (lw_at lw_m6 38 rfl) rfl
theorem q1343 : (Jvm.Cond.lays "LoserKeepsTheBoardModel" "LoserKeepsTheBoardModel" "ofStake" "I") ∈ lw_all := lw_g (lw_at lw_m6 39 rfl) rfl
theorem q1344 : (Jvm.Cond.soleField "LoserKeepsTheBoardModel" "ofStake") ∈ lw_all := lw_g (lw_at lw_m6 40 rfl) rfl
theorem q1345 : (Jvm.Cond.lays "LoserKeepsTheBoardModel" "LoserKeepsTheBoardModel" "from" "I") ∈ lw_all := lw_g (lw_at lw_m6 41 rfl) rfl
theorem q1346 : (Jvm.Cond.soleField "LoserKeepsTheBoardModel" "from") ∈ lw_all := lw_g (lw_at lw_m6 42 rfl) rfl
theorem q1347 : (Jvm.Cond.lays "LoserKeepsTheBoardModel" "LoserKeepsTheBoardModel" "size" "I") ∈ lw_all := lw_g (lw_at lw_m6 43 rfl) rfl
theorem q1348 : (Jvm.Cond.soleField "LoserKeepsTheBoardModel" "size") ∈ lw_all := lw_g (lw_at lw_m6 44 rfl) rfl
theorem q1349 : (Jvm.Cond.lays "LoserKeepsTheBoardModel" "LoserKeepsTheBoardModel" "here" "I") ∈ lw_all := lw_g (lw_at lw_m6 45 rfl) rfl
theorem q1350 : (Jvm.Cond.soleField "LoserKeepsTheBoardModel" "here") ∈ lw_all := lw_g (lw_at lw_m6 46 rfl) rfl
theorem q1351 : (Jvm.Cond.lays "LoserKeepsTheBoardModel" "LoserKeepsTheBoardModel" "token" "I") ∈ lw_all := lw_g (lw_at lw_m6 47 rfl) rfl
theorem q1352 : (Jvm.Cond.soleField "LoserKeepsTheBoardModel" "token") ∈ lw_all := lw_g (lw_at lw_m6 48 rfl) rfl
theorem q1353 : (Jvm.Cond.lays "LoserKeepsTheBoardModel" "LoserKeepsTheBoardModel" "tokenAt" "I") ∈ lw_all := lw_g (lw_at lw_m6 49 rfl) rfl
theorem q1354 : (Jvm.Cond.soleField "LoserKeepsTheBoardModel" "tokenAt") ∈ lw_all := lw_g (lw_at lw_m6 50 rfl) rfl
theorem q1355 : (Jvm.Cond.lays "LoserKeepsTheBoardModel" "LoserKeepsTheBoardModel" "tokenWorth" "J") ∈ lw_all := lw_g (lw_at lw_m6 51 rfl) rfl
theorem q1356 : (Jvm.Cond.soleField "LoserKeepsTheBoardModel" "tokenWorth") ∈ lw_all := lw_g (lw_at lw_m6 52 rfl) rfl
theorem q1357 : (Jvm.Cond.lays "LoserKeepsTheBoardModel" "LoserKeepsTheBoardModel" "open" "I") ∈ lw_all := lw_g (lw_at lw_m6 53 rfl) rfl
theorem q1358 : (Jvm.Cond.soleField "LoserKeepsTheBoardModel" "open") ∈ lw_all := lw_g (lw_at lw_m6 54 rfl) rfl
theorem q1359 : (Jvm.Cond.lays "LoserKeepsTheBoardModel" "LoserKeepsTheBoardModel" "bad" "Z") ∈ lw_all := lw_g (lw_at lw_m6 55 rfl) rfl
theorem q1360 : (Jvm.Cond.soleField "LoserKeepsTheBoardModel" "bad") ∈ lw_all := lw_g (lw_at lw_m6 56 rfl) rfl
theorem q1361 : (Jvm.Cond.lays "LoserKeepsTheBoardModel" "LoserKeepsTheBoardModel" "fault" "I") ∈ lw_all := lw_g (lw_at lw_m6 57 rfl) rfl
theorem q1362 : (Jvm.Cond.soleField "LoserKeepsTheBoardModel" "fault") ∈ lw_all := lw_g (lw_at lw_m6 58 rfl) rfl
theorem q1363 : (Jvm.Cond.laysFinal "LoserKeepsTheBoardModel" "LoserKeepsTheBoardModel" "aside" "[I") ∈ lw_all := lw_g (lw_at lw_m6 59 rfl) rfl
theorem q1364 : (Jvm.Cond.soleField "LoserKeepsTheBoardModel" "aside") ∈ lw_all := lw_g (lw_at lw_m6 60 rfl) rfl
theorem q1365 : (Jvm.Cond.lays "LoserKeepsTheBoardModel" "LoserKeepsTheBoardModel" "asideMany" "I") ∈ lw_all := lw_g (lw_at lw_m6 61 rfl) rfl
theorem q1366 : (Jvm.Cond.soleField "LoserKeepsTheBoardModel" "asideMany") ∈ lw_all := lw_g (lw_at lw_m6 62 rfl) rfl
theorem q1367 : (Jvm.Cond.lays "LoserKeepsTheBoardModel" "LoserKeepsTheBoardModel" "bestDigits" "I") ∈ lw_all := lw_g (lw_at lw_m6 63 rfl) rfl
theorem q1368 : (Jvm.Cond.soleField "LoserKeepsTheBoardModel" "bestDigits") ∈ lw_all := lw_g (lw_at lw_m6 64 rfl) rfl
theorem q1369 : (Jvm.Cond.lays "LoserKeepsTheBoardModel" "LoserKeepsTheBoardModel" "bestMany" "I") ∈ lw_all := lw_g (lw_at lw_m6 65 rfl) rfl
theorem q1370 : (Jvm.Cond.soleField "LoserKeepsTheBoardModel" "bestMany") ∈ lw_all := lw_g (lw_at lw_m6 66 rfl) rfl
theorem q1371 : (Jvm.Cond.lays "LoserKeepsTheBoardModel" "LoserKeepsTheBoardModel" "allSet" "I") ∈ lw_all := lw_g (lw_at lw_m6 67 rfl) rfl
theorem q1372 : (Jvm.Cond.soleField "LoserKeepsTheBoardModel" "allSet") ∈ lw_all := lw_g (lw_at lw_m6 68 rfl) rfl
theorem q1373 : (Jvm.Cond.laysFinal "LoserKeepsTheBoardModel" "LoserKeepsTheBoardModel" "rowsKept" "[I") ∈ lw_all := lw_g (lw_at lw_m6 69 rfl) rfl
theorem q1374 : (Jvm.Cond.soleField "LoserKeepsTheBoardModel" "rowsKept") ∈ lw_all := lw_g (lw_at lw_m6 70 rfl) rfl
theorem q1375 : (Jvm.Cond.lays "LoserKeepsTheBoardModel" "LoserKeepsTheBoardModel" "hallKept" "I") ∈ lw_all := lw_g (lw_at lw_m6 71 rfl) rfl
theorem q1376 : (Jvm.Cond.soleField "LoserKeepsTheBoardModel" "hallKept") ∈ lw_all := lw_g (lw_at lw_m6 72 rfl) rfl
theorem q1377 : (Jvm.Cond.lays "LoserKeepsTheBoardModel" "LoserKeepsTheBoardModel" "manyKept" "I") ∈ lw_all := lw_g (lw_at lw_m6 73 rfl) rfl
theorem q1378 : (Jvm.Cond.soleField "LoserKeepsTheBoardModel" "manyKept") ∈ lw_all := lw_g (lw_at lw_m6 74 rfl) rfl
theorem q1379 : (Jvm.Cond.lays "LoserKeepsTheBoardModel" "LoserKeepsTheBoardModel" "roundKept" "I") ∈ lw_all := lw_g (lw_at lw_m6 75 rfl) rfl
theorem q1380 : (Jvm.Cond.soleField "LoserKeepsTheBoardModel" "roundKept") ∈ lw_all := lw_g (lw_at lw_m6 76 rfl) rfl
theorem q1381 : (Jvm.Cond.lays "LoserKeepsTheBoardModel" "LoserKeepsTheBoardModel" "ruleKept" "I") ∈ lw_all := lw_g (lw_at lw_m6 77 rfl) rfl
theorem q1382 : (Jvm.Cond.soleField "LoserKeepsTheBoardModel" "ruleKept") ∈ lw_all := lw_g (lw_at lw_m6 78 rfl) rfl
theorem q1383 : (Jvm.Cond.laysFinal "LoserKeepsTheBoardModel" "LoserKeepsTheBoardModel" "isThere" "[Z") ∈ lw_all := lw_g (lw_at lw_m6 79 rfl) rfl
theorem q1384 : (Jvm.Cond.soleField "LoserKeepsTheBoardModel" "isThere") ∈ lw_all := lw_g (lw_at lw_m6 80 rfl) rfl
theorem q1385 : (Jvm.Cond.laysFinal "LoserKeepsTheBoardModel" "LoserKeepsTheBoardModel" "sorts" "[I") ∈ lw_all := lw_g (lw_at lw_m6 81 rfl) rfl
theorem q1386 : (Jvm.Cond.soleField "LoserKeepsTheBoardModel" "sorts") ∈ lw_all := lw_g (lw_at lw_m6 82 rfl) rfl
theorem q1387 : (Jvm.Cond.laysFinal "LoserKeepsTheBoardModel" "LoserKeepsTheBoardModel" "sheetSize" "[I") ∈ lw_all := lw_g (lw_at lw_m6 83 rfl) rfl
theorem q1388 : (Jvm.Cond.soleField "LoserKeepsTheBoardModel" "sheetSize") ∈ lw_all := lw_g (lw_at lw_m6 84 rfl) rfl
theorem q1389 : (Jvm.Cond.laysFinal "LoserKeepsTheBoardModel" "LoserKeepsTheBoardModel" "items" "[I") ∈ lw_all := lw_g (lw_at lw_m6 85 rfl) rfl
theorem q1390 : (Jvm.Cond.soleField "LoserKeepsTheBoardModel" "items") ∈ lw_all := lw_g (lw_at lw_m6 86 rfl) rfl
theorem q1391 : (Jvm.Cond.superclass "LoserKeepsTheBoardModel" "java/lang/Object") ∈ lw_all := lw_g (lw_at lw_m6 87 rfl) rfl
theorem q1394 : (Jvm.Cond.instanceMethod ({ cls := "LoserKeepsTheBoardModel", name := "set", desc := "(III)I" } : Jvm.MethodName)) ∈ lw_all := lw_g (lw_at lw_m6 90 rfl) rfl
theorem q1395 : (Jvm.Cond.selects "LoserKeepsTheBoardModel" ({ cls := "LoserKeepsTheBoardModel", name := "set", desc := "(III)I" } : Jvm.MethodName) ({ cls := "LoserKeepsTheBoardModel", name := "set", desc := "(III)I" } : Jvm.MethodName)) ∈ lw_all := lw_g (lw_at lw_m6 91 rfl) rfl
theorem q1396 : (Jvm.Cond.code ({ cls := "LoserKeepsTheBoardModel", name := "set", desc := "(III)I" } : Jvm.MethodName) prog_16_method_11_code (5 : Nat) (Option.some Jvm.ClassFile.FieldType.int)) ∈ lw_all := lw_g (lw_at lw_m6 92 rfl) rfl
theorem q1397 : (Jvm.Cond.constantLong "LoserKeepsTheBoardModel" (83 : Nat) (3 : Int64)) ∈ lw_all := lw_g (lw_at lw_m6 93 rfl) rfl
theorem q1398 : (Jvm.Cond.methodLink "LoserKeepsTheBoardModel" (64 : Nat) ({ cls := "LoserKeepsTheBoardModel", name := "in", desc := "(JJJ)Z" } : Jvm.MethodName)) ∈ lw_all := lw_g (lw_at lw_m6 94 rfl) rfl
theorem q1399 : (Jvm.Cond.static ({ cls := "LoserKeepsTheBoardModel", name := "in", desc := "(JJJ)Z" } : Jvm.MethodName)) ∈ lw_all := lw_g (lw_at lw_m6 95 rfl) rfl
theorem q1400 : (Jvm.Cond.code ({ cls := "LoserKeepsTheBoardModel", name := "in", desc := "(JJJ)Z" } : Jvm.MethodName) prog_16_method_2_code (6 : Nat) (Option.some Jvm.ClassFile.FieldType.boolean)) ∈ lw_all := lw_g (lw_at lw_m6 96 rfl) rfl
theorem q1401 : (Jvm.Cond.methodLink "LoserKeepsTheBoardModel" (85 : Nat) ({ cls := "LoserKeepsTheBoardModel", name := "isOf", desc := "(II)Z" } : Jvm.MethodName)) ∈ lw_all := lw_g (lw_at lw_m6 97 rfl) rfl
theorem q1402 : (Jvm.Cond.privateMethod ({ cls := "LoserKeepsTheBoardModel", name := "isOf", desc := "(II)Z" } : Jvm.MethodName)) ∈ lw_tbl := lw_at lw_m6 98 rfl
theorem q1403 : (Jvm.Cond.instanceMethod ({ cls := "LoserKeepsTheBoardModel", name := "isOf", desc := "(II)Z" } : Jvm.MethodName)) ∈ lw_all := lw_g (lw_at lw_m6 99 rfl) rfl
theorem q1404 : (Jvm.Cond.code ({ cls := "LoserKeepsTheBoardModel", name := "isOf", desc := "(II)Z" } : Jvm.MethodName) prog_16_method_9_code (3 : Nat) (Option.some Jvm.ClassFile.FieldType.boolean)) ∈ lw_all := lw_g (lw_at lw_m6 100 rfl) rfl
theorem q1405 : (Jvm.Cond.methodLink "LoserKeepsTheBoardModel" (74 : Nat) ({ cls := "LoserKeepsTheBoardModel", name := "isThing", desc := "(I)Z" } : Jvm.MethodName)) ∈ lw_all := lw_g (lw_at lw_m6 101 rfl) rfl
theorem q1406 : (Jvm.Cond.static ({ cls := "LoserKeepsTheBoardModel", name := "isThing", desc := "(I)Z" } : Jvm.MethodName)) ∈ lw_all := lw_g (lw_at lw_m6 102 rfl) rfl
theorem q1407 : (Jvm.Cond.code ({ cls := "LoserKeepsTheBoardModel", name := "isThing", desc := "(I)Z" } : Jvm.MethodName) prog_16_method_8_code (1 : Nat) (Option.some Jvm.ClassFile.FieldType.boolean)) ∈ lw_all := lw_g (lw_at lw_m6 103 rfl) rfl
theorem q1408 : (Jvm.Cond.constantLong "LoserKeepsTheBoardModel" (72 : Nat) (7 : Int64)) ∈ lw_all := lw_g (lw_at lw_m6 104 rfl) rfl
theorem q1409 : (Jvm.Cond.methodLink "LoserKeepsTheBoardModel" (68 : Nat) ({ cls := "LoserKeepsTheBoardModel", name := "isOne", desc := "(I)Z" } : Jvm.MethodName)) ∈ lw_all := lw_g (lw_at lw_m6 105 rfl) rfl
theorem q1410 : (Jvm.Cond.privateMethod ({ cls := "LoserKeepsTheBoardModel", name := "isOne", desc := "(I)Z" } : Jvm.MethodName)) ∈ lw_tbl := lw_at lw_m6 106 rfl
theorem q1411 : (Jvm.Cond.instanceMethod ({ cls := "LoserKeepsTheBoardModel", name := "isOne", desc := "(I)Z" } : Jvm.MethodName)) ∈ lw_all := lw_g (lw_at lw_m6 107 rfl) rfl
theorem q1412 : (Jvm.Cond.code ({ cls := "LoserKeepsTheBoardModel", name := "isOne", desc := "(I)Z" } : Jvm.MethodName) prog_16_method_6_code (2 : Nat) (Option.some Jvm.ClassFile.FieldType.boolean)) ∈ lw_all := lw_g (lw_at lw_m6 108 rfl) rfl
theorem q1413 : (Jvm.Cond.methodLink "LoserKeepsTheBoardModel" (89 : Nat) ({ cls := "LoserKeepsTheBoardModel", name := "isValue", desc := "(II)Z" } : Jvm.MethodName)) ∈ lw_all := lw_g (lw_at lw_m6 109 rfl) rfl
theorem q1414 : (Jvm.Cond.privateMethod ({ cls := "LoserKeepsTheBoardModel", name := "isValue", desc := "(II)Z" } : Jvm.MethodName)) ∈ lw_tbl := lw_at lw_m6 110 rfl
theorem q1415 : (Jvm.Cond.instanceMethod ({ cls := "LoserKeepsTheBoardModel", name := "isValue", desc := "(II)Z" } : Jvm.MethodName)) ∈ lw_all := lw_g (lw_at lw_m6 111 rfl) rfl
theorem q1416 : (Jvm.Cond.code ({ cls := "LoserKeepsTheBoardModel", name := "isValue", desc := "(II)Z" } : Jvm.MethodName) prog_16_method_10_code (3 : Nat) (Option.some Jvm.ClassFile.FieldType.boolean)) ∈ lw_all := lw_g (lw_at lw_m6 112 rfl) rfl
theorem q1417 : (Jvm.Cond.constantLong "LoserKeepsTheBoardModel" (77 : Nat) (999 : Int64)) ∈ lw_all := lw_g (lw_at lw_m6 113 rfl) rfl
theorem q1418 : (Jvm.Cond.constantLong "LoserKeepsTheBoardModel" (79 : Nat) (9 : Int64)) ∈ lw_all := lw_g (lw_at lw_m6 114 rfl) rfl
theorem q1419 : (Jvm.Cond.constantLong "LoserKeepsTheBoardModel" (81 : Nat) (99 : Int64)) ∈ lw_all := lw_g (lw_at lw_m6 115 rfl) rfl
theorem q1420 : (Jvm.Cond.methodLink "LoserKeepsTheBoardModel" (92 : Nat) ({ cls := "LoserKeepsTheBoardModel", name := "told", desc := "(II)I" } : Jvm.MethodName)) ∈ lw_all := lw_g (lw_at lw_m6 116 rfl) rfl
theorem q1421 : (Jvm.Cond.instanceMethod ({ cls := "LoserKeepsTheBoardModel", name := "told", desc := "(II)I" } : Jvm.MethodName)) ∈ lw_all := lw_g (lw_at lw_m6 117 rfl) rfl
theorem q1422 : (Jvm.Cond.selects "LoserKeepsTheBoardModel" ({ cls := "LoserKeepsTheBoardModel", name := "told", desc := "(II)I" } : Jvm.MethodName) ({ cls := "LoserKeepsTheBoardModel", name := "told", desc := "(II)I" } : Jvm.MethodName)) ∈ lw_all := lw_g (lw_at lw_m6 118 rfl) rfl
theorem q1423 : (Jvm.Cond.code ({ cls := "LoserKeepsTheBoardModel", name := "told", desc := "(II)I" } : Jvm.MethodName) prog_16_method_19_code (3 : Nat) (Option.some Jvm.ClassFile.FieldType.int)) ∈ lw_all := lw_g (lw_at lw_m6 119 rfl) rfl
theorem q1424 : (Jvm.Cond.methodLink "LoserKeepsTheBoardModel" (119 : Nat) ({ cls := "LoserKeepsTheBoardModel", name := "whereIs", desc := "(I)I" } : Jvm.MethodName)) ∈ lw_all := lw_g (lw_at lw_m6 120 rfl) rfl
theorem q1425 : (Jvm.Cond.privateMethod ({ cls := "LoserKeepsTheBoardModel", name := "whereIs", desc := "(I)I" } : Jvm.MethodName)) ∈ lw_tbl := lw_at lw_m6 121 rfl
theorem q1426 : (Jvm.Cond.instanceMethod ({ cls := "LoserKeepsTheBoardModel", name := "whereIs", desc := "(I)I" } : Jvm.MethodName)) ∈ lw_all := lw_g (lw_at lw_m6 122 rfl) rfl
theorem q1427 : (Jvm.Cond.code ({ cls := "LoserKeepsTheBoardModel", name := "whereIs", desc := "(I)I" } : Jvm.MethodName) prog_16_method_15_code (3 : Nat) (Option.some Jvm.ClassFile.FieldType.int)) ∈ lw_all := lw_g (lw_at lw_m6 123 rfl) rfl
theorem q1428 : (Jvm.Cond.methodLink "LoserKeepsTheBoardModel" (112 : Nat) ({ cls := "LoserKeepsTheBoardModel", name := "has", desc := "(I)I" } : Jvm.MethodName)) ∈ lw_all := lw_g (lw_at lw_m6 124 rfl) rfl
theorem q1429 : (Jvm.Cond.privateMethod ({ cls := "LoserKeepsTheBoardModel", name := "has", desc := "(I)I" } : Jvm.MethodName)) ∈ lw_tbl := lw_at lw_m6 125 rfl
theorem q1430 : (Jvm.Cond.instanceMethod ({ cls := "LoserKeepsTheBoardModel", name := "has", desc := "(I)I" } : Jvm.MethodName)) ∈ lw_all := lw_g (lw_at lw_m6 126 rfl) rfl
theorem q1431 : (Jvm.Cond.code ({ cls := "LoserKeepsTheBoardModel", name := "has", desc := "(I)I" } : Jvm.MethodName) prog_16_method_17_code (2 : Nat) (Option.some Jvm.ClassFile.FieldType.int)) ∈ lw_all := lw_g (lw_at lw_m6 127 rfl) rfl
theorem q1432 : (Jvm.Cond.methodLink "LoserKeepsTheBoardModel" (122 : Nat) ({ cls := "LoserKeepsTheBoardModel", name := "hasMany", desc := "(I)I" } : Jvm.MethodName)) ∈ lw_all := lw_g (lw_at lw_m6 128 rfl) rfl
theorem q1433 : (Jvm.Cond.privateMethod ({ cls := "LoserKeepsTheBoardModel", name := "hasMany", desc := "(I)I" } : Jvm.MethodName)) ∈ lw_tbl := lw_at lw_m6 129 rfl
theorem q1434 : (Jvm.Cond.instanceMethod ({ cls := "LoserKeepsTheBoardModel", name := "hasMany", desc := "(I)I" } : Jvm.MethodName)) ∈ lw_all := lw_g (lw_at lw_m6 130 rfl) rfl
theorem q1435 : (Jvm.Cond.code ({ cls := "LoserKeepsTheBoardModel", name := "hasMany", desc := "(I)I" } : Jvm.MethodName) prog_16_method_18_code (2 : Nat) (Option.some Jvm.ClassFile.FieldType.int)) ∈ lw_all := lw_g (lw_at lw_m6 131 rfl) rfl
theorem q1436 : (Jvm.Cond.methodLink "LoserKeepsTheBoardModel" (116 : Nat) ({ cls := "LoserKeepsTheBoardModel", name := "bitsOf", desc := "(I)I" } : Jvm.MethodName)) ∈ lw_all := lw_g (lw_at lw_m6 132 rfl) rfl
theorem q1437 : (Jvm.Cond.static ({ cls := "LoserKeepsTheBoardModel", name := "bitsOf", desc := "(I)I" } : Jvm.MethodName)) ∈ lw_all := lw_g (lw_at lw_m6 133 rfl) rfl
theorem q1438 : (Jvm.Cond.code ({ cls := "LoserKeepsTheBoardModel", name := "bitsOf", desc := "(I)I" } : Jvm.MethodName) prog_16_method_16_code (3 : Nat) (Option.some Jvm.ClassFile.FieldType.int)) ∈ lw_all := lw_g (lw_at lw_m6 134 rfl) rfl
theorem q1439 : (Jvm.Cond.methodLink "LoserKeepsTheBoardModel" (96 : Nat) ({ cls := "LoserKeepsTheBoardModel", name := "lays", desc := "(III)V" } : Jvm.MethodName)) ∈ lw_all := lw_g (lw_at lw_m6 135 rfl) rfl
theorem q1440 : (Jvm.Cond.privateMethod ({ cls := "LoserKeepsTheBoardModel", name := "lays", desc := "(III)V" } : Jvm.MethodName)) ∈ lw_tbl := lw_at lw_m6 136 rfl
theorem q1441 : (Jvm.Cond.instanceMethod ({ cls := "LoserKeepsTheBoardModel", name := "lays", desc := "(III)V" } : Jvm.MethodName)) ∈ lw_all := lw_g (lw_at lw_m6 137 rfl) rfl
theorem q1442 : (Jvm.Cond.code ({ cls := "LoserKeepsTheBoardModel", name := "lays", desc := "(III)V" } : Jvm.MethodName) prog_16_method_12_code (4 : Nat) (Option.none : Option Jvm.ClassFile.FieldType)) ∈ lw_all := lw_g (lw_at lw_m6 138 rfl) rfl
theorem q1443 : (Jvm.Cond.methodLink "LoserKeepsTheBoardModel" (103 : Nat) ({ cls := "LoserKeepsTheBoardModel", name := "moves", desc := "(II)V" } : Jvm.MethodName)) ∈ lw_all := lw_g (lw_at lw_m6 139 rfl) rfl
theorem q1444 : (Jvm.Cond.privateMethod ({ cls := "LoserKeepsTheBoardModel", name := "moves", desc := "(II)V" } : Jvm.MethodName)) ∈ lw_tbl := lw_at lw_m6 140 rfl
theorem q1445 : (Jvm.Cond.instanceMethod ({ cls := "LoserKeepsTheBoardModel", name := "moves", desc := "(II)V" } : Jvm.MethodName)) ∈ lw_all := lw_g (lw_at lw_m6 141 rfl) rfl
theorem q1446 : (Jvm.Cond.code ({ cls := "LoserKeepsTheBoardModel", name := "moves", desc := "(II)V" } : Jvm.MethodName) prog_16_method_13_code (5 : Nat) (Option.none : Option Jvm.ClassFile.FieldType)) ∈ lw_all := lw_g (lw_at lw_m6 142 rfl) rfl
theorem q1448 : (Jvm.Cond.instanceMethod ({ cls := "LoserKeepsTheBoardModel", name := "player", desc := "(II)I" } : Jvm.MethodName)) ∈ lw_all := lw_g (lw_at lw_m6 144 rfl) rfl
theorem q1449 : (Jvm.Cond.selects "LoserKeepsTheBoardModel" ({ cls := "LoserKeepsTheBoardModel", name := "player", desc := "(II)I" } : Jvm.MethodName) ({ cls := "LoserKeepsTheBoardModel", name := "player", desc := "(II)I" } : Jvm.MethodName)) ∈ lw_all := lw_g (lw_at lw_m6 145 rfl) rfl
theorem q1450 : (Jvm.Cond.code ({ cls := "LoserKeepsTheBoardModel", name := "player", desc := "(II)I" } : Jvm.MethodName) prog_16_method_14_code (3 : Nat) (Option.some Jvm.ClassFile.FieldType.int)) ∈ lw_all := lw_g (lw_at lw_m6 146 rfl) rfl
theorem q1451 : (Jvm.Cond.constantLong "LoserKeepsTheBoardModel" (110 : Nat) (5 : Int64)) ∈ lw_all := lw_g (lw_at lw_m6 147 rfl) rfl
theorem q1454 : (Jvm.Cond.instanceMethod ({ cls := "LoserKeepsTheBoardModel", name := "feed", desc := "(I)I" } : Jvm.MethodName)) ∈ lw_all := lw_g (lw_at lw_m6 150 rfl) rfl
theorem q1455 : (Jvm.Cond.selects "LoserKeepsTheBoardModel" ({ cls := "LoserKeepsTheBoardModel", name := "feed", desc := "(I)I" } : Jvm.MethodName) ({ cls := "LoserKeepsTheBoardModel", name := "feed", desc := "(I)I" } : Jvm.MethodName)) ∈ lw_all := lw_g (lw_at lw_m6 151 rfl) rfl
theorem q1456 : (Jvm.Cond.code ({ cls := "LoserKeepsTheBoardModel", name := "feed", desc := "(I)I" } : Jvm.MethodName) prog_16_method_20_code (2 : Nat) (Option.some Jvm.ClassFile.FieldType.int)) ∈ lw_all := lw_g (lw_at lw_m6 152 rfl) rfl
theorem q1457 : (Jvm.Cond.constantLong "LoserKeepsTheBoardModel" (125 : Nat) (255 : Int64)) ∈ lw_all := lw_g (lw_at lw_m6 153 rfl) rfl
theorem q1459 : (Jvm.Cond.instanceMethod ({ cls := "LoserKeepsTheBoardModel", name := "text", desc := "()I" } : Jvm.MethodName)) ∈ lw_all := lw_g (lw_at lw_m6 155 rfl) rfl
theorem q1460 : (Jvm.Cond.selects "LoserKeepsTheBoardModel" ({ cls := "LoserKeepsTheBoardModel", name := "text", desc := "()I" } : Jvm.MethodName) ({ cls := "LoserKeepsTheBoardModel", name := "text", desc := "()I" } : Jvm.MethodName)) ∈ lw_all := lw_g (lw_at lw_m6 156 rfl) rfl
theorem q1461 : (Jvm.Cond.code ({ cls := "LoserKeepsTheBoardModel", name := "text", desc := "()I" } : Jvm.MethodName) prog_16_method_37_code (2 : Nat) (Option.some Jvm.ClassFile.FieldType.int)) ∈ lw_all := lw_g (lw_at lw_m6 157 rfl) rfl
theorem q1462 : (Jvm.Cond.methodLink "LoserKeepsTheBoardModel" (240 : Nat) ({ cls := "LoserKeepsTheBoardModel", name := "read", desc := "(II)I" } : Jvm.MethodName)) ∈ lw_all := lw_g (lw_at lw_m6 158 rfl) rfl
theorem q1463 : (Jvm.Cond.privateMethod ({ cls := "LoserKeepsTheBoardModel", name := "read", desc := "(II)I" } : Jvm.MethodName)) ∈ lw_tbl := lw_at lw_m6 159 rfl
theorem q1464 : (Jvm.Cond.instanceMethod ({ cls := "LoserKeepsTheBoardModel", name := "read", desc := "(II)I" } : Jvm.MethodName)) ∈ lw_all := lw_g (lw_at lw_m6 160 rfl) rfl
theorem q1465 : (Jvm.Cond.code ({ cls := "LoserKeepsTheBoardModel", name := "read", desc := "(II)I" } : Jvm.MethodName) prog_16_method_36_code (6 : Nat) (Option.some Jvm.ClassFile.FieldType.int)) ∈ lw_all := lw_g (lw_at lw_m6 161 rfl) rfl
theorem q1466 : (Jvm.Cond.methodLink "LoserKeepsTheBoardModel" (178 : Nat) ({ cls := "LoserKeepsTheBoardModel", name := "next", desc := "()V" } : Jvm.MethodName)) ∈ lw_all := lw_g (lw_at lw_m6 162 rfl) rfl
theorem q1467 : (Jvm.Cond.privateMethod ({ cls := "LoserKeepsTheBoardModel", name := "next", desc := "()V" } : Jvm.MethodName)) ∈ lw_tbl := lw_at lw_m6 163 rfl
theorem q1468 : (Jvm.Cond.instanceMethod ({ cls := "LoserKeepsTheBoardModel", name := "next", desc := "()V" } : Jvm.MethodName)) ∈ lw_all := lw_g (lw_at lw_m6 164 rfl) rfl
theorem q1469 : (Jvm.Cond.code ({ cls := "LoserKeepsTheBoardModel", name := "next", desc := "()V" } : Jvm.MethodName) prog_16_method_22_code (3 : Nat) (Option.none : Option Jvm.ClassFile.FieldType)) ∈ lw_all := lw_g (lw_at lw_m6 165 rfl) rfl
theorem q1470 : (Jvm.Cond.methodLink "LoserKeepsTheBoardModel" (139 : Nat) ({ cls := "LoserKeepsTheBoardModel", name := "byteAt", desc := "(I)I" } : Jvm.MethodName)) ∈ lw_all := lw_g (lw_at lw_m6 166 rfl) rfl
theorem q1471 : (Jvm.Cond.privateMethod ({ cls := "LoserKeepsTheBoardModel", name := "byteAt", desc := "(I)I" } : Jvm.MethodName)) ∈ lw_tbl := lw_at lw_m6 167 rfl
theorem q1472 : (Jvm.Cond.instanceMethod ({ cls := "LoserKeepsTheBoardModel", name := "byteAt", desc := "(I)I" } : Jvm.MethodName)) ∈ lw_all := lw_g (lw_at lw_m6 168 rfl) rfl
theorem q1473 : (Jvm.Cond.code ({ cls := "LoserKeepsTheBoardModel", name := "byteAt", desc := "(I)I" } : Jvm.MethodName) prog_16_method_21_code (2 : Nat) (Option.some Jvm.ClassFile.FieldType.int)) ∈ lw_all := lw_g (lw_at lw_m6 169 rfl) rfl
theorem q1474 : (Jvm.Cond.constantLong "LoserKeepsTheBoardModel" (148 : Nat) (97 : Int64)) ∈ lw_all := lw_g (lw_at lw_m6 170 rfl) rfl
theorem q1475 : (Jvm.Cond.constantLong "LoserKeepsTheBoardModel" (150 : Nat) (122 : Int64)) ∈ lw_all := lw_g (lw_at lw_m6 171 rfl) rfl
theorem q1476 : (Jvm.Cond.constantLong "LoserKeepsTheBoardModel" (152 : Nat) (48 : Int64)) ∈ lw_all := lw_g (lw_at lw_m6 172 rfl) rfl
theorem q1477 : (Jvm.Cond.constantLong "LoserKeepsTheBoardModel" (154 : Nat) (57 : Int64)) ∈ lw_all := lw_g (lw_at lw_m6 173 rfl) rfl
theorem q1478 : (Jvm.Cond.constantLong "LoserKeepsTheBoardModel" (160 : Nat) (10 : Int64)) ∈ lw_all := lw_g (lw_at lw_m6 174 rfl) rfl
theorem q1479 : (Jvm.Cond.methodLink "LoserKeepsTheBoardModel" (181 : Nat) ({ cls := "LoserKeepsTheBoardModel", name := "isWord", desc := "(IIIIIIII)Z" } : Jvm.MethodName)) ∈ lw_all := lw_g (lw_at lw_m6 175 rfl) rfl
theorem q1480 : (Jvm.Cond.privateMethod ({ cls := "LoserKeepsTheBoardModel", name := "isWord", desc := "(IIIIIIII)Z" } : Jvm.MethodName)) ∈ lw_tbl := lw_at lw_m6 176 rfl
theorem q1481 : (Jvm.Cond.instanceMethod ({ cls := "LoserKeepsTheBoardModel", name := "isWord", desc := "(IIIIIIII)Z" } : Jvm.MethodName)) ∈ lw_all := lw_g (lw_at lw_m6 177 rfl) rfl
theorem q1482 : (Jvm.Cond.code ({ cls := "LoserKeepsTheBoardModel", name := "isWord", desc := "(IIIIIIII)Z" } : Jvm.MethodName) prog_16_method_25_code (9 : Nat) (Option.some Jvm.ClassFile.FieldType.boolean)) ∈ lw_all := lw_g (lw_at lw_m6 178 rfl) rfl
theorem q1483 : (Jvm.Cond.methodLink "LoserKeepsTheBoardModel" (169 : Nat) ({ cls := "LoserKeepsTheBoardModel", name := "isLetter", desc := "(II)Z" } : Jvm.MethodName)) ∈ lw_all := lw_g (lw_at lw_m6 179 rfl) rfl
theorem q1484 : (Jvm.Cond.privateMethod ({ cls := "LoserKeepsTheBoardModel", name := "isLetter", desc := "(II)Z" } : Jvm.MethodName)) ∈ lw_tbl := lw_at lw_m6 180 rfl
theorem q1485 : (Jvm.Cond.instanceMethod ({ cls := "LoserKeepsTheBoardModel", name := "isLetter", desc := "(II)Z" } : Jvm.MethodName)) ∈ lw_all := lw_g (lw_at lw_m6 181 rfl) rfl
theorem q1486 : (Jvm.Cond.code ({ cls := "LoserKeepsTheBoardModel", name := "isLetter", desc := "(II)Z" } : Jvm.MethodName) prog_16_method_24_code (3 : Nat) (Option.some Jvm.ClassFile.FieldType.boolean)) ∈ lw_all := lw_g (lw_at lw_m6 182 rfl) rfl
theorem q1487 : (Jvm.Cond.methodLink "LoserKeepsTheBoardModel" (236 : Nat) ({ cls := "LoserKeepsTheBoardModel", name := "part", desc := "(Z)I" } : Jvm.MethodName)) ∈ lw_all := lw_g (lw_at lw_m6 183 rfl) rfl
theorem q1488 : (Jvm.Cond.privateMethod ({ cls := "LoserKeepsTheBoardModel", name := "part", desc := "(Z)I" } : Jvm.MethodName)) ∈ lw_tbl := lw_at lw_m6 184 rfl
theorem q1489 : (Jvm.Cond.instanceMethod ({ cls := "LoserKeepsTheBoardModel", name := "part", desc := "(Z)I" } : Jvm.MethodName)) ∈ lw_all := lw_g (lw_at lw_m6 185 rfl) rfl
theorem q1490 : (Jvm.Cond.code ({ cls := "LoserKeepsTheBoardModel", name := "part", desc := "(Z)I" } : Jvm.MethodName) prog_16_method_35_code (3 : Nat) (Option.some Jvm.ClassFile.FieldType.int)) ∈ lw_all := lw_g (lw_at lw_m6 186 rfl) rfl
theorem q1491 : (Jvm.Cond.methodLink "LoserKeepsTheBoardModel" (175 : Nat) ({ cls := "LoserKeepsTheBoardModel", name := "fail", desc := "()V" } : Jvm.MethodName)) ∈ lw_all := lw_g (lw_at lw_m6 187 rfl) rfl
theorem q1492 : (Jvm.Cond.privateMethod ({ cls := "LoserKeepsTheBoardModel", name := "fail", desc := "()V" } : Jvm.MethodName)) ∈ lw_tbl := lw_at lw_m6 188 rfl
theorem q1493 : (Jvm.Cond.instanceMethod ({ cls := "LoserKeepsTheBoardModel", name := "fail", desc := "()V" } : Jvm.MethodName)) ∈ lw_all := lw_g (lw_at lw_m6 189 rfl) rfl
theorem q1494 : (Jvm.Cond.code ({ cls := "LoserKeepsTheBoardModel", name := "fail", desc := "()V" } : Jvm.MethodName) prog_16_method_23_code (1 : Nat) (Option.none : Option Jvm.ClassFile.FieldType)) ∈ lw_all := lw_g (lw_at lw_m6 190 rfl) rfl
theorem q1495 : (Jvm.Cond.methodLink "LoserKeepsTheBoardModel" (214 : Nat) ({ cls := "LoserKeepsTheBoardModel", name := "either", desc := "()I" } : Jvm.MethodName)) ∈ lw_all := lw_g (lw_at lw_m6 191 rfl) rfl
theorem q1496 : (Jvm.Cond.privateMethod ({ cls := "LoserKeepsTheBoardModel", name := "either", desc := "()I" } : Jvm.MethodName)) ∈ lw_tbl := lw_at lw_m6 192 rfl
theorem q1497 : (Jvm.Cond.instanceMethod ({ cls := "LoserKeepsTheBoardModel", name := "either", desc := "()I" } : Jvm.MethodName)) ∈ lw_all := lw_g (lw_at lw_m6 193 rfl) rfl
theorem q1498 : (Jvm.Cond.code ({ cls := "LoserKeepsTheBoardModel", name := "either", desc := "()I" } : Jvm.MethodName) prog_16_method_34_code (3 : Nat) (Option.some Jvm.ClassFile.FieldType.int)) ∈ lw_all := lw_g (lw_at lw_m6 194 rfl) rfl
theorem q1499 : (Jvm.Cond.methodLink "LoserKeepsTheBoardModel" (233 : Nat) ({ cls := "LoserKeepsTheBoardModel", name := "both", desc := "()I" } : Jvm.MethodName)) ∈ lw_all := lw_g (lw_at lw_m6 195 rfl) rfl
theorem q1500 : (Jvm.Cond.privateMethod ({ cls := "LoserKeepsTheBoardModel", name := "both", desc := "()I" } : Jvm.MethodName)) ∈ lw_tbl := lw_at lw_m6 196 rfl
theorem q1501 : (Jvm.Cond.instanceMethod ({ cls := "LoserKeepsTheBoardModel", name := "both", desc := "()I" } : Jvm.MethodName)) ∈ lw_all := lw_g (lw_at lw_m6 197 rfl) rfl
theorem q1502 : (Jvm.Cond.code ({ cls := "LoserKeepsTheBoardModel", name := "both", desc := "()I" } : Jvm.MethodName) prog_16_method_33_code (3 : Nat) (Option.some Jvm.ClassFile.FieldType.int)) ∈ lw_all := lw_g (lw_at lw_m6 198 rfl) rfl
theorem q1503 : (Jvm.Cond.methodLink "LoserKeepsTheBoardModel" (225 : Nat) ({ cls := "LoserKeepsTheBoardModel", name := "not", desc := "()I" } : Jvm.MethodName)) ∈ lw_all := lw_g (lw_at lw_m6 199 rfl) rfl
theorem q1504 : (Jvm.Cond.privateMethod ({ cls := "LoserKeepsTheBoardModel", name := "not", desc := "()I" } : Jvm.MethodName)) ∈ lw_tbl := lw_at lw_m6 200 rfl
theorem q1505 : (Jvm.Cond.instanceMethod ({ cls := "LoserKeepsTheBoardModel", name := "not", desc := "()I" } : Jvm.MethodName)) ∈ lw_all := lw_g (lw_at lw_m6 201 rfl) rfl
theorem q1506 : (Jvm.Cond.code ({ cls := "LoserKeepsTheBoardModel", name := "not", desc := "()I" } : Jvm.MethodName) prog_16_method_32_code (4 : Nat) (Option.some Jvm.ClassFile.FieldType.int)) ∈ lw_all := lw_g (lw_at lw_m6 202 rfl) rfl
theorem q1507 : (Jvm.Cond.methodLink "LoserKeepsTheBoardModel" (206 : Nat) ({ cls := "LoserKeepsTheBoardModel", name := "opens", desc := "()Z" } : Jvm.MethodName)) ∈ lw_all := lw_g (lw_at lw_m6 203 rfl) rfl
theorem q1508 : (Jvm.Cond.privateMethod ({ cls := "LoserKeepsTheBoardModel", name := "opens", desc := "()Z" } : Jvm.MethodName)) ∈ lw_tbl := lw_at lw_m6 204 rfl
theorem q1509 : (Jvm.Cond.instanceMethod ({ cls := "LoserKeepsTheBoardModel", name := "opens", desc := "()Z" } : Jvm.MethodName)) ∈ lw_all := lw_g (lw_at lw_m6 205 rfl) rfl
theorem q1510 : (Jvm.Cond.code ({ cls := "LoserKeepsTheBoardModel", name := "opens", desc := "()Z" } : Jvm.MethodName) prog_16_method_27_code (1 : Nat) (Option.some Jvm.ClassFile.FieldType.boolean)) ∈ lw_all := lw_g (lw_at lw_m6 206 rfl) rfl
theorem q1511 : (Jvm.Cond.methodLink "LoserKeepsTheBoardModel" (228 : Nat) ({ cls := "LoserKeepsTheBoardModel", name := "added", desc := "()I" } : Jvm.MethodName)) ∈ lw_all := lw_g (lw_at lw_m6 207 rfl) rfl
theorem q1512 : (Jvm.Cond.privateMethod ({ cls := "LoserKeepsTheBoardModel", name := "added", desc := "()I" } : Jvm.MethodName)) ∈ lw_tbl := lw_at lw_m6 208 rfl
theorem q1513 : (Jvm.Cond.instanceMethod ({ cls := "LoserKeepsTheBoardModel", name := "added", desc := "()I" } : Jvm.MethodName)) ∈ lw_all := lw_g (lw_at lw_m6 209 rfl) rfl
theorem q1514 : (Jvm.Cond.code ({ cls := "LoserKeepsTheBoardModel", name := "added", desc := "()I" } : Jvm.MethodName) prog_16_method_31_code (4 : Nat) (Option.some Jvm.ClassFile.FieldType.int)) ∈ lw_all := lw_g (lw_at lw_m6 210 rfl) rfl
theorem q1515 : (Jvm.Cond.methodLink "LoserKeepsTheBoardModel" (220 : Nat) ({ cls := "LoserKeepsTheBoardModel", name := "term", desc := "()I" } : Jvm.MethodName)) ∈ lw_all := lw_g (lw_at lw_m6 211 rfl) rfl
theorem q1516 : (Jvm.Cond.privateMethod ({ cls := "LoserKeepsTheBoardModel", name := "term", desc := "()I" } : Jvm.MethodName)) ∈ lw_tbl := lw_at lw_m6 212 rfl
theorem q1517 : (Jvm.Cond.instanceMethod ({ cls := "LoserKeepsTheBoardModel", name := "term", desc := "()I" } : Jvm.MethodName)) ∈ lw_all := lw_g (lw_at lw_m6 213 rfl) rfl
theorem q1518 : (Jvm.Cond.code ({ cls := "LoserKeepsTheBoardModel", name := "term", desc := "()I" } : Jvm.MethodName) prog_16_method_30_code (2 : Nat) (Option.some Jvm.ClassFile.FieldType.int)) ∈ lw_all := lw_g (lw_at lw_m6 214 rfl) rfl
theorem q1519 : (Jvm.Cond.methodLink "LoserKeepsTheBoardModel" (210 : Nat) ({ cls := "LoserKeepsTheBoardModel", name := "atom", desc := "()I" } : Jvm.MethodName)) ∈ lw_all := lw_g (lw_at lw_m6 215 rfl) rfl
theorem q1520 : (Jvm.Cond.privateMethod ({ cls := "LoserKeepsTheBoardModel", name := "atom", desc := "()I" } : Jvm.MethodName)) ∈ lw_tbl := lw_at lw_m6 216 rfl
theorem q1521 : (Jvm.Cond.instanceMethod ({ cls := "LoserKeepsTheBoardModel", name := "atom", desc := "()I" } : Jvm.MethodName)) ∈ lw_all := lw_g (lw_at lw_m6 217 rfl) rfl
theorem q1522 : (Jvm.Cond.code ({ cls := "LoserKeepsTheBoardModel", name := "atom", desc := "()I" } : Jvm.MethodName) prog_16_method_29_code (2 : Nat) (Option.some Jvm.ClassFile.FieldType.int)) ∈ lw_all := lw_g (lw_at lw_m6 218 rfl) rfl
theorem q1523 : (Jvm.Cond.methodLink "LoserKeepsTheBoardModel" (203 : Nat) ({ cls := "LoserKeepsTheBoardModel", name := "isSign", desc := "(I)Z" } : Jvm.MethodName)) ∈ lw_all := lw_g (lw_at lw_m6 219 rfl) rfl
theorem q1524 : (Jvm.Cond.privateMethod ({ cls := "LoserKeepsTheBoardModel", name := "isSign", desc := "(I)Z" } : Jvm.MethodName)) ∈ lw_tbl := lw_at lw_m6 220 rfl
theorem q1525 : (Jvm.Cond.instanceMethod ({ cls := "LoserKeepsTheBoardModel", name := "isSign", desc := "(I)Z" } : Jvm.MethodName)) ∈ lw_all := lw_g (lw_at lw_m6 221 rfl) rfl
theorem q1526 : (Jvm.Cond.code ({ cls := "LoserKeepsTheBoardModel", name := "isSign", desc := "(I)Z" } : Jvm.MethodName) prog_16_method_26_code (2 : Nat) (Option.some Jvm.ClassFile.FieldType.boolean)) ∈ lw_all := lw_g (lw_at lw_m6 222 rfl) rfl
theorem q1527 : (Jvm.Cond.methodLink "LoserKeepsTheBoardModel" (217 : Nat) ({ cls := "LoserKeepsTheBoardModel", name := "name", desc := "()I" } : Jvm.MethodName)) ∈ lw_all := lw_g (lw_at lw_m6 223 rfl) rfl
theorem q1528 : (Jvm.Cond.privateMethod ({ cls := "LoserKeepsTheBoardModel", name := "name", desc := "()I" } : Jvm.MethodName)) ∈ lw_tbl := lw_at lw_m6 224 rfl
theorem q1529 : (Jvm.Cond.instanceMethod ({ cls := "LoserKeepsTheBoardModel", name := "name", desc := "()I" } : Jvm.MethodName)) ∈ lw_all := lw_g (lw_at lw_m6 225 rfl) rfl
theorem q1530 : (Jvm.Cond.code ({ cls := "LoserKeepsTheBoardModel", name := "name", desc := "()I" } : Jvm.MethodName) prog_16_method_28_code (1 : Nat) (Option.some Jvm.ClassFile.FieldType.int)) ∈ lw_all := lw_g (lw_at lw_m6 226 rfl) rfl
theorem q1531 : (Jvm.Cond.constantLong "LoserKeepsTheBoardModel" (223 : Nat) (43 : Int64)) ∈ lw_all := lw_g (lw_at lw_m6 227 rfl) rfl
theorem q1532 : (Jvm.Cond.constantLong "LoserKeepsTheBoardModel" (231 : Nat) (60 : Int64)) ∈ lw_all := lw_g (lw_at lw_m6 228 rfl) rfl
theorem q1534 : (Jvm.Cond.instanceMethod ({ cls := "LoserKeepsTheBoardModel", name := "force", desc := "(I)I" } : Jvm.MethodName)) ∈ lw_all := lw_g (lw_at lw_m6 230 rfl) rfl
theorem q1535 : (Jvm.Cond.selects "LoserKeepsTheBoardModel" ({ cls := "LoserKeepsTheBoardModel", name := "force", desc := "(I)I" } : Jvm.MethodName) ({ cls := "LoserKeepsTheBoardModel", name := "force", desc := "(I)I" } : Jvm.MethodName)) ∈ lw_all := lw_g (lw_at lw_m6 231 rfl) rfl
theorem q1536 : (Jvm.Cond.code ({ cls := "LoserKeepsTheBoardModel", name := "force", desc := "(I)I" } : Jvm.MethodName) prog_16_method_38_code (3 : Nat) (Option.some Jvm.ClassFile.FieldType.int)) ∈ lw_all := lw_g (lw_at lw_m6 232 rfl) rfl
theorem q1538 : (Jvm.Cond.instanceMethod ({ cls := "LoserKeepsTheBoardModel", name := "asks", desc := "(III)I" } : Jvm.MethodName)) ∈ lw_all := lw_g (lw_at lw_m6 234 rfl) rfl
theorem q1539 : (Jvm.Cond.selects "LoserKeepsTheBoardModel" ({ cls := "LoserKeepsTheBoardModel", name := "asks", desc := "(III)I" } : Jvm.MethodName) ({ cls := "LoserKeepsTheBoardModel", name := "asks", desc := "(III)I" } : Jvm.MethodName)) ∈ lw_all := lw_g (lw_at lw_m6 235 rfl) rfl
theorem q1540 : (Jvm.Cond.code ({ cls := "LoserKeepsTheBoardModel", name := "asks", desc := "(III)I" } : Jvm.MethodName) prog_16_method_48_code (4 : Nat) (Option.some Jvm.ClassFile.FieldType.int)) ∈ lw_all := lw_g (lw_at lw_m6 236 rfl) rfl
theorem q1541 : (Jvm.Cond.methodLink "LoserKeepsTheBoardModel" (269 : Nat) ({ cls := "LoserKeepsTheBoardModel", name := "areTwo", desc := "(II)Z" } : Jvm.MethodName)) ∈ lw_all := lw_g (lw_at lw_m6 237 rfl) rfl
theorem q1542 : (Jvm.Cond.privateMethod ({ cls := "LoserKeepsTheBoardModel", name := "areTwo", desc := "(II)Z" } : Jvm.MethodName)) ∈ lw_tbl := lw_at lw_m6 238 rfl
theorem q1543 : (Jvm.Cond.instanceMethod ({ cls := "LoserKeepsTheBoardModel", name := "areTwo", desc := "(II)Z" } : Jvm.MethodName)) ∈ lw_all := lw_g (lw_at lw_m6 239 rfl) rfl
theorem q1544 : (Jvm.Cond.code ({ cls := "LoserKeepsTheBoardModel", name := "areTwo", desc := "(II)Z" } : Jvm.MethodName) prog_16_method_7_code (3 : Nat) (Option.some Jvm.ClassFile.FieldType.boolean)) ∈ lw_all := lw_g (lw_at lw_m7 0 rfl) rfl
theorem q1545 : (Jvm.Cond.methodLink "LoserKeepsTheBoardModel" (256 : Nat) ({ cls := "LoserKeepsTheBoardModel", name := "powerOf", desc := "(II)I" } : Jvm.MethodName)) ∈ lw_all := lw_g (lw_at lw_m7 1 rfl) rfl
theorem q1546 : (Jvm.Cond.privateMethod ({ cls := "LoserKeepsTheBoardModel", name := "powerOf", desc := "(II)I" } : Jvm.MethodName)) ∈ lw_tbl := lw_at lw_m7 2 rfl
theorem q1547 : (Jvm.Cond.instanceMethod ({ cls := "LoserKeepsTheBoardModel", name := "powerOf", desc := "(II)I" } : Jvm.MethodName)) ∈ lw_all := lw_g (lw_at lw_m7 3 rfl) rfl
theorem q1548 : (Jvm.Cond.code ({ cls := "LoserKeepsTheBoardModel", name := "powerOf", desc := "(II)I" } : Jvm.MethodName) prog_16_method_42_code (3 : Nat) (Option.some Jvm.ClassFile.FieldType.int)) ∈ lw_all := lw_g (lw_at lw_m7 4 rfl) rfl
theorem q1549 : (Jvm.Cond.methodLink "LoserKeepsTheBoardModel" (250 : Nat) ({ cls := "LoserKeepsTheBoardModel", name := "throwsIt", desc := "(II)Z" } : Jvm.MethodName)) ∈ lw_all := lw_g (lw_at lw_m7 5 rfl) rfl
theorem q1550 : (Jvm.Cond.privateMethod ({ cls := "LoserKeepsTheBoardModel", name := "throwsIt", desc := "(II)Z" } : Jvm.MethodName)) ∈ lw_tbl := lw_at lw_m7 6 rfl
theorem q1551 : (Jvm.Cond.instanceMethod ({ cls := "LoserKeepsTheBoardModel", name := "throwsIt", desc := "(II)Z" } : Jvm.MethodName)) ∈ lw_all := lw_g (lw_at lw_m7 7 rfl) rfl
theorem q1552 : (Jvm.Cond.code ({ cls := "LoserKeepsTheBoardModel", name := "throwsIt", desc := "(II)Z" } : Jvm.MethodName) prog_16_method_40_code (6 : Nat) (Option.some Jvm.ClassFile.FieldType.boolean)) ∈ lw_all := lw_g (lw_at lw_m7 8 rfl) rfl
theorem q1553 : (Jvm.Cond.methodLink "LoserKeepsTheBoardModel" (247 : Nat) ({ cls := "LoserKeepsTheBoardModel", name := "says", desc := "(III)I" } : Jvm.MethodName)) ∈ lw_all := lw_g (lw_at lw_m7 9 rfl) rfl
theorem q1554 : (Jvm.Cond.privateMethod ({ cls := "LoserKeepsTheBoardModel", name := "says", desc := "(III)I" } : Jvm.MethodName)) ∈ lw_tbl := lw_at lw_m7 10 rfl
theorem q1555 : (Jvm.Cond.instanceMethod ({ cls := "LoserKeepsTheBoardModel", name := "says", desc := "(III)I" } : Jvm.MethodName)) ∈ lw_all := lw_g (lw_at lw_m7 11 rfl) rfl
theorem q1556 : (Jvm.Cond.code ({ cls := "LoserKeepsTheBoardModel", name := "says", desc := "(III)I" } : Jvm.MethodName) prog_16_method_39_code (5 : Nat) (Option.some Jvm.ClassFile.FieldType.int)) ∈ lw_all := lw_g (lw_at lw_m7 12 rfl) rfl
theorem q1557 : (Jvm.Cond.methodLink "LoserKeepsTheBoardModel" (243 : Nat) ({ cls := "LoserKeepsTheBoardModel", name := "within", desc := "(III)I" } : Jvm.MethodName)) ∈ lw_all := lw_g (lw_at lw_m7 13 rfl) rfl
theorem q1558 : (Jvm.Cond.static ({ cls := "LoserKeepsTheBoardModel", name := "within", desc := "(III)I" } : Jvm.MethodName)) ∈ lw_all := lw_g (lw_at lw_m7 14 rfl) rfl
theorem q1559 : (Jvm.Cond.code ({ cls := "LoserKeepsTheBoardModel", name := "within", desc := "(III)I" } : Jvm.MethodName) prog_16_method_3_code (3 : Nat) (Option.some Jvm.ClassFile.FieldType.int)) ∈ lw_all := lw_g (lw_at lw_m7 15 rfl) rfl
theorem q1560 : (Jvm.Cond.methodLink "LoserKeepsTheBoardModel" (253 : Nat) ({ cls := "LoserKeepsTheBoardModel", name := "playsOf", desc := "(II)I" } : Jvm.MethodName)) ∈ lw_all := lw_g (lw_at lw_m7 16 rfl) rfl
theorem q1561 : (Jvm.Cond.privateMethod ({ cls := "LoserKeepsTheBoardModel", name := "playsOf", desc := "(II)I" } : Jvm.MethodName)) ∈ lw_tbl := lw_at lw_m7 17 rfl
theorem q1562 : (Jvm.Cond.instanceMethod ({ cls := "LoserKeepsTheBoardModel", name := "playsOf", desc := "(II)I" } : Jvm.MethodName)) ∈ lw_all := lw_g (lw_at lw_m7 18 rfl) rfl
theorem q1563 : (Jvm.Cond.code ({ cls := "LoserKeepsTheBoardModel", name := "playsOf", desc := "(II)I" } : Jvm.MethodName) prog_16_method_41_code (7 : Nat) (Option.some Jvm.ClassFile.FieldType.int)) ∈ lw_all := lw_g (lw_at lw_m7 19 rfl) rfl
theorem q1564 : (Jvm.Cond.methodLink "LoserKeepsTheBoardModel" (259 : Nat) ({ cls := "LoserKeepsTheBoardModel", name := "winnerOf", desc := "(II)I" } : Jvm.MethodName)) ∈ lw_all := lw_g (lw_at lw_m7 20 rfl) rfl
theorem q1565 : (Jvm.Cond.privateMethod ({ cls := "LoserKeepsTheBoardModel", name := "winnerOf", desc := "(II)I" } : Jvm.MethodName)) ∈ lw_tbl := lw_at lw_m7 21 rfl
theorem q1566 : (Jvm.Cond.instanceMethod ({ cls := "LoserKeepsTheBoardModel", name := "winnerOf", desc := "(II)I" } : Jvm.MethodName)) ∈ lw_all := lw_g (lw_at lw_m7 22 rfl) rfl
theorem q1567 : (Jvm.Cond.code ({ cls := "LoserKeepsTheBoardModel", name := "winnerOf", desc := "(II)I" } : Jvm.MethodName) prog_16_method_44_code (5 : Nat) (Option.some Jvm.ClassFile.FieldType.int)) ∈ lw_all := lw_g (lw_at lw_m7 23 rfl) rfl
theorem q1568 : (Jvm.Cond.methodLink "LoserKeepsTheBoardModel" (262 : Nat) ({ cls := "LoserKeepsTheBoardModel", name := "tiresOf", desc := "(IIZ)I" } : Jvm.MethodName)) ∈ lw_all := lw_g (lw_at lw_m7 24 rfl) rfl
theorem q1569 : (Jvm.Cond.privateMethod ({ cls := "LoserKeepsTheBoardModel", name := "tiresOf", desc := "(IIZ)I" } : Jvm.MethodName)) ∈ lw_tbl := lw_at lw_m7 25 rfl
theorem q1570 : (Jvm.Cond.instanceMethod ({ cls := "LoserKeepsTheBoardModel", name := "tiresOf", desc := "(IIZ)I" } : Jvm.MethodName)) ∈ lw_all := lw_g (lw_at lw_m7 26 rfl) rfl
theorem q1571 : (Jvm.Cond.code ({ cls := "LoserKeepsTheBoardModel", name := "tiresOf", desc := "(IIZ)I" } : Jvm.MethodName) prog_16_method_43_code (7 : Nat) (Option.some Jvm.ClassFile.FieldType.int)) ∈ lw_all := lw_g (lw_at lw_m7 27 rfl) rfl
theorem q1572 : (Jvm.Cond.methodLink "LoserKeepsTheBoardModel" (272 : Nat) ({ cls := "LoserKeepsTheBoardModel", name := "hasBehind", desc := "(II)I" } : Jvm.MethodName)) ∈ lw_all := lw_g (lw_at lw_m7 28 rfl) rfl
theorem q1573 : (Jvm.Cond.privateMethod ({ cls := "LoserKeepsTheBoardModel", name := "hasBehind", desc := "(II)I" } : Jvm.MethodName)) ∈ lw_tbl := lw_at lw_m7 29 rfl
theorem q1574 : (Jvm.Cond.instanceMethod ({ cls := "LoserKeepsTheBoardModel", name := "hasBehind", desc := "(II)I" } : Jvm.MethodName)) ∈ lw_all := lw_g (lw_at lw_m7 30 rfl) rfl
theorem q1575 : (Jvm.Cond.code ({ cls := "LoserKeepsTheBoardModel", name := "hasBehind", desc := "(II)I" } : Jvm.MethodName) prog_16_method_49_code (4 : Nat) (Option.some Jvm.ClassFile.FieldType.int)) ∈ lw_all := lw_g (lw_at lw_m7 31 rfl) rfl
theorem q1576 : (Jvm.Cond.methodLink "LoserKeepsTheBoardModel" (275 : Nat) ({ cls := "LoserKeepsTheBoardModel", name := "laysAside", desc := "()V" } : Jvm.MethodName)) ∈ lw_all := lw_g (lw_at lw_m7 32 rfl) rfl
theorem q1577 : (Jvm.Cond.privateMethod ({ cls := "LoserKeepsTheBoardModel", name := "laysAside", desc := "()V" } : Jvm.MethodName)) ∈ lw_tbl := lw_at lw_m7 33 rfl
theorem q1578 : (Jvm.Cond.instanceMethod ({ cls := "LoserKeepsTheBoardModel", name := "laysAside", desc := "()V" } : Jvm.MethodName)) ∈ lw_all := lw_g (lw_at lw_m7 34 rfl) rfl
theorem q1579 : (Jvm.Cond.code ({ cls := "LoserKeepsTheBoardModel", name := "laysAside", desc := "()V" } : Jvm.MethodName) prog_16_method_46_code (2 : Nat) (Option.none : Option Jvm.ClassFile.FieldType)) ∈ lw_all := lw_g (lw_at lw_m7 35 rfl) rfl
theorem q1580 : (Jvm.Cond.methodLink "LoserKeepsTheBoardModel" (278 : Nat) ({ cls := "LoserKeepsTheBoardModel", name := "games", desc := "(II)I" } : Jvm.MethodName)) ∈ lw_all := lw_g (lw_at lw_m7 36 rfl) rfl
theorem q1581 : (Jvm.Cond.privateMethod ({ cls := "LoserKeepsTheBoardModel", name := "games", desc := "(II)I" } : Jvm.MethodName)) ∈ lw_tbl := lw_at lw_m7 37 rfl
theorem q1582 : (Jvm.Cond.instanceMethod ({ cls := "LoserKeepsTheBoardModel", name := "games", desc := "(II)I" } : Jvm.MethodName)) ∈ lw_all := lw_g (lw_at lw_m7 38 rfl) rfl
theorem q1583 : (Jvm.Cond.code ({ cls := "LoserKeepsTheBoardModel", name := "games", desc := "(II)I" } : Jvm.MethodName) prog_16_method_45_code (8 : Nat) (Option.some Jvm.ClassFile.FieldType.int)) ∈ lw_all := lw_g (lw_at lw_m7 39 rfl) rfl
theorem q1584 : (Jvm.Cond.methodLink "LoserKeepsTheBoardModel" (281 : Nat) ({ cls := "LoserKeepsTheBoardModel", name := "laysBack", desc := "()V" } : Jvm.MethodName)) ∈ lw_all := lw_g (lw_at lw_m7 40 rfl) rfl
theorem q1585 : (Jvm.Cond.privateMethod ({ cls := "LoserKeepsTheBoardModel", name := "laysBack", desc := "()V" } : Jvm.MethodName)) ∈ lw_tbl := lw_at lw_m7 41 rfl
theorem q1586 : (Jvm.Cond.instanceMethod ({ cls := "LoserKeepsTheBoardModel", name := "laysBack", desc := "()V" } : Jvm.MethodName)) ∈ lw_all := lw_g (lw_at lw_m7 42 rfl) rfl
theorem q1587 : (Jvm.Cond.code ({ cls := "LoserKeepsTheBoardModel", name := "laysBack", desc := "()V" } : Jvm.MethodName) prog_16_method_47_code (2 : Nat) (Option.none : Option Jvm.ClassFile.FieldType)) ∈ lw_all := lw_g (lw_at lw_m7 43 rfl) rfl
theorem q1589 : (Jvm.Cond.instanceMethod ({ cls := "LoserKeepsTheBoardModel", name := "game", desc := "(II)I" } : Jvm.MethodName)) ∈ lw_all := lw_g (lw_at lw_m7 45 rfl) rfl
theorem q1590 : (Jvm.Cond.selects "LoserKeepsTheBoardModel" ({ cls := "LoserKeepsTheBoardModel", name := "game", desc := "(II)I" } : Jvm.MethodName) ({ cls := "LoserKeepsTheBoardModel", name := "game", desc := "(II)I" } : Jvm.MethodName)) ∈ lw_all := lw_g (lw_at lw_m7 46 rfl) rfl
theorem q1591 : (Jvm.Cond.code ({ cls := "LoserKeepsTheBoardModel", name := "game", desc := "(II)I" } : Jvm.MethodName) prog_16_method_50_code (3 : Nat) (Option.some Jvm.ClassFile.FieldType.int)) ∈ lw_all := lw_g (lw_at lw_m7 47 rfl) rfl
theorem q1593 : (Jvm.Cond.instanceMethod ({ cls := "LoserKeepsTheBoardModel", name := "evening", desc := "(II)I" } : Jvm.MethodName)) ∈ lw_all := lw_g (lw_at lw_m7 49 rfl) rfl
theorem q1594 : (Jvm.Cond.selects "LoserKeepsTheBoardModel" ({ cls := "LoserKeepsTheBoardModel", name := "evening", desc := "(II)I" } : Jvm.MethodName) ({ cls := "LoserKeepsTheBoardModel", name := "evening", desc := "(II)I" } : Jvm.MethodName)) ∈ lw_all := lw_g (lw_at lw_m7 50 rfl) rfl
theorem q1595 : (Jvm.Cond.code ({ cls := "LoserKeepsTheBoardModel", name := "evening", desc := "(II)I" } : Jvm.MethodName) prog_16_method_54_code (6 : Nat) (Option.some Jvm.ClassFile.FieldType.int)) ∈ lw_all := lw_g (lw_at lw_m7 51 rfl) rfl
theorem q1596 : (Jvm.Cond.methodLink "LoserKeepsTheBoardModel" (286 : Nat) ({ cls := "LoserKeepsTheBoardModel", name := "isSheet", desc := "(I)Z" } : Jvm.MethodName)) ∈ lw_all := lw_g (lw_at lw_m7 52 rfl) rfl
theorem q1597 : (Jvm.Cond.static ({ cls := "LoserKeepsTheBoardModel", name := "isSheet", desc := "(I)Z" } : Jvm.MethodName)) ∈ lw_all := lw_g (lw_at lw_m7 53 rfl) rfl
theorem q1598 : (Jvm.Cond.code ({ cls := "LoserKeepsTheBoardModel", name := "isSheet", desc := "(I)Z" } : Jvm.MethodName) prog_16_method_77_code (1 : Nat) (Option.some Jvm.ClassFile.FieldType.boolean)) ∈ lw_all := lw_g (lw_at lw_m7 54 rfl) rfl
theorem q1599 : (Jvm.Cond.constantLong "LoserKeepsTheBoardModel" (289 : Nat) (8 : Int64)) ∈ lw_all := lw_g (lw_at lw_m7 55 rfl) rfl
theorem q1600 : (Jvm.Cond.methodLink "LoserKeepsTheBoardModel" (291 : Nat) ({ cls := "LoserKeepsTheBoardModel", name := "eveningBad", desc := "(I)I" } : Jvm.MethodName)) ∈ lw_all := lw_g (lw_at lw_m7 56 rfl) rfl
theorem q1601 : (Jvm.Cond.privateMethod ({ cls := "LoserKeepsTheBoardModel", name := "eveningBad", desc := "(I)I" } : Jvm.MethodName)) ∈ lw_tbl := lw_at lw_m7 57 rfl
theorem q1602 : (Jvm.Cond.instanceMethod ({ cls := "LoserKeepsTheBoardModel", name := "eveningBad", desc := "(I)I" } : Jvm.MethodName)) ∈ lw_all := lw_g (lw_at lw_m7 58 rfl) rfl
theorem q1603 : (Jvm.Cond.code ({ cls := "LoserKeepsTheBoardModel", name := "eveningBad", desc := "(I)I" } : Jvm.MethodName) prog_16_method_51_code (4 : Nat) (Option.some Jvm.ClassFile.FieldType.int)) ∈ lw_all := lw_g (lw_at lw_m7 59 rfl) rfl
theorem q1604 : (Jvm.Cond.constantLong "LoserKeepsTheBoardModel" (284 : Nat) (55 : Int64)) ∈ lw_all := lw_g (lw_at lw_m7 60 rfl) rfl
theorem q1605 : (Jvm.Cond.methodLink "LoserKeepsTheBoardModel" (294 : Nat) ({ cls := "LoserKeepsTheBoardModel", name := "goes", desc := "(I)I" } : Jvm.MethodName)) ∈ lw_all := lw_g (lw_at lw_m7 61 rfl) rfl
theorem q1606 : (Jvm.Cond.privateMethod ({ cls := "LoserKeepsTheBoardModel", name := "goes", desc := "(I)I" } : Jvm.MethodName)) ∈ lw_tbl := lw_at lw_m7 62 rfl
theorem q1607 : (Jvm.Cond.instanceMethod ({ cls := "LoserKeepsTheBoardModel", name := "goes", desc := "(I)I" } : Jvm.MethodName)) ∈ lw_all := lw_g (lw_at lw_m7 63 rfl) rfl
theorem q1608 : (Jvm.Cond.code ({ cls := "LoserKeepsTheBoardModel", name := "goes", desc := "(I)I" } : Jvm.MethodName) prog_16_method_52_code (5 : Nat) (Option.some Jvm.ClassFile.FieldType.int)) ∈ lw_all := lw_g (lw_at lw_m7 64 rfl) rfl
theorem q1609 : (Jvm.Cond.methodLink "LoserKeepsTheBoardModel" (297 : Nat) ({ cls := "LoserKeepsTheBoardModel", name := "richest", desc := "()I" } : Jvm.MethodName)) ∈ lw_all := lw_g (lw_at lw_m7 65 rfl) rfl
theorem q1610 : (Jvm.Cond.privateMethod ({ cls := "LoserKeepsTheBoardModel", name := "richest", desc := "()I" } : Jvm.MethodName)) ∈ lw_tbl := lw_at lw_m7 66 rfl
theorem q1611 : (Jvm.Cond.instanceMethod ({ cls := "LoserKeepsTheBoardModel", name := "richest", desc := "()I" } : Jvm.MethodName)) ∈ lw_all := lw_g (lw_at lw_m7 67 rfl) rfl
theorem q1612 : (Jvm.Cond.code ({ cls := "LoserKeepsTheBoardModel", name := "richest", desc := "()I" } : Jvm.MethodName) prog_16_method_53_code (3 : Nat) (Option.some Jvm.ClassFile.FieldType.int)) ∈ lw_all := lw_g (lw_at lw_m7 68 rfl) rfl
theorem q1614 : (Jvm.Cond.instanceMethod ({ cls := "LoserKeepsTheBoardModel", name := "play", desc := "(I)I" } : Jvm.MethodName)) ∈ lw_all := lw_g (lw_at lw_m7 70 rfl) rfl
theorem q1615 : (Jvm.Cond.selects "LoserKeepsTheBoardModel" ({ cls := "LoserKeepsTheBoardModel", name := "play", desc := "(I)I" } : Jvm.MethodName) ({ cls := "LoserKeepsTheBoardModel", name := "play", desc := "(I)I" } : Jvm.MethodName)) ∈ lw_all := lw_g (lw_at lw_m7 71 rfl) rfl
theorem q1616 : (Jvm.Cond.code ({ cls := "LoserKeepsTheBoardModel", name := "play", desc := "(I)I" } : Jvm.MethodName) prog_16_method_55_code (3 : Nat) (Option.some Jvm.ClassFile.FieldType.int)) ∈ lw_all := lw_g (lw_at lw_m7 72 rfl) rfl
theorem q1618 : (Jvm.Cond.instanceMethod ({ cls := "LoserKeepsTheBoardModel", name := "robin", desc := "(I)I" } : Jvm.MethodName)) ∈ lw_all := lw_g (lw_at lw_m7 74 rfl) rfl
theorem q1619 : (Jvm.Cond.selects "LoserKeepsTheBoardModel" ({ cls := "LoserKeepsTheBoardModel", name := "robin", desc := "(I)I" } : Jvm.MethodName) ({ cls := "LoserKeepsTheBoardModel", name := "robin", desc := "(I)I" } : Jvm.MethodName)) ∈ lw_all := lw_g (lw_at lw_m7 75 rfl) rfl
theorem q1620 : (Jvm.Cond.code ({ cls := "LoserKeepsTheBoardModel", name := "robin", desc := "(I)I" } : Jvm.MethodName) prog_16_method_60_code (3 : Nat) (Option.some Jvm.ClassFile.FieldType.int)) ∈ lw_all := lw_g (lw_at lw_m7 76 rfl) rfl
theorem q1621 : (Jvm.Cond.methodLink "LoserKeepsTheBoardModel" (307 : Nat) ({ cls := "LoserKeepsTheBoardModel", name := "apart", desc := "()I" } : Jvm.MethodName)) ∈ lw_all := lw_g (lw_at lw_m7 77 rfl) rfl
theorem q1622 : (Jvm.Cond.privateMethod ({ cls := "LoserKeepsTheBoardModel", name := "apart", desc := "()I" } : Jvm.MethodName)) ∈ lw_tbl := lw_at lw_m7 78 rfl
theorem q1623 : (Jvm.Cond.instanceMethod ({ cls := "LoserKeepsTheBoardModel", name := "apart", desc := "()I" } : Jvm.MethodName)) ∈ lw_all := lw_g (lw_at lw_m7 79 rfl) rfl
theorem q1624 : (Jvm.Cond.code ({ cls := "LoserKeepsTheBoardModel", name := "apart", desc := "()I" } : Jvm.MethodName) prog_16_method_58_code (6 : Nat) (Option.some Jvm.ClassFile.FieldType.int)) ∈ lw_all := lw_g (lw_at lw_m7 80 rfl) rfl
theorem q1625 : (Jvm.Cond.methodLink "LoserKeepsTheBoardModel" (304 : Nat) ({ cls := "LoserKeepsTheBoardModel", name := "hallBehind", desc := "(I)I" } : Jvm.MethodName)) ∈ lw_all := lw_g (lw_at lw_m7 81 rfl) rfl
theorem q1626 : (Jvm.Cond.privateMethod ({ cls := "LoserKeepsTheBoardModel", name := "hallBehind", desc := "(I)I" } : Jvm.MethodName)) ∈ lw_tbl := lw_at lw_m7 82 rfl
theorem q1627 : (Jvm.Cond.instanceMethod ({ cls := "LoserKeepsTheBoardModel", name := "hallBehind", desc := "(I)I" } : Jvm.MethodName)) ∈ lw_all := lw_g (lw_at lw_m7 83 rfl) rfl
theorem q1628 : (Jvm.Cond.code ({ cls := "LoserKeepsTheBoardModel", name := "hallBehind", desc := "(I)I" } : Jvm.MethodName) prog_16_method_57_code (3 : Nat) (Option.some Jvm.ClassFile.FieldType.int)) ∈ lw_all := lw_g (lw_at lw_m7 84 rfl) rfl
theorem q1629 : (Jvm.Cond.methodLink "LoserKeepsTheBoardModel" (300 : Nat) ({ cls := "LoserKeepsTheBoardModel", name := "robins", desc := "(I)V" } : Jvm.MethodName)) ∈ lw_all := lw_g (lw_at lw_m7 85 rfl) rfl
theorem q1630 : (Jvm.Cond.privateMethod ({ cls := "LoserKeepsTheBoardModel", name := "robins", desc := "(I)V" } : Jvm.MethodName)) ∈ lw_tbl := lw_at lw_m7 86 rfl
theorem q1631 : (Jvm.Cond.instanceMethod ({ cls := "LoserKeepsTheBoardModel", name := "robins", desc := "(I)V" } : Jvm.MethodName)) ∈ lw_all := lw_g (lw_at lw_m7 87 rfl) rfl
theorem q1632 : (Jvm.Cond.code ({ cls := "LoserKeepsTheBoardModel", name := "robins", desc := "(I)V" } : Jvm.MethodName) prog_16_method_56_code (4 : Nat) (Option.none : Option Jvm.ClassFile.FieldType)) ∈ lw_all := lw_g (lw_at lw_m7 88 rfl) rfl
theorem q1633 : (Jvm.Cond.methodLink "LoserKeepsTheBoardModel" (310 : Nat) ({ cls := "LoserKeepsTheBoardModel", name := "ringMany", desc := "()I" } : Jvm.MethodName)) ∈ lw_all := lw_g (lw_at lw_m7 89 rfl) rfl
theorem q1634 : (Jvm.Cond.privateMethod ({ cls := "LoserKeepsTheBoardModel", name := "ringMany", desc := "()I" } : Jvm.MethodName)) ∈ lw_tbl := lw_at lw_m7 90 rfl
theorem q1635 : (Jvm.Cond.instanceMethod ({ cls := "LoserKeepsTheBoardModel", name := "ringMany", desc := "()I" } : Jvm.MethodName)) ∈ lw_all := lw_g (lw_at lw_m7 91 rfl) rfl
theorem q1636 : (Jvm.Cond.code ({ cls := "LoserKeepsTheBoardModel", name := "ringMany", desc := "()I" } : Jvm.MethodName) prog_16_method_59_code (8 : Nat) (Option.some Jvm.ClassFile.FieldType.int)) ∈ lw_all := lw_g (lw_at lw_m7 92 rfl) rfl
theorem q1638 : (Jvm.Cond.instanceMethod ({ cls := "LoserKeepsTheBoardModel", name := "best", desc := "(II)I" } : Jvm.MethodName)) ∈ lw_all := lw_g (lw_at lw_m7 94 rfl) rfl
theorem q1639 : (Jvm.Cond.selects "LoserKeepsTheBoardModel" ({ cls := "LoserKeepsTheBoardModel", name := "best", desc := "(II)I" } : Jvm.MethodName) ({ cls := "LoserKeepsTheBoardModel", name := "best", desc := "(II)I" } : Jvm.MethodName)) ∈ lw_all := lw_g (lw_at lw_m7 95 rfl) rfl
theorem q1640 : (Jvm.Cond.code ({ cls := "LoserKeepsTheBoardModel", name := "best", desc := "(II)I" } : Jvm.MethodName) prog_16_method_61_code (7 : Nat) (Option.some Jvm.ClassFile.FieldType.int)) ∈ lw_all := lw_g (lw_at lw_m7 96 rfl) rfl
theorem q1642 : (Jvm.Cond.instanceMethod ({ cls := "LoserKeepsTheBoardModel", name := "order", desc := "(II)I" } : Jvm.MethodName)) ∈ lw_all := lw_g (lw_at lw_m7 98 rfl) rfl
theorem q1643 : (Jvm.Cond.selects "LoserKeepsTheBoardModel" ({ cls := "LoserKeepsTheBoardModel", name := "order", desc := "(II)I" } : Jvm.MethodName) ({ cls := "LoserKeepsTheBoardModel", name := "order", desc := "(II)I" } : Jvm.MethodName)) ∈ lw_all := lw_g (lw_at lw_m7 99 rfl) rfl
theorem q1644 : (Jvm.Cond.code ({ cls := "LoserKeepsTheBoardModel", name := "order", desc := "(II)I" } : Jvm.MethodName) prog_16_method_63_code (3 : Nat) (Option.some Jvm.ClassFile.FieldType.int)) ∈ lw_all := lw_g (lw_at lw_m7 100 rfl) rfl
theorem q1645 : (Jvm.Cond.methodLink "LoserKeepsTheBoardModel" (319 : Nat) ({ cls := "LoserKeepsTheBoardModel", name := "orders", desc := "(III)V" } : Jvm.MethodName)) ∈ lw_all := lw_g (lw_at lw_m7 101 rfl) rfl
theorem q1646 : (Jvm.Cond.privateMethod ({ cls := "LoserKeepsTheBoardModel", name := "orders", desc := "(III)V" } : Jvm.MethodName)) ∈ lw_tbl := lw_at lw_m7 102 rfl
theorem q1647 : (Jvm.Cond.instanceMethod ({ cls := "LoserKeepsTheBoardModel", name := "orders", desc := "(III)V" } : Jvm.MethodName)) ∈ lw_all := lw_g (lw_at lw_m7 103 rfl) rfl
theorem q1648 : (Jvm.Cond.code ({ cls := "LoserKeepsTheBoardModel", name := "orders", desc := "(III)V" } : Jvm.MethodName) prog_16_method_62_code (5 : Nat) (Option.none : Option Jvm.ClassFile.FieldType)) ∈ lw_all := lw_g (lw_at lw_m7 104 rfl) rfl
theorem q1650 : (Jvm.Cond.instanceMethod ({ cls := "LoserKeepsTheBoardModel", name := "all", desc := "(I)I" } : Jvm.MethodName)) ∈ lw_all := lw_g (lw_at lw_m7 106 rfl) rfl
theorem q1651 : (Jvm.Cond.selects "LoserKeepsTheBoardModel" ({ cls := "LoserKeepsTheBoardModel", name := "all", desc := "(I)I" } : Jvm.MethodName) ({ cls := "LoserKeepsTheBoardModel", name := "all", desc := "(I)I" } : Jvm.MethodName)) ∈ lw_all := lw_g (lw_at lw_m7 107 rfl) rfl
theorem q1652 : (Jvm.Cond.code ({ cls := "LoserKeepsTheBoardModel", name := "all", desc := "(I)I" } : Jvm.MethodName) prog_16_method_65_code (2 : Nat) (Option.some Jvm.ClassFile.FieldType.int)) ∈ lw_all := lw_g (lw_at lw_m7 108 rfl) rfl
theorem q1653 : (Jvm.Cond.methodLink "LoserKeepsTheBoardModel" (325 : Nat) ({ cls := "LoserKeepsTheBoardModel", name := "tries", desc := "(I)V" } : Jvm.MethodName)) ∈ lw_all := lw_g (lw_at lw_m7 109 rfl) rfl
theorem q1654 : (Jvm.Cond.privateMethod ({ cls := "LoserKeepsTheBoardModel", name := "tries", desc := "(I)V" } : Jvm.MethodName)) ∈ lw_tbl := lw_at lw_m7 110 rfl
theorem q1655 : (Jvm.Cond.instanceMethod ({ cls := "LoserKeepsTheBoardModel", name := "tries", desc := "(I)V" } : Jvm.MethodName)) ∈ lw_all := lw_g (lw_at lw_m7 111 rfl) rfl
theorem q1656 : (Jvm.Cond.code ({ cls := "LoserKeepsTheBoardModel", name := "tries", desc := "(I)V" } : Jvm.MethodName) prog_16_method_64_code (4 : Nat) (Option.none : Option Jvm.ClassFile.FieldType)) ∈ lw_all := lw_g (lw_at lw_m7 112 rfl) rfl
theorem q1658 : (Jvm.Cond.instanceMethod ({ cls := "LoserKeepsTheBoardModel", name := "soon", desc := "(II)I" } : Jvm.MethodName)) ∈ lw_all := lw_g (lw_at lw_m7 114 rfl) rfl
theorem q1659 : (Jvm.Cond.selects "LoserKeepsTheBoardModel" ({ cls := "LoserKeepsTheBoardModel", name := "soon", desc := "(II)I" } : Jvm.MethodName) ({ cls := "LoserKeepsTheBoardModel", name := "soon", desc := "(II)I" } : Jvm.MethodName)) ∈ lw_all := lw_g (lw_at lw_m7 115 rfl) rfl
theorem q1660 : (Jvm.Cond.code ({ cls := "LoserKeepsTheBoardModel", name := "soon", desc := "(II)I" } : Jvm.MethodName) prog_16_method_66_code (4 : Nat) (Option.some Jvm.ClassFile.FieldType.int)) ∈ lw_all := lw_g (lw_at lw_m7 116 rfl) rfl
theorem q1662 : (Jvm.Cond.instanceMethod ({ cls := "LoserKeepsTheBoardModel", name := "tells", desc := "(III)I" } : Jvm.MethodName)) ∈ lw_all := lw_g (lw_at lw_m7 118 rfl) rfl
theorem q1663 : (Jvm.Cond.selects "LoserKeepsTheBoardModel" ({ cls := "LoserKeepsTheBoardModel", name := "tells", desc := "(III)I" } : Jvm.MethodName) ({ cls := "LoserKeepsTheBoardModel", name := "tells", desc := "(III)I" } : Jvm.MethodName)) ∈ lw_all := lw_g (lw_at lw_m7 119 rfl) rfl
theorem q1664 : (Jvm.Cond.code ({ cls := "LoserKeepsTheBoardModel", name := "tells", desc := "(III)I" } : Jvm.MethodName) prog_16_method_69_code (11 : Nat) (Option.some Jvm.ClassFile.FieldType.int)) ∈ lw_all := lw_g (lw_at lw_m7 120 rfl) rfl
theorem q1665 : (Jvm.Cond.methodLink "LoserKeepsTheBoardModel" (328 : Nat) ({ cls := "LoserKeepsTheBoardModel", name := "firstOther", desc := "(II)I" } : Jvm.MethodName)) ∈ lw_all := lw_g (lw_at lw_m7 121 rfl) rfl
theorem q1666 : (Jvm.Cond.privateMethod ({ cls := "LoserKeepsTheBoardModel", name := "firstOther", desc := "(II)I" } : Jvm.MethodName)) ∈ lw_tbl := lw_at lw_m7 122 rfl
theorem q1667 : (Jvm.Cond.instanceMethod ({ cls := "LoserKeepsTheBoardModel", name := "firstOther", desc := "(II)I" } : Jvm.MethodName)) ∈ lw_all := lw_g (lw_at lw_m7 123 rfl) rfl
theorem q1668 : (Jvm.Cond.code ({ cls := "LoserKeepsTheBoardModel", name := "firstOther", desc := "(II)I" } : Jvm.MethodName) prog_16_method_67_code (4 : Nat) (Option.some Jvm.ClassFile.FieldType.int)) ∈ lw_all := lw_g (lw_at lw_m7 124 rfl) rfl
theorem q1669 : (Jvm.Cond.methodLink "LoserKeepsTheBoardModel" (331 : Nat) ({ cls := "LoserKeepsTheBoardModel", name := "likeSet", desc := "(I)I" } : Jvm.MethodName)) ∈ lw_all := lw_g (lw_at lw_m7 125 rfl) rfl
theorem q1670 : (Jvm.Cond.privateMethod ({ cls := "LoserKeepsTheBoardModel", name := "likeSet", desc := "(I)I" } : Jvm.MethodName)) ∈ lw_tbl := lw_at lw_m7 126 rfl
theorem q1671 : (Jvm.Cond.instanceMethod ({ cls := "LoserKeepsTheBoardModel", name := "likeSet", desc := "(I)I" } : Jvm.MethodName)) ∈ lw_all := lw_g (lw_at lw_m7 127 rfl) rfl
theorem q1672 : (Jvm.Cond.code ({ cls := "LoserKeepsTheBoardModel", name := "likeSet", desc := "(I)I" } : Jvm.MethodName) prog_16_method_68_code (4 : Nat) (Option.some Jvm.ClassFile.FieldType.int)) ∈ lw_all := lw_g (lw_at lw_m7 128 rfl) rfl
theorem q1674 : (Jvm.Cond.instanceMethod ({ cls := "LoserKeepsTheBoardModel", name := "film", desc := "(II)I" } : Jvm.MethodName)) ∈ lw_all := lw_g (lw_at lw_m7 130 rfl) rfl
theorem q1675 : (Jvm.Cond.selects "LoserKeepsTheBoardModel" ({ cls := "LoserKeepsTheBoardModel", name := "film", desc := "(II)I" } : Jvm.MethodName) ({ cls := "LoserKeepsTheBoardModel", name := "film", desc := "(II)I" } : Jvm.MethodName)) ∈ lw_all := lw_g (lw_at lw_m7 131 rfl) rfl
theorem q1676 : (Jvm.Cond.code ({ cls := "LoserKeepsTheBoardModel", name := "film", desc := "(II)I" } : Jvm.MethodName) prog_16_method_70_code (4 : Nat) (Option.some Jvm.ClassFile.FieldType.int)) ∈ lw_all := lw_g (lw_at lw_m7 132 rfl) rfl
theorem q1677 : (Jvm.Cond.methodLink "LoserKeepsTheBoardModel" (334 : Nat) ({ cls := "LoserKeepsTheBoardModel", name := "sheet", desc := "(III)I" } : Jvm.MethodName)) ∈ lw_all := lw_g (lw_at lw_m7 133 rfl) rfl
theorem q1678 : (Jvm.Cond.instanceMethod ({ cls := "LoserKeepsTheBoardModel", name := "sheet", desc := "(III)I" } : Jvm.MethodName)) ∈ lw_all := lw_g (lw_at lw_m7 134 rfl) rfl
theorem q1679 : (Jvm.Cond.selects "LoserKeepsTheBoardModel" ({ cls := "LoserKeepsTheBoardModel", name := "sheet", desc := "(III)I" } : Jvm.MethodName) ({ cls := "LoserKeepsTheBoardModel", name := "sheet", desc := "(III)I" } : Jvm.MethodName)) ∈ lw_all := lw_g (lw_at lw_m7 135 rfl) rfl
theorem q1680 : (Jvm.Cond.code ({ cls := "LoserKeepsTheBoardModel", name := "sheet", desc := "(III)I" } : Jvm.MethodName) prog_16_method_78_code (5 : Nat) (Option.some Jvm.ClassFile.FieldType.int)) ∈ lw_all := lw_g (lw_at lw_m7 136 rfl) rfl
theorem q1681 : (Jvm.Cond.constantLong "LoserKeepsTheBoardModel" (354 : Nat) (-1 : Int64)) ∈ lw_all := lw_g (lw_at lw_m7 137 rfl) rfl
theorem q1682 : (Jvm.Cond.constantLong "LoserKeepsTheBoardModel" (356 : Nat) (2 : Int64)) ∈ lw_all := lw_g (lw_at lw_m7 138 rfl) rfl
theorem q1684 : (Jvm.Cond.instanceMethod ({ cls := "LoserKeepsTheBoardModel", name := "drawn", desc := "(III)I" } : Jvm.MethodName)) ∈ lw_all := lw_g (lw_at lw_m7 140 rfl) rfl
theorem q1685 : (Jvm.Cond.selects "LoserKeepsTheBoardModel" ({ cls := "LoserKeepsTheBoardModel", name := "drawn", desc := "(III)I" } : Jvm.MethodName) ({ cls := "LoserKeepsTheBoardModel", name := "drawn", desc := "(III)I" } : Jvm.MethodName)) ∈ lw_all := lw_g (lw_at lw_m7 141 rfl) rfl
theorem q1686 : (Jvm.Cond.code ({ cls := "LoserKeepsTheBoardModel", name := "drawn", desc := "(III)I" } : Jvm.MethodName) prog_16_method_72_code (4 : Nat) (Option.some Jvm.ClassFile.FieldType.int)) ∈ lw_all := lw_g (lw_at lw_m7 142 rfl) rfl
theorem q1687 : (Jvm.Cond.methodLink "LoserKeepsTheBoardModel" (338 : Nat) ({ cls := "LoserKeepsTheBoardModel", name := "hasDrawn", desc := "(III)I" } : Jvm.MethodName)) ∈ lw_all := lw_g (lw_at lw_m7 143 rfl) rfl
theorem q1688 : (Jvm.Cond.privateMethod ({ cls := "LoserKeepsTheBoardModel", name := "hasDrawn", desc := "(III)I" } : Jvm.MethodName)) ∈ lw_tbl := lw_at lw_m7 144 rfl
theorem q1689 : (Jvm.Cond.instanceMethod ({ cls := "LoserKeepsTheBoardModel", name := "hasDrawn", desc := "(III)I" } : Jvm.MethodName)) ∈ lw_all := lw_g (lw_at lw_m7 145 rfl) rfl
theorem q1690 : (Jvm.Cond.code ({ cls := "LoserKeepsTheBoardModel", name := "hasDrawn", desc := "(III)I" } : Jvm.MethodName) prog_16_method_71_code (8 : Nat) (Option.some Jvm.ClassFile.FieldType.int)) ∈ lw_all := lw_g (lw_at lw_m7 146 rfl) rfl
theorem q1691 : (Jvm.Cond.constant "LoserKeepsTheBoardModel" (337 : Nat) (1103515245 : Int32)) ∈ lw_all := lw_g (lw_at lw_m7 147 rfl) rfl
theorem q1693 : (Jvm.Cond.instanceMethod ({ cls := "LoserKeepsTheBoardModel", name := "chance", desc := "(IIIII)J" } : Jvm.MethodName)) ∈ lw_all := lw_g (lw_at lw_m7 149 rfl) rfl
theorem q1694 : (Jvm.Cond.selects "LoserKeepsTheBoardModel" ({ cls := "LoserKeepsTheBoardModel", name := "chance", desc := "(IIIII)J" } : Jvm.MethodName) ({ cls := "LoserKeepsTheBoardModel", name := "chance", desc := "(IIIII)J" } : Jvm.MethodName)) ∈ lw_all := lw_g (lw_at lw_m7 150 rfl) rfl
theorem q1695 : (Jvm.Cond.code ({ cls := "LoserKeepsTheBoardModel", name := "chance", desc := "(IIIII)J" } : Jvm.MethodName) prog_16_method_73_code (14 : Nat) (Option.some Jvm.ClassFile.FieldType.long)) ∈ lw_all := lw_g (lw_at lw_m7 151 rfl) rfl
theorem q1696 : (Jvm.Cond.constantLong "LoserKeepsTheBoardModel" (341 : Nat) (20 : Int64)) ∈ lw_all := lw_g (lw_at lw_m7 152 rfl) rfl
theorem q1697 : (Jvm.Cond.constantLong "LoserKeepsTheBoardModel" (343 : Nat) (-4611686018427387904 : Int64)) ∈ lw_all := lw_g (lw_at lw_m7 153 rfl) rfl
theorem q1699 : (Jvm.Cond.instanceMethod ({ cls := "LoserKeepsTheBoardModel", name := "image", desc := "()I" } : Jvm.MethodName)) ∈ lw_all := lw_g (lw_at lw_m7 155 rfl) rfl
theorem q1700 : (Jvm.Cond.selects "LoserKeepsTheBoardModel" ({ cls := "LoserKeepsTheBoardModel", name := "image", desc := "()I" } : Jvm.MethodName) ({ cls := "LoserKeepsTheBoardModel", name := "image", desc := "()I" } : Jvm.MethodName)) ∈ lw_all := lw_g (lw_at lw_m7 156 rfl) rfl
theorem q1701 : (Jvm.Cond.code ({ cls := "LoserKeepsTheBoardModel", name := "image", desc := "()I" } : Jvm.MethodName) prog_16_method_74_code (2 : Nat) (Option.some Jvm.ClassFile.FieldType.int)) ∈ lw_all := lw_g (lw_at lw_m7 157 rfl) rfl
theorem q1703 : (Jvm.Cond.instanceMethod ({ cls := "LoserKeepsTheBoardModel", name := "back", desc := "()I" } : Jvm.MethodName)) ∈ lw_all := lw_g (lw_at lw_m7 159 rfl) rfl
theorem q1704 : (Jvm.Cond.selects "LoserKeepsTheBoardModel" ({ cls := "LoserKeepsTheBoardModel", name := "back", desc := "()I" } : Jvm.MethodName) ({ cls := "LoserKeepsTheBoardModel", name := "back", desc := "()I" } : Jvm.MethodName)) ∈ lw_all := lw_g (lw_at lw_m7 160 rfl) rfl
theorem q1705 : (Jvm.Cond.code ({ cls := "LoserKeepsTheBoardModel", name := "back", desc := "()I" } : Jvm.MethodName) prog_16_method_75_code (2 : Nat) (Option.some Jvm.ClassFile.FieldType.int)) ∈ lw_all := lw_g (lw_at lw_m7 161 rfl) rfl
theorem q1707 : (Jvm.Cond.instanceMethod ({ cls := "LoserKeepsTheBoardModel", name := "count", desc := "(I)I" } : Jvm.MethodName)) ∈ lw_all := lw_g (lw_at lw_m7 163 rfl) rfl
theorem q1708 : (Jvm.Cond.selects "LoserKeepsTheBoardModel" ({ cls := "LoserKeepsTheBoardModel", name := "count", desc := "(I)I" } : Jvm.MethodName) ({ cls := "LoserKeepsTheBoardModel", name := "count", desc := "(I)I" } : Jvm.MethodName)) ∈ lw_all := lw_g (lw_at lw_m7 164 rfl) rfl
theorem q1709 : (Jvm.Cond.code ({ cls := "LoserKeepsTheBoardModel", name := "count", desc := "(I)I" } : Jvm.MethodName) prog_16_method_76_code (2 : Nat) (Option.some Jvm.ClassFile.FieldType.int)) ∈ lw_all := lw_g (lw_at lw_m7 165 rfl) rfl
theorem q1712 : (Jvm.Cond.instanceMethod ({ cls := "LoserKeepsTheBoardModel", name := "cell", desc := "(III)I" } : Jvm.MethodName)) ∈ lw_all := lw_g (lw_at lw_m7 168 rfl) rfl
theorem q1713 : (Jvm.Cond.selects "LoserKeepsTheBoardModel" ({ cls := "LoserKeepsTheBoardModel", name := "cell", desc := "(III)I" } : Jvm.MethodName) ({ cls := "LoserKeepsTheBoardModel", name := "cell", desc := "(III)I" } : Jvm.MethodName)) ∈ lw_all := lw_g (lw_at lw_m7 169 rfl) rfl
theorem q1714 : (Jvm.Cond.code ({ cls := "LoserKeepsTheBoardModel", name := "cell", desc := "(III)I" } : Jvm.MethodName) prog_16_method_79_code (4 : Nat) (Option.some Jvm.ClassFile.FieldType.int)) ∈ lw_all := lw_g (lw_at lw_m7 170 rfl) rfl
theorem q1716 : (Jvm.Cond.instanceMethod ({ cls := "LoserKeepsTheBoardModel", name := "copy", desc := "(IIIII)I" } : Jvm.MethodName)) ∈ lw_all := lw_g (lw_at lw_m7 172 rfl) rfl
theorem q1717 : (Jvm.Cond.selects "LoserKeepsTheBoardModel" ({ cls := "LoserKeepsTheBoardModel", name := "copy", desc := "(IIIII)I" } : Jvm.MethodName) ({ cls := "LoserKeepsTheBoardModel", name := "copy", desc := "(IIIII)I" } : Jvm.MethodName)) ∈ lw_all := lw_g (lw_at lw_m7 173 rfl) rfl
theorem q1718 : (Jvm.Cond.code ({ cls := "LoserKeepsTheBoardModel", name := "copy", desc := "(IIIII)I" } : Jvm.MethodName) prog_16_method_80_code (9 : Nat) (Option.some Jvm.ClassFile.FieldType.int)) ∈ lw_all := lw_g (lw_at lw_m7 174 rfl) rfl
theorem q1720 : (Jvm.Cond.instanceMethod ({ cls := "LoserKeepsTheBoardModel", name := "players", desc := "(IIII)I" } : Jvm.MethodName)) ∈ lw_all := lw_g (lw_at lw_m7 176 rfl) rfl
theorem q1721 : (Jvm.Cond.selects "LoserKeepsTheBoardModel" ({ cls := "LoserKeepsTheBoardModel", name := "players", desc := "(IIII)I" } : Jvm.MethodName) ({ cls := "LoserKeepsTheBoardModel", name := "players", desc := "(IIII)I" } : Jvm.MethodName)) ∈ lw_all := lw_g (lw_at lw_m7 177 rfl) rfl
theorem q1722 : (Jvm.Cond.code ({ cls := "LoserKeepsTheBoardModel", name := "players", desc := "(IIII)I" } : Jvm.MethodName) prog_16_method_81_code (8 : Nat) (Option.some Jvm.ClassFile.FieldType.int)) ∈ lw_all := lw_g (lw_at lw_m7 178 rfl) rfl
theorem q1723 : (Jvm.Cond.constantLong "LoserKeepsTheBoardModel" (358 : Nat) (6 : Int64)) ∈ lw_all := lw_g (lw_at lw_m7 179 rfl) rfl
theorem q1724 : (Jvm.Cond.methodLink "LoserKeepsTheBoardModel" (360 : Nat) ({ cls := "LoserKeepsTheBoardModel", name := "player", desc := "(II)I" } : Jvm.MethodName)) ∈ lw_all := lw_g (lw_at lw_m7 180 rfl) rfl
theorem q1726 : (Jvm.Cond.instanceMethod ({ cls := "LoserKeepsTheBoardModel", name := "taken", desc := "(II)I" } : Jvm.MethodName)) ∈ lw_all := lw_g (lw_at lw_m7 182 rfl) rfl
theorem q1727 : (Jvm.Cond.selects "LoserKeepsTheBoardModel" ({ cls := "LoserKeepsTheBoardModel", name := "taken", desc := "(II)I" } : Jvm.MethodName) ({ cls := "LoserKeepsTheBoardModel", name := "taken", desc := "(II)I" } : Jvm.MethodName)) ∈ lw_all := lw_g (lw_at lw_m7 183 rfl) rfl
theorem q1728 : (Jvm.Cond.code ({ cls := "LoserKeepsTheBoardModel", name := "taken", desc := "(II)I" } : Jvm.MethodName) prog_16_method_83_code (4 : Nat) (Option.some Jvm.ClassFile.FieldType.int)) ∈ lw_all := lw_g (lw_at lw_m7 184 rfl) rfl
theorem q1729 : (Jvm.Cond.methodLink "LoserKeepsTheBoardModel" (363 : Nat) ({ cls := "LoserKeepsTheBoardModel", name := "over", desc := "(I)I" } : Jvm.MethodName)) ∈ lw_all := lw_g (lw_at lw_m7 185 rfl) rfl
theorem q1730 : (Jvm.Cond.static ({ cls := "LoserKeepsTheBoardModel", name := "over", desc := "(I)I" } : Jvm.MethodName)) ∈ lw_all := lw_g (lw_at lw_m7 186 rfl) rfl
theorem q1731 : (Jvm.Cond.code ({ cls := "LoserKeepsTheBoardModel", name := "over", desc := "(I)I" } : Jvm.MethodName) prog_16_method_82_code (1 : Nat) (Option.some Jvm.ClassFile.FieldType.int)) ∈ lw_all := lw_g (lw_at lw_m7 187 rfl) rfl
theorem in_X8 : ∀ w ∈ wsX80, w ∈ lw_all := lw_in wsX80 [1309, 1311, 1313, 1315, 1317, 1319, 1321, 1323, 1325, 1327, 1329, 1331, 1333, 1335, 1337, 1339, 1341, 1343, 1345, 1347, 1349, 1351, 1353, 1355, 1357, 1359, 1361, 1363, 1365, 1367, 1369, 1371, 1373, 1375, 1377, 1379, 1381, 1383, 1385, 1387, 1389] (by decide +kernel) (by decide +kernel)
