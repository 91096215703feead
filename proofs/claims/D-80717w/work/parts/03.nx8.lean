/-! SortedPostModel -/
set_option maxRecDepth 100000
def RX8 : String := "SortedPostModel"
def TX8 : u_T := fun k => match k with
  | 0 => ("SortedPostModel", "tape", "[I", true)
  | 1 => ("SortedPostModel", "taped", "I", false)
  | 2 => ("SortedPostModel", "ruleMany", "[I", true)
  | 3 => ("SortedPostModel", "codes", "[I", true)
  | 4 => ("SortedPostModel", "ruleFrom", "[I", true)
  | 5 => ("SortedPostModel", "acts", "[I", true)
  | 6 => ("SortedPostModel", "actMany", "[I", true)
  | 7 => ("SortedPostModel", "quotas", "[I", true)
  | 8 => ("SortedPostModel", "days", "[I", true)
  | 9 => ("SortedPostModel", "at", "I", false)
  | 10 => ("SortedPostModel", "wrong", "I", false)
  | 11 => ("SortedPostModel", "waits", "[I", true)
  | 12 => ("SortedPostModel", "waitMany", "I", false)
  | 13 => ("SortedPostModel", "openMany", "I", false)
  | 14 => ("SortedPostModel", "read", "[I", true)
  | 15 => ("SortedPostModel", "readMany", "I", false)
  | 16 => ("SortedPostModel", "readFrom", "[I", true)
  | 17 => ("SortedPostModel", "readActs", "[I", true)
  | 18 => ("SortedPostModel", "readActMany", "[I", true)
  | 19 => ("SortedPostModel", "readRules", "I", false)
  | 20 => ("SortedPostModel", "truths", "[Z", true)
  | 21 => ("SortedPostModel", "byCase", "Z", false)
  | 22 => ("SortedPostModel", "caseTold", "I", false)
  | 23 => ("SortedPostModel", "letterNow", "I", false)
  | 24 => ("SortedPostModel", "boxNow", "I", false)
  | 25 => ("SortedPostModel", "letters", "I", false)
  | 26 => ("SortedPostModel", "from", "[I", true)
  | 27 => ("SortedPostModel", "to", "[I", true)
  | 28 => ("SortedPostModel", "words", "[I", true)
  | 29 => ("SortedPostModel", "sizes", "[I", true)
  | 30 => ("SortedPostModel", "flags", "[I", true)
  | 31 => ("SortedPostModel", "ids", "[I", true)
  | 32 => ("SortedPostModel", "refs", "[I", true)
  | 33 => ("SortedPostModel", "dates", "[I", true)
  | 34 => ("SortedPostModel", "had", "[Z", true)
  | 35 => ("SortedPostModel", "answered", "[I", true)
  | 36 => ("SortedPostModel", "sentOn", "I", false)
  | 37 => ("SortedPostModel", "dropped", "I", false)
  | 38 => ("SortedPostModel", "answers", "I", false)
  | 39 => ("SortedPostModel", "full", "I", false)
  | 40 => ("SortedPostModel", "trayMany", "[I", true)
  | 41 => ("SortedPostModel", "copyOf", "[I", true)
  | 42 => ("SortedPostModel", "marked", "[Z", true)
  | 43 => ("SortedPostModel", "learnt", "[I", true)
  | 44 => ("SortedPostModel", "filed", "I", false)
  | 45 => ("SortedPostModel", "comingLetter", "[I", true)
  | 46 => ("SortedPostModel", "comingBox", "[I", true)
  | 47 => ("SortedPostModel", "comingTrace", "[I", true)
  | 48 => ("SortedPostModel", "comings", "I", false)
  | 49 => ("SortedPostModel", "toFile", "I", false)
  | 50 => ("SortedPostModel", "sentNow", "I", false)
  | 51 => ("SortedPostModel", "isDropped", "Z", false)
  | 52 => ("SortedPostModel", "isMarked", "Z", false)
  | 53 => ("SortedPostModel", "answerNow", "I", false)
  | 54 => ("SortedPostModel", "lanes", "[I", true)
  | 55 => ("SortedPostModel", "longs", "[I", true)
  | 56 => ("SortedPostModel", "items", "[I", true)
  | 57 => ("SortedPostModel", "junkMany", "[I", true)
  | 58 => ("SortedPostModel", "knows", "[I", true)
  | 59 => ("SortedPostModel", "atomRow", "[I", true)
  | _ => ("SortedPostModel", "atomMany", "I", false)
def tyX8 : Nat → FieldType := fun k => match k with
  | 0 => .array .int
  | 1 => .int
  | 2 => .array .int
  | 3 => .array .int
  | 4 => .array .int
  | 5 => .array .int
  | 6 => .array .int
  | 7 => .array .int
  | 8 => .array .int
  | 9 => .int
  | 10 => .int
  | 11 => .array .int
  | 12 => .int
  | 13 => .int
  | 14 => .array .int
  | 15 => .int
  | 16 => .array .int
  | 17 => .array .int
  | 18 => .array .int
  | 19 => .int
  | 20 => .array .boolean
  | 21 => .boolean
  | 22 => .int
  | 23 => .int
  | 24 => .int
  | 25 => .int
  | 26 => .array .int
  | 27 => .array .int
  | 28 => .array .int
  | 29 => .array .int
  | 30 => .array .int
  | 31 => .array .int
  | 32 => .array .int
  | 33 => .array .int
  | 34 => .array .boolean
  | 35 => .array .int
  | 36 => .int
  | 37 => .int
  | 38 => .int
  | 39 => .int
  | 40 => .array .int
  | 41 => .array .int
  | 42 => .array .boolean
  | 43 => .array .int
  | 44 => .int
  | 45 => .array .int
  | 46 => .array .int
  | 47 => .array .int
  | 48 => .int
  | 49 => .int
  | 50 => .int
  | 51 => .boolean
  | 52 => .boolean
  | 53 => .int
  | 54 => .array .int
  | 55 => .array .int
  | 56 => .array .int
  | 57 => .array .int
  | 58 => .array .int
  | 59 => .array .int
  | _ => .int
abbrev wsX80 : List Cond := u_ws RX8 TX8 61
set_option maxRecDepth 100000 in
theorem nmX8 : ∀ a, a < 61 → ∀ b, b < 61 → a ≠ b → (TX8 a).2.1 ≠ (TX8 b).2.1 := by decide +kernel
set_option maxRecDepth 100000 in
theorem tyX8_ok : ∀ k, k < 61 → parseFieldDescriptor (TX8 k).2.2.1 = some (tyX8 k) := by decide +kernel
abbrev cX8_init : ByteArray := prog_21_method_3_code
def yX8_init : MethodName := ⟨RX8, "<init>", "()V"⟩
def dkwX8_init_16 : List UInt8 := [16, 16, 27, 104, 28, 96, 17, 252, 24, 79, 132, 2, 1, 167, 255, 233, 132, 1, 1, 167, 255, 212, 177]
abbrev dktX8_init_16 : List UInt8 := dkwX8_init_16 ++ []
def dkwX8_init_15 : List UInt8 := [162, 0, 45, 42, 180, 0, 31, 27, 16, 7, 79, 3, 61, 28, 16, 16, 162, 0, 23, 42, 180, 0, 80]
abbrev dktX8_init_15 : List UInt8 := dkwX8_init_15 ++ dktX8_init_16
def dkwX8_init_14 : List UInt8 := [27, 16, 12, 162, 0, 17, 42, 180, 0, 28, 27, 16, 99, 79, 132, 1, 1, 167, 255, 239, 3, 60, 27, 6]
abbrev dktX8_init_14 : List UInt8 := dkwX8_init_14 ++ dktX8_init_15
def dkwX8_init_13 : List UInt8 := [17, 0, 180, 188, 10, 181, 0, 119, 42, 180, 0, 104, 3, 2, 79, 42, 180, 0, 104, 4, 2, 79, 3, 60]
abbrev dktX8_init_13 : List UInt8 := dkwX8_init_13 ++ dktX8_init_14
def dkwX8_init_12 : List UInt8 := [16, 80, 188, 10, 181, 0, 110, 42, 5, 188, 10, 181, 0, 113, 42, 16, 24, 188, 10, 181, 0, 116, 42]
abbrev dktX8_init_12 : List UInt8 := dkwX8_init_12 ++ dktX8_init_13
def dkwX8_init_11 : List UInt8 := [42, 16, 64, 188, 10, 181, 0, 101, 42, 5, 188, 10, 181, 0, 104, 42, 5, 188, 10, 181, 0, 107, 42]
abbrev dktX8_init_11 : List UInt8 := dkwX8_init_11 ++ dktX8_init_12
def dkwX8_init_10 : List UInt8 := [17, 14, 16, 188, 10, 181, 0, 92, 42, 16, 64, 188, 10, 181, 0, 95, 42, 16, 64, 188, 10, 181, 0, 98]
abbrev dktX8_init_10 : List UInt8 := dkwX8_init_10 ++ dktX8_init_11
def dkwX8_init_9 : List UInt8 := [188, 10, 181, 0, 83, 42, 17, 14, 16, 188, 10, 181, 0, 86, 42, 17, 14, 16, 188, 4, 181, 0, 89, 42]
abbrev dktX8_init_9 : List UInt8 := dkwX8_init_9 ++ dktX8_init_10
def dkwX8_init_8 : List UInt8 := [181, 0, 74, 42, 17, 119, 166, 188, 4, 181, 0, 77, 42, 16, 48, 188, 10, 181, 0, 80, 42, 16, 12]
abbrev dktX8_init_8 : List UInt8 := dkwX8_init_8 ++ dktX8_init_9
def dkwX8_init_7 : List UInt8 := [17, 0, 210, 188, 10, 181, 0, 68, 42, 17, 0, 210, 188, 10, 181, 0, 71, 42, 17, 0, 210, 188, 10]
abbrev dktX8_init_7 : List UInt8 := dkwX8_init_7 ++ dktX8_init_8
def dkwX8_init_6 : List UInt8 := [181, 0, 59, 42, 17, 0, 210, 188, 10, 181, 0, 62, 42, 17, 0, 210, 188, 10, 181, 0, 65, 42]
abbrev dktX8_init_6 : List UInt8 := dkwX8_init_6 ++ dktX8_init_7
def dkwX8_init_5 : List UInt8 := [17, 0, 210, 188, 10, 181, 0, 53, 42, 17, 0, 210, 188, 10, 181, 0, 56, 42, 17, 0, 210, 188, 10]
abbrev dktX8_init_5 : List UInt8 := dkwX8_init_5 ++ dktX8_init_6
def dkwX8_init_4 : List UInt8 := [16, 24, 188, 10, 181, 0, 43, 42, 16, 6, 188, 10, 181, 0, 46, 42, 16, 96, 188, 4, 181, 0, 49, 42]
abbrev dktX8_init_4 : List UInt8 := dkwX8_init_4 ++ dktX8_init_5
def dkwX8_init_3 : List UInt8 := [188, 10, 181, 0, 34, 42, 17, 0, 180, 188, 10, 181, 0, 37, 42, 16, 7, 188, 10, 181, 0, 40, 42]
abbrev dktX8_init_3 : List UInt8 := dkwX8_init_3 ++ dktX8_init_4
def dkwX8_init_2 : List UInt8 := [188, 10, 181, 0, 25, 42, 16, 12, 188, 10, 181, 0, 28, 42, 6, 188, 10, 181, 0, 31, 42, 16, 96]
abbrev dktX8_init_2 : List UInt8 := dkwX8_init_2 ++ dktX8_init_3
def dkwX8_init_1 : List UInt8 := [188, 10, 181, 0, 16, 42, 16, 21, 188, 10, 181, 0, 19, 42, 16, 72, 188, 10, 181, 0, 22, 42, 16, 18]
abbrev dktX8_init_1 : List UInt8 := dkwX8_init_1 ++ dktX8_init_2
def dkwX8_init_0 : List UInt8 := [42, 183, 0, 1, 42, 16, 90, 188, 10, 181, 0, 7, 42, 6, 188, 10, 181, 0, 13, 42, 17, 2, 28]
abbrev dktX8_init_0 : List UInt8 := dkwX8_init_0 ++ dktX8_init_1
theorem dksX8_init_0 : cX8_init.data.toList.drop 0 = dktX8_init_0 := by decide +kernel
theorem dksX8_init_1 : cX8_init.data.toList.drop 23 = dktX8_init_1 := dk_seg dksX8_init_0 23 rfl rfl
theorem dksX8_init_2 : cX8_init.data.toList.drop 47 = dktX8_init_2 := dk_seg dksX8_init_1 24 rfl rfl
theorem dksX8_init_3 : cX8_init.data.toList.drop 70 = dktX8_init_3 := dk_seg dksX8_init_2 23 rfl rfl
theorem dksX8_init_4 : cX8_init.data.toList.drop 93 = dktX8_init_4 := dk_seg dksX8_init_3 23 rfl rfl
theorem dksX8_init_5 : cX8_init.data.toList.drop 117 = dktX8_init_5 := dk_seg dksX8_init_4 24 rfl rfl
theorem dksX8_init_6 : cX8_init.data.toList.drop 140 = dktX8_init_6 := dk_seg dksX8_init_5 23 rfl rfl
theorem dksX8_init_7 : cX8_init.data.toList.drop 162 = dktX8_init_7 := dk_seg dksX8_init_6 22 rfl rfl
theorem dksX8_init_8 : cX8_init.data.toList.drop 185 = dktX8_init_8 := dk_seg dksX8_init_7 23 rfl rfl
theorem dksX8_init_9 : cX8_init.data.toList.drop 208 = dktX8_init_9 := dk_seg dksX8_init_8 23 rfl rfl
theorem dksX8_init_10 : cX8_init.data.toList.drop 232 = dktX8_init_10 := dk_seg dksX8_init_9 24 rfl rfl
theorem dksX8_init_11 : cX8_init.data.toList.drop 256 = dktX8_init_11 := dk_seg dksX8_init_10 24 rfl rfl
theorem dksX8_init_12 : cX8_init.data.toList.drop 279 = dktX8_init_12 := dk_seg dksX8_init_11 23 rfl rfl
theorem dksX8_init_13 : cX8_init.data.toList.drop 302 = dktX8_init_13 := dk_seg dksX8_init_12 23 rfl rfl
theorem dksX8_init_14 : cX8_init.data.toList.drop 326 = dktX8_init_14 := dk_seg dksX8_init_13 24 rfl rfl
theorem dksX8_init_15 : cX8_init.data.toList.drop 350 = dktX8_init_15 := dk_seg dksX8_init_14 24 rfl rfl
theorem dksX8_init_16 : cX8_init.data.toList.drop 373 = dktX8_init_16 := dk_seg dksX8_init_15 23 rfl rfl
theorem dX8_init_0 : decode cX8_init 0 = .ok (.aload_n 0, 1) := dk_42 (dk_at dksX8_init_0 0 rfl rfl)
theorem dX8_init_1 : decode cX8_init 1 = .ok (.invokespecial 1, 3) := dk_183 0 1 (dk_at dksX8_init_0 1 rfl rfl)
theorem dX8_init_4 : decode cX8_init 4 = .ok (.aload_n 0, 1) := dk_42 (dk_at dksX8_init_0 4 rfl rfl)
theorem dX8_init_5 : decode cX8_init 5 = .ok (.bipush 90, 2) := dk_16 90 (dk_at dksX8_init_0 5 rfl rfl)
theorem dX8_init_7 : decode cX8_init 7 = .ok (.newarray .int, 2) := dk_188_10 (dk_at dksX8_init_0 7 rfl rfl)
theorem dX8_init_9 : decode cX8_init 9 = .ok (.putfield 7, 3) := dk_181 0 7 (dk_at dksX8_init_0 9 rfl rfl)
theorem dX8_init_12 : decode cX8_init 12 = .ok (.aload_n 0, 1) := dk_42 (dk_at dksX8_init_0 12 rfl rfl)
theorem dX8_init_13 : decode cX8_init 13 = .ok (.iconst 3, 1) := dk_6 (dk_at dksX8_init_0 13 rfl rfl)
theorem dX8_init_14 : decode cX8_init 14 = .ok (.newarray .int, 2) := dk_188_10 (dk_at dksX8_init_0 14 rfl rfl)
theorem dX8_init_16 : decode cX8_init 16 = .ok (.putfield 13, 3) := dk_181 0 13 (dk_at dksX8_init_0 16 rfl rfl)
theorem dX8_init_19 : decode cX8_init 19 = .ok (.aload_n 0, 1) := dk_42 (dk_at dksX8_init_0 19 rfl rfl)
theorem dX8_init_20 : decode cX8_init 20 = .ok (.sipush 540, 3) := dk_17 2 28 (dk_at dksX8_init_0 20 rfl rfl)
theorem dX8_init_23 : decode cX8_init 23 = .ok (.newarray .int, 2) := dk_188_10 (dk_at dksX8_init_1 0 rfl rfl)
theorem dX8_init_25 : decode cX8_init 25 = .ok (.putfield 16, 3) := dk_181 0 16 (dk_at dksX8_init_1 2 rfl rfl)
theorem dX8_init_28 : decode cX8_init 28 = .ok (.aload_n 0, 1) := dk_42 (dk_at dksX8_init_1 5 rfl rfl)
theorem dX8_init_29 : decode cX8_init 29 = .ok (.bipush 21, 2) := dk_16 21 (dk_at dksX8_init_1 6 rfl rfl)
theorem dX8_init_31 : decode cX8_init 31 = .ok (.newarray .int, 2) := dk_188_10 (dk_at dksX8_init_1 8 rfl rfl)
theorem dX8_init_33 : decode cX8_init 33 = .ok (.putfield 19, 3) := dk_181 0 19 (dk_at dksX8_init_1 10 rfl rfl)
theorem dX8_init_36 : decode cX8_init 36 = .ok (.aload_n 0, 1) := dk_42 (dk_at dksX8_init_1 13 rfl rfl)
theorem dX8_init_37 : decode cX8_init 37 = .ok (.bipush 72, 2) := dk_16 72 (dk_at dksX8_init_1 14 rfl rfl)
theorem dX8_init_39 : decode cX8_init 39 = .ok (.newarray .int, 2) := dk_188_10 (dk_at dksX8_init_1 16 rfl rfl)
theorem dX8_init_41 : decode cX8_init 41 = .ok (.putfield 22, 3) := dk_181 0 22 (dk_at dksX8_init_1 18 rfl rfl)
theorem dX8_init_44 : decode cX8_init 44 = .ok (.aload_n 0, 1) := dk_42 (dk_at dksX8_init_1 21 rfl rfl)
theorem dX8_init_45 : decode cX8_init 45 = .ok (.bipush 18, 2) := dk_16 18 (dk_at dksX8_init_1 22 rfl rfl)
theorem dX8_init_47 : decode cX8_init 47 = .ok (.newarray .int, 2) := dk_188_10 (dk_at dksX8_init_2 0 rfl rfl)
theorem dX8_init_49 : decode cX8_init 49 = .ok (.putfield 25, 3) := dk_181 0 25 (dk_at dksX8_init_2 2 rfl rfl)
theorem dX8_init_52 : decode cX8_init 52 = .ok (.aload_n 0, 1) := dk_42 (dk_at dksX8_init_2 5 rfl rfl)
theorem dX8_init_53 : decode cX8_init 53 = .ok (.bipush 12, 2) := dk_16 12 (dk_at dksX8_init_2 6 rfl rfl)
theorem dX8_init_55 : decode cX8_init 55 = .ok (.newarray .int, 2) := dk_188_10 (dk_at dksX8_init_2 8 rfl rfl)
theorem dX8_init_57 : decode cX8_init 57 = .ok (.putfield 28, 3) := dk_181 0 28 (dk_at dksX8_init_2 10 rfl rfl)
theorem dX8_init_60 : decode cX8_init 60 = .ok (.aload_n 0, 1) := dk_42 (dk_at dksX8_init_2 13 rfl rfl)
theorem dX8_init_61 : decode cX8_init 61 = .ok (.iconst 3, 1) := dk_6 (dk_at dksX8_init_2 14 rfl rfl)
theorem dX8_init_62 : decode cX8_init 62 = .ok (.newarray .int, 2) := dk_188_10 (dk_at dksX8_init_2 15 rfl rfl)
theorem dX8_init_64 : decode cX8_init 64 = .ok (.putfield 31, 3) := dk_181 0 31 (dk_at dksX8_init_2 17 rfl rfl)
theorem dX8_init_67 : decode cX8_init 67 = .ok (.aload_n 0, 1) := dk_42 (dk_at dksX8_init_2 20 rfl rfl)
theorem dX8_init_68 : decode cX8_init 68 = .ok (.bipush 96, 2) := dk_16 96 (dk_at dksX8_init_2 21 rfl rfl)
theorem dX8_init_70 : decode cX8_init 70 = .ok (.newarray .int, 2) := dk_188_10 (dk_at dksX8_init_3 0 rfl rfl)
theorem dX8_init_72 : decode cX8_init 72 = .ok (.putfield 34, 3) := dk_181 0 34 (dk_at dksX8_init_3 2 rfl rfl)
theorem dX8_init_75 : decode cX8_init 75 = .ok (.aload_n 0, 1) := dk_42 (dk_at dksX8_init_3 5 rfl rfl)
theorem dX8_init_76 : decode cX8_init 76 = .ok (.sipush 180, 3) := dk_17 0 180 (dk_at dksX8_init_3 6 rfl rfl)
theorem dX8_init_79 : decode cX8_init 79 = .ok (.newarray .int, 2) := dk_188_10 (dk_at dksX8_init_3 9 rfl rfl)
theorem dX8_init_81 : decode cX8_init 81 = .ok (.putfield 37, 3) := dk_181 0 37 (dk_at dksX8_init_3 11 rfl rfl)
theorem dX8_init_84 : decode cX8_init 84 = .ok (.aload_n 0, 1) := dk_42 (dk_at dksX8_init_3 14 rfl rfl)
theorem dX8_init_85 : decode cX8_init 85 = .ok (.bipush 7, 2) := dk_16 7 (dk_at dksX8_init_3 15 rfl rfl)
theorem dX8_init_87 : decode cX8_init 87 = .ok (.newarray .int, 2) := dk_188_10 (dk_at dksX8_init_3 17 rfl rfl)
theorem dX8_init_89 : decode cX8_init 89 = .ok (.putfield 40, 3) := dk_181 0 40 (dk_at dksX8_init_3 19 rfl rfl)
theorem dX8_init_92 : decode cX8_init 92 = .ok (.aload_n 0, 1) := dk_42 (dk_at dksX8_init_3 22 rfl rfl)
theorem dX8_init_93 : decode cX8_init 93 = .ok (.bipush 24, 2) := dk_16 24 (dk_at dksX8_init_4 0 rfl rfl)
theorem dX8_init_95 : decode cX8_init 95 = .ok (.newarray .int, 2) := dk_188_10 (dk_at dksX8_init_4 2 rfl rfl)
theorem dX8_init_97 : decode cX8_init 97 = .ok (.putfield 43, 3) := dk_181 0 43 (dk_at dksX8_init_4 4 rfl rfl)
theorem dX8_init_100 : decode cX8_init 100 = .ok (.aload_n 0, 1) := dk_42 (dk_at dksX8_init_4 7 rfl rfl)
theorem dX8_init_101 : decode cX8_init 101 = .ok (.bipush 6, 2) := dk_16 6 (dk_at dksX8_init_4 8 rfl rfl)
theorem dX8_init_103 : decode cX8_init 103 = .ok (.newarray .int, 2) := dk_188_10 (dk_at dksX8_init_4 10 rfl rfl)
theorem dX8_init_105 : decode cX8_init 105 = .ok (.putfield 46, 3) := dk_181 0 46 (dk_at dksX8_init_4 12 rfl rfl)
theorem dX8_init_108 : decode cX8_init 108 = .ok (.aload_n 0, 1) := dk_42 (dk_at dksX8_init_4 15 rfl rfl)
theorem dX8_init_109 : decode cX8_init 109 = .ok (.bipush 96, 2) := dk_16 96 (dk_at dksX8_init_4 16 rfl rfl)
theorem dX8_init_111 : decode cX8_init 111 = .ok (.newarray .boolean, 2) := dk_188_4 (dk_at dksX8_init_4 18 rfl rfl)
theorem dX8_init_113 : decode cX8_init 113 = .ok (.putfield 49, 3) := dk_181 0 49 (dk_at dksX8_init_4 20 rfl rfl)
theorem dX8_init_116 : decode cX8_init 116 = .ok (.aload_n 0, 1) := dk_42 (dk_at dksX8_init_4 23 rfl rfl)
theorem dX8_init_117 : decode cX8_init 117 = .ok (.sipush 210, 3) := dk_17 0 210 (dk_at dksX8_init_5 0 rfl rfl)
theorem dX8_init_120 : decode cX8_init 120 = .ok (.newarray .int, 2) := dk_188_10 (dk_at dksX8_init_5 3 rfl rfl)
theorem dX8_init_122 : decode cX8_init 122 = .ok (.putfield 53, 3) := dk_181 0 53 (dk_at dksX8_init_5 5 rfl rfl)
theorem dX8_init_125 : decode cX8_init 125 = .ok (.aload_n 0, 1) := dk_42 (dk_at dksX8_init_5 8 rfl rfl)
theorem dX8_init_126 : decode cX8_init 126 = .ok (.sipush 210, 3) := dk_17 0 210 (dk_at dksX8_init_5 9 rfl rfl)
theorem dX8_init_129 : decode cX8_init 129 = .ok (.newarray .int, 2) := dk_188_10 (dk_at dksX8_init_5 12 rfl rfl)
theorem dX8_init_131 : decode cX8_init 131 = .ok (.putfield 56, 3) := dk_181 0 56 (dk_at dksX8_init_5 14 rfl rfl)
theorem dX8_init_134 : decode cX8_init 134 = .ok (.aload_n 0, 1) := dk_42 (dk_at dksX8_init_5 17 rfl rfl)
theorem dX8_init_135 : decode cX8_init 135 = .ok (.sipush 210, 3) := dk_17 0 210 (dk_at dksX8_init_5 18 rfl rfl)
theorem dX8_init_138 : decode cX8_init 138 = .ok (.newarray .int, 2) := dk_188_10 (dk_at dksX8_init_5 21 rfl rfl)
theorem dX8_init_140 : decode cX8_init 140 = .ok (.putfield 59, 3) := dk_181 0 59 (dk_at dksX8_init_6 0 rfl rfl)
theorem dX8_init_143 : decode cX8_init 143 = .ok (.aload_n 0, 1) := dk_42 (dk_at dksX8_init_6 3 rfl rfl)
theorem dX8_init_144 : decode cX8_init 144 = .ok (.sipush 210, 3) := dk_17 0 210 (dk_at dksX8_init_6 4 rfl rfl)
theorem dX8_init_147 : decode cX8_init 147 = .ok (.newarray .int, 2) := dk_188_10 (dk_at dksX8_init_6 7 rfl rfl)
theorem dX8_init_149 : decode cX8_init 149 = .ok (.putfield 62, 3) := dk_181 0 62 (dk_at dksX8_init_6 9 rfl rfl)
theorem dX8_init_152 : decode cX8_init 152 = .ok (.aload_n 0, 1) := dk_42 (dk_at dksX8_init_6 12 rfl rfl)
theorem dX8_init_153 : decode cX8_init 153 = .ok (.sipush 210, 3) := dk_17 0 210 (dk_at dksX8_init_6 13 rfl rfl)
theorem dX8_init_156 : decode cX8_init 156 = .ok (.newarray .int, 2) := dk_188_10 (dk_at dksX8_init_6 16 rfl rfl)
theorem dX8_init_158 : decode cX8_init 158 = .ok (.putfield 65, 3) := dk_181 0 65 (dk_at dksX8_init_6 18 rfl rfl)
theorem dX8_init_161 : decode cX8_init 161 = .ok (.aload_n 0, 1) := dk_42 (dk_at dksX8_init_6 21 rfl rfl)
theorem dX8_init_162 : decode cX8_init 162 = .ok (.sipush 210, 3) := dk_17 0 210 (dk_at dksX8_init_7 0 rfl rfl)
theorem dX8_init_165 : decode cX8_init 165 = .ok (.newarray .int, 2) := dk_188_10 (dk_at dksX8_init_7 3 rfl rfl)
theorem dX8_init_167 : decode cX8_init 167 = .ok (.putfield 68, 3) := dk_181 0 68 (dk_at dksX8_init_7 5 rfl rfl)
theorem dX8_init_170 : decode cX8_init 170 = .ok (.aload_n 0, 1) := dk_42 (dk_at dksX8_init_7 8 rfl rfl)
theorem dX8_init_171 : decode cX8_init 171 = .ok (.sipush 210, 3) := dk_17 0 210 (dk_at dksX8_init_7 9 rfl rfl)
theorem dX8_init_174 : decode cX8_init 174 = .ok (.newarray .int, 2) := dk_188_10 (dk_at dksX8_init_7 12 rfl rfl)
theorem dX8_init_176 : decode cX8_init 176 = .ok (.putfield 71, 3) := dk_181 0 71 (dk_at dksX8_init_7 14 rfl rfl)
theorem dX8_init_179 : decode cX8_init 179 = .ok (.aload_n 0, 1) := dk_42 (dk_at dksX8_init_7 17 rfl rfl)
theorem dX8_init_180 : decode cX8_init 180 = .ok (.sipush 210, 3) := dk_17 0 210 (dk_at dksX8_init_7 18 rfl rfl)
theorem dX8_init_183 : decode cX8_init 183 = .ok (.newarray .int, 2) := dk_188_10 (dk_at dksX8_init_7 21 rfl rfl)
theorem dX8_init_185 : decode cX8_init 185 = .ok (.putfield 74, 3) := dk_181 0 74 (dk_at dksX8_init_8 0 rfl rfl)
theorem dX8_init_188 : decode cX8_init 188 = .ok (.aload_n 0, 1) := dk_42 (dk_at dksX8_init_8 3 rfl rfl)
theorem dX8_init_189 : decode cX8_init 189 = .ok (.sipush 30630, 3) := dk_17 119 166 (dk_at dksX8_init_8 4 rfl rfl)
theorem dX8_init_192 : decode cX8_init 192 = .ok (.newarray .boolean, 2) := dk_188_4 (dk_at dksX8_init_8 7 rfl rfl)
theorem dX8_init_194 : decode cX8_init 194 = .ok (.putfield 77, 3) := dk_181 0 77 (dk_at dksX8_init_8 9 rfl rfl)
theorem dX8_init_197 : decode cX8_init 197 = .ok (.aload_n 0, 1) := dk_42 (dk_at dksX8_init_8 12 rfl rfl)
theorem dX8_init_198 : decode cX8_init 198 = .ok (.bipush 48, 2) := dk_16 48 (dk_at dksX8_init_8 13 rfl rfl)
theorem dX8_init_200 : decode cX8_init 200 = .ok (.newarray .int, 2) := dk_188_10 (dk_at dksX8_init_8 15 rfl rfl)
theorem dX8_init_202 : decode cX8_init 202 = .ok (.putfield 80, 3) := dk_181 0 80 (dk_at dksX8_init_8 17 rfl rfl)
theorem dX8_init_205 : decode cX8_init 205 = .ok (.aload_n 0, 1) := dk_42 (dk_at dksX8_init_8 20 rfl rfl)
theorem dX8_init_206 : decode cX8_init 206 = .ok (.bipush 12, 2) := dk_16 12 (dk_at dksX8_init_8 21 rfl rfl)
theorem dX8_init_208 : decode cX8_init 208 = .ok (.newarray .int, 2) := dk_188_10 (dk_at dksX8_init_9 0 rfl rfl)
theorem dX8_init_210 : decode cX8_init 210 = .ok (.putfield 83, 3) := dk_181 0 83 (dk_at dksX8_init_9 2 rfl rfl)
theorem dX8_init_213 : decode cX8_init 213 = .ok (.aload_n 0, 1) := dk_42 (dk_at dksX8_init_9 5 rfl rfl)
theorem dX8_init_214 : decode cX8_init 214 = .ok (.sipush 3600, 3) := dk_17 14 16 (dk_at dksX8_init_9 6 rfl rfl)
theorem dX8_init_217 : decode cX8_init 217 = .ok (.newarray .int, 2) := dk_188_10 (dk_at dksX8_init_9 9 rfl rfl)
theorem dX8_init_219 : decode cX8_init 219 = .ok (.putfield 86, 3) := dk_181 0 86 (dk_at dksX8_init_9 11 rfl rfl)
theorem dX8_init_222 : decode cX8_init 222 = .ok (.aload_n 0, 1) := dk_42 (dk_at dksX8_init_9 14 rfl rfl)
theorem dX8_init_223 : decode cX8_init 223 = .ok (.sipush 3600, 3) := dk_17 14 16 (dk_at dksX8_init_9 15 rfl rfl)
theorem dX8_init_226 : decode cX8_init 226 = .ok (.newarray .boolean, 2) := dk_188_4 (dk_at dksX8_init_9 18 rfl rfl)
theorem dX8_init_228 : decode cX8_init 228 = .ok (.putfield 89, 3) := dk_181 0 89 (dk_at dksX8_init_9 20 rfl rfl)
theorem dX8_init_231 : decode cX8_init 231 = .ok (.aload_n 0, 1) := dk_42 (dk_at dksX8_init_9 23 rfl rfl)
theorem dX8_init_232 : decode cX8_init 232 = .ok (.sipush 3600, 3) := dk_17 14 16 (dk_at dksX8_init_10 0 rfl rfl)
theorem dX8_init_235 : decode cX8_init 235 = .ok (.newarray .int, 2) := dk_188_10 (dk_at dksX8_init_10 3 rfl rfl)
theorem dX8_init_237 : decode cX8_init 237 = .ok (.putfield 92, 3) := dk_181 0 92 (dk_at dksX8_init_10 5 rfl rfl)
theorem dX8_init_240 : decode cX8_init 240 = .ok (.aload_n 0, 1) := dk_42 (dk_at dksX8_init_10 8 rfl rfl)
theorem dX8_init_241 : decode cX8_init 241 = .ok (.bipush 64, 2) := dk_16 64 (dk_at dksX8_init_10 9 rfl rfl)
theorem dX8_init_243 : decode cX8_init 243 = .ok (.newarray .int, 2) := dk_188_10 (dk_at dksX8_init_10 11 rfl rfl)
theorem dX8_init_245 : decode cX8_init 245 = .ok (.putfield 95, 3) := dk_181 0 95 (dk_at dksX8_init_10 13 rfl rfl)
theorem dX8_init_248 : decode cX8_init 248 = .ok (.aload_n 0, 1) := dk_42 (dk_at dksX8_init_10 16 rfl rfl)
theorem dX8_init_249 : decode cX8_init 249 = .ok (.bipush 64, 2) := dk_16 64 (dk_at dksX8_init_10 17 rfl rfl)
theorem dX8_init_251 : decode cX8_init 251 = .ok (.newarray .int, 2) := dk_188_10 (dk_at dksX8_init_10 19 rfl rfl)
theorem dX8_init_253 : decode cX8_init 253 = .ok (.putfield 98, 3) := dk_181 0 98 (dk_at dksX8_init_10 21 rfl rfl)
theorem dX8_init_256 : decode cX8_init 256 = .ok (.aload_n 0, 1) := dk_42 (dk_at dksX8_init_11 0 rfl rfl)
theorem dX8_init_257 : decode cX8_init 257 = .ok (.bipush 64, 2) := dk_16 64 (dk_at dksX8_init_11 1 rfl rfl)
theorem dX8_init_259 : decode cX8_init 259 = .ok (.newarray .int, 2) := dk_188_10 (dk_at dksX8_init_11 3 rfl rfl)
theorem dX8_init_261 : decode cX8_init 261 = .ok (.putfield 101, 3) := dk_181 0 101 (dk_at dksX8_init_11 5 rfl rfl)
theorem dX8_init_264 : decode cX8_init 264 = .ok (.aload_n 0, 1) := dk_42 (dk_at dksX8_init_11 8 rfl rfl)
theorem dX8_init_265 : decode cX8_init 265 = .ok (.iconst 2, 1) := dk_5 (dk_at dksX8_init_11 9 rfl rfl)
theorem dX8_init_266 : decode cX8_init 266 = .ok (.newarray .int, 2) := dk_188_10 (dk_at dksX8_init_11 10 rfl rfl)
theorem dX8_init_268 : decode cX8_init 268 = .ok (.putfield 104, 3) := dk_181 0 104 (dk_at dksX8_init_11 12 rfl rfl)
theorem dX8_init_271 : decode cX8_init 271 = .ok (.aload_n 0, 1) := dk_42 (dk_at dksX8_init_11 15 rfl rfl)
theorem dX8_init_272 : decode cX8_init 272 = .ok (.iconst 2, 1) := dk_5 (dk_at dksX8_init_11 16 rfl rfl)
theorem dX8_init_273 : decode cX8_init 273 = .ok (.newarray .int, 2) := dk_188_10 (dk_at dksX8_init_11 17 rfl rfl)
theorem dX8_init_275 : decode cX8_init 275 = .ok (.putfield 107, 3) := dk_181 0 107 (dk_at dksX8_init_11 19 rfl rfl)
theorem dX8_init_278 : decode cX8_init 278 = .ok (.aload_n 0, 1) := dk_42 (dk_at dksX8_init_11 22 rfl rfl)
theorem dX8_init_279 : decode cX8_init 279 = .ok (.bipush 80, 2) := dk_16 80 (dk_at dksX8_init_12 0 rfl rfl)
theorem dX8_init_281 : decode cX8_init 281 = .ok (.newarray .int, 2) := dk_188_10 (dk_at dksX8_init_12 2 rfl rfl)
theorem dX8_init_283 : decode cX8_init 283 = .ok (.putfield 110, 3) := dk_181 0 110 (dk_at dksX8_init_12 4 rfl rfl)
theorem dX8_init_286 : decode cX8_init 286 = .ok (.aload_n 0, 1) := dk_42 (dk_at dksX8_init_12 7 rfl rfl)
theorem dX8_init_287 : decode cX8_init 287 = .ok (.iconst 2, 1) := dk_5 (dk_at dksX8_init_12 8 rfl rfl)
theorem dX8_init_288 : decode cX8_init 288 = .ok (.newarray .int, 2) := dk_188_10 (dk_at dksX8_init_12 9 rfl rfl)
theorem dX8_init_290 : decode cX8_init 290 = .ok (.putfield 113, 3) := dk_181 0 113 (dk_at dksX8_init_12 11 rfl rfl)
theorem dX8_init_293 : decode cX8_init 293 = .ok (.aload_n 0, 1) := dk_42 (dk_at dksX8_init_12 14 rfl rfl)
theorem dX8_init_294 : decode cX8_init 294 = .ok (.bipush 24, 2) := dk_16 24 (dk_at dksX8_init_12 15 rfl rfl)
theorem dX8_init_296 : decode cX8_init 296 = .ok (.newarray .int, 2) := dk_188_10 (dk_at dksX8_init_12 17 rfl rfl)
theorem dX8_init_298 : decode cX8_init 298 = .ok (.putfield 116, 3) := dk_181 0 116 (dk_at dksX8_init_12 19 rfl rfl)
theorem dX8_init_301 : decode cX8_init 301 = .ok (.aload_n 0, 1) := dk_42 (dk_at dksX8_init_12 22 rfl rfl)
theorem dX8_init_302 : decode cX8_init 302 = .ok (.sipush 180, 3) := dk_17 0 180 (dk_at dksX8_init_13 0 rfl rfl)
theorem dX8_init_305 : decode cX8_init 305 = .ok (.newarray .int, 2) := dk_188_10 (dk_at dksX8_init_13 3 rfl rfl)
theorem dX8_init_307 : decode cX8_init 307 = .ok (.putfield 119, 3) := dk_181 0 119 (dk_at dksX8_init_13 5 rfl rfl)
theorem dX8_init_310 : decode cX8_init 310 = .ok (.aload_n 0, 1) := dk_42 (dk_at dksX8_init_13 8 rfl rfl)
theorem dX8_init_311 : decode cX8_init 311 = .ok (.getfield 104, 3) := dk_180 0 104 (dk_at dksX8_init_13 9 rfl rfl)
theorem dX8_init_314 : decode cX8_init 314 = .ok (.iconst 0, 1) := dk_3 (dk_at dksX8_init_13 12 rfl rfl)
theorem dX8_init_315 : decode cX8_init 315 = .ok (.iconst (-1), 1) := dk_2 (dk_at dksX8_init_13 13 rfl rfl)
theorem dX8_init_316 : decode cX8_init 316 = .ok (.iastore, 1) := dk_79 (dk_at dksX8_init_13 14 rfl rfl)
theorem dX8_init_317 : decode cX8_init 317 = .ok (.aload_n 0, 1) := dk_42 (dk_at dksX8_init_13 15 rfl rfl)
theorem dX8_init_318 : decode cX8_init 318 = .ok (.getfield 104, 3) := dk_180 0 104 (dk_at dksX8_init_13 16 rfl rfl)
theorem dX8_init_321 : decode cX8_init 321 = .ok (.iconst 1, 1) := dk_4 (dk_at dksX8_init_13 19 rfl rfl)
theorem dX8_init_322 : decode cX8_init 322 = .ok (.iconst (-1), 1) := dk_2 (dk_at dksX8_init_13 20 rfl rfl)
theorem dX8_init_323 : decode cX8_init 323 = .ok (.iastore, 1) := dk_79 (dk_at dksX8_init_13 21 rfl rfl)
theorem dX8_init_324 : decode cX8_init 324 = .ok (.iconst 0, 1) := dk_3 (dk_at dksX8_init_13 22 rfl rfl)
theorem dX8_init_325 : decode cX8_init 325 = .ok (.istore_n 1, 1) := dk_60 (dk_at dksX8_init_13 23 rfl rfl)
theorem dX8_init_326 : decode cX8_init 326 = .ok (.iload_n 1, 1) := dk_27 (dk_at dksX8_init_14 0 rfl rfl)
theorem dX8_init_327 : decode cX8_init 327 = .ok (.bipush 12, 2) := dk_16 12 (dk_at dksX8_init_14 1 rfl rfl)
theorem dX8_init_329 : decode cX8_init 329 = .ok (.if_icmp .ge 17, 3) := dk_162 0 17 (dk_at dksX8_init_14 3 rfl rfl)
theorem dX8_init_332 : decode cX8_init 332 = .ok (.aload_n 0, 1) := dk_42 (dk_at dksX8_init_14 6 rfl rfl)
theorem dX8_init_333 : decode cX8_init 333 = .ok (.getfield 28, 3) := dk_180 0 28 (dk_at dksX8_init_14 7 rfl rfl)
theorem dX8_init_336 : decode cX8_init 336 = .ok (.iload_n 1, 1) := dk_27 (dk_at dksX8_init_14 10 rfl rfl)
theorem dX8_init_337 : decode cX8_init 337 = .ok (.bipush 99, 2) := dk_16 99 (dk_at dksX8_init_14 11 rfl rfl)
theorem dX8_init_339 : decode cX8_init 339 = .ok (.iastore, 1) := dk_79 (dk_at dksX8_init_14 13 rfl rfl)
theorem dX8_init_340 : decode cX8_init 340 = .ok (.iinc 1 1, 3) := dk_132 1 1 (dk_at dksX8_init_14 14 rfl rfl)
theorem dX8_init_343 : decode cX8_init 343 = .ok (.goto (-17), 3) := dk_167 255 239 (dk_at dksX8_init_14 17 rfl rfl)
theorem dX8_init_346 : decode cX8_init 346 = .ok (.iconst 0, 1) := dk_3 (dk_at dksX8_init_14 20 rfl rfl)
theorem dX8_init_347 : decode cX8_init 347 = .ok (.istore_n 1, 1) := dk_60 (dk_at dksX8_init_14 21 rfl rfl)
theorem dX8_init_348 : decode cX8_init 348 = .ok (.iload_n 1, 1) := dk_27 (dk_at dksX8_init_14 22 rfl rfl)
theorem dX8_init_349 : decode cX8_init 349 = .ok (.iconst 3, 1) := dk_6 (dk_at dksX8_init_14 23 rfl rfl)
theorem dX8_init_350 : decode cX8_init 350 = .ok (.if_icmp .ge 45, 3) := dk_162 0 45 (dk_at dksX8_init_15 0 rfl rfl)
theorem dX8_init_353 : decode cX8_init 353 = .ok (.aload_n 0, 1) := dk_42 (dk_at dksX8_init_15 3 rfl rfl)
theorem dX8_init_354 : decode cX8_init 354 = .ok (.getfield 31, 3) := dk_180 0 31 (dk_at dksX8_init_15 4 rfl rfl)
theorem dX8_init_357 : decode cX8_init 357 = .ok (.iload_n 1, 1) := dk_27 (dk_at dksX8_init_15 7 rfl rfl)
theorem dX8_init_358 : decode cX8_init 358 = .ok (.bipush 7, 2) := dk_16 7 (dk_at dksX8_init_15 8 rfl rfl)
theorem dX8_init_360 : decode cX8_init 360 = .ok (.iastore, 1) := dk_79 (dk_at dksX8_init_15 10 rfl rfl)
theorem dX8_init_361 : decode cX8_init 361 = .ok (.iconst 0, 1) := dk_3 (dk_at dksX8_init_15 11 rfl rfl)
theorem dX8_init_362 : decode cX8_init 362 = .ok (.istore_n 2, 1) := dk_61 (dk_at dksX8_init_15 12 rfl rfl)
theorem dX8_init_363 : decode cX8_init 363 = .ok (.iload_n 2, 1) := dk_28 (dk_at dksX8_init_15 13 rfl rfl)
theorem dX8_init_364 : decode cX8_init 364 = .ok (.bipush 16, 2) := dk_16 16 (dk_at dksX8_init_15 14 rfl rfl)
theorem dX8_init_366 : decode cX8_init 366 = .ok (.if_icmp .ge 23, 3) := dk_162 0 23 (dk_at dksX8_init_15 16 rfl rfl)
theorem dX8_init_369 : decode cX8_init 369 = .ok (.aload_n 0, 1) := dk_42 (dk_at dksX8_init_15 19 rfl rfl)
theorem dX8_init_370 : decode cX8_init 370 = .ok (.getfield 80, 3) := dk_180 0 80 (dk_at dksX8_init_15 20 rfl rfl)
theorem dX8_init_373 : decode cX8_init 373 = .ok (.bipush 16, 2) := dk_16 16 (dk_at dksX8_init_16 0 rfl rfl)
theorem dX8_init_375 : decode cX8_init 375 = .ok (.iload_n 1, 1) := dk_27 (dk_at dksX8_init_16 2 rfl rfl)
theorem dX8_init_376 : decode cX8_init 376 = .ok (.imul, 1) := dk_104 (dk_at dksX8_init_16 3 rfl rfl)
theorem dX8_init_377 : decode cX8_init 377 = .ok (.iload_n 2, 1) := dk_28 (dk_at dksX8_init_16 4 rfl rfl)
theorem dX8_init_378 : decode cX8_init 378 = .ok (.iadd, 1) := dk_96 (dk_at dksX8_init_16 5 rfl rfl)
theorem dX8_init_379 : decode cX8_init 379 = .ok (.sipush (-1000), 3) := dk_17 252 24 (dk_at dksX8_init_16 6 rfl rfl)
theorem dX8_init_382 : decode cX8_init 382 = .ok (.iastore, 1) := dk_79 (dk_at dksX8_init_16 9 rfl rfl)
theorem dX8_init_383 : decode cX8_init 383 = .ok (.iinc 2 1, 3) := dk_132 2 1 (dk_at dksX8_init_16 10 rfl rfl)
theorem dX8_init_386 : decode cX8_init 386 = .ok (.goto (-23), 3) := dk_167 255 233 (dk_at dksX8_init_16 13 rfl rfl)
theorem dX8_init_389 : decode cX8_init 389 = .ok (.iinc 1 1, 3) := dk_132 1 1 (dk_at dksX8_init_16 16 rfl rfl)
theorem dX8_init_392 : decode cX8_init 392 = .ok (.goto (-44), 3) := dk_167 255 212 (dk_at dksX8_init_16 19 rfl rfl)
theorem dX8_init_395 : decode cX8_init 395 = .ok (.return_, 1) := dk_177 (dk_at dksX8_init_16 22 rfl rfl)
abbrev cX8_type : ByteArray := prog_21_method_6_code
def yX8_type : MethodName := ⟨RX8, "type", "(JI)I"⟩
def dkwX8_type_4 : List UInt8 := [42, 89, 180, 0, 128, 4, 96, 181, 0, 128, 132, 4, 255, 167, 255, 217, 42, 180, 0, 128, 172]
abbrev dktX8_type_4 : List UInt8 := dkwX8_type_4 ++ []
def dkwX8_type_3 : List UInt8 := [155, 0, 40, 42, 180, 0, 7, 42, 180, 0, 128, 31, 16, 8, 21, 4, 104, 123, 20, 0, 126, 127, 136, 79]
abbrev dktX8_type_3 : List UInt8 := dkwX8_type_3 ++ dktX8_type_4
def dkwX8_type_2 : List UInt8 := [167, 255, 223, 42, 180, 0, 128, 29, 96, 16, 90, 164, 0, 6, 16, 253, 172, 29, 4, 100, 54, 4, 21, 4]
abbrev dktX8_type_2 : List UInt8 := dkwX8_type_2 ++ dktX8_type_3
def dkwX8_type_1 : List UInt8 := [21, 4, 104, 123, 20, 0, 126, 127, 136, 16, 32, 16, 126, 184, 0, 122, 154, 0, 5, 2, 172, 132, 4, 1]
abbrev dktX8_type_1 : List UInt8 := dkwX8_type_1 ++ dktX8_type_2
def dkwX8_type_0 : List UInt8 := [29, 4, 16, 8, 184, 0, 122, 154, 0, 5, 2, 172, 3, 54, 4, 21, 4, 29, 162, 0, 33, 31, 16, 8]
abbrev dktX8_type_0 : List UInt8 := dkwX8_type_0 ++ dktX8_type_1
theorem dksX8_type_0 : cX8_type.data.toList.drop 0 = dktX8_type_0 := by decide +kernel
theorem dksX8_type_1 : cX8_type.data.toList.drop 24 = dktX8_type_1 := dk_seg dksX8_type_0 24 rfl rfl
theorem dksX8_type_2 : cX8_type.data.toList.drop 48 = dktX8_type_2 := dk_seg dksX8_type_1 24 rfl rfl
theorem dksX8_type_3 : cX8_type.data.toList.drop 72 = dktX8_type_3 := dk_seg dksX8_type_2 24 rfl rfl
theorem dksX8_type_4 : cX8_type.data.toList.drop 96 = dktX8_type_4 := dk_seg dksX8_type_3 24 rfl rfl
theorem dX8_type_0 : decode cX8_type 0 = .ok (.iload_n 3, 1) := dk_29 (dk_at dksX8_type_0 0 rfl rfl)
theorem dX8_type_1 : decode cX8_type 1 = .ok (.iconst 1, 1) := dk_4 (dk_at dksX8_type_0 1 rfl rfl)
theorem dX8_type_2 : decode cX8_type 2 = .ok (.bipush 8, 2) := dk_16 8 (dk_at dksX8_type_0 2 rfl rfl)
theorem dX8_type_4 : decode cX8_type 4 = .ok (.invokestatic 122, 3) := dk_184 0 122 (dk_at dksX8_type_0 4 rfl rfl)
theorem dX8_type_7 : decode cX8_type 7 = .ok (.ifCond .ne 5, 3) := dk_154 0 5 (dk_at dksX8_type_0 7 rfl rfl)
theorem dX8_type_10 : decode cX8_type 10 = .ok (.iconst (-1), 1) := dk_2 (dk_at dksX8_type_0 10 rfl rfl)
theorem dX8_type_11 : decode cX8_type 11 = .ok (.ireturn, 1) := dk_172 (dk_at dksX8_type_0 11 rfl rfl)
theorem dX8_type_12 : decode cX8_type 12 = .ok (.iconst 0, 1) := dk_3 (dk_at dksX8_type_0 12 rfl rfl)
theorem dX8_type_13 : decode cX8_type 13 = .ok (.istore 4, 2) := dk_54 4 (dk_at dksX8_type_0 13 rfl rfl)
theorem dX8_type_15 : decode cX8_type 15 = .ok (.iload 4, 2) := dk_21 4 (dk_at dksX8_type_0 15 rfl rfl)
theorem dX8_type_17 : decode cX8_type 17 = .ok (.iload_n 3, 1) := dk_29 (dk_at dksX8_type_0 17 rfl rfl)
theorem dX8_type_18 : decode cX8_type 18 = .ok (.if_icmp .ge 33, 3) := dk_162 0 33 (dk_at dksX8_type_0 18 rfl rfl)
theorem dX8_type_21 : decode cX8_type 21 = .ok (.lload_n 1, 1) := dk_31 (dk_at dksX8_type_0 21 rfl rfl)
theorem dX8_type_22 : decode cX8_type 22 = .ok (.bipush 8, 2) := dk_16 8 (dk_at dksX8_type_0 22 rfl rfl)
theorem dX8_type_24 : decode cX8_type 24 = .ok (.iload 4, 2) := dk_21 4 (dk_at dksX8_type_1 0 rfl rfl)
theorem dX8_type_26 : decode cX8_type 26 = .ok (.imul, 1) := dk_104 (dk_at dksX8_type_1 2 rfl rfl)
theorem dX8_type_27 : decode cX8_type 27 = .ok (.lshr, 1) := dk_123 (dk_at dksX8_type_1 3 rfl rfl)
theorem dX8_type_28 : decode cX8_type 28 = .ok (.ldc2_w 126, 3) := dk_20 0 126 (dk_at dksX8_type_1 4 rfl rfl)
theorem dX8_type_31 : decode cX8_type 31 = .ok (.land, 1) := dk_127 (dk_at dksX8_type_1 7 rfl rfl)
theorem dX8_type_32 : decode cX8_type 32 = .ok (.l2i, 1) := dk_136 (dk_at dksX8_type_1 8 rfl rfl)
theorem dX8_type_33 : decode cX8_type 33 = .ok (.bipush 32, 2) := dk_16 32 (dk_at dksX8_type_1 9 rfl rfl)
theorem dX8_type_35 : decode cX8_type 35 = .ok (.bipush 126, 2) := dk_16 126 (dk_at dksX8_type_1 11 rfl rfl)
theorem dX8_type_37 : decode cX8_type 37 = .ok (.invokestatic 122, 3) := dk_184 0 122 (dk_at dksX8_type_1 13 rfl rfl)
theorem dX8_type_40 : decode cX8_type 40 = .ok (.ifCond .ne 5, 3) := dk_154 0 5 (dk_at dksX8_type_1 16 rfl rfl)
theorem dX8_type_43 : decode cX8_type 43 = .ok (.iconst (-1), 1) := dk_2 (dk_at dksX8_type_1 19 rfl rfl)
theorem dX8_type_44 : decode cX8_type 44 = .ok (.ireturn, 1) := dk_172 (dk_at dksX8_type_1 20 rfl rfl)
theorem dX8_type_45 : decode cX8_type 45 = .ok (.iinc 4 1, 3) := dk_132 4 1 (dk_at dksX8_type_1 21 rfl rfl)
theorem dX8_type_48 : decode cX8_type 48 = .ok (.goto (-33), 3) := dk_167 255 223 (dk_at dksX8_type_2 0 rfl rfl)
theorem dX8_type_51 : decode cX8_type 51 = .ok (.aload_n 0, 1) := dk_42 (dk_at dksX8_type_2 3 rfl rfl)
theorem dX8_type_52 : decode cX8_type 52 = .ok (.getfield 128, 3) := dk_180 0 128 (dk_at dksX8_type_2 4 rfl rfl)
theorem dX8_type_55 : decode cX8_type 55 = .ok (.iload_n 3, 1) := dk_29 (dk_at dksX8_type_2 7 rfl rfl)
theorem dX8_type_56 : decode cX8_type 56 = .ok (.iadd, 1) := dk_96 (dk_at dksX8_type_2 8 rfl rfl)
theorem dX8_type_57 : decode cX8_type 57 = .ok (.bipush 90, 2) := dk_16 90 (dk_at dksX8_type_2 9 rfl rfl)
theorem dX8_type_59 : decode cX8_type 59 = .ok (.if_icmp .le 6, 3) := dk_164 0 6 (dk_at dksX8_type_2 11 rfl rfl)
theorem dX8_type_62 : decode cX8_type 62 = .ok (.bipush (-3), 2) := dk_16 253 (dk_at dksX8_type_2 14 rfl rfl)
theorem dX8_type_64 : decode cX8_type 64 = .ok (.ireturn, 1) := dk_172 (dk_at dksX8_type_2 16 rfl rfl)
theorem dX8_type_65 : decode cX8_type 65 = .ok (.iload_n 3, 1) := dk_29 (dk_at dksX8_type_2 17 rfl rfl)
theorem dX8_type_66 : decode cX8_type 66 = .ok (.iconst 1, 1) := dk_4 (dk_at dksX8_type_2 18 rfl rfl)
theorem dX8_type_67 : decode cX8_type 67 = .ok (.isub, 1) := dk_100 (dk_at dksX8_type_2 19 rfl rfl)
theorem dX8_type_68 : decode cX8_type 68 = .ok (.istore 4, 2) := dk_54 4 (dk_at dksX8_type_2 20 rfl rfl)
theorem dX8_type_70 : decode cX8_type 70 = .ok (.iload 4, 2) := dk_21 4 (dk_at dksX8_type_2 22 rfl rfl)
theorem dX8_type_72 : decode cX8_type 72 = .ok (.ifCond .lt 40, 3) := dk_155 0 40 (dk_at dksX8_type_3 0 rfl rfl)
theorem dX8_type_75 : decode cX8_type 75 = .ok (.aload_n 0, 1) := dk_42 (dk_at dksX8_type_3 3 rfl rfl)
theorem dX8_type_76 : decode cX8_type 76 = .ok (.getfield 7, 3) := dk_180 0 7 (dk_at dksX8_type_3 4 rfl rfl)
theorem dX8_type_79 : decode cX8_type 79 = .ok (.aload_n 0, 1) := dk_42 (dk_at dksX8_type_3 7 rfl rfl)
theorem dX8_type_80 : decode cX8_type 80 = .ok (.getfield 128, 3) := dk_180 0 128 (dk_at dksX8_type_3 8 rfl rfl)
theorem dX8_type_83 : decode cX8_type 83 = .ok (.lload_n 1, 1) := dk_31 (dk_at dksX8_type_3 11 rfl rfl)
theorem dX8_type_84 : decode cX8_type 84 = .ok (.bipush 8, 2) := dk_16 8 (dk_at dksX8_type_3 12 rfl rfl)
theorem dX8_type_86 : decode cX8_type 86 = .ok (.iload 4, 2) := dk_21 4 (dk_at dksX8_type_3 14 rfl rfl)
theorem dX8_type_88 : decode cX8_type 88 = .ok (.imul, 1) := dk_104 (dk_at dksX8_type_3 16 rfl rfl)
theorem dX8_type_89 : decode cX8_type 89 = .ok (.lshr, 1) := dk_123 (dk_at dksX8_type_3 17 rfl rfl)
theorem dX8_type_90 : decode cX8_type 90 = .ok (.ldc2_w 126, 3) := dk_20 0 126 (dk_at dksX8_type_3 18 rfl rfl)
theorem dX8_type_93 : decode cX8_type 93 = .ok (.land, 1) := dk_127 (dk_at dksX8_type_3 21 rfl rfl)
theorem dX8_type_94 : decode cX8_type 94 = .ok (.l2i, 1) := dk_136 (dk_at dksX8_type_3 22 rfl rfl)
theorem dX8_type_95 : decode cX8_type 95 = .ok (.iastore, 1) := dk_79 (dk_at dksX8_type_3 23 rfl rfl)
theorem dX8_type_96 : decode cX8_type 96 = .ok (.aload_n 0, 1) := dk_42 (dk_at dksX8_type_4 0 rfl rfl)
theorem dX8_type_97 : decode cX8_type 97 = .ok (.dup, 1) := dk_89 (dk_at dksX8_type_4 1 rfl rfl)
theorem dX8_type_98 : decode cX8_type 98 = .ok (.getfield 128, 3) := dk_180 0 128 (dk_at dksX8_type_4 2 rfl rfl)
theorem dX8_type_101 : decode cX8_type 101 = .ok (.iconst 1, 1) := dk_4 (dk_at dksX8_type_4 5 rfl rfl)
theorem dX8_type_102 : decode cX8_type 102 = .ok (.iadd, 1) := dk_96 (dk_at dksX8_type_4 6 rfl rfl)
theorem dX8_type_103 : decode cX8_type 103 = .ok (.putfield 128, 3) := dk_181 0 128 (dk_at dksX8_type_4 7 rfl rfl)
theorem dX8_type_106 : decode cX8_type 106 = .ok (.iinc 4 (-1), 3) := dk_132 4 255 (dk_at dksX8_type_4 10 rfl rfl)
theorem dX8_type_109 : decode cX8_type 109 = .ok (.goto (-39), 3) := dk_167 255 217 (dk_at dksX8_type_4 13 rfl rfl)
theorem dX8_type_112 : decode cX8_type 112 = .ok (.aload_n 0, 1) := dk_42 (dk_at dksX8_type_4 16 rfl rfl)
theorem dX8_type_113 : decode cX8_type 113 = .ok (.getfield 128, 3) := dk_180 0 128 (dk_at dksX8_type_4 17 rfl rfl)
theorem dX8_type_116 : decode cX8_type 116 = .ok (.ireturn, 1) := dk_172 (dk_at dksX8_type_4 20 rfl rfl)
abbrev cX8_in : ByteArray := prog_21_method_2_code
def yX8_in : MethodName := ⟨RX8, "in", "(III)Z"⟩
def dkwX8_in_0 : List UInt8 := [26, 27, 161, 0, 12, 26, 28, 163, 0, 7, 4, 167, 0, 4, 3, 172]
abbrev dktX8_in_0 : List UInt8 := dkwX8_in_0 ++ []
theorem dksX8_in_0 : cX8_in.data.toList.drop 0 = dktX8_in_0 := by decide +kernel
theorem dX8_in_0 : decode cX8_in 0 = .ok (.iload_n 0, 1) := dk_26 (dk_at dksX8_in_0 0 rfl rfl)
theorem dX8_in_1 : decode cX8_in 1 = .ok (.iload_n 1, 1) := dk_27 (dk_at dksX8_in_0 1 rfl rfl)
theorem dX8_in_2 : decode cX8_in 2 = .ok (.if_icmp .lt 12, 3) := dk_161 0 12 (dk_at dksX8_in_0 2 rfl rfl)
theorem dX8_in_5 : decode cX8_in 5 = .ok (.iload_n 0, 1) := dk_26 (dk_at dksX8_in_0 5 rfl rfl)
theorem dX8_in_6 : decode cX8_in 6 = .ok (.iload_n 2, 1) := dk_28 (dk_at dksX8_in_0 6 rfl rfl)
theorem dX8_in_7 : decode cX8_in 7 = .ok (.if_icmp .gt 7, 3) := dk_163 0 7 (dk_at dksX8_in_0 7 rfl rfl)
theorem dX8_in_10 : decode cX8_in 10 = .ok (.iconst 1, 1) := dk_4 (dk_at dksX8_in_0 10 rfl rfl)
theorem dX8_in_11 : decode cX8_in 11 = .ok (.goto 4, 3) := dk_167 0 4 (dk_at dksX8_in_0 11 rfl rfl)
theorem dX8_in_14 : decode cX8_in 14 = .ok (.iconst 0, 1) := dk_3 (dk_at dksX8_in_0 14 rfl rfl)
theorem dX8_in_15 : decode cX8_in 15 = .ok (.ireturn, 1) := dk_172 (dk_at dksX8_in_0 15 rfl rfl)
abbrev cX8_rules : ByteArray := prog_21_method_17_code
def yX8_rules : MethodName := ⟨RX8, "rules", "(I)I"⟩
def dkwX8_rules_12 : List UInt8 := [132, 3, 1, 167, 255, 148, 42, 180, 0, 177, 172]
abbrev dktX8_rules_12 : List UInt8 := dkwX8_rules_12 ++ []
def dkwX8_rules_11 : List UInt8 := [29, 104, 96, 21, 4, 96, 42, 180, 0, 43, 7, 29, 104, 21, 4, 96, 46, 79, 132, 4, 1, 167, 255, 220]
abbrev dktX8_rules_11 : List UInt8 := dkwX8_rules_11 ++ dktX8_rules_12
def dkwX8_rules_10 : List UInt8 := [180, 0, 46, 29, 46, 79, 3, 54, 4, 21, 4, 7, 162, 0, 36, 42, 180, 0, 22, 16, 24, 27, 104, 7]
abbrev dktX8_rules_10 : List UInt8 := dkwX8_rules_10 ++ dktX8_rules_11
def dkwX8_rules_9 : List UInt8 := [29, 96, 4, 96, 42, 180, 0, 40, 29, 4, 96, 46, 79, 42, 180, 0, 25, 16, 6, 27, 104, 29, 96, 42]
abbrev dktX8_rules_9 : List UInt8 := dkwX8_rules_9 ++ dktX8_rules_10
def dkwX8_rules_8 : List UInt8 := [180, 0, 19, 16, 7, 27, 104, 29, 96, 42, 180, 0, 40, 29, 46, 79, 42, 180, 0, 19, 16, 7, 27, 104]
abbrev dktX8_rules_8 : List UInt8 := dkwX8_rules_8 ++ dktX8_rules_9
def dkwX8_rules_7 : List UInt8 := [180, 0, 37, 29, 46, 79, 132, 3, 1, 167, 255, 227, 3, 62, 29, 42, 180, 0, 177, 162, 0, 106, 42]
abbrev dktX8_rules_7 : List UInt8 := dkwX8_rules_7 ++ dktX8_rules_8
def dkwX8_rules_6 : List UInt8 := [3, 62, 29, 42, 180, 0, 146, 162, 0, 27, 42, 180, 0, 16, 17, 0, 180, 27, 104, 29, 96, 42]
abbrev dktX8_rules_6 : List UInt8 := dkwX8_rules_6 ++ dktX8_rules_7
def dkwX8_rules_5 : List UInt8 := [180, 0, 135, 155, 0, 11, 16, 236, 42, 180, 0, 135, 100, 172, 42, 180, 0, 13, 27, 42, 180, 0, 177, 79]
abbrev dktX8_rules_5 : List UInt8 := dkwX8_rules_5 ++ dktX8_rules_6
def dkwX8_rules_4 : List UInt8 := [156, 0, 18, 42, 182, 0, 138, 153, 0, 11, 42, 42, 180, 0, 132, 182, 0, 142, 42, 3, 181, 0, 128, 42]
abbrev dktX8_rules_4 : List UInt8 := dkwX8_rules_4 ++ dktX8_rules_5
def dkwX8_rules_3 : List UInt8 := [89, 180, 0, 132, 28, 153, 0, 7, 4, 167, 0, 4, 3, 96, 181, 0, 132, 167, 255, 199, 42, 180, 0, 135]
abbrev dktX8_rules_3 : List UInt8 := dkwX8_rules_3 ++ dktX8_rules_4
def dkwX8_rules_2 : List UInt8 := [180, 0, 177, 16, 6, 162, 0, 16, 42, 182, 0, 138, 16, 59, 160, 0, 7, 4, 167, 0, 4, 3, 61, 42]
abbrev dktX8_rules_2 : List UInt8 := dkwX8_rules_2 ++ dktX8_rules_3
def dkwX8_rules_1 : List UInt8 := [42, 3, 181, 0, 177, 4, 61, 28, 153, 0, 59, 42, 182, 0, 189, 42, 180, 0, 135, 156, 0, 25, 42]
abbrev dktX8_rules_1 : List UInt8 := dkwX8_rules_1 ++ dktX8_rules_2
def dkwX8_rules_0 : List UInt8 := [27, 184, 0, 186, 154, 0, 5, 2, 172, 42, 3, 181, 0, 132, 42, 2, 181, 0, 135, 42, 3, 181, 0, 146]
abbrev dktX8_rules_0 : List UInt8 := dkwX8_rules_0 ++ dktX8_rules_1
theorem dksX8_rules_0 : cX8_rules.data.toList.drop 0 = dktX8_rules_0 := by decide +kernel
theorem dksX8_rules_1 : cX8_rules.data.toList.drop 24 = dktX8_rules_1 := dk_seg dksX8_rules_0 24 rfl rfl
theorem dksX8_rules_2 : cX8_rules.data.toList.drop 47 = dktX8_rules_2 := dk_seg dksX8_rules_1 23 rfl rfl
theorem dksX8_rules_3 : cX8_rules.data.toList.drop 71 = dktX8_rules_3 := dk_seg dksX8_rules_2 24 rfl rfl
theorem dksX8_rules_4 : cX8_rules.data.toList.drop 95 = dktX8_rules_4 := dk_seg dksX8_rules_3 24 rfl rfl
theorem dksX8_rules_5 : cX8_rules.data.toList.drop 119 = dktX8_rules_5 := dk_seg dksX8_rules_4 24 rfl rfl
theorem dksX8_rules_6 : cX8_rules.data.toList.drop 143 = dktX8_rules_6 := dk_seg dksX8_rules_5 24 rfl rfl
theorem dksX8_rules_7 : cX8_rules.data.toList.drop 165 = dktX8_rules_7 := dk_seg dksX8_rules_6 22 rfl rfl
theorem dksX8_rules_8 : cX8_rules.data.toList.drop 188 = dktX8_rules_8 := dk_seg dksX8_rules_7 23 rfl rfl
theorem dksX8_rules_9 : cX8_rules.data.toList.drop 212 = dktX8_rules_9 := dk_seg dksX8_rules_8 24 rfl rfl
theorem dksX8_rules_10 : cX8_rules.data.toList.drop 236 = dktX8_rules_10 := dk_seg dksX8_rules_9 24 rfl rfl
theorem dksX8_rules_11 : cX8_rules.data.toList.drop 260 = dktX8_rules_11 := dk_seg dksX8_rules_10 24 rfl rfl
theorem dksX8_rules_12 : cX8_rules.data.toList.drop 284 = dktX8_rules_12 := dk_seg dksX8_rules_11 24 rfl rfl
theorem dX8_rules_0 : decode cX8_rules 0 = .ok (.iload_n 1, 1) := dk_27 (dk_at dksX8_rules_0 0 rfl rfl)
theorem dX8_rules_1 : decode cX8_rules 1 = .ok (.invokestatic 186, 3) := dk_184 0 186 (dk_at dksX8_rules_0 1 rfl rfl)
theorem dX8_rules_4 : decode cX8_rules 4 = .ok (.ifCond .ne 5, 3) := dk_154 0 5 (dk_at dksX8_rules_0 4 rfl rfl)
theorem dX8_rules_7 : decode cX8_rules 7 = .ok (.iconst (-1), 1) := dk_2 (dk_at dksX8_rules_0 7 rfl rfl)
theorem dX8_rules_8 : decode cX8_rules 8 = .ok (.ireturn, 1) := dk_172 (dk_at dksX8_rules_0 8 rfl rfl)
theorem dX8_rules_9 : decode cX8_rules 9 = .ok (.aload_n 0, 1) := dk_42 (dk_at dksX8_rules_0 9 rfl rfl)
theorem dX8_rules_10 : decode cX8_rules 10 = .ok (.iconst 0, 1) := dk_3 (dk_at dksX8_rules_0 10 rfl rfl)
theorem dX8_rules_11 : decode cX8_rules 11 = .ok (.putfield 132, 3) := dk_181 0 132 (dk_at dksX8_rules_0 11 rfl rfl)
theorem dX8_rules_14 : decode cX8_rules 14 = .ok (.aload_n 0, 1) := dk_42 (dk_at dksX8_rules_0 14 rfl rfl)
theorem dX8_rules_15 : decode cX8_rules 15 = .ok (.iconst (-1), 1) := dk_2 (dk_at dksX8_rules_0 15 rfl rfl)
theorem dX8_rules_16 : decode cX8_rules 16 = .ok (.putfield 135, 3) := dk_181 0 135 (dk_at dksX8_rules_0 16 rfl rfl)
theorem dX8_rules_19 : decode cX8_rules 19 = .ok (.aload_n 0, 1) := dk_42 (dk_at dksX8_rules_0 19 rfl rfl)
theorem dX8_rules_20 : decode cX8_rules 20 = .ok (.iconst 0, 1) := dk_3 (dk_at dksX8_rules_0 20 rfl rfl)
theorem dX8_rules_21 : decode cX8_rules 21 = .ok (.putfield 146, 3) := dk_181 0 146 (dk_at dksX8_rules_0 21 rfl rfl)
theorem dX8_rules_24 : decode cX8_rules 24 = .ok (.aload_n 0, 1) := dk_42 (dk_at dksX8_rules_1 0 rfl rfl)
theorem dX8_rules_25 : decode cX8_rules 25 = .ok (.iconst 0, 1) := dk_3 (dk_at dksX8_rules_1 1 rfl rfl)
theorem dX8_rules_26 : decode cX8_rules 26 = .ok (.putfield 177, 3) := dk_181 0 177 (dk_at dksX8_rules_1 2 rfl rfl)
theorem dX8_rules_29 : decode cX8_rules 29 = .ok (.iconst 1, 1) := dk_4 (dk_at dksX8_rules_1 5 rfl rfl)
theorem dX8_rules_30 : decode cX8_rules 30 = .ok (.istore_n 2, 1) := dk_61 (dk_at dksX8_rules_1 6 rfl rfl)
theorem dX8_rules_31 : decode cX8_rules 31 = .ok (.iload_n 2, 1) := dk_28 (dk_at dksX8_rules_1 7 rfl rfl)
theorem dX8_rules_32 : decode cX8_rules 32 = .ok (.ifCond .eq 59, 3) := dk_153 0 59 (dk_at dksX8_rules_1 8 rfl rfl)
theorem dX8_rules_35 : decode cX8_rules 35 = .ok (.aload_n 0, 1) := dk_42 (dk_at dksX8_rules_1 11 rfl rfl)
theorem dX8_rules_36 : decode cX8_rules 36 = .ok (.invokevirtual 189, 3) := dk_182 0 189 (dk_at dksX8_rules_1 12 rfl rfl)
theorem dX8_rules_39 : decode cX8_rules 39 = .ok (.aload_n 0, 1) := dk_42 (dk_at dksX8_rules_1 15 rfl rfl)
theorem dX8_rules_40 : decode cX8_rules 40 = .ok (.getfield 135, 3) := dk_180 0 135 (dk_at dksX8_rules_1 16 rfl rfl)
theorem dX8_rules_43 : decode cX8_rules 43 = .ok (.ifCond .ge 25, 3) := dk_156 0 25 (dk_at dksX8_rules_1 19 rfl rfl)
theorem dX8_rules_46 : decode cX8_rules 46 = .ok (.aload_n 0, 1) := dk_42 (dk_at dksX8_rules_1 22 rfl rfl)
theorem dX8_rules_47 : decode cX8_rules 47 = .ok (.getfield 177, 3) := dk_180 0 177 (dk_at dksX8_rules_2 0 rfl rfl)
theorem dX8_rules_50 : decode cX8_rules 50 = .ok (.bipush 6, 2) := dk_16 6 (dk_at dksX8_rules_2 3 rfl rfl)
theorem dX8_rules_52 : decode cX8_rules 52 = .ok (.if_icmp .ge 16, 3) := dk_162 0 16 (dk_at dksX8_rules_2 5 rfl rfl)
theorem dX8_rules_55 : decode cX8_rules 55 = .ok (.aload_n 0, 1) := dk_42 (dk_at dksX8_rules_2 8 rfl rfl)
theorem dX8_rules_56 : decode cX8_rules 56 = .ok (.invokevirtual 138, 3) := dk_182 0 138 (dk_at dksX8_rules_2 9 rfl rfl)
theorem dX8_rules_59 : decode cX8_rules 59 = .ok (.bipush 59, 2) := dk_16 59 (dk_at dksX8_rules_2 12 rfl rfl)
theorem dX8_rules_61 : decode cX8_rules 61 = .ok (.if_icmp .ne 7, 3) := dk_160 0 7 (dk_at dksX8_rules_2 14 rfl rfl)
theorem dX8_rules_64 : decode cX8_rules 64 = .ok (.iconst 1, 1) := dk_4 (dk_at dksX8_rules_2 17 rfl rfl)
theorem dX8_rules_65 : decode cX8_rules 65 = .ok (.goto 4, 3) := dk_167 0 4 (dk_at dksX8_rules_2 18 rfl rfl)
theorem dX8_rules_68 : decode cX8_rules 68 = .ok (.iconst 0, 1) := dk_3 (dk_at dksX8_rules_2 21 rfl rfl)
theorem dX8_rules_69 : decode cX8_rules 69 = .ok (.istore_n 2, 1) := dk_61 (dk_at dksX8_rules_2 22 rfl rfl)
theorem dX8_rules_70 : decode cX8_rules 70 = .ok (.aload_n 0, 1) := dk_42 (dk_at dksX8_rules_2 23 rfl rfl)
theorem dX8_rules_71 : decode cX8_rules 71 = .ok (.dup, 1) := dk_89 (dk_at dksX8_rules_3 0 rfl rfl)
theorem dX8_rules_72 : decode cX8_rules 72 = .ok (.getfield 132, 3) := dk_180 0 132 (dk_at dksX8_rules_3 1 rfl rfl)
theorem dX8_rules_75 : decode cX8_rules 75 = .ok (.iload_n 2, 1) := dk_28 (dk_at dksX8_rules_3 4 rfl rfl)
theorem dX8_rules_76 : decode cX8_rules 76 = .ok (.ifCond .eq 7, 3) := dk_153 0 7 (dk_at dksX8_rules_3 5 rfl rfl)
theorem dX8_rules_79 : decode cX8_rules 79 = .ok (.iconst 1, 1) := dk_4 (dk_at dksX8_rules_3 8 rfl rfl)
theorem dX8_rules_80 : decode cX8_rules 80 = .ok (.goto 4, 3) := dk_167 0 4 (dk_at dksX8_rules_3 9 rfl rfl)
theorem dX8_rules_83 : decode cX8_rules 83 = .ok (.iconst 0, 1) := dk_3 (dk_at dksX8_rules_3 12 rfl rfl)
theorem dX8_rules_84 : decode cX8_rules 84 = .ok (.iadd, 1) := dk_96 (dk_at dksX8_rules_3 13 rfl rfl)
theorem dX8_rules_85 : decode cX8_rules 85 = .ok (.putfield 132, 3) := dk_181 0 132 (dk_at dksX8_rules_3 14 rfl rfl)
theorem dX8_rules_88 : decode cX8_rules 88 = .ok (.goto (-57), 3) := dk_167 255 199 (dk_at dksX8_rules_3 17 rfl rfl)
theorem dX8_rules_91 : decode cX8_rules 91 = .ok (.aload_n 0, 1) := dk_42 (dk_at dksX8_rules_3 20 rfl rfl)
theorem dX8_rules_92 : decode cX8_rules 92 = .ok (.getfield 135, 3) := dk_180 0 135 (dk_at dksX8_rules_3 21 rfl rfl)
theorem dX8_rules_95 : decode cX8_rules 95 = .ok (.ifCond .ge 18, 3) := dk_156 0 18 (dk_at dksX8_rules_4 0 rfl rfl)
theorem dX8_rules_98 : decode cX8_rules 98 = .ok (.aload_n 0, 1) := dk_42 (dk_at dksX8_rules_4 3 rfl rfl)
theorem dX8_rules_99 : decode cX8_rules 99 = .ok (.invokevirtual 138, 3) := dk_182 0 138 (dk_at dksX8_rules_4 4 rfl rfl)
theorem dX8_rules_102 : decode cX8_rules 102 = .ok (.ifCond .eq 11, 3) := dk_153 0 11 (dk_at dksX8_rules_4 7 rfl rfl)
theorem dX8_rules_105 : decode cX8_rules 105 = .ok (.aload_n 0, 1) := dk_42 (dk_at dksX8_rules_4 10 rfl rfl)
theorem dX8_rules_106 : decode cX8_rules 106 = .ok (.aload_n 0, 1) := dk_42 (dk_at dksX8_rules_4 11 rfl rfl)
theorem dX8_rules_107 : decode cX8_rules 107 = .ok (.getfield 132, 3) := dk_180 0 132 (dk_at dksX8_rules_4 12 rfl rfl)
theorem dX8_rules_110 : decode cX8_rules 110 = .ok (.invokevirtual 142, 3) := dk_182 0 142 (dk_at dksX8_rules_4 15 rfl rfl)
theorem dX8_rules_113 : decode cX8_rules 113 = .ok (.aload_n 0, 1) := dk_42 (dk_at dksX8_rules_4 18 rfl rfl)
theorem dX8_rules_114 : decode cX8_rules 114 = .ok (.iconst 0, 1) := dk_3 (dk_at dksX8_rules_4 19 rfl rfl)
theorem dX8_rules_115 : decode cX8_rules 115 = .ok (.putfield 128, 3) := dk_181 0 128 (dk_at dksX8_rules_4 20 rfl rfl)
theorem dX8_rules_118 : decode cX8_rules 118 = .ok (.aload_n 0, 1) := dk_42 (dk_at dksX8_rules_4 23 rfl rfl)
theorem dX8_rules_119 : decode cX8_rules 119 = .ok (.getfield 135, 3) := dk_180 0 135 (dk_at dksX8_rules_5 0 rfl rfl)
theorem dX8_rules_122 : decode cX8_rules 122 = .ok (.ifCond .lt 11, 3) := dk_155 0 11 (dk_at dksX8_rules_5 3 rfl rfl)
theorem dX8_rules_125 : decode cX8_rules 125 = .ok (.bipush (-20), 2) := dk_16 236 (dk_at dksX8_rules_5 6 rfl rfl)
theorem dX8_rules_127 : decode cX8_rules 127 = .ok (.aload_n 0, 1) := dk_42 (dk_at dksX8_rules_5 8 rfl rfl)
theorem dX8_rules_128 : decode cX8_rules 128 = .ok (.getfield 135, 3) := dk_180 0 135 (dk_at dksX8_rules_5 9 rfl rfl)
theorem dX8_rules_131 : decode cX8_rules 131 = .ok (.isub, 1) := dk_100 (dk_at dksX8_rules_5 12 rfl rfl)
theorem dX8_rules_132 : decode cX8_rules 132 = .ok (.ireturn, 1) := dk_172 (dk_at dksX8_rules_5 13 rfl rfl)
theorem dX8_rules_133 : decode cX8_rules 133 = .ok (.aload_n 0, 1) := dk_42 (dk_at dksX8_rules_5 14 rfl rfl)
theorem dX8_rules_134 : decode cX8_rules 134 = .ok (.getfield 13, 3) := dk_180 0 13 (dk_at dksX8_rules_5 15 rfl rfl)
theorem dX8_rules_137 : decode cX8_rules 137 = .ok (.iload_n 1, 1) := dk_27 (dk_at dksX8_rules_5 18 rfl rfl)
theorem dX8_rules_138 : decode cX8_rules 138 = .ok (.aload_n 0, 1) := dk_42 (dk_at dksX8_rules_5 19 rfl rfl)
theorem dX8_rules_139 : decode cX8_rules 139 = .ok (.getfield 177, 3) := dk_180 0 177 (dk_at dksX8_rules_5 20 rfl rfl)
theorem dX8_rules_142 : decode cX8_rules 142 = .ok (.iastore, 1) := dk_79 (dk_at dksX8_rules_5 23 rfl rfl)
theorem dX8_rules_143 : decode cX8_rules 143 = .ok (.iconst 0, 1) := dk_3 (dk_at dksX8_rules_6 0 rfl rfl)
theorem dX8_rules_144 : decode cX8_rules 144 = .ok (.istore_n 3, 1) := dk_62 (dk_at dksX8_rules_6 1 rfl rfl)
theorem dX8_rules_145 : decode cX8_rules 145 = .ok (.iload_n 3, 1) := dk_29 (dk_at dksX8_rules_6 2 rfl rfl)
theorem dX8_rules_146 : decode cX8_rules 146 = .ok (.aload_n 0, 1) := dk_42 (dk_at dksX8_rules_6 3 rfl rfl)
theorem dX8_rules_147 : decode cX8_rules 147 = .ok (.getfield 146, 3) := dk_180 0 146 (dk_at dksX8_rules_6 4 rfl rfl)
theorem dX8_rules_150 : decode cX8_rules 150 = .ok (.if_icmp .ge 27, 3) := dk_162 0 27 (dk_at dksX8_rules_6 7 rfl rfl)
theorem dX8_rules_153 : decode cX8_rules 153 = .ok (.aload_n 0, 1) := dk_42 (dk_at dksX8_rules_6 10 rfl rfl)
theorem dX8_rules_154 : decode cX8_rules 154 = .ok (.getfield 16, 3) := dk_180 0 16 (dk_at dksX8_rules_6 11 rfl rfl)
theorem dX8_rules_157 : decode cX8_rules 157 = .ok (.sipush 180, 3) := dk_17 0 180 (dk_at dksX8_rules_6 14 rfl rfl)
theorem dX8_rules_160 : decode cX8_rules 160 = .ok (.iload_n 1, 1) := dk_27 (dk_at dksX8_rules_6 17 rfl rfl)
theorem dX8_rules_161 : decode cX8_rules 161 = .ok (.imul, 1) := dk_104 (dk_at dksX8_rules_6 18 rfl rfl)
theorem dX8_rules_162 : decode cX8_rules 162 = .ok (.iload_n 3, 1) := dk_29 (dk_at dksX8_rules_6 19 rfl rfl)
theorem dX8_rules_163 : decode cX8_rules 163 = .ok (.iadd, 1) := dk_96 (dk_at dksX8_rules_6 20 rfl rfl)
theorem dX8_rules_164 : decode cX8_rules 164 = .ok (.aload_n 0, 1) := dk_42 (dk_at dksX8_rules_6 21 rfl rfl)
theorem dX8_rules_165 : decode cX8_rules 165 = .ok (.getfield 37, 3) := dk_180 0 37 (dk_at dksX8_rules_7 0 rfl rfl)
theorem dX8_rules_168 : decode cX8_rules 168 = .ok (.iload_n 3, 1) := dk_29 (dk_at dksX8_rules_7 3 rfl rfl)
theorem dX8_rules_169 : decode cX8_rules 169 = .ok (.iaload, 1) := dk_46 (dk_at dksX8_rules_7 4 rfl rfl)
theorem dX8_rules_170 : decode cX8_rules 170 = .ok (.iastore, 1) := dk_79 (dk_at dksX8_rules_7 5 rfl rfl)
theorem dX8_rules_171 : decode cX8_rules 171 = .ok (.iinc 3 1, 3) := dk_132 3 1 (dk_at dksX8_rules_7 6 rfl rfl)
theorem dX8_rules_174 : decode cX8_rules 174 = .ok (.goto (-29), 3) := dk_167 255 227 (dk_at dksX8_rules_7 9 rfl rfl)
theorem dX8_rules_177 : decode cX8_rules 177 = .ok (.iconst 0, 1) := dk_3 (dk_at dksX8_rules_7 12 rfl rfl)
theorem dX8_rules_178 : decode cX8_rules 178 = .ok (.istore_n 3, 1) := dk_62 (dk_at dksX8_rules_7 13 rfl rfl)
theorem dX8_rules_179 : decode cX8_rules 179 = .ok (.iload_n 3, 1) := dk_29 (dk_at dksX8_rules_7 14 rfl rfl)
theorem dX8_rules_180 : decode cX8_rules 180 = .ok (.aload_n 0, 1) := dk_42 (dk_at dksX8_rules_7 15 rfl rfl)
theorem dX8_rules_181 : decode cX8_rules 181 = .ok (.getfield 177, 3) := dk_180 0 177 (dk_at dksX8_rules_7 16 rfl rfl)
theorem dX8_rules_184 : decode cX8_rules 184 = .ok (.if_icmp .ge 106, 3) := dk_162 0 106 (dk_at dksX8_rules_7 19 rfl rfl)
theorem dX8_rules_187 : decode cX8_rules 187 = .ok (.aload_n 0, 1) := dk_42 (dk_at dksX8_rules_7 22 rfl rfl)
theorem dX8_rules_188 : decode cX8_rules 188 = .ok (.getfield 19, 3) := dk_180 0 19 (dk_at dksX8_rules_8 0 rfl rfl)
theorem dX8_rules_191 : decode cX8_rules 191 = .ok (.bipush 7, 2) := dk_16 7 (dk_at dksX8_rules_8 3 rfl rfl)
theorem dX8_rules_193 : decode cX8_rules 193 = .ok (.iload_n 1, 1) := dk_27 (dk_at dksX8_rules_8 5 rfl rfl)
theorem dX8_rules_194 : decode cX8_rules 194 = .ok (.imul, 1) := dk_104 (dk_at dksX8_rules_8 6 rfl rfl)
theorem dX8_rules_195 : decode cX8_rules 195 = .ok (.iload_n 3, 1) := dk_29 (dk_at dksX8_rules_8 7 rfl rfl)
theorem dX8_rules_196 : decode cX8_rules 196 = .ok (.iadd, 1) := dk_96 (dk_at dksX8_rules_8 8 rfl rfl)
theorem dX8_rules_197 : decode cX8_rules 197 = .ok (.aload_n 0, 1) := dk_42 (dk_at dksX8_rules_8 9 rfl rfl)
theorem dX8_rules_198 : decode cX8_rules 198 = .ok (.getfield 40, 3) := dk_180 0 40 (dk_at dksX8_rules_8 10 rfl rfl)
theorem dX8_rules_201 : decode cX8_rules 201 = .ok (.iload_n 3, 1) := dk_29 (dk_at dksX8_rules_8 13 rfl rfl)
theorem dX8_rules_202 : decode cX8_rules 202 = .ok (.iaload, 1) := dk_46 (dk_at dksX8_rules_8 14 rfl rfl)
theorem dX8_rules_203 : decode cX8_rules 203 = .ok (.iastore, 1) := dk_79 (dk_at dksX8_rules_8 15 rfl rfl)
theorem dX8_rules_204 : decode cX8_rules 204 = .ok (.aload_n 0, 1) := dk_42 (dk_at dksX8_rules_8 16 rfl rfl)
theorem dX8_rules_205 : decode cX8_rules 205 = .ok (.getfield 19, 3) := dk_180 0 19 (dk_at dksX8_rules_8 17 rfl rfl)
theorem dX8_rules_208 : decode cX8_rules 208 = .ok (.bipush 7, 2) := dk_16 7 (dk_at dksX8_rules_8 20 rfl rfl)
theorem dX8_rules_210 : decode cX8_rules 210 = .ok (.iload_n 1, 1) := dk_27 (dk_at dksX8_rules_8 22 rfl rfl)
theorem dX8_rules_211 : decode cX8_rules 211 = .ok (.imul, 1) := dk_104 (dk_at dksX8_rules_8 23 rfl rfl)
theorem dX8_rules_212 : decode cX8_rules 212 = .ok (.iload_n 3, 1) := dk_29 (dk_at dksX8_rules_9 0 rfl rfl)
theorem dX8_rules_213 : decode cX8_rules 213 = .ok (.iadd, 1) := dk_96 (dk_at dksX8_rules_9 1 rfl rfl)
theorem dX8_rules_214 : decode cX8_rules 214 = .ok (.iconst 1, 1) := dk_4 (dk_at dksX8_rules_9 2 rfl rfl)
theorem dX8_rules_215 : decode cX8_rules 215 = .ok (.iadd, 1) := dk_96 (dk_at dksX8_rules_9 3 rfl rfl)
theorem dX8_rules_216 : decode cX8_rules 216 = .ok (.aload_n 0, 1) := dk_42 (dk_at dksX8_rules_9 4 rfl rfl)
theorem dX8_rules_217 : decode cX8_rules 217 = .ok (.getfield 40, 3) := dk_180 0 40 (dk_at dksX8_rules_9 5 rfl rfl)
theorem dX8_rules_220 : decode cX8_rules 220 = .ok (.iload_n 3, 1) := dk_29 (dk_at dksX8_rules_9 8 rfl rfl)
theorem dX8_rules_221 : decode cX8_rules 221 = .ok (.iconst 1, 1) := dk_4 (dk_at dksX8_rules_9 9 rfl rfl)
theorem dX8_rules_222 : decode cX8_rules 222 = .ok (.iadd, 1) := dk_96 (dk_at dksX8_rules_9 10 rfl rfl)
theorem dX8_rules_223 : decode cX8_rules 223 = .ok (.iaload, 1) := dk_46 (dk_at dksX8_rules_9 11 rfl rfl)
theorem dX8_rules_224 : decode cX8_rules 224 = .ok (.iastore, 1) := dk_79 (dk_at dksX8_rules_9 12 rfl rfl)
theorem dX8_rules_225 : decode cX8_rules 225 = .ok (.aload_n 0, 1) := dk_42 (dk_at dksX8_rules_9 13 rfl rfl)
theorem dX8_rules_226 : decode cX8_rules 226 = .ok (.getfield 25, 3) := dk_180 0 25 (dk_at dksX8_rules_9 14 rfl rfl)
theorem dX8_rules_229 : decode cX8_rules 229 = .ok (.bipush 6, 2) := dk_16 6 (dk_at dksX8_rules_9 17 rfl rfl)
theorem dX8_rules_231 : decode cX8_rules 231 = .ok (.iload_n 1, 1) := dk_27 (dk_at dksX8_rules_9 19 rfl rfl)
theorem dX8_rules_232 : decode cX8_rules 232 = .ok (.imul, 1) := dk_104 (dk_at dksX8_rules_9 20 rfl rfl)
theorem dX8_rules_233 : decode cX8_rules 233 = .ok (.iload_n 3, 1) := dk_29 (dk_at dksX8_rules_9 21 rfl rfl)
theorem dX8_rules_234 : decode cX8_rules 234 = .ok (.iadd, 1) := dk_96 (dk_at dksX8_rules_9 22 rfl rfl)
theorem dX8_rules_235 : decode cX8_rules 235 = .ok (.aload_n 0, 1) := dk_42 (dk_at dksX8_rules_9 23 rfl rfl)
theorem dX8_rules_236 : decode cX8_rules 236 = .ok (.getfield 46, 3) := dk_180 0 46 (dk_at dksX8_rules_10 0 rfl rfl)
theorem dX8_rules_239 : decode cX8_rules 239 = .ok (.iload_n 3, 1) := dk_29 (dk_at dksX8_rules_10 3 rfl rfl)
theorem dX8_rules_240 : decode cX8_rules 240 = .ok (.iaload, 1) := dk_46 (dk_at dksX8_rules_10 4 rfl rfl)
theorem dX8_rules_241 : decode cX8_rules 241 = .ok (.iastore, 1) := dk_79 (dk_at dksX8_rules_10 5 rfl rfl)
theorem dX8_rules_242 : decode cX8_rules 242 = .ok (.iconst 0, 1) := dk_3 (dk_at dksX8_rules_10 6 rfl rfl)
theorem dX8_rules_243 : decode cX8_rules 243 = .ok (.istore 4, 2) := dk_54 4 (dk_at dksX8_rules_10 7 rfl rfl)
theorem dX8_rules_245 : decode cX8_rules 245 = .ok (.iload 4, 2) := dk_21 4 (dk_at dksX8_rules_10 9 rfl rfl)
theorem dX8_rules_247 : decode cX8_rules 247 = .ok (.iconst 4, 1) := dk_7 (dk_at dksX8_rules_10 11 rfl rfl)
theorem dX8_rules_248 : decode cX8_rules 248 = .ok (.if_icmp .ge 36, 3) := dk_162 0 36 (dk_at dksX8_rules_10 12 rfl rfl)
theorem dX8_rules_251 : decode cX8_rules 251 = .ok (.aload_n 0, 1) := dk_42 (dk_at dksX8_rules_10 15 rfl rfl)
theorem dX8_rules_252 : decode cX8_rules 252 = .ok (.getfield 22, 3) := dk_180 0 22 (dk_at dksX8_rules_10 16 rfl rfl)
theorem dX8_rules_255 : decode cX8_rules 255 = .ok (.bipush 24, 2) := dk_16 24 (dk_at dksX8_rules_10 19 rfl rfl)
theorem dX8_rules_257 : decode cX8_rules 257 = .ok (.iload_n 1, 1) := dk_27 (dk_at dksX8_rules_10 21 rfl rfl)
theorem dX8_rules_258 : decode cX8_rules 258 = .ok (.imul, 1) := dk_104 (dk_at dksX8_rules_10 22 rfl rfl)
theorem dX8_rules_259 : decode cX8_rules 259 = .ok (.iconst 4, 1) := dk_7 (dk_at dksX8_rules_10 23 rfl rfl)
theorem dX8_rules_260 : decode cX8_rules 260 = .ok (.iload_n 3, 1) := dk_29 (dk_at dksX8_rules_11 0 rfl rfl)
theorem dX8_rules_261 : decode cX8_rules 261 = .ok (.imul, 1) := dk_104 (dk_at dksX8_rules_11 1 rfl rfl)
theorem dX8_rules_262 : decode cX8_rules 262 = .ok (.iadd, 1) := dk_96 (dk_at dksX8_rules_11 2 rfl rfl)
theorem dX8_rules_263 : decode cX8_rules 263 = .ok (.iload 4, 2) := dk_21 4 (dk_at dksX8_rules_11 3 rfl rfl)
theorem dX8_rules_265 : decode cX8_rules 265 = .ok (.iadd, 1) := dk_96 (dk_at dksX8_rules_11 5 rfl rfl)
theorem dX8_rules_266 : decode cX8_rules 266 = .ok (.aload_n 0, 1) := dk_42 (dk_at dksX8_rules_11 6 rfl rfl)
theorem dX8_rules_267 : decode cX8_rules 267 = .ok (.getfield 43, 3) := dk_180 0 43 (dk_at dksX8_rules_11 7 rfl rfl)
theorem dX8_rules_270 : decode cX8_rules 270 = .ok (.iconst 4, 1) := dk_7 (dk_at dksX8_rules_11 10 rfl rfl)
theorem dX8_rules_271 : decode cX8_rules 271 = .ok (.iload_n 3, 1) := dk_29 (dk_at dksX8_rules_11 11 rfl rfl)
theorem dX8_rules_272 : decode cX8_rules 272 = .ok (.imul, 1) := dk_104 (dk_at dksX8_rules_11 12 rfl rfl)
theorem dX8_rules_273 : decode cX8_rules 273 = .ok (.iload 4, 2) := dk_21 4 (dk_at dksX8_rules_11 13 rfl rfl)
theorem dX8_rules_275 : decode cX8_rules 275 = .ok (.iadd, 1) := dk_96 (dk_at dksX8_rules_11 15 rfl rfl)
theorem dX8_rules_276 : decode cX8_rules 276 = .ok (.iaload, 1) := dk_46 (dk_at dksX8_rules_11 16 rfl rfl)
theorem dX8_rules_277 : decode cX8_rules 277 = .ok (.iastore, 1) := dk_79 (dk_at dksX8_rules_11 17 rfl rfl)
theorem dX8_rules_278 : decode cX8_rules 278 = .ok (.iinc 4 1, 3) := dk_132 4 1 (dk_at dksX8_rules_11 18 rfl rfl)
theorem dX8_rules_281 : decode cX8_rules 281 = .ok (.goto (-36), 3) := dk_167 255 220 (dk_at dksX8_rules_11 21 rfl rfl)
theorem dX8_rules_284 : decode cX8_rules 284 = .ok (.iinc 3 1, 3) := dk_132 3 1 (dk_at dksX8_rules_12 0 rfl rfl)
theorem dX8_rules_287 : decode cX8_rules 287 = .ok (.goto (-108), 3) := dk_167 255 148 (dk_at dksX8_rules_12 3 rfl rfl)
theorem dX8_rules_290 : decode cX8_rules 290 = .ok (.aload_n 0, 1) := dk_42 (dk_at dksX8_rules_12 6 rfl rfl)
theorem dX8_rules_291 : decode cX8_rules 291 = .ok (.getfield 177, 3) := dk_180 0 177 (dk_at dksX8_rules_12 7 rfl rfl)
theorem dX8_rules_294 : decode cX8_rules 294 = .ok (.ireturn, 1) := dk_172 (dk_at dksX8_rules_12 10 rfl rfl)
abbrev cX8_isBox : ByteArray := prog_21_method_4_code
def yX8_isBox : MethodName := ⟨RX8, "isBox", "(I)Z"⟩
def dkwX8_isBox_0 : List UInt8 := [26, 3, 5, 184, 0, 122, 172]
abbrev dktX8_isBox_0 : List UInt8 := dkwX8_isBox_0 ++ []
theorem dksX8_isBox_0 : cX8_isBox.data.toList.drop 0 = dktX8_isBox_0 := by decide +kernel
theorem dX8_isBox_0 : decode cX8_isBox 0 = .ok (.iload_n 0, 1) := dk_26 (dk_at dksX8_isBox_0 0 rfl rfl)
theorem dX8_isBox_1 : decode cX8_isBox 1 = .ok (.iconst 0, 1) := dk_3 (dk_at dksX8_isBox_0 1 rfl rfl)
theorem dX8_isBox_2 : decode cX8_isBox 2 = .ok (.iconst 2, 1) := dk_5 (dk_at dksX8_isBox_0 2 rfl rfl)
theorem dX8_isBox_3 : decode cX8_isBox 3 = .ok (.invokestatic 122, 3) := dk_184 0 122 (dk_at dksX8_isBox_0 3 rfl rfl)
theorem dX8_isBox_6 : decode cX8_isBox 6 = .ok (.ireturn, 1) := dk_172 (dk_at dksX8_isBox_0 6 rfl rfl)
abbrev cX8_rule : ByteArray := prog_21_method_16_code
def yX8_rule : MethodName := ⟨RX8, "rule", "()V"⟩
def dkwX8_rule_6 : List UInt8 := [180, 0, 177, 4, 96, 181, 0, 177, 42, 180, 0, 40, 42, 180, 0, 177, 42, 180, 0, 146, 79, 177]
abbrev dktX8_rule_6 : List UInt8 := dkwX8_rule_6 ++ []
def dkwX8_rule_5 : List UInt8 := [42, 89, 180, 0, 132, 28, 153, 0, 7, 4, 167, 0, 4, 3, 96, 181, 0, 132, 167, 255, 197, 42, 89]
abbrev dktX8_rule_5 : List UInt8 := dkwX8_rule_5 ++ dktX8_rule_6
def dkwX8_rule_4 : List UInt8 := [180, 0, 46, 27, 46, 7, 162, 0, 16, 42, 182, 0, 138, 16, 44, 160, 0, 7, 4, 167, 0, 4, 3, 61]
abbrev dktX8_rule_4 : List UInt8 := dkwX8_rule_4 ++ dktX8_rule_5
def dkwX8_rule_3 : List UInt8 := [167, 0, 4, 3, 61, 28, 153, 0, 61, 42, 27, 182, 0, 183, 42, 180, 0, 135, 156, 0, 26, 42]
abbrev dktX8_rule_3 : List UInt8 := dkwX8_rule_3 ++ dktX8_rule_4
def dkwX8_rule_2 : List UInt8 := [180, 0, 132, 4, 96, 181, 0, 132, 42, 180, 0, 46, 27, 3, 79, 42, 180, 0, 135, 156, 0, 7, 4]
abbrev dktX8_rule_2 : List UInt8 := dkwX8_rule_2 ++ dktX8_rule_3
def dkwX8_rule_1 : List UInt8 := [156, 0, 20, 42, 182, 0, 138, 16, 58, 159, 0, 11, 42, 42, 180, 0, 132, 182, 0, 142, 42, 89]
abbrev dktX8_rule_1 : List UInt8 := dkwX8_rule_1 ++ dktX8_rule_2
def dkwX8_rule_0 : List UInt8 := [42, 180, 0, 177, 60, 42, 180, 0, 40, 27, 42, 180, 0, 146, 79, 42, 182, 0, 180, 42, 180, 0, 135]
abbrev dktX8_rule_0 : List UInt8 := dkwX8_rule_0 ++ dktX8_rule_1
theorem dksX8_rule_0 : cX8_rule.data.toList.drop 0 = dktX8_rule_0 := by decide +kernel
theorem dksX8_rule_1 : cX8_rule.data.toList.drop 23 = dktX8_rule_1 := dk_seg dksX8_rule_0 23 rfl rfl
theorem dksX8_rule_2 : cX8_rule.data.toList.drop 45 = dktX8_rule_2 := dk_seg dksX8_rule_1 22 rfl rfl
theorem dksX8_rule_3 : cX8_rule.data.toList.drop 68 = dktX8_rule_3 := dk_seg dksX8_rule_2 23 rfl rfl
theorem dksX8_rule_4 : cX8_rule.data.toList.drop 90 = dktX8_rule_4 := dk_seg dksX8_rule_3 22 rfl rfl
theorem dksX8_rule_5 : cX8_rule.data.toList.drop 114 = dktX8_rule_5 := dk_seg dksX8_rule_4 24 rfl rfl
theorem dksX8_rule_6 : cX8_rule.data.toList.drop 137 = dktX8_rule_6 := dk_seg dksX8_rule_5 23 rfl rfl
theorem dX8_rule_0 : decode cX8_rule 0 = .ok (.aload_n 0, 1) := dk_42 (dk_at dksX8_rule_0 0 rfl rfl)
theorem dX8_rule_1 : decode cX8_rule 1 = .ok (.getfield 177, 3) := dk_180 0 177 (dk_at dksX8_rule_0 1 rfl rfl)
theorem dX8_rule_4 : decode cX8_rule 4 = .ok (.istore_n 1, 1) := dk_60 (dk_at dksX8_rule_0 4 rfl rfl)
theorem dX8_rule_5 : decode cX8_rule 5 = .ok (.aload_n 0, 1) := dk_42 (dk_at dksX8_rule_0 5 rfl rfl)
theorem dX8_rule_6 : decode cX8_rule 6 = .ok (.getfield 40, 3) := dk_180 0 40 (dk_at dksX8_rule_0 6 rfl rfl)
theorem dX8_rule_9 : decode cX8_rule 9 = .ok (.iload_n 1, 1) := dk_27 (dk_at dksX8_rule_0 9 rfl rfl)
theorem dX8_rule_10 : decode cX8_rule 10 = .ok (.aload_n 0, 1) := dk_42 (dk_at dksX8_rule_0 10 rfl rfl)
theorem dX8_rule_11 : decode cX8_rule 11 = .ok (.getfield 146, 3) := dk_180 0 146 (dk_at dksX8_rule_0 11 rfl rfl)
theorem dX8_rule_14 : decode cX8_rule 14 = .ok (.iastore, 1) := dk_79 (dk_at dksX8_rule_0 14 rfl rfl)
theorem dX8_rule_15 : decode cX8_rule 15 = .ok (.aload_n 0, 1) := dk_42 (dk_at dksX8_rule_0 15 rfl rfl)
theorem dX8_rule_16 : decode cX8_rule 16 = .ok (.invokevirtual 180, 3) := dk_182 0 180 (dk_at dksX8_rule_0 16 rfl rfl)
theorem dX8_rule_19 : decode cX8_rule 19 = .ok (.aload_n 0, 1) := dk_42 (dk_at dksX8_rule_0 19 rfl rfl)
theorem dX8_rule_20 : decode cX8_rule 20 = .ok (.getfield 135, 3) := dk_180 0 135 (dk_at dksX8_rule_0 20 rfl rfl)
theorem dX8_rule_23 : decode cX8_rule 23 = .ok (.ifCond .ge 20, 3) := dk_156 0 20 (dk_at dksX8_rule_1 0 rfl rfl)
theorem dX8_rule_26 : decode cX8_rule 26 = .ok (.aload_n 0, 1) := dk_42 (dk_at dksX8_rule_1 3 rfl rfl)
theorem dX8_rule_27 : decode cX8_rule 27 = .ok (.invokevirtual 138, 3) := dk_182 0 138 (dk_at dksX8_rule_1 4 rfl rfl)
theorem dX8_rule_30 : decode cX8_rule 30 = .ok (.bipush 58, 2) := dk_16 58 (dk_at dksX8_rule_1 7 rfl rfl)
theorem dX8_rule_32 : decode cX8_rule 32 = .ok (.if_icmp .eq 11, 3) := dk_159 0 11 (dk_at dksX8_rule_1 9 rfl rfl)
theorem dX8_rule_35 : decode cX8_rule 35 = .ok (.aload_n 0, 1) := dk_42 (dk_at dksX8_rule_1 12 rfl rfl)
theorem dX8_rule_36 : decode cX8_rule 36 = .ok (.aload_n 0, 1) := dk_42 (dk_at dksX8_rule_1 13 rfl rfl)
theorem dX8_rule_37 : decode cX8_rule 37 = .ok (.getfield 132, 3) := dk_180 0 132 (dk_at dksX8_rule_1 14 rfl rfl)
theorem dX8_rule_40 : decode cX8_rule 40 = .ok (.invokevirtual 142, 3) := dk_182 0 142 (dk_at dksX8_rule_1 17 rfl rfl)
theorem dX8_rule_43 : decode cX8_rule 43 = .ok (.aload_n 0, 1) := dk_42 (dk_at dksX8_rule_1 20 rfl rfl)
theorem dX8_rule_44 : decode cX8_rule 44 = .ok (.dup, 1) := dk_89 (dk_at dksX8_rule_1 21 rfl rfl)
theorem dX8_rule_45 : decode cX8_rule 45 = .ok (.getfield 132, 3) := dk_180 0 132 (dk_at dksX8_rule_2 0 rfl rfl)
theorem dX8_rule_48 : decode cX8_rule 48 = .ok (.iconst 1, 1) := dk_4 (dk_at dksX8_rule_2 3 rfl rfl)
theorem dX8_rule_49 : decode cX8_rule 49 = .ok (.iadd, 1) := dk_96 (dk_at dksX8_rule_2 4 rfl rfl)
theorem dX8_rule_50 : decode cX8_rule 50 = .ok (.putfield 132, 3) := dk_181 0 132 (dk_at dksX8_rule_2 5 rfl rfl)
theorem dX8_rule_53 : decode cX8_rule 53 = .ok (.aload_n 0, 1) := dk_42 (dk_at dksX8_rule_2 8 rfl rfl)
theorem dX8_rule_54 : decode cX8_rule 54 = .ok (.getfield 46, 3) := dk_180 0 46 (dk_at dksX8_rule_2 9 rfl rfl)
theorem dX8_rule_57 : decode cX8_rule 57 = .ok (.iload_n 1, 1) := dk_27 (dk_at dksX8_rule_2 12 rfl rfl)
theorem dX8_rule_58 : decode cX8_rule 58 = .ok (.iconst 0, 1) := dk_3 (dk_at dksX8_rule_2 13 rfl rfl)
theorem dX8_rule_59 : decode cX8_rule 59 = .ok (.iastore, 1) := dk_79 (dk_at dksX8_rule_2 14 rfl rfl)
theorem dX8_rule_60 : decode cX8_rule 60 = .ok (.aload_n 0, 1) := dk_42 (dk_at dksX8_rule_2 15 rfl rfl)
theorem dX8_rule_61 : decode cX8_rule 61 = .ok (.getfield 135, 3) := dk_180 0 135 (dk_at dksX8_rule_2 16 rfl rfl)
theorem dX8_rule_64 : decode cX8_rule 64 = .ok (.ifCond .ge 7, 3) := dk_156 0 7 (dk_at dksX8_rule_2 19 rfl rfl)
theorem dX8_rule_67 : decode cX8_rule 67 = .ok (.iconst 1, 1) := dk_4 (dk_at dksX8_rule_2 22 rfl rfl)
theorem dX8_rule_68 : decode cX8_rule 68 = .ok (.goto 4, 3) := dk_167 0 4 (dk_at dksX8_rule_3 0 rfl rfl)
theorem dX8_rule_71 : decode cX8_rule 71 = .ok (.iconst 0, 1) := dk_3 (dk_at dksX8_rule_3 3 rfl rfl)
theorem dX8_rule_72 : decode cX8_rule 72 = .ok (.istore_n 2, 1) := dk_61 (dk_at dksX8_rule_3 4 rfl rfl)
theorem dX8_rule_73 : decode cX8_rule 73 = .ok (.iload_n 2, 1) := dk_28 (dk_at dksX8_rule_3 5 rfl rfl)
theorem dX8_rule_74 : decode cX8_rule 74 = .ok (.ifCond .eq 61, 3) := dk_153 0 61 (dk_at dksX8_rule_3 6 rfl rfl)
theorem dX8_rule_77 : decode cX8_rule 77 = .ok (.aload_n 0, 1) := dk_42 (dk_at dksX8_rule_3 9 rfl rfl)
theorem dX8_rule_78 : decode cX8_rule 78 = .ok (.iload_n 1, 1) := dk_27 (dk_at dksX8_rule_3 10 rfl rfl)
theorem dX8_rule_79 : decode cX8_rule 79 = .ok (.invokevirtual 183, 3) := dk_182 0 183 (dk_at dksX8_rule_3 11 rfl rfl)
theorem dX8_rule_82 : decode cX8_rule 82 = .ok (.aload_n 0, 1) := dk_42 (dk_at dksX8_rule_3 14 rfl rfl)
theorem dX8_rule_83 : decode cX8_rule 83 = .ok (.getfield 135, 3) := dk_180 0 135 (dk_at dksX8_rule_3 15 rfl rfl)
theorem dX8_rule_86 : decode cX8_rule 86 = .ok (.ifCond .ge 26, 3) := dk_156 0 26 (dk_at dksX8_rule_3 18 rfl rfl)
theorem dX8_rule_89 : decode cX8_rule 89 = .ok (.aload_n 0, 1) := dk_42 (dk_at dksX8_rule_3 21 rfl rfl)
theorem dX8_rule_90 : decode cX8_rule 90 = .ok (.getfield 46, 3) := dk_180 0 46 (dk_at dksX8_rule_4 0 rfl rfl)
theorem dX8_rule_93 : decode cX8_rule 93 = .ok (.iload_n 1, 1) := dk_27 (dk_at dksX8_rule_4 3 rfl rfl)
theorem dX8_rule_94 : decode cX8_rule 94 = .ok (.iaload, 1) := dk_46 (dk_at dksX8_rule_4 4 rfl rfl)
theorem dX8_rule_95 : decode cX8_rule 95 = .ok (.iconst 4, 1) := dk_7 (dk_at dksX8_rule_4 5 rfl rfl)
theorem dX8_rule_96 : decode cX8_rule 96 = .ok (.if_icmp .ge 16, 3) := dk_162 0 16 (dk_at dksX8_rule_4 6 rfl rfl)
theorem dX8_rule_99 : decode cX8_rule 99 = .ok (.aload_n 0, 1) := dk_42 (dk_at dksX8_rule_4 9 rfl rfl)
theorem dX8_rule_100 : decode cX8_rule 100 = .ok (.invokevirtual 138, 3) := dk_182 0 138 (dk_at dksX8_rule_4 10 rfl rfl)
theorem dX8_rule_103 : decode cX8_rule 103 = .ok (.bipush 44, 2) := dk_16 44 (dk_at dksX8_rule_4 13 rfl rfl)
theorem dX8_rule_105 : decode cX8_rule 105 = .ok (.if_icmp .ne 7, 3) := dk_160 0 7 (dk_at dksX8_rule_4 15 rfl rfl)
theorem dX8_rule_108 : decode cX8_rule 108 = .ok (.iconst 1, 1) := dk_4 (dk_at dksX8_rule_4 18 rfl rfl)
theorem dX8_rule_109 : decode cX8_rule 109 = .ok (.goto 4, 3) := dk_167 0 4 (dk_at dksX8_rule_4 19 rfl rfl)
theorem dX8_rule_112 : decode cX8_rule 112 = .ok (.iconst 0, 1) := dk_3 (dk_at dksX8_rule_4 22 rfl rfl)
theorem dX8_rule_113 : decode cX8_rule 113 = .ok (.istore_n 2, 1) := dk_61 (dk_at dksX8_rule_4 23 rfl rfl)
theorem dX8_rule_114 : decode cX8_rule 114 = .ok (.aload_n 0, 1) := dk_42 (dk_at dksX8_rule_5 0 rfl rfl)
theorem dX8_rule_115 : decode cX8_rule 115 = .ok (.dup, 1) := dk_89 (dk_at dksX8_rule_5 1 rfl rfl)
theorem dX8_rule_116 : decode cX8_rule 116 = .ok (.getfield 132, 3) := dk_180 0 132 (dk_at dksX8_rule_5 2 rfl rfl)
theorem dX8_rule_119 : decode cX8_rule 119 = .ok (.iload_n 2, 1) := dk_28 (dk_at dksX8_rule_5 5 rfl rfl)
theorem dX8_rule_120 : decode cX8_rule 120 = .ok (.ifCond .eq 7, 3) := dk_153 0 7 (dk_at dksX8_rule_5 6 rfl rfl)
theorem dX8_rule_123 : decode cX8_rule 123 = .ok (.iconst 1, 1) := dk_4 (dk_at dksX8_rule_5 9 rfl rfl)
theorem dX8_rule_124 : decode cX8_rule 124 = .ok (.goto 4, 3) := dk_167 0 4 (dk_at dksX8_rule_5 10 rfl rfl)
theorem dX8_rule_127 : decode cX8_rule 127 = .ok (.iconst 0, 1) := dk_3 (dk_at dksX8_rule_5 13 rfl rfl)
theorem dX8_rule_128 : decode cX8_rule 128 = .ok (.iadd, 1) := dk_96 (dk_at dksX8_rule_5 14 rfl rfl)
theorem dX8_rule_129 : decode cX8_rule 129 = .ok (.putfield 132, 3) := dk_181 0 132 (dk_at dksX8_rule_5 15 rfl rfl)
theorem dX8_rule_132 : decode cX8_rule 132 = .ok (.goto (-59), 3) := dk_167 255 197 (dk_at dksX8_rule_5 18 rfl rfl)
theorem dX8_rule_135 : decode cX8_rule 135 = .ok (.aload_n 0, 1) := dk_42 (dk_at dksX8_rule_5 21 rfl rfl)
theorem dX8_rule_136 : decode cX8_rule 136 = .ok (.dup, 1) := dk_89 (dk_at dksX8_rule_5 22 rfl rfl)
theorem dX8_rule_137 : decode cX8_rule 137 = .ok (.getfield 177, 3) := dk_180 0 177 (dk_at dksX8_rule_6 0 rfl rfl)
theorem dX8_rule_140 : decode cX8_rule 140 = .ok (.iconst 1, 1) := dk_4 (dk_at dksX8_rule_6 3 rfl rfl)
theorem dX8_rule_141 : decode cX8_rule 141 = .ok (.iadd, 1) := dk_96 (dk_at dksX8_rule_6 4 rfl rfl)
theorem dX8_rule_142 : decode cX8_rule 142 = .ok (.putfield 177, 3) := dk_181 0 177 (dk_at dksX8_rule_6 5 rfl rfl)
theorem dX8_rule_145 : decode cX8_rule 145 = .ok (.aload_n 0, 1) := dk_42 (dk_at dksX8_rule_6 8 rfl rfl)
theorem dX8_rule_146 : decode cX8_rule 146 = .ok (.getfield 40, 3) := dk_180 0 40 (dk_at dksX8_rule_6 9 rfl rfl)
theorem dX8_rule_149 : decode cX8_rule 149 = .ok (.aload_n 0, 1) := dk_42 (dk_at dksX8_rule_6 12 rfl rfl)
theorem dX8_rule_150 : decode cX8_rule 150 = .ok (.getfield 177, 3) := dk_180 0 177 (dk_at dksX8_rule_6 13 rfl rfl)
theorem dX8_rule_153 : decode cX8_rule 153 = .ok (.aload_n 0, 1) := dk_42 (dk_at dksX8_rule_6 16 rfl rfl)
theorem dX8_rule_154 : decode cX8_rule 154 = .ok (.getfield 146, 3) := dk_180 0 146 (dk_at dksX8_rule_6 17 rfl rfl)
theorem dX8_rule_157 : decode cX8_rule 157 = .ok (.iastore, 1) := dk_79 (dk_at dksX8_rule_6 20 rfl rfl)
theorem dX8_rule_158 : decode cX8_rule 158 = .ok (.return_, 1) := dk_177 (dk_at dksX8_rule_6 21 rfl rfl)
abbrev cX8_expression : ByteArray := prog_21_method_14_code
def yX8_expression : MethodName := ⟨RX8, "expression", "()V"⟩
def dkwX8_expression_10 : List UInt8 := [180, 0, 158, 158, 0, 11, 42, 42, 180, 0, 132, 182, 0, 142, 177]
abbrev dktX8_expression_10 : List UInt8 := dkwX8_expression_10 ++ []
def dkwX8_expression_9 : List UInt8 := [4, 96, 181, 0, 132, 42, 6, 182, 0, 174, 167, 0, 5, 3, 61, 167, 255, 42, 42, 4, 182, 0, 174, 42]
abbrev dktX8_expression_9 : List UInt8 := dkwX8_expression_9 ++ dktX8_expression_10
def dkwX8_expression_8 : List UInt8 := [89, 180, 0, 158, 4, 100, 181, 0, 158, 42, 89, 180, 0, 161, 4, 100, 181, 0, 161, 42, 89, 180, 0, 132]
abbrev dktX8_expression_8 : List UInt8 := dkwX8_expression_8 ++ dktX8_expression_9
def dkwX8_expression_7 : List UInt8 := [29, 16, 41, 160, 0, 58, 42, 4, 182, 0, 174, 42, 180, 0, 158, 154, 0, 8, 3, 61, 167, 0, 43, 42]
abbrev dktX8_expression_7 : List UInt8 := dkwX8_expression_7 ++ dktX8_expression_8
def dkwX8_expression_6 : List UInt8 := [89, 180, 0, 158, 4, 96, 181, 0, 158, 42, 89, 180, 0, 132, 4, 96, 181, 0, 132, 4, 60, 167, 0, 66]
abbrev dktX8_expression_6 : List UInt8 := dkwX8_expression_6 ++ dktX8_expression_7
def dkwX8_expression_5 : List UInt8 := [182, 0, 174, 42, 180, 0, 34, 42, 180, 0, 158, 29, 16, 38, 160, 0, 7, 5, 167, 0, 4, 4, 79, 42]
abbrev dktX8_expression_5 : List UInt8 := dkwX8_expression_5 ++ dktX8_expression_6
def dkwX8_expression_4 : List UInt8 := [29, 16, 38, 159, 0, 9, 29, 16, 124, 160, 0, 63, 42, 29, 16, 38, 160, 0, 7, 5, 167, 0, 4, 4]
abbrev dktX8_expression_4 : List UInt8 := dkwX8_expression_4 ++ dktX8_expression_5
def dkwX8_expression_3 : List UInt8 := [153, 0, 13, 42, 6, 182, 0, 174, 3, 60, 167, 0, 149, 42, 42, 180, 0, 132, 182, 0, 142, 167, 0, 138]
abbrev dktX8_expression_3 : List UInt8 := dkwX8_expression_3 ++ dktX8_expression_4
def dkwX8_expression_2 : List UInt8 := [42, 29, 16, 33, 160, 0, 7, 6, 167, 0, 4, 3, 182, 0, 167, 167, 0, 167, 42, 29, 182, 0, 170]
abbrev dktX8_expression_2 : List UInt8 := dkwX8_expression_2 ++ dktX8_expression_3
def dkwX8_expression_1 : List UInt8 := [156, 0, 209, 42, 182, 0, 138, 62, 27, 153, 0, 62, 29, 16, 33, 159, 0, 9, 29, 16, 40, 160, 0, 21]
abbrev dktX8_expression_1 : List UInt8 := dkwX8_expression_1 ++ dktX8_expression_2
def dkwX8_expression_0 : List UInt8 := [42, 3, 181, 0, 158, 42, 3, 181, 0, 161, 4, 60, 4, 61, 28, 153, 0, 216, 42, 180, 0, 135]
abbrev dktX8_expression_0 : List UInt8 := dkwX8_expression_0 ++ dktX8_expression_1
theorem dksX8_expression_0 : cX8_expression.data.toList.drop 0 = dktX8_expression_0 := by decide +kernel
theorem dksX8_expression_1 : cX8_expression.data.toList.drop 22 = dktX8_expression_1 := dk_seg dksX8_expression_0 22 rfl rfl
theorem dksX8_expression_2 : cX8_expression.data.toList.drop 46 = dktX8_expression_2 := dk_seg dksX8_expression_1 24 rfl rfl
theorem dksX8_expression_3 : cX8_expression.data.toList.drop 69 = dktX8_expression_3 := dk_seg dksX8_expression_2 23 rfl rfl
theorem dksX8_expression_4 : cX8_expression.data.toList.drop 93 = dktX8_expression_4 := dk_seg dksX8_expression_3 24 rfl rfl
theorem dksX8_expression_5 : cX8_expression.data.toList.drop 117 = dktX8_expression_5 := dk_seg dksX8_expression_4 24 rfl rfl
theorem dksX8_expression_6 : cX8_expression.data.toList.drop 141 = dktX8_expression_6 := dk_seg dksX8_expression_5 24 rfl rfl
theorem dksX8_expression_7 : cX8_expression.data.toList.drop 165 = dktX8_expression_7 := dk_seg dksX8_expression_6 24 rfl rfl
theorem dksX8_expression_8 : cX8_expression.data.toList.drop 189 = dktX8_expression_8 := dk_seg dksX8_expression_7 24 rfl rfl
theorem dksX8_expression_9 : cX8_expression.data.toList.drop 213 = dktX8_expression_9 := dk_seg dksX8_expression_8 24 rfl rfl
theorem dksX8_expression_10 : cX8_expression.data.toList.drop 237 = dktX8_expression_10 := dk_seg dksX8_expression_9 24 rfl rfl
theorem dX8_expression_0 : decode cX8_expression 0 = .ok (.aload_n 0, 1) := dk_42 (dk_at dksX8_expression_0 0 rfl rfl)
theorem dX8_expression_1 : decode cX8_expression 1 = .ok (.iconst 0, 1) := dk_3 (dk_at dksX8_expression_0 1 rfl rfl)
theorem dX8_expression_2 : decode cX8_expression 2 = .ok (.putfield 158, 3) := dk_181 0 158 (dk_at dksX8_expression_0 2 rfl rfl)
theorem dX8_expression_5 : decode cX8_expression 5 = .ok (.aload_n 0, 1) := dk_42 (dk_at dksX8_expression_0 5 rfl rfl)
theorem dX8_expression_6 : decode cX8_expression 6 = .ok (.iconst 0, 1) := dk_3 (dk_at dksX8_expression_0 6 rfl rfl)
theorem dX8_expression_7 : decode cX8_expression 7 = .ok (.putfield 161, 3) := dk_181 0 161 (dk_at dksX8_expression_0 7 rfl rfl)
theorem dX8_expression_10 : decode cX8_expression 10 = .ok (.iconst 1, 1) := dk_4 (dk_at dksX8_expression_0 10 rfl rfl)
theorem dX8_expression_11 : decode cX8_expression 11 = .ok (.istore_n 1, 1) := dk_60 (dk_at dksX8_expression_0 11 rfl rfl)
theorem dX8_expression_12 : decode cX8_expression 12 = .ok (.iconst 1, 1) := dk_4 (dk_at dksX8_expression_0 12 rfl rfl)
theorem dX8_expression_13 : decode cX8_expression 13 = .ok (.istore_n 2, 1) := dk_61 (dk_at dksX8_expression_0 13 rfl rfl)
theorem dX8_expression_14 : decode cX8_expression 14 = .ok (.iload_n 2, 1) := dk_28 (dk_at dksX8_expression_0 14 rfl rfl)
theorem dX8_expression_15 : decode cX8_expression 15 = .ok (.ifCond .eq 216, 3) := dk_153 0 216 (dk_at dksX8_expression_0 15 rfl rfl)
theorem dX8_expression_18 : decode cX8_expression 18 = .ok (.aload_n 0, 1) := dk_42 (dk_at dksX8_expression_0 18 rfl rfl)
theorem dX8_expression_19 : decode cX8_expression 19 = .ok (.getfield 135, 3) := dk_180 0 135 (dk_at dksX8_expression_0 19 rfl rfl)
theorem dX8_expression_22 : decode cX8_expression 22 = .ok (.ifCond .ge 209, 3) := dk_156 0 209 (dk_at dksX8_expression_1 0 rfl rfl)
theorem dX8_expression_25 : decode cX8_expression 25 = .ok (.aload_n 0, 1) := dk_42 (dk_at dksX8_expression_1 3 rfl rfl)
theorem dX8_expression_26 : decode cX8_expression 26 = .ok (.invokevirtual 138, 3) := dk_182 0 138 (dk_at dksX8_expression_1 4 rfl rfl)
theorem dX8_expression_29 : decode cX8_expression 29 = .ok (.istore_n 3, 1) := dk_62 (dk_at dksX8_expression_1 7 rfl rfl)
theorem dX8_expression_30 : decode cX8_expression 30 = .ok (.iload_n 1, 1) := dk_27 (dk_at dksX8_expression_1 8 rfl rfl)
theorem dX8_expression_31 : decode cX8_expression 31 = .ok (.ifCond .eq 62, 3) := dk_153 0 62 (dk_at dksX8_expression_1 9 rfl rfl)
theorem dX8_expression_34 : decode cX8_expression 34 = .ok (.iload_n 3, 1) := dk_29 (dk_at dksX8_expression_1 12 rfl rfl)
theorem dX8_expression_35 : decode cX8_expression 35 = .ok (.bipush 33, 2) := dk_16 33 (dk_at dksX8_expression_1 13 rfl rfl)
theorem dX8_expression_37 : decode cX8_expression 37 = .ok (.if_icmp .eq 9, 3) := dk_159 0 9 (dk_at dksX8_expression_1 15 rfl rfl)
theorem dX8_expression_40 : decode cX8_expression 40 = .ok (.iload_n 3, 1) := dk_29 (dk_at dksX8_expression_1 18 rfl rfl)
theorem dX8_expression_41 : decode cX8_expression 41 = .ok (.bipush 40, 2) := dk_16 40 (dk_at dksX8_expression_1 19 rfl rfl)
theorem dX8_expression_43 : decode cX8_expression 43 = .ok (.if_icmp .ne 21, 3) := dk_160 0 21 (dk_at dksX8_expression_1 21 rfl rfl)
theorem dX8_expression_46 : decode cX8_expression 46 = .ok (.aload_n 0, 1) := dk_42 (dk_at dksX8_expression_2 0 rfl rfl)
theorem dX8_expression_47 : decode cX8_expression 47 = .ok (.iload_n 3, 1) := dk_29 (dk_at dksX8_expression_2 1 rfl rfl)
theorem dX8_expression_48 : decode cX8_expression 48 = .ok (.bipush 33, 2) := dk_16 33 (dk_at dksX8_expression_2 2 rfl rfl)
theorem dX8_expression_50 : decode cX8_expression 50 = .ok (.if_icmp .ne 7, 3) := dk_160 0 7 (dk_at dksX8_expression_2 4 rfl rfl)
theorem dX8_expression_53 : decode cX8_expression 53 = .ok (.iconst 3, 1) := dk_6 (dk_at dksX8_expression_2 7 rfl rfl)
theorem dX8_expression_54 : decode cX8_expression 54 = .ok (.goto 4, 3) := dk_167 0 4 (dk_at dksX8_expression_2 8 rfl rfl)
theorem dX8_expression_57 : decode cX8_expression 57 = .ok (.iconst 0, 1) := dk_3 (dk_at dksX8_expression_2 11 rfl rfl)
theorem dX8_expression_58 : decode cX8_expression 58 = .ok (.invokevirtual 167, 3) := dk_182 0 167 (dk_at dksX8_expression_2 12 rfl rfl)
theorem dX8_expression_61 : decode cX8_expression 61 = .ok (.goto 167, 3) := dk_167 0 167 (dk_at dksX8_expression_2 15 rfl rfl)
theorem dX8_expression_64 : decode cX8_expression 64 = .ok (.aload_n 0, 1) := dk_42 (dk_at dksX8_expression_2 18 rfl rfl)
theorem dX8_expression_65 : decode cX8_expression 65 = .ok (.iload_n 3, 1) := dk_29 (dk_at dksX8_expression_2 19 rfl rfl)
theorem dX8_expression_66 : decode cX8_expression 66 = .ok (.invokevirtual 170, 3) := dk_182 0 170 (dk_at dksX8_expression_2 20 rfl rfl)
theorem dX8_expression_69 : decode cX8_expression 69 = .ok (.ifCond .eq 13, 3) := dk_153 0 13 (dk_at dksX8_expression_3 0 rfl rfl)
theorem dX8_expression_72 : decode cX8_expression 72 = .ok (.aload_n 0, 1) := dk_42 (dk_at dksX8_expression_3 3 rfl rfl)
theorem dX8_expression_73 : decode cX8_expression 73 = .ok (.iconst 3, 1) := dk_6 (dk_at dksX8_expression_3 4 rfl rfl)
theorem dX8_expression_74 : decode cX8_expression 74 = .ok (.invokevirtual 174, 3) := dk_182 0 174 (dk_at dksX8_expression_3 5 rfl rfl)
theorem dX8_expression_77 : decode cX8_expression 77 = .ok (.iconst 0, 1) := dk_3 (dk_at dksX8_expression_3 8 rfl rfl)
theorem dX8_expression_78 : decode cX8_expression 78 = .ok (.istore_n 1, 1) := dk_60 (dk_at dksX8_expression_3 9 rfl rfl)
theorem dX8_expression_79 : decode cX8_expression 79 = .ok (.goto 149, 3) := dk_167 0 149 (dk_at dksX8_expression_3 10 rfl rfl)
theorem dX8_expression_82 : decode cX8_expression 82 = .ok (.aload_n 0, 1) := dk_42 (dk_at dksX8_expression_3 13 rfl rfl)
theorem dX8_expression_83 : decode cX8_expression 83 = .ok (.aload_n 0, 1) := dk_42 (dk_at dksX8_expression_3 14 rfl rfl)
theorem dX8_expression_84 : decode cX8_expression 84 = .ok (.getfield 132, 3) := dk_180 0 132 (dk_at dksX8_expression_3 15 rfl rfl)
theorem dX8_expression_87 : decode cX8_expression 87 = .ok (.invokevirtual 142, 3) := dk_182 0 142 (dk_at dksX8_expression_3 18 rfl rfl)
theorem dX8_expression_90 : decode cX8_expression 90 = .ok (.goto 138, 3) := dk_167 0 138 (dk_at dksX8_expression_3 21 rfl rfl)
theorem dX8_expression_93 : decode cX8_expression 93 = .ok (.iload_n 3, 1) := dk_29 (dk_at dksX8_expression_4 0 rfl rfl)
theorem dX8_expression_94 : decode cX8_expression 94 = .ok (.bipush 38, 2) := dk_16 38 (dk_at dksX8_expression_4 1 rfl rfl)
theorem dX8_expression_96 : decode cX8_expression 96 = .ok (.if_icmp .eq 9, 3) := dk_159 0 9 (dk_at dksX8_expression_4 3 rfl rfl)
theorem dX8_expression_99 : decode cX8_expression 99 = .ok (.iload_n 3, 1) := dk_29 (dk_at dksX8_expression_4 6 rfl rfl)
theorem dX8_expression_100 : decode cX8_expression 100 = .ok (.bipush 124, 2) := dk_16 124 (dk_at dksX8_expression_4 7 rfl rfl)
theorem dX8_expression_102 : decode cX8_expression 102 = .ok (.if_icmp .ne 63, 3) := dk_160 0 63 (dk_at dksX8_expression_4 9 rfl rfl)
theorem dX8_expression_105 : decode cX8_expression 105 = .ok (.aload_n 0, 1) := dk_42 (dk_at dksX8_expression_4 12 rfl rfl)
theorem dX8_expression_106 : decode cX8_expression 106 = .ok (.iload_n 3, 1) := dk_29 (dk_at dksX8_expression_4 13 rfl rfl)
theorem dX8_expression_107 : decode cX8_expression 107 = .ok (.bipush 38, 2) := dk_16 38 (dk_at dksX8_expression_4 14 rfl rfl)
theorem dX8_expression_109 : decode cX8_expression 109 = .ok (.if_icmp .ne 7, 3) := dk_160 0 7 (dk_at dksX8_expression_4 16 rfl rfl)
theorem dX8_expression_112 : decode cX8_expression 112 = .ok (.iconst 2, 1) := dk_5 (dk_at dksX8_expression_4 19 rfl rfl)
theorem dX8_expression_113 : decode cX8_expression 113 = .ok (.goto 4, 3) := dk_167 0 4 (dk_at dksX8_expression_4 20 rfl rfl)
theorem dX8_expression_116 : decode cX8_expression 116 = .ok (.iconst 1, 1) := dk_4 (dk_at dksX8_expression_4 23 rfl rfl)
theorem dX8_expression_117 : decode cX8_expression 117 = .ok (.invokevirtual 174, 3) := dk_182 0 174 (dk_at dksX8_expression_5 0 rfl rfl)
theorem dX8_expression_120 : decode cX8_expression 120 = .ok (.aload_n 0, 1) := dk_42 (dk_at dksX8_expression_5 3 rfl rfl)
theorem dX8_expression_121 : decode cX8_expression 121 = .ok (.getfield 34, 3) := dk_180 0 34 (dk_at dksX8_expression_5 4 rfl rfl)
theorem dX8_expression_124 : decode cX8_expression 124 = .ok (.aload_n 0, 1) := dk_42 (dk_at dksX8_expression_5 7 rfl rfl)
theorem dX8_expression_125 : decode cX8_expression 125 = .ok (.getfield 158, 3) := dk_180 0 158 (dk_at dksX8_expression_5 8 rfl rfl)
theorem dX8_expression_128 : decode cX8_expression 128 = .ok (.iload_n 3, 1) := dk_29 (dk_at dksX8_expression_5 11 rfl rfl)
theorem dX8_expression_129 : decode cX8_expression 129 = .ok (.bipush 38, 2) := dk_16 38 (dk_at dksX8_expression_5 12 rfl rfl)
theorem dX8_expression_131 : decode cX8_expression 131 = .ok (.if_icmp .ne 7, 3) := dk_160 0 7 (dk_at dksX8_expression_5 14 rfl rfl)
theorem dX8_expression_134 : decode cX8_expression 134 = .ok (.iconst 2, 1) := dk_5 (dk_at dksX8_expression_5 17 rfl rfl)
theorem dX8_expression_135 : decode cX8_expression 135 = .ok (.goto 4, 3) := dk_167 0 4 (dk_at dksX8_expression_5 18 rfl rfl)
theorem dX8_expression_138 : decode cX8_expression 138 = .ok (.iconst 1, 1) := dk_4 (dk_at dksX8_expression_5 21 rfl rfl)
theorem dX8_expression_139 : decode cX8_expression 139 = .ok (.iastore, 1) := dk_79 (dk_at dksX8_expression_5 22 rfl rfl)
theorem dX8_expression_140 : decode cX8_expression 140 = .ok (.aload_n 0, 1) := dk_42 (dk_at dksX8_expression_5 23 rfl rfl)
theorem dX8_expression_141 : decode cX8_expression 141 = .ok (.dup, 1) := dk_89 (dk_at dksX8_expression_6 0 rfl rfl)
theorem dX8_expression_142 : decode cX8_expression 142 = .ok (.getfield 158, 3) := dk_180 0 158 (dk_at dksX8_expression_6 1 rfl rfl)
theorem dX8_expression_145 : decode cX8_expression 145 = .ok (.iconst 1, 1) := dk_4 (dk_at dksX8_expression_6 4 rfl rfl)
theorem dX8_expression_146 : decode cX8_expression 146 = .ok (.iadd, 1) := dk_96 (dk_at dksX8_expression_6 5 rfl rfl)
theorem dX8_expression_147 : decode cX8_expression 147 = .ok (.putfield 158, 3) := dk_181 0 158 (dk_at dksX8_expression_6 6 rfl rfl)
theorem dX8_expression_150 : decode cX8_expression 150 = .ok (.aload_n 0, 1) := dk_42 (dk_at dksX8_expression_6 9 rfl rfl)
theorem dX8_expression_151 : decode cX8_expression 151 = .ok (.dup, 1) := dk_89 (dk_at dksX8_expression_6 10 rfl rfl)
theorem dX8_expression_152 : decode cX8_expression 152 = .ok (.getfield 132, 3) := dk_180 0 132 (dk_at dksX8_expression_6 11 rfl rfl)
theorem dX8_expression_155 : decode cX8_expression 155 = .ok (.iconst 1, 1) := dk_4 (dk_at dksX8_expression_6 14 rfl rfl)
theorem dX8_expression_156 : decode cX8_expression 156 = .ok (.iadd, 1) := dk_96 (dk_at dksX8_expression_6 15 rfl rfl)
theorem dX8_expression_157 : decode cX8_expression 157 = .ok (.putfield 132, 3) := dk_181 0 132 (dk_at dksX8_expression_6 16 rfl rfl)
theorem dX8_expression_160 : decode cX8_expression 160 = .ok (.iconst 1, 1) := dk_4 (dk_at dksX8_expression_6 19 rfl rfl)
theorem dX8_expression_161 : decode cX8_expression 161 = .ok (.istore_n 1, 1) := dk_60 (dk_at dksX8_expression_6 20 rfl rfl)
theorem dX8_expression_162 : decode cX8_expression 162 = .ok (.goto 66, 3) := dk_167 0 66 (dk_at dksX8_expression_6 21 rfl rfl)
theorem dX8_expression_165 : decode cX8_expression 165 = .ok (.iload_n 3, 1) := dk_29 (dk_at dksX8_expression_7 0 rfl rfl)
theorem dX8_expression_166 : decode cX8_expression 166 = .ok (.bipush 41, 2) := dk_16 41 (dk_at dksX8_expression_7 1 rfl rfl)
theorem dX8_expression_168 : decode cX8_expression 168 = .ok (.if_icmp .ne 58, 3) := dk_160 0 58 (dk_at dksX8_expression_7 3 rfl rfl)
theorem dX8_expression_171 : decode cX8_expression 171 = .ok (.aload_n 0, 1) := dk_42 (dk_at dksX8_expression_7 6 rfl rfl)
theorem dX8_expression_172 : decode cX8_expression 172 = .ok (.iconst 1, 1) := dk_4 (dk_at dksX8_expression_7 7 rfl rfl)
theorem dX8_expression_173 : decode cX8_expression 173 = .ok (.invokevirtual 174, 3) := dk_182 0 174 (dk_at dksX8_expression_7 8 rfl rfl)
theorem dX8_expression_176 : decode cX8_expression 176 = .ok (.aload_n 0, 1) := dk_42 (dk_at dksX8_expression_7 11 rfl rfl)
theorem dX8_expression_177 : decode cX8_expression 177 = .ok (.getfield 158, 3) := dk_180 0 158 (dk_at dksX8_expression_7 12 rfl rfl)
theorem dX8_expression_180 : decode cX8_expression 180 = .ok (.ifCond .ne 8, 3) := dk_154 0 8 (dk_at dksX8_expression_7 15 rfl rfl)
theorem dX8_expression_183 : decode cX8_expression 183 = .ok (.iconst 0, 1) := dk_3 (dk_at dksX8_expression_7 18 rfl rfl)
theorem dX8_expression_184 : decode cX8_expression 184 = .ok (.istore_n 2, 1) := dk_61 (dk_at dksX8_expression_7 19 rfl rfl)
theorem dX8_expression_185 : decode cX8_expression 185 = .ok (.goto 43, 3) := dk_167 0 43 (dk_at dksX8_expression_7 20 rfl rfl)
theorem dX8_expression_188 : decode cX8_expression 188 = .ok (.aload_n 0, 1) := dk_42 (dk_at dksX8_expression_7 23 rfl rfl)
theorem dX8_expression_189 : decode cX8_expression 189 = .ok (.dup, 1) := dk_89 (dk_at dksX8_expression_8 0 rfl rfl)
theorem dX8_expression_190 : decode cX8_expression 190 = .ok (.getfield 158, 3) := dk_180 0 158 (dk_at dksX8_expression_8 1 rfl rfl)
theorem dX8_expression_193 : decode cX8_expression 193 = .ok (.iconst 1, 1) := dk_4 (dk_at dksX8_expression_8 4 rfl rfl)
theorem dX8_expression_194 : decode cX8_expression 194 = .ok (.isub, 1) := dk_100 (dk_at dksX8_expression_8 5 rfl rfl)
theorem dX8_expression_195 : decode cX8_expression 195 = .ok (.putfield 158, 3) := dk_181 0 158 (dk_at dksX8_expression_8 6 rfl rfl)
theorem dX8_expression_198 : decode cX8_expression 198 = .ok (.aload_n 0, 1) := dk_42 (dk_at dksX8_expression_8 9 rfl rfl)
theorem dX8_expression_199 : decode cX8_expression 199 = .ok (.dup, 1) := dk_89 (dk_at dksX8_expression_8 10 rfl rfl)
theorem dX8_expression_200 : decode cX8_expression 200 = .ok (.getfield 161, 3) := dk_180 0 161 (dk_at dksX8_expression_8 11 rfl rfl)
theorem dX8_expression_203 : decode cX8_expression 203 = .ok (.iconst 1, 1) := dk_4 (dk_at dksX8_expression_8 14 rfl rfl)
theorem dX8_expression_204 : decode cX8_expression 204 = .ok (.isub, 1) := dk_100 (dk_at dksX8_expression_8 15 rfl rfl)
theorem dX8_expression_205 : decode cX8_expression 205 = .ok (.putfield 161, 3) := dk_181 0 161 (dk_at dksX8_expression_8 16 rfl rfl)
theorem dX8_expression_208 : decode cX8_expression 208 = .ok (.aload_n 0, 1) := dk_42 (dk_at dksX8_expression_8 19 rfl rfl)
theorem dX8_expression_209 : decode cX8_expression 209 = .ok (.dup, 1) := dk_89 (dk_at dksX8_expression_8 20 rfl rfl)
theorem dX8_expression_210 : decode cX8_expression 210 = .ok (.getfield 132, 3) := dk_180 0 132 (dk_at dksX8_expression_8 21 rfl rfl)
theorem dX8_expression_213 : decode cX8_expression 213 = .ok (.iconst 1, 1) := dk_4 (dk_at dksX8_expression_9 0 rfl rfl)
theorem dX8_expression_214 : decode cX8_expression 214 = .ok (.iadd, 1) := dk_96 (dk_at dksX8_expression_9 1 rfl rfl)
theorem dX8_expression_215 : decode cX8_expression 215 = .ok (.putfield 132, 3) := dk_181 0 132 (dk_at dksX8_expression_9 2 rfl rfl)
theorem dX8_expression_218 : decode cX8_expression 218 = .ok (.aload_n 0, 1) := dk_42 (dk_at dksX8_expression_9 5 rfl rfl)
theorem dX8_expression_219 : decode cX8_expression 219 = .ok (.iconst 3, 1) := dk_6 (dk_at dksX8_expression_9 6 rfl rfl)
theorem dX8_expression_220 : decode cX8_expression 220 = .ok (.invokevirtual 174, 3) := dk_182 0 174 (dk_at dksX8_expression_9 7 rfl rfl)
theorem dX8_expression_223 : decode cX8_expression 223 = .ok (.goto 5, 3) := dk_167 0 5 (dk_at dksX8_expression_9 10 rfl rfl)
theorem dX8_expression_226 : decode cX8_expression 226 = .ok (.iconst 0, 1) := dk_3 (dk_at dksX8_expression_9 13 rfl rfl)
theorem dX8_expression_227 : decode cX8_expression 227 = .ok (.istore_n 2, 1) := dk_61 (dk_at dksX8_expression_9 14 rfl rfl)
theorem dX8_expression_228 : decode cX8_expression 228 = .ok (.goto (-214), 3) := dk_167 255 42 (dk_at dksX8_expression_9 15 rfl rfl)
theorem dX8_expression_231 : decode cX8_expression 231 = .ok (.aload_n 0, 1) := dk_42 (dk_at dksX8_expression_9 18 rfl rfl)
theorem dX8_expression_232 : decode cX8_expression 232 = .ok (.iconst 1, 1) := dk_4 (dk_at dksX8_expression_9 19 rfl rfl)
theorem dX8_expression_233 : decode cX8_expression 233 = .ok (.invokevirtual 174, 3) := dk_182 0 174 (dk_at dksX8_expression_9 20 rfl rfl)
theorem dX8_expression_236 : decode cX8_expression 236 = .ok (.aload_n 0, 1) := dk_42 (dk_at dksX8_expression_9 23 rfl rfl)
theorem dX8_expression_237 : decode cX8_expression 237 = .ok (.getfield 158, 3) := dk_180 0 158 (dk_at dksX8_expression_10 0 rfl rfl)
theorem dX8_expression_240 : decode cX8_expression 240 = .ok (.ifCond .le 11, 3) := dk_158 0 11 (dk_at dksX8_expression_10 3 rfl rfl)
theorem dX8_expression_243 : decode cX8_expression 243 = .ok (.aload_n 0, 1) := dk_42 (dk_at dksX8_expression_10 6 rfl rfl)
theorem dX8_expression_244 : decode cX8_expression 244 = .ok (.aload_n 0, 1) := dk_42 (dk_at dksX8_expression_10 7 rfl rfl)
theorem dX8_expression_245 : decode cX8_expression 245 = .ok (.getfield 132, 3) := dk_180 0 132 (dk_at dksX8_expression_10 8 rfl rfl)
theorem dX8_expression_248 : decode cX8_expression 248 = .ok (.invokevirtual 142, 3) := dk_182 0 142 (dk_at dksX8_expression_10 11 rfl rfl)
theorem dX8_expression_251 : decode cX8_expression 251 = .ok (.return_, 1) := dk_177 (dk_at dksX8_expression_10 14 rfl rfl)
abbrev cX8_next : ByteArray := prog_21_method_7_code
def yX8_next : MethodName := ⟨RX8, "next", "()I"⟩
def dkwX8_next_2 : List UInt8 := [162, 0, 15, 42, 180, 0, 7, 42, 180, 0, 132, 46, 167, 0, 4, 3, 172]
abbrev dktX8_next_2 : List UInt8 := dkwX8_next_2 ++ []
def dkwX8_next_1 : List UInt8 := [160, 0, 16, 42, 89, 180, 0, 132, 4, 96, 181, 0, 132, 167, 255, 221, 42, 180, 0, 132, 42, 180, 0, 128]
abbrev dktX8_next_1 : List UInt8 := dkwX8_next_1 ++ dktX8_next_2
def dkwX8_next_0 : List UInt8 := [42, 180, 0, 132, 42, 180, 0, 128, 162, 0, 30, 42, 180, 0, 7, 42, 180, 0, 132, 46, 16, 32]
abbrev dktX8_next_0 : List UInt8 := dkwX8_next_0 ++ dktX8_next_1
theorem dksX8_next_0 : cX8_next.data.toList.drop 0 = dktX8_next_0 := by decide +kernel
theorem dksX8_next_1 : cX8_next.data.toList.drop 22 = dktX8_next_1 := dk_seg dksX8_next_0 22 rfl rfl
theorem dksX8_next_2 : cX8_next.data.toList.drop 46 = dktX8_next_2 := dk_seg dksX8_next_1 24 rfl rfl
theorem dX8_next_0 : decode cX8_next 0 = .ok (.aload_n 0, 1) := dk_42 (dk_at dksX8_next_0 0 rfl rfl)
theorem dX8_next_1 : decode cX8_next 1 = .ok (.getfield 132, 3) := dk_180 0 132 (dk_at dksX8_next_0 1 rfl rfl)
theorem dX8_next_4 : decode cX8_next 4 = .ok (.aload_n 0, 1) := dk_42 (dk_at dksX8_next_0 4 rfl rfl)
theorem dX8_next_5 : decode cX8_next 5 = .ok (.getfield 128, 3) := dk_180 0 128 (dk_at dksX8_next_0 5 rfl rfl)
theorem dX8_next_8 : decode cX8_next 8 = .ok (.if_icmp .ge 30, 3) := dk_162 0 30 (dk_at dksX8_next_0 8 rfl rfl)
theorem dX8_next_11 : decode cX8_next 11 = .ok (.aload_n 0, 1) := dk_42 (dk_at dksX8_next_0 11 rfl rfl)
theorem dX8_next_12 : decode cX8_next 12 = .ok (.getfield 7, 3) := dk_180 0 7 (dk_at dksX8_next_0 12 rfl rfl)
theorem dX8_next_15 : decode cX8_next 15 = .ok (.aload_n 0, 1) := dk_42 (dk_at dksX8_next_0 15 rfl rfl)
theorem dX8_next_16 : decode cX8_next 16 = .ok (.getfield 132, 3) := dk_180 0 132 (dk_at dksX8_next_0 16 rfl rfl)
theorem dX8_next_19 : decode cX8_next 19 = .ok (.iaload, 1) := dk_46 (dk_at dksX8_next_0 19 rfl rfl)
theorem dX8_next_20 : decode cX8_next 20 = .ok (.bipush 32, 2) := dk_16 32 (dk_at dksX8_next_0 20 rfl rfl)
theorem dX8_next_22 : decode cX8_next 22 = .ok (.if_icmp .ne 16, 3) := dk_160 0 16 (dk_at dksX8_next_1 0 rfl rfl)
theorem dX8_next_25 : decode cX8_next 25 = .ok (.aload_n 0, 1) := dk_42 (dk_at dksX8_next_1 3 rfl rfl)
theorem dX8_next_26 : decode cX8_next 26 = .ok (.dup, 1) := dk_89 (dk_at dksX8_next_1 4 rfl rfl)
theorem dX8_next_27 : decode cX8_next 27 = .ok (.getfield 132, 3) := dk_180 0 132 (dk_at dksX8_next_1 5 rfl rfl)
theorem dX8_next_30 : decode cX8_next 30 = .ok (.iconst 1, 1) := dk_4 (dk_at dksX8_next_1 8 rfl rfl)
theorem dX8_next_31 : decode cX8_next 31 = .ok (.iadd, 1) := dk_96 (dk_at dksX8_next_1 9 rfl rfl)
theorem dX8_next_32 : decode cX8_next 32 = .ok (.putfield 132, 3) := dk_181 0 132 (dk_at dksX8_next_1 10 rfl rfl)
theorem dX8_next_35 : decode cX8_next 35 = .ok (.goto (-35), 3) := dk_167 255 221 (dk_at dksX8_next_1 13 rfl rfl)
theorem dX8_next_38 : decode cX8_next 38 = .ok (.aload_n 0, 1) := dk_42 (dk_at dksX8_next_1 16 rfl rfl)
theorem dX8_next_39 : decode cX8_next 39 = .ok (.getfield 132, 3) := dk_180 0 132 (dk_at dksX8_next_1 17 rfl rfl)
theorem dX8_next_42 : decode cX8_next 42 = .ok (.aload_n 0, 1) := dk_42 (dk_at dksX8_next_1 20 rfl rfl)
theorem dX8_next_43 : decode cX8_next 43 = .ok (.getfield 128, 3) := dk_180 0 128 (dk_at dksX8_next_1 21 rfl rfl)
theorem dX8_next_46 : decode cX8_next 46 = .ok (.if_icmp .ge 15, 3) := dk_162 0 15 (dk_at dksX8_next_2 0 rfl rfl)
theorem dX8_next_49 : decode cX8_next 49 = .ok (.aload_n 0, 1) := dk_42 (dk_at dksX8_next_2 3 rfl rfl)
theorem dX8_next_50 : decode cX8_next 50 = .ok (.getfield 7, 3) := dk_180 0 7 (dk_at dksX8_next_2 4 rfl rfl)
theorem dX8_next_53 : decode cX8_next 53 = .ok (.aload_n 0, 1) := dk_42 (dk_at dksX8_next_2 7 rfl rfl)
theorem dX8_next_54 : decode cX8_next 54 = .ok (.getfield 132, 3) := dk_180 0 132 (dk_at dksX8_next_2 8 rfl rfl)
theorem dX8_next_57 : decode cX8_next 57 = .ok (.iaload, 1) := dk_46 (dk_at dksX8_next_2 11 rfl rfl)
theorem dX8_next_58 : decode cX8_next 58 = .ok (.goto 4, 3) := dk_167 0 4 (dk_at dksX8_next_2 12 rfl rfl)
theorem dX8_next_61 : decode cX8_next 61 = .ok (.iconst 0, 1) := dk_3 (dk_at dksX8_next_2 15 rfl rfl)
theorem dX8_next_62 : decode cX8_next 62 = .ok (.ireturn, 1) := dk_172 (dk_at dksX8_next_2 16 rfl rfl)
abbrev cX8_opens : ByteArray := prog_21_method_13_code
def yX8_opens : MethodName := ⟨RX8, "opens", "(I)V"⟩
def dkwX8_opens_2 : List UInt8 := [42, 89, 180, 0, 132, 4, 96, 181, 0, 132, 177]
abbrev dktX8_opens_2 : List UInt8 := dkwX8_opens_2 ++ []
def dkwX8_opens_1 : List UInt8 := [96, 181, 0, 161, 42, 180, 0, 34, 42, 180, 0, 158, 27, 79, 42, 89, 180, 0, 158, 4, 96, 181, 0, 158]
abbrev dktX8_opens_1 : List UInt8 := dkwX8_opens_1 ++ dktX8_opens_2
def dkwX8_opens_0 : List UInt8 := [42, 180, 0, 161, 16, 8, 160, 0, 12, 42, 42, 180, 0, 132, 182, 0, 142, 177, 42, 89, 180, 0, 161, 4]
abbrev dktX8_opens_0 : List UInt8 := dkwX8_opens_0 ++ dktX8_opens_1
theorem dksX8_opens_0 : cX8_opens.data.toList.drop 0 = dktX8_opens_0 := by decide +kernel
theorem dksX8_opens_1 : cX8_opens.data.toList.drop 24 = dktX8_opens_1 := dk_seg dksX8_opens_0 24 rfl rfl
theorem dksX8_opens_2 : cX8_opens.data.toList.drop 48 = dktX8_opens_2 := dk_seg dksX8_opens_1 24 rfl rfl
theorem dX8_opens_0 : decode cX8_opens 0 = .ok (.aload_n 0, 1) := dk_42 (dk_at dksX8_opens_0 0 rfl rfl)
theorem dX8_opens_1 : decode cX8_opens 1 = .ok (.getfield 161, 3) := dk_180 0 161 (dk_at dksX8_opens_0 1 rfl rfl)
theorem dX8_opens_4 : decode cX8_opens 4 = .ok (.bipush 8, 2) := dk_16 8 (dk_at dksX8_opens_0 4 rfl rfl)
theorem dX8_opens_6 : decode cX8_opens 6 = .ok (.if_icmp .ne 12, 3) := dk_160 0 12 (dk_at dksX8_opens_0 6 rfl rfl)
theorem dX8_opens_9 : decode cX8_opens 9 = .ok (.aload_n 0, 1) := dk_42 (dk_at dksX8_opens_0 9 rfl rfl)
theorem dX8_opens_10 : decode cX8_opens 10 = .ok (.aload_n 0, 1) := dk_42 (dk_at dksX8_opens_0 10 rfl rfl)
theorem dX8_opens_11 : decode cX8_opens 11 = .ok (.getfield 132, 3) := dk_180 0 132 (dk_at dksX8_opens_0 11 rfl rfl)
theorem dX8_opens_14 : decode cX8_opens 14 = .ok (.invokevirtual 142, 3) := dk_182 0 142 (dk_at dksX8_opens_0 14 rfl rfl)
theorem dX8_opens_17 : decode cX8_opens 17 = .ok (.return_, 1) := dk_177 (dk_at dksX8_opens_0 17 rfl rfl)
theorem dX8_opens_18 : decode cX8_opens 18 = .ok (.aload_n 0, 1) := dk_42 (dk_at dksX8_opens_0 18 rfl rfl)
theorem dX8_opens_19 : decode cX8_opens 19 = .ok (.dup, 1) := dk_89 (dk_at dksX8_opens_0 19 rfl rfl)
theorem dX8_opens_20 : decode cX8_opens 20 = .ok (.getfield 161, 3) := dk_180 0 161 (dk_at dksX8_opens_0 20 rfl rfl)
theorem dX8_opens_23 : decode cX8_opens 23 = .ok (.iconst 1, 1) := dk_4 (dk_at dksX8_opens_0 23 rfl rfl)
theorem dX8_opens_24 : decode cX8_opens 24 = .ok (.iadd, 1) := dk_96 (dk_at dksX8_opens_1 0 rfl rfl)
theorem dX8_opens_25 : decode cX8_opens 25 = .ok (.putfield 161, 3) := dk_181 0 161 (dk_at dksX8_opens_1 1 rfl rfl)
theorem dX8_opens_28 : decode cX8_opens 28 = .ok (.aload_n 0, 1) := dk_42 (dk_at dksX8_opens_1 4 rfl rfl)
theorem dX8_opens_29 : decode cX8_opens 29 = .ok (.getfield 34, 3) := dk_180 0 34 (dk_at dksX8_opens_1 5 rfl rfl)
theorem dX8_opens_32 : decode cX8_opens 32 = .ok (.aload_n 0, 1) := dk_42 (dk_at dksX8_opens_1 8 rfl rfl)
theorem dX8_opens_33 : decode cX8_opens 33 = .ok (.getfield 158, 3) := dk_180 0 158 (dk_at dksX8_opens_1 9 rfl rfl)
theorem dX8_opens_36 : decode cX8_opens 36 = .ok (.iload_n 1, 1) := dk_27 (dk_at dksX8_opens_1 12 rfl rfl)
theorem dX8_opens_37 : decode cX8_opens 37 = .ok (.iastore, 1) := dk_79 (dk_at dksX8_opens_1 13 rfl rfl)
theorem dX8_opens_38 : decode cX8_opens 38 = .ok (.aload_n 0, 1) := dk_42 (dk_at dksX8_opens_1 14 rfl rfl)
theorem dX8_opens_39 : decode cX8_opens 39 = .ok (.dup, 1) := dk_89 (dk_at dksX8_opens_1 15 rfl rfl)
theorem dX8_opens_40 : decode cX8_opens 40 = .ok (.getfield 158, 3) := dk_180 0 158 (dk_at dksX8_opens_1 16 rfl rfl)
theorem dX8_opens_43 : decode cX8_opens 43 = .ok (.iconst 1, 1) := dk_4 (dk_at dksX8_opens_1 19 rfl rfl)
theorem dX8_opens_44 : decode cX8_opens 44 = .ok (.iadd, 1) := dk_96 (dk_at dksX8_opens_1 20 rfl rfl)
theorem dX8_opens_45 : decode cX8_opens 45 = .ok (.putfield 158, 3) := dk_181 0 158 (dk_at dksX8_opens_1 21 rfl rfl)
theorem dX8_opens_48 : decode cX8_opens 48 = .ok (.aload_n 0, 1) := dk_42 (dk_at dksX8_opens_2 0 rfl rfl)
theorem dX8_opens_49 : decode cX8_opens 49 = .ok (.dup, 1) := dk_89 (dk_at dksX8_opens_2 1 rfl rfl)
theorem dX8_opens_50 : decode cX8_opens 50 = .ok (.getfield 132, 3) := dk_180 0 132 (dk_at dksX8_opens_2 2 rfl rfl)
theorem dX8_opens_53 : decode cX8_opens 53 = .ok (.iconst 1, 1) := dk_4 (dk_at dksX8_opens_2 5 rfl rfl)
theorem dX8_opens_54 : decode cX8_opens 54 = .ok (.iadd, 1) := dk_96 (dk_at dksX8_opens_2 6 rfl rfl)
theorem dX8_opens_55 : decode cX8_opens 55 = .ok (.putfield 132, 3) := dk_181 0 132 (dk_at dksX8_opens_2 7 rfl rfl)
theorem dX8_opens_58 : decode cX8_opens 58 = .ok (.return_, 1) := dk_177 (dk_at dksX8_opens_2 10 rfl rfl)
abbrev cX8_fails : ByteArray := prog_21_method_8_code
def yX8_fails : MethodName := ⟨RX8, "fails", "(I)V"⟩
def dkwX8_fails_0 : List UInt8 := [42, 42, 180, 0, 135, 156, 0, 7, 27, 167, 0, 7, 42, 180, 0, 135, 181, 0, 135, 177]
abbrev dktX8_fails_0 : List UInt8 := dkwX8_fails_0 ++ []
theorem dksX8_fails_0 : cX8_fails.data.toList.drop 0 = dktX8_fails_0 := by decide +kernel
theorem dX8_fails_0 : decode cX8_fails 0 = .ok (.aload_n 0, 1) := dk_42 (dk_at dksX8_fails_0 0 rfl rfl)
theorem dX8_fails_1 : decode cX8_fails 1 = .ok (.aload_n 0, 1) := dk_42 (dk_at dksX8_fails_0 1 rfl rfl)
theorem dX8_fails_2 : decode cX8_fails 2 = .ok (.getfield 135, 3) := dk_180 0 135 (dk_at dksX8_fails_0 2 rfl rfl)
theorem dX8_fails_5 : decode cX8_fails 5 = .ok (.ifCond .ge 7, 3) := dk_156 0 7 (dk_at dksX8_fails_0 5 rfl rfl)
theorem dX8_fails_8 : decode cX8_fails 8 = .ok (.iload_n 1, 1) := dk_27 (dk_at dksX8_fails_0 8 rfl rfl)
theorem dX8_fails_9 : decode cX8_fails 9 = .ok (.goto 7, 3) := dk_167 0 7 (dk_at dksX8_fails_0 9 rfl rfl)
theorem dX8_fails_12 : decode cX8_fails 12 = .ok (.aload_n 0, 1) := dk_42 (dk_at dksX8_fails_0 12 rfl rfl)
theorem dX8_fails_13 : decode cX8_fails 13 = .ok (.getfield 135, 3) := dk_180 0 135 (dk_at dksX8_fails_0 13 rfl rfl)
theorem dX8_fails_16 : decode cX8_fails 16 = .ok (.putfield 135, 3) := dk_181 0 135 (dk_at dksX8_fails_0 16 rfl rfl)
theorem dX8_fails_19 : decode cX8_fails 19 = .ok (.return_, 1) := dk_177 (dk_at dksX8_fails_0 19 rfl rfl)
abbrev cX8_atom : ByteArray := prog_21_method_11_code
def yX8_atom : MethodName := ⟨RX8, "atom", "(I)Z"⟩
def dkwX8_atom_8 : List UInt8 := [181, 0, 132, 42, 18, 154, 28, 104, 182, 0, 155, 4, 172]
abbrev dktX8_atom_8 : List UInt8 := dkwX8_atom_8 ++ []
def dkwX8_atom_7 : List UInt8 := [160, 0, 8, 16, 9, 167, 0, 4, 2, 61, 28, 156, 0, 5, 3, 172, 42, 89, 180, 0, 132, 4, 96]
abbrev dktX8_atom_7 : List UInt8 := dkwX8_atom_7 ++ dktX8_atom_8
def dkwX8_atom_6 : List UInt8 := [160, 0, 8, 16, 7, 167, 0, 26, 27, 16, 114, 160, 0, 8, 16, 8, 167, 0, 15, 27, 16, 42]
abbrev dktX8_atom_6 : List UInt8 := dkwX8_atom_6 ++ dktX8_atom_7
def dkwX8_atom_5 : List UInt8 := [16, 97, 160, 0, 7, 8, 167, 0, 48, 27, 16, 106, 160, 0, 8, 16, 6, 167, 0, 37, 27, 16, 100]
abbrev dktX8_atom_5 : List UInt8 := dkwX8_atom_5 ++ dktX8_atom_6
def dkwX8_atom_4 : List UInt8 := [42, 18, 154, 28, 104, 29, 96, 182, 0, 155, 4, 172, 27, 16, 108, 160, 0, 7, 7, 167, 0, 58, 27]
abbrev dktX8_atom_4 : List UInt8 := dkwX8_atom_4 ++ dktX8_atom_5
def dkwX8_atom_3 : List UInt8 := [162, 0, 8, 16, 15, 167, 0, 15, 28, 5, 160, 0, 8, 16, 11, 167, 0, 5, 18, 149, 182, 0, 150, 62]
abbrev dktX8_atom_3 : List UInt8 := dkwX8_atom_3 ++ dktX8_atom_4
def dkwX8_atom_2 : List UInt8 := [160, 0, 7, 4, 167, 0, 14, 27, 16, 119, 160, 0, 7, 5, 167, 0, 4, 6, 61, 42, 28, 5]
abbrev dktX8_atom_2 : List UInt8 := dkwX8_atom_2 ++ dktX8_atom_3
def dkwX8_atom_1 : List UInt8 := [42, 89, 180, 0, 132, 4, 96, 181, 0, 132, 27, 16, 102, 160, 0, 7, 3, 167, 0, 24, 27, 16, 116]
abbrev dktX8_atom_1 : List UInt8 := dkwX8_atom_1 ++ dktX8_atom_2
def dkwX8_atom_0 : List UInt8 := [27, 16, 102, 159, 0, 21, 27, 16, 116, 159, 0, 15, 27, 16, 119, 159, 0, 9, 27, 16, 62, 160, 0, 84]
abbrev dktX8_atom_0 : List UInt8 := dkwX8_atom_0 ++ dktX8_atom_1
theorem dksX8_atom_0 : cX8_atom.data.toList.drop 0 = dktX8_atom_0 := by decide +kernel
theorem dksX8_atom_1 : cX8_atom.data.toList.drop 24 = dktX8_atom_1 := dk_seg dksX8_atom_0 24 rfl rfl
theorem dksX8_atom_2 : cX8_atom.data.toList.drop 47 = dktX8_atom_2 := dk_seg dksX8_atom_1 23 rfl rfl
theorem dksX8_atom_3 : cX8_atom.data.toList.drop 69 = dktX8_atom_3 := dk_seg dksX8_atom_2 22 rfl rfl
theorem dksX8_atom_4 : cX8_atom.data.toList.drop 93 = dktX8_atom_4 := dk_seg dksX8_atom_3 24 rfl rfl
theorem dksX8_atom_5 : cX8_atom.data.toList.drop 116 = dktX8_atom_5 := dk_seg dksX8_atom_4 23 rfl rfl
theorem dksX8_atom_6 : cX8_atom.data.toList.drop 139 = dktX8_atom_6 := dk_seg dksX8_atom_5 23 rfl rfl
theorem dksX8_atom_7 : cX8_atom.data.toList.drop 161 = dktX8_atom_7 := dk_seg dksX8_atom_6 22 rfl rfl
theorem dksX8_atom_8 : cX8_atom.data.toList.drop 184 = dktX8_atom_8 := dk_seg dksX8_atom_7 23 rfl rfl
theorem dX8_atom_0 : decode cX8_atom 0 = .ok (.iload_n 1, 1) := dk_27 (dk_at dksX8_atom_0 0 rfl rfl)
theorem dX8_atom_1 : decode cX8_atom 1 = .ok (.bipush 102, 2) := dk_16 102 (dk_at dksX8_atom_0 1 rfl rfl)
theorem dX8_atom_3 : decode cX8_atom 3 = .ok (.if_icmp .eq 21, 3) := dk_159 0 21 (dk_at dksX8_atom_0 3 rfl rfl)
theorem dX8_atom_6 : decode cX8_atom 6 = .ok (.iload_n 1, 1) := dk_27 (dk_at dksX8_atom_0 6 rfl rfl)
theorem dX8_atom_7 : decode cX8_atom 7 = .ok (.bipush 116, 2) := dk_16 116 (dk_at dksX8_atom_0 7 rfl rfl)
theorem dX8_atom_9 : decode cX8_atom 9 = .ok (.if_icmp .eq 15, 3) := dk_159 0 15 (dk_at dksX8_atom_0 9 rfl rfl)
theorem dX8_atom_12 : decode cX8_atom 12 = .ok (.iload_n 1, 1) := dk_27 (dk_at dksX8_atom_0 12 rfl rfl)
theorem dX8_atom_13 : decode cX8_atom 13 = .ok (.bipush 119, 2) := dk_16 119 (dk_at dksX8_atom_0 13 rfl rfl)
theorem dX8_atom_15 : decode cX8_atom 15 = .ok (.if_icmp .eq 9, 3) := dk_159 0 9 (dk_at dksX8_atom_0 15 rfl rfl)
theorem dX8_atom_18 : decode cX8_atom 18 = .ok (.iload_n 1, 1) := dk_27 (dk_at dksX8_atom_0 18 rfl rfl)
theorem dX8_atom_19 : decode cX8_atom 19 = .ok (.bipush 62, 2) := dk_16 62 (dk_at dksX8_atom_0 19 rfl rfl)
theorem dX8_atom_21 : decode cX8_atom 21 = .ok (.if_icmp .ne 84, 3) := dk_160 0 84 (dk_at dksX8_atom_0 21 rfl rfl)
theorem dX8_atom_24 : decode cX8_atom 24 = .ok (.aload_n 0, 1) := dk_42 (dk_at dksX8_atom_1 0 rfl rfl)
theorem dX8_atom_25 : decode cX8_atom 25 = .ok (.dup, 1) := dk_89 (dk_at dksX8_atom_1 1 rfl rfl)
theorem dX8_atom_26 : decode cX8_atom 26 = .ok (.getfield 132, 3) := dk_180 0 132 (dk_at dksX8_atom_1 2 rfl rfl)
theorem dX8_atom_29 : decode cX8_atom 29 = .ok (.iconst 1, 1) := dk_4 (dk_at dksX8_atom_1 5 rfl rfl)
theorem dX8_atom_30 : decode cX8_atom 30 = .ok (.iadd, 1) := dk_96 (dk_at dksX8_atom_1 6 rfl rfl)
theorem dX8_atom_31 : decode cX8_atom 31 = .ok (.putfield 132, 3) := dk_181 0 132 (dk_at dksX8_atom_1 7 rfl rfl)
theorem dX8_atom_34 : decode cX8_atom 34 = .ok (.iload_n 1, 1) := dk_27 (dk_at dksX8_atom_1 10 rfl rfl)
theorem dX8_atom_35 : decode cX8_atom 35 = .ok (.bipush 102, 2) := dk_16 102 (dk_at dksX8_atom_1 11 rfl rfl)
theorem dX8_atom_37 : decode cX8_atom 37 = .ok (.if_icmp .ne 7, 3) := dk_160 0 7 (dk_at dksX8_atom_1 13 rfl rfl)
theorem dX8_atom_40 : decode cX8_atom 40 = .ok (.iconst 0, 1) := dk_3 (dk_at dksX8_atom_1 16 rfl rfl)
theorem dX8_atom_41 : decode cX8_atom 41 = .ok (.goto 24, 3) := dk_167 0 24 (dk_at dksX8_atom_1 17 rfl rfl)
theorem dX8_atom_44 : decode cX8_atom 44 = .ok (.iload_n 1, 1) := dk_27 (dk_at dksX8_atom_1 20 rfl rfl)
theorem dX8_atom_45 : decode cX8_atom 45 = .ok (.bipush 116, 2) := dk_16 116 (dk_at dksX8_atom_1 21 rfl rfl)
theorem dX8_atom_47 : decode cX8_atom 47 = .ok (.if_icmp .ne 7, 3) := dk_160 0 7 (dk_at dksX8_atom_2 0 rfl rfl)
theorem dX8_atom_50 : decode cX8_atom 50 = .ok (.iconst 1, 1) := dk_4 (dk_at dksX8_atom_2 3 rfl rfl)
theorem dX8_atom_51 : decode cX8_atom 51 = .ok (.goto 14, 3) := dk_167 0 14 (dk_at dksX8_atom_2 4 rfl rfl)
theorem dX8_atom_54 : decode cX8_atom 54 = .ok (.iload_n 1, 1) := dk_27 (dk_at dksX8_atom_2 7 rfl rfl)
theorem dX8_atom_55 : decode cX8_atom 55 = .ok (.bipush 119, 2) := dk_16 119 (dk_at dksX8_atom_2 8 rfl rfl)
theorem dX8_atom_57 : decode cX8_atom 57 = .ok (.if_icmp .ne 7, 3) := dk_160 0 7 (dk_at dksX8_atom_2 10 rfl rfl)
theorem dX8_atom_60 : decode cX8_atom 60 = .ok (.iconst 2, 1) := dk_5 (dk_at dksX8_atom_2 13 rfl rfl)
theorem dX8_atom_61 : decode cX8_atom 61 = .ok (.goto 4, 3) := dk_167 0 4 (dk_at dksX8_atom_2 14 rfl rfl)
theorem dX8_atom_64 : decode cX8_atom 64 = .ok (.iconst 3, 1) := dk_6 (dk_at dksX8_atom_2 17 rfl rfl)
theorem dX8_atom_65 : decode cX8_atom 65 = .ok (.istore_n 2, 1) := dk_61 (dk_at dksX8_atom_2 18 rfl rfl)
theorem dX8_atom_66 : decode cX8_atom 66 = .ok (.aload_n 0, 1) := dk_42 (dk_at dksX8_atom_2 19 rfl rfl)
theorem dX8_atom_67 : decode cX8_atom 67 = .ok (.iload_n 2, 1) := dk_28 (dk_at dksX8_atom_2 20 rfl rfl)
theorem dX8_atom_68 : decode cX8_atom 68 = .ok (.iconst 2, 1) := dk_5 (dk_at dksX8_atom_2 21 rfl rfl)
theorem dX8_atom_69 : decode cX8_atom 69 = .ok (.if_icmp .ge 8, 3) := dk_162 0 8 (dk_at dksX8_atom_3 0 rfl rfl)
theorem dX8_atom_72 : decode cX8_atom 72 = .ok (.bipush 15, 2) := dk_16 15 (dk_at dksX8_atom_3 3 rfl rfl)
theorem dX8_atom_74 : decode cX8_atom 74 = .ok (.goto 15, 3) := dk_167 0 15 (dk_at dksX8_atom_3 5 rfl rfl)
theorem dX8_atom_77 : decode cX8_atom 77 = .ok (.iload_n 2, 1) := dk_28 (dk_at dksX8_atom_3 8 rfl rfl)
theorem dX8_atom_78 : decode cX8_atom 78 = .ok (.iconst 2, 1) := dk_5 (dk_at dksX8_atom_3 9 rfl rfl)
theorem dX8_atom_79 : decode cX8_atom 79 = .ok (.if_icmp .ne 8, 3) := dk_160 0 8 (dk_at dksX8_atom_3 10 rfl rfl)
theorem dX8_atom_82 : decode cX8_atom 82 = .ok (.bipush 11, 2) := dk_16 11 (dk_at dksX8_atom_3 13 rfl rfl)
theorem dX8_atom_84 : decode cX8_atom 84 = .ok (.goto 5, 3) := dk_167 0 5 (dk_at dksX8_atom_3 15 rfl rfl)
theorem dX8_atom_87 : decode cX8_atom 87 = .ok (.ldc 149, 2) := dk_18 149 (dk_at dksX8_atom_3 18 rfl rfl)
theorem dX8_atom_89 : decode cX8_atom 89 = .ok (.invokevirtual 150, 3) := dk_182 0 150 (dk_at dksX8_atom_3 20 rfl rfl)
theorem dX8_atom_92 : decode cX8_atom 92 = .ok (.istore_n 3, 1) := dk_62 (dk_at dksX8_atom_3 23 rfl rfl)
theorem dX8_atom_93 : decode cX8_atom 93 = .ok (.aload_n 0, 1) := dk_42 (dk_at dksX8_atom_4 0 rfl rfl)
theorem dX8_atom_94 : decode cX8_atom 94 = .ok (.ldc 154, 2) := dk_18 154 (dk_at dksX8_atom_4 1 rfl rfl)
theorem dX8_atom_96 : decode cX8_atom 96 = .ok (.iload_n 2, 1) := dk_28 (dk_at dksX8_atom_4 3 rfl rfl)
theorem dX8_atom_97 : decode cX8_atom 97 = .ok (.imul, 1) := dk_104 (dk_at dksX8_atom_4 4 rfl rfl)
theorem dX8_atom_98 : decode cX8_atom 98 = .ok (.iload_n 3, 1) := dk_29 (dk_at dksX8_atom_4 5 rfl rfl)
theorem dX8_atom_99 : decode cX8_atom 99 = .ok (.iadd, 1) := dk_96 (dk_at dksX8_atom_4 6 rfl rfl)
theorem dX8_atom_100 : decode cX8_atom 100 = .ok (.invokevirtual 155, 3) := dk_182 0 155 (dk_at dksX8_atom_4 7 rfl rfl)
theorem dX8_atom_103 : decode cX8_atom 103 = .ok (.iconst 1, 1) := dk_4 (dk_at dksX8_atom_4 10 rfl rfl)
theorem dX8_atom_104 : decode cX8_atom 104 = .ok (.ireturn, 1) := dk_172 (dk_at dksX8_atom_4 11 rfl rfl)
theorem dX8_atom_105 : decode cX8_atom 105 = .ok (.iload_n 1, 1) := dk_27 (dk_at dksX8_atom_4 12 rfl rfl)
theorem dX8_atom_106 : decode cX8_atom 106 = .ok (.bipush 108, 2) := dk_16 108 (dk_at dksX8_atom_4 13 rfl rfl)
theorem dX8_atom_108 : decode cX8_atom 108 = .ok (.if_icmp .ne 7, 3) := dk_160 0 7 (dk_at dksX8_atom_4 15 rfl rfl)
theorem dX8_atom_111 : decode cX8_atom 111 = .ok (.iconst 4, 1) := dk_7 (dk_at dksX8_atom_4 18 rfl rfl)
theorem dX8_atom_112 : decode cX8_atom 112 = .ok (.goto 58, 3) := dk_167 0 58 (dk_at dksX8_atom_4 19 rfl rfl)
theorem dX8_atom_115 : decode cX8_atom 115 = .ok (.iload_n 1, 1) := dk_27 (dk_at dksX8_atom_4 22 rfl rfl)
theorem dX8_atom_116 : decode cX8_atom 116 = .ok (.bipush 97, 2) := dk_16 97 (dk_at dksX8_atom_5 0 rfl rfl)
theorem dX8_atom_118 : decode cX8_atom 118 = .ok (.if_icmp .ne 7, 3) := dk_160 0 7 (dk_at dksX8_atom_5 2 rfl rfl)
theorem dX8_atom_121 : decode cX8_atom 121 = .ok (.iconst 5, 1) := dk_8 (dk_at dksX8_atom_5 5 rfl rfl)
theorem dX8_atom_122 : decode cX8_atom 122 = .ok (.goto 48, 3) := dk_167 0 48 (dk_at dksX8_atom_5 6 rfl rfl)
theorem dX8_atom_125 : decode cX8_atom 125 = .ok (.iload_n 1, 1) := dk_27 (dk_at dksX8_atom_5 9 rfl rfl)
theorem dX8_atom_126 : decode cX8_atom 126 = .ok (.bipush 106, 2) := dk_16 106 (dk_at dksX8_atom_5 10 rfl rfl)
theorem dX8_atom_128 : decode cX8_atom 128 = .ok (.if_icmp .ne 8, 3) := dk_160 0 8 (dk_at dksX8_atom_5 12 rfl rfl)
theorem dX8_atom_131 : decode cX8_atom 131 = .ok (.bipush 6, 2) := dk_16 6 (dk_at dksX8_atom_5 15 rfl rfl)
theorem dX8_atom_133 : decode cX8_atom 133 = .ok (.goto 37, 3) := dk_167 0 37 (dk_at dksX8_atom_5 17 rfl rfl)
theorem dX8_atom_136 : decode cX8_atom 136 = .ok (.iload_n 1, 1) := dk_27 (dk_at dksX8_atom_5 20 rfl rfl)
theorem dX8_atom_137 : decode cX8_atom 137 = .ok (.bipush 100, 2) := dk_16 100 (dk_at dksX8_atom_5 21 rfl rfl)
theorem dX8_atom_139 : decode cX8_atom 139 = .ok (.if_icmp .ne 8, 3) := dk_160 0 8 (dk_at dksX8_atom_6 0 rfl rfl)
theorem dX8_atom_142 : decode cX8_atom 142 = .ok (.bipush 7, 2) := dk_16 7 (dk_at dksX8_atom_6 3 rfl rfl)
theorem dX8_atom_144 : decode cX8_atom 144 = .ok (.goto 26, 3) := dk_167 0 26 (dk_at dksX8_atom_6 5 rfl rfl)
theorem dX8_atom_147 : decode cX8_atom 147 = .ok (.iload_n 1, 1) := dk_27 (dk_at dksX8_atom_6 8 rfl rfl)
theorem dX8_atom_148 : decode cX8_atom 148 = .ok (.bipush 114, 2) := dk_16 114 (dk_at dksX8_atom_6 9 rfl rfl)
theorem dX8_atom_150 : decode cX8_atom 150 = .ok (.if_icmp .ne 8, 3) := dk_160 0 8 (dk_at dksX8_atom_6 11 rfl rfl)
theorem dX8_atom_153 : decode cX8_atom 153 = .ok (.bipush 8, 2) := dk_16 8 (dk_at dksX8_atom_6 14 rfl rfl)
theorem dX8_atom_155 : decode cX8_atom 155 = .ok (.goto 15, 3) := dk_167 0 15 (dk_at dksX8_atom_6 16 rfl rfl)
theorem dX8_atom_158 : decode cX8_atom 158 = .ok (.iload_n 1, 1) := dk_27 (dk_at dksX8_atom_6 19 rfl rfl)
theorem dX8_atom_159 : decode cX8_atom 159 = .ok (.bipush 42, 2) := dk_16 42 (dk_at dksX8_atom_6 20 rfl rfl)
theorem dX8_atom_161 : decode cX8_atom 161 = .ok (.if_icmp .ne 8, 3) := dk_160 0 8 (dk_at dksX8_atom_7 0 rfl rfl)
theorem dX8_atom_164 : decode cX8_atom 164 = .ok (.bipush 9, 2) := dk_16 9 (dk_at dksX8_atom_7 3 rfl rfl)
theorem dX8_atom_166 : decode cX8_atom 166 = .ok (.goto 4, 3) := dk_167 0 4 (dk_at dksX8_atom_7 5 rfl rfl)
theorem dX8_atom_169 : decode cX8_atom 169 = .ok (.iconst (-1), 1) := dk_2 (dk_at dksX8_atom_7 8 rfl rfl)
theorem dX8_atom_170 : decode cX8_atom 170 = .ok (.istore_n 2, 1) := dk_61 (dk_at dksX8_atom_7 9 rfl rfl)
theorem dX8_atom_171 : decode cX8_atom 171 = .ok (.iload_n 2, 1) := dk_28 (dk_at dksX8_atom_7 10 rfl rfl)
theorem dX8_atom_172 : decode cX8_atom 172 = .ok (.ifCond .ge 5, 3) := dk_156 0 5 (dk_at dksX8_atom_7 11 rfl rfl)
theorem dX8_atom_175 : decode cX8_atom 175 = .ok (.iconst 0, 1) := dk_3 (dk_at dksX8_atom_7 14 rfl rfl)
theorem dX8_atom_176 : decode cX8_atom 176 = .ok (.ireturn, 1) := dk_172 (dk_at dksX8_atom_7 15 rfl rfl)
theorem dX8_atom_177 : decode cX8_atom 177 = .ok (.aload_n 0, 1) := dk_42 (dk_at dksX8_atom_7 16 rfl rfl)
theorem dX8_atom_178 : decode cX8_atom 178 = .ok (.dup, 1) := dk_89 (dk_at dksX8_atom_7 17 rfl rfl)
theorem dX8_atom_179 : decode cX8_atom 179 = .ok (.getfield 132, 3) := dk_180 0 132 (dk_at dksX8_atom_7 18 rfl rfl)
theorem dX8_atom_182 : decode cX8_atom 182 = .ok (.iconst 1, 1) := dk_4 (dk_at dksX8_atom_7 21 rfl rfl)
theorem dX8_atom_183 : decode cX8_atom 183 = .ok (.iadd, 1) := dk_96 (dk_at dksX8_atom_7 22 rfl rfl)
theorem dX8_atom_184 : decode cX8_atom 184 = .ok (.putfield 132, 3) := dk_181 0 132 (dk_at dksX8_atom_8 0 rfl rfl)
theorem dX8_atom_187 : decode cX8_atom 187 = .ok (.aload_n 0, 1) := dk_42 (dk_at dksX8_atom_8 3 rfl rfl)
theorem dX8_atom_188 : decode cX8_atom 188 = .ok (.ldc 154, 2) := dk_18 154 (dk_at dksX8_atom_8 4 rfl rfl)
theorem dX8_atom_190 : decode cX8_atom 190 = .ok (.iload_n 2, 1) := dk_28 (dk_at dksX8_atom_8 6 rfl rfl)
theorem dX8_atom_191 : decode cX8_atom 191 = .ok (.imul, 1) := dk_104 (dk_at dksX8_atom_8 7 rfl rfl)
theorem dX8_atom_192 : decode cX8_atom 192 = .ok (.invokevirtual 155, 3) := dk_182 0 155 (dk_at dksX8_atom_8 8 rfl rfl)
theorem dX8_atom_195 : decode cX8_atom 195 = .ok (.iconst 1, 1) := dk_4 (dk_at dksX8_atom_8 11 rfl rfl)
theorem dX8_atom_196 : decode cX8_atom 196 = .ok (.ireturn, 1) := dk_172 (dk_at dksX8_atom_8 12 rfl rfl)
abbrev cX8_number : ByteArray := prog_21_method_9_code
def yX8_number : MethodName := ⟨RX8, "number", "(I)I"⟩
def dkwX8_number_5 : List UInt8 := [29, 27, 164, 0, 8, 42, 28, 182, 0, 142, 29, 172]
abbrev dktX8_number_5 : List UInt8 := dkwX8_number_5 ++ []
def dkwX8_number_4 : List UInt8 := [62, 42, 89, 180, 0, 132, 4, 96, 181, 0, 132, 167, 255, 183, 42, 180, 0, 132, 28, 100, 8, 163, 0, 8]
abbrev dktX8_number_4 : List UInt8 := dkwX8_number_4 ++ dktX8_number_5
def dkwX8_number_3 : List UInt8 := [162, 0, 23, 16, 10, 29, 104, 42, 180, 0, 7, 42, 180, 0, 132, 46, 96, 16, 48, 100, 167, 0, 4, 29]
abbrev dktX8_number_3 : List UInt8 := dkwX8_number_3 ++ dktX8_number_4
def dkwX8_number_2 : List UInt8 := [180, 0, 132, 46, 16, 48, 16, 57, 184, 0, 122, 153, 0, 49, 42, 180, 0, 132, 28, 100, 16, 6]
abbrev dktX8_number_2 : List UInt8 := dkwX8_number_2 ++ dktX8_number_3
def dkwX8_number_1 : List UInt8 := [42, 180, 0, 132, 61, 3, 62, 42, 180, 0, 132, 42, 180, 0, 128, 162, 0, 68, 42, 180, 0, 7, 42]
abbrev dktX8_number_1 : List UInt8 := dkwX8_number_1 ++ dktX8_number_2
def dkwX8_number_0 : List UInt8 := [42, 182, 0, 138, 16, 48, 16, 57, 184, 0, 122, 154, 0, 13, 42, 42, 180, 0, 132, 182, 0, 142, 3, 172]
abbrev dktX8_number_0 : List UInt8 := dkwX8_number_0 ++ dktX8_number_1
theorem dksX8_number_0 : cX8_number.data.toList.drop 0 = dktX8_number_0 := by decide +kernel
theorem dksX8_number_1 : cX8_number.data.toList.drop 24 = dktX8_number_1 := dk_seg dksX8_number_0 24 rfl rfl
theorem dksX8_number_2 : cX8_number.data.toList.drop 47 = dktX8_number_2 := dk_seg dksX8_number_1 23 rfl rfl
theorem dksX8_number_3 : cX8_number.data.toList.drop 69 = dktX8_number_3 := dk_seg dksX8_number_2 22 rfl rfl
theorem dksX8_number_4 : cX8_number.data.toList.drop 93 = dktX8_number_4 := dk_seg dksX8_number_3 24 rfl rfl
theorem dksX8_number_5 : cX8_number.data.toList.drop 117 = dktX8_number_5 := dk_seg dksX8_number_4 24 rfl rfl
theorem dX8_number_0 : decode cX8_number 0 = .ok (.aload_n 0, 1) := dk_42 (dk_at dksX8_number_0 0 rfl rfl)
theorem dX8_number_1 : decode cX8_number 1 = .ok (.invokevirtual 138, 3) := dk_182 0 138 (dk_at dksX8_number_0 1 rfl rfl)
theorem dX8_number_4 : decode cX8_number 4 = .ok (.bipush 48, 2) := dk_16 48 (dk_at dksX8_number_0 4 rfl rfl)
theorem dX8_number_6 : decode cX8_number 6 = .ok (.bipush 57, 2) := dk_16 57 (dk_at dksX8_number_0 6 rfl rfl)
theorem dX8_number_8 : decode cX8_number 8 = .ok (.invokestatic 122, 3) := dk_184 0 122 (dk_at dksX8_number_0 8 rfl rfl)
theorem dX8_number_11 : decode cX8_number 11 = .ok (.ifCond .ne 13, 3) := dk_154 0 13 (dk_at dksX8_number_0 11 rfl rfl)
theorem dX8_number_14 : decode cX8_number 14 = .ok (.aload_n 0, 1) := dk_42 (dk_at dksX8_number_0 14 rfl rfl)
theorem dX8_number_15 : decode cX8_number 15 = .ok (.aload_n 0, 1) := dk_42 (dk_at dksX8_number_0 15 rfl rfl)
theorem dX8_number_16 : decode cX8_number 16 = .ok (.getfield 132, 3) := dk_180 0 132 (dk_at dksX8_number_0 16 rfl rfl)
theorem dX8_number_19 : decode cX8_number 19 = .ok (.invokevirtual 142, 3) := dk_182 0 142 (dk_at dksX8_number_0 19 rfl rfl)
theorem dX8_number_22 : decode cX8_number 22 = .ok (.iconst 0, 1) := dk_3 (dk_at dksX8_number_0 22 rfl rfl)
theorem dX8_number_23 : decode cX8_number 23 = .ok (.ireturn, 1) := dk_172 (dk_at dksX8_number_0 23 rfl rfl)
theorem dX8_number_24 : decode cX8_number 24 = .ok (.aload_n 0, 1) := dk_42 (dk_at dksX8_number_1 0 rfl rfl)
theorem dX8_number_25 : decode cX8_number 25 = .ok (.getfield 132, 3) := dk_180 0 132 (dk_at dksX8_number_1 1 rfl rfl)
theorem dX8_number_28 : decode cX8_number 28 = .ok (.istore_n 2, 1) := dk_61 (dk_at dksX8_number_1 4 rfl rfl)
theorem dX8_number_29 : decode cX8_number 29 = .ok (.iconst 0, 1) := dk_3 (dk_at dksX8_number_1 5 rfl rfl)
theorem dX8_number_30 : decode cX8_number 30 = .ok (.istore_n 3, 1) := dk_62 (dk_at dksX8_number_1 6 rfl rfl)
theorem dX8_number_31 : decode cX8_number 31 = .ok (.aload_n 0, 1) := dk_42 (dk_at dksX8_number_1 7 rfl rfl)
theorem dX8_number_32 : decode cX8_number 32 = .ok (.getfield 132, 3) := dk_180 0 132 (dk_at dksX8_number_1 8 rfl rfl)
theorem dX8_number_35 : decode cX8_number 35 = .ok (.aload_n 0, 1) := dk_42 (dk_at dksX8_number_1 11 rfl rfl)
theorem dX8_number_36 : decode cX8_number 36 = .ok (.getfield 128, 3) := dk_180 0 128 (dk_at dksX8_number_1 12 rfl rfl)
theorem dX8_number_39 : decode cX8_number 39 = .ok (.if_icmp .ge 68, 3) := dk_162 0 68 (dk_at dksX8_number_1 15 rfl rfl)
theorem dX8_number_42 : decode cX8_number 42 = .ok (.aload_n 0, 1) := dk_42 (dk_at dksX8_number_1 18 rfl rfl)
theorem dX8_number_43 : decode cX8_number 43 = .ok (.getfield 7, 3) := dk_180 0 7 (dk_at dksX8_number_1 19 rfl rfl)
theorem dX8_number_46 : decode cX8_number 46 = .ok (.aload_n 0, 1) := dk_42 (dk_at dksX8_number_1 22 rfl rfl)
theorem dX8_number_47 : decode cX8_number 47 = .ok (.getfield 132, 3) := dk_180 0 132 (dk_at dksX8_number_2 0 rfl rfl)
theorem dX8_number_50 : decode cX8_number 50 = .ok (.iaload, 1) := dk_46 (dk_at dksX8_number_2 3 rfl rfl)
theorem dX8_number_51 : decode cX8_number 51 = .ok (.bipush 48, 2) := dk_16 48 (dk_at dksX8_number_2 4 rfl rfl)
theorem dX8_number_53 : decode cX8_number 53 = .ok (.bipush 57, 2) := dk_16 57 (dk_at dksX8_number_2 6 rfl rfl)
theorem dX8_number_55 : decode cX8_number 55 = .ok (.invokestatic 122, 3) := dk_184 0 122 (dk_at dksX8_number_2 8 rfl rfl)
theorem dX8_number_58 : decode cX8_number 58 = .ok (.ifCond .eq 49, 3) := dk_153 0 49 (dk_at dksX8_number_2 11 rfl rfl)
theorem dX8_number_61 : decode cX8_number 61 = .ok (.aload_n 0, 1) := dk_42 (dk_at dksX8_number_2 14 rfl rfl)
theorem dX8_number_62 : decode cX8_number 62 = .ok (.getfield 132, 3) := dk_180 0 132 (dk_at dksX8_number_2 15 rfl rfl)
theorem dX8_number_65 : decode cX8_number 65 = .ok (.iload_n 2, 1) := dk_28 (dk_at dksX8_number_2 18 rfl rfl)
theorem dX8_number_66 : decode cX8_number 66 = .ok (.isub, 1) := dk_100 (dk_at dksX8_number_2 19 rfl rfl)
theorem dX8_number_67 : decode cX8_number 67 = .ok (.bipush 6, 2) := dk_16 6 (dk_at dksX8_number_2 20 rfl rfl)
theorem dX8_number_69 : decode cX8_number 69 = .ok (.if_icmp .ge 23, 3) := dk_162 0 23 (dk_at dksX8_number_3 0 rfl rfl)
theorem dX8_number_72 : decode cX8_number 72 = .ok (.bipush 10, 2) := dk_16 10 (dk_at dksX8_number_3 3 rfl rfl)
theorem dX8_number_74 : decode cX8_number 74 = .ok (.iload_n 3, 1) := dk_29 (dk_at dksX8_number_3 5 rfl rfl)
theorem dX8_number_75 : decode cX8_number 75 = .ok (.imul, 1) := dk_104 (dk_at dksX8_number_3 6 rfl rfl)
theorem dX8_number_76 : decode cX8_number 76 = .ok (.aload_n 0, 1) := dk_42 (dk_at dksX8_number_3 7 rfl rfl)
theorem dX8_number_77 : decode cX8_number 77 = .ok (.getfield 7, 3) := dk_180 0 7 (dk_at dksX8_number_3 8 rfl rfl)
theorem dX8_number_80 : decode cX8_number 80 = .ok (.aload_n 0, 1) := dk_42 (dk_at dksX8_number_3 11 rfl rfl)
theorem dX8_number_81 : decode cX8_number 81 = .ok (.getfield 132, 3) := dk_180 0 132 (dk_at dksX8_number_3 12 rfl rfl)
theorem dX8_number_84 : decode cX8_number 84 = .ok (.iaload, 1) := dk_46 (dk_at dksX8_number_3 15 rfl rfl)
theorem dX8_number_85 : decode cX8_number 85 = .ok (.iadd, 1) := dk_96 (dk_at dksX8_number_3 16 rfl rfl)
theorem dX8_number_86 : decode cX8_number 86 = .ok (.bipush 48, 2) := dk_16 48 (dk_at dksX8_number_3 17 rfl rfl)
theorem dX8_number_88 : decode cX8_number 88 = .ok (.isub, 1) := dk_100 (dk_at dksX8_number_3 19 rfl rfl)
theorem dX8_number_89 : decode cX8_number 89 = .ok (.goto 4, 3) := dk_167 0 4 (dk_at dksX8_number_3 20 rfl rfl)
theorem dX8_number_92 : decode cX8_number 92 = .ok (.iload_n 3, 1) := dk_29 (dk_at dksX8_number_3 23 rfl rfl)
theorem dX8_number_93 : decode cX8_number 93 = .ok (.istore_n 3, 1) := dk_62 (dk_at dksX8_number_4 0 rfl rfl)
theorem dX8_number_94 : decode cX8_number 94 = .ok (.aload_n 0, 1) := dk_42 (dk_at dksX8_number_4 1 rfl rfl)
theorem dX8_number_95 : decode cX8_number 95 = .ok (.dup, 1) := dk_89 (dk_at dksX8_number_4 2 rfl rfl)
theorem dX8_number_96 : decode cX8_number 96 = .ok (.getfield 132, 3) := dk_180 0 132 (dk_at dksX8_number_4 3 rfl rfl)
theorem dX8_number_99 : decode cX8_number 99 = .ok (.iconst 1, 1) := dk_4 (dk_at dksX8_number_4 6 rfl rfl)
theorem dX8_number_100 : decode cX8_number 100 = .ok (.iadd, 1) := dk_96 (dk_at dksX8_number_4 7 rfl rfl)
theorem dX8_number_101 : decode cX8_number 101 = .ok (.putfield 132, 3) := dk_181 0 132 (dk_at dksX8_number_4 8 rfl rfl)
theorem dX8_number_104 : decode cX8_number 104 = .ok (.goto (-73), 3) := dk_167 255 183 (dk_at dksX8_number_4 11 rfl rfl)
theorem dX8_number_107 : decode cX8_number 107 = .ok (.aload_n 0, 1) := dk_42 (dk_at dksX8_number_4 14 rfl rfl)
theorem dX8_number_108 : decode cX8_number 108 = .ok (.getfield 132, 3) := dk_180 0 132 (dk_at dksX8_number_4 15 rfl rfl)
theorem dX8_number_111 : decode cX8_number 111 = .ok (.iload_n 2, 1) := dk_28 (dk_at dksX8_number_4 18 rfl rfl)
theorem dX8_number_112 : decode cX8_number 112 = .ok (.isub, 1) := dk_100 (dk_at dksX8_number_4 19 rfl rfl)
theorem dX8_number_113 : decode cX8_number 113 = .ok (.iconst 5, 1) := dk_8 (dk_at dksX8_number_4 20 rfl rfl)
theorem dX8_number_114 : decode cX8_number 114 = .ok (.if_icmp .gt 8, 3) := dk_163 0 8 (dk_at dksX8_number_4 21 rfl rfl)
theorem dX8_number_117 : decode cX8_number 117 = .ok (.iload_n 3, 1) := dk_29 (dk_at dksX8_number_5 0 rfl rfl)
theorem dX8_number_118 : decode cX8_number 118 = .ok (.iload_n 1, 1) := dk_27 (dk_at dksX8_number_5 1 rfl rfl)
theorem dX8_number_119 : decode cX8_number 119 = .ok (.if_icmp .le 8, 3) := dk_164 0 8 (dk_at dksX8_number_5 2 rfl rfl)
theorem dX8_number_122 : decode cX8_number 122 = .ok (.aload_n 0, 1) := dk_42 (dk_at dksX8_number_5 5 rfl rfl)
theorem dX8_number_123 : decode cX8_number 123 = .ok (.iload_n 2, 1) := dk_28 (dk_at dksX8_number_5 6 rfl rfl)
theorem dX8_number_124 : decode cX8_number 124 = .ok (.invokevirtual 142, 3) := dk_182 0 142 (dk_at dksX8_number_5 7 rfl rfl)
theorem dX8_number_127 : decode cX8_number 127 = .ok (.iload_n 3, 1) := dk_29 (dk_at dksX8_number_5 10 rfl rfl)
theorem dX8_number_128 : decode cX8_number 128 = .ok (.ireturn, 1) := dk_172 (dk_at dksX8_number_5 11 rfl rfl)
abbrev cX8_put : ByteArray := prog_21_method_10_code
def yX8_put : MethodName := ⟨RX8, "put", "(I)V"⟩
def dkwX8_put_0 : List UInt8 := [42, 180, 0, 37, 42, 180, 0, 146, 27, 79, 42, 89, 180, 0, 146, 4, 96, 181, 0, 146, 177]
abbrev dktX8_put_0 : List UInt8 := dkwX8_put_0 ++ []
theorem dksX8_put_0 : cX8_put.data.toList.drop 0 = dktX8_put_0 := by decide +kernel
theorem dX8_put_0 : decode cX8_put 0 = .ok (.aload_n 0, 1) := dk_42 (dk_at dksX8_put_0 0 rfl rfl)
theorem dX8_put_1 : decode cX8_put 1 = .ok (.getfield 37, 3) := dk_180 0 37 (dk_at dksX8_put_0 1 rfl rfl)
theorem dX8_put_4 : decode cX8_put 4 = .ok (.aload_n 0, 1) := dk_42 (dk_at dksX8_put_0 4 rfl rfl)
theorem dX8_put_5 : decode cX8_put 5 = .ok (.getfield 146, 3) := dk_180 0 146 (dk_at dksX8_put_0 5 rfl rfl)
theorem dX8_put_8 : decode cX8_put 8 = .ok (.iload_n 1, 1) := dk_27 (dk_at dksX8_put_0 8 rfl rfl)
theorem dX8_put_9 : decode cX8_put 9 = .ok (.iastore, 1) := dk_79 (dk_at dksX8_put_0 9 rfl rfl)
theorem dX8_put_10 : decode cX8_put 10 = .ok (.aload_n 0, 1) := dk_42 (dk_at dksX8_put_0 10 rfl rfl)
theorem dX8_put_11 : decode cX8_put 11 = .ok (.dup, 1) := dk_89 (dk_at dksX8_put_0 11 rfl rfl)
theorem dX8_put_12 : decode cX8_put 12 = .ok (.getfield 146, 3) := dk_180 0 146 (dk_at dksX8_put_0 12 rfl rfl)
theorem dX8_put_15 : decode cX8_put 15 = .ok (.iconst 1, 1) := dk_4 (dk_at dksX8_put_0 15 rfl rfl)
theorem dX8_put_16 : decode cX8_put 16 = .ok (.iadd, 1) := dk_96 (dk_at dksX8_put_0 16 rfl rfl)
theorem dX8_put_17 : decode cX8_put 17 = .ok (.putfield 146, 3) := dk_181 0 146 (dk_at dksX8_put_0 17 rfl rfl)
theorem dX8_put_20 : decode cX8_put 20 = .ok (.return_, 1) := dk_177 (dk_at dksX8_put_0 20 rfl rfl)
abbrev cX8_settle : ByteArray := prog_21_method_12_code
def yX8_settle : MethodName := ⟨RX8, "settle", "(I)V"⟩
def dkwX8_settle_3 : List UInt8 := [28, 5, 160, 0, 8, 18, 165, 167, 0, 5, 18, 166, 182, 0, 155, 167, 255, 169, 177]
abbrev dktX8_settle_3 : List UInt8 := dkwX8_settle_3 ++ []
def dkwX8_settle_2 : List UInt8 := [6, 160, 0, 7, 4, 167, 0, 4, 3, 100, 181, 0, 161, 42, 28, 6, 160, 0, 8, 18, 164, 167, 0, 15]
abbrev dktX8_settle_2 : List UInt8 := dkwX8_settle_2 ++ dktX8_settle_3
def dkwX8_settle_1 : List UInt8 := [180, 0, 158, 4, 100, 181, 0, 158, 42, 180, 0, 34, 42, 180, 0, 158, 46, 61, 42, 89, 180, 0, 161, 28]
abbrev dktX8_settle_1 : List UInt8 := dkwX8_settle_1 ++ dktX8_settle_2
def dkwX8_settle_0 : List UInt8 := [42, 180, 0, 158, 158, 0, 86, 42, 180, 0, 34, 42, 180, 0, 158, 4, 100, 46, 27, 161, 0, 71, 42, 89]
abbrev dktX8_settle_0 : List UInt8 := dkwX8_settle_0 ++ dktX8_settle_1
theorem dksX8_settle_0 : cX8_settle.data.toList.drop 0 = dktX8_settle_0 := by decide +kernel
theorem dksX8_settle_1 : cX8_settle.data.toList.drop 24 = dktX8_settle_1 := dk_seg dksX8_settle_0 24 rfl rfl
theorem dksX8_settle_2 : cX8_settle.data.toList.drop 48 = dktX8_settle_2 := dk_seg dksX8_settle_1 24 rfl rfl
theorem dksX8_settle_3 : cX8_settle.data.toList.drop 72 = dktX8_settle_3 := dk_seg dksX8_settle_2 24 rfl rfl
theorem dX8_settle_0 : decode cX8_settle 0 = .ok (.aload_n 0, 1) := dk_42 (dk_at dksX8_settle_0 0 rfl rfl)
theorem dX8_settle_1 : decode cX8_settle 1 = .ok (.getfield 158, 3) := dk_180 0 158 (dk_at dksX8_settle_0 1 rfl rfl)
theorem dX8_settle_4 : decode cX8_settle 4 = .ok (.ifCond .le 86, 3) := dk_158 0 86 (dk_at dksX8_settle_0 4 rfl rfl)
theorem dX8_settle_7 : decode cX8_settle 7 = .ok (.aload_n 0, 1) := dk_42 (dk_at dksX8_settle_0 7 rfl rfl)
theorem dX8_settle_8 : decode cX8_settle 8 = .ok (.getfield 34, 3) := dk_180 0 34 (dk_at dksX8_settle_0 8 rfl rfl)
theorem dX8_settle_11 : decode cX8_settle 11 = .ok (.aload_n 0, 1) := dk_42 (dk_at dksX8_settle_0 11 rfl rfl)
theorem dX8_settle_12 : decode cX8_settle 12 = .ok (.getfield 158, 3) := dk_180 0 158 (dk_at dksX8_settle_0 12 rfl rfl)
theorem dX8_settle_15 : decode cX8_settle 15 = .ok (.iconst 1, 1) := dk_4 (dk_at dksX8_settle_0 15 rfl rfl)
theorem dX8_settle_16 : decode cX8_settle 16 = .ok (.isub, 1) := dk_100 (dk_at dksX8_settle_0 16 rfl rfl)
theorem dX8_settle_17 : decode cX8_settle 17 = .ok (.iaload, 1) := dk_46 (dk_at dksX8_settle_0 17 rfl rfl)
theorem dX8_settle_18 : decode cX8_settle 18 = .ok (.iload_n 1, 1) := dk_27 (dk_at dksX8_settle_0 18 rfl rfl)
theorem dX8_settle_19 : decode cX8_settle 19 = .ok (.if_icmp .lt 71, 3) := dk_161 0 71 (dk_at dksX8_settle_0 19 rfl rfl)
theorem dX8_settle_22 : decode cX8_settle 22 = .ok (.aload_n 0, 1) := dk_42 (dk_at dksX8_settle_0 22 rfl rfl)
theorem dX8_settle_23 : decode cX8_settle 23 = .ok (.dup, 1) := dk_89 (dk_at dksX8_settle_0 23 rfl rfl)
theorem dX8_settle_24 : decode cX8_settle 24 = .ok (.getfield 158, 3) := dk_180 0 158 (dk_at dksX8_settle_1 0 rfl rfl)
theorem dX8_settle_27 : decode cX8_settle 27 = .ok (.iconst 1, 1) := dk_4 (dk_at dksX8_settle_1 3 rfl rfl)
theorem dX8_settle_28 : decode cX8_settle 28 = .ok (.isub, 1) := dk_100 (dk_at dksX8_settle_1 4 rfl rfl)
theorem dX8_settle_29 : decode cX8_settle 29 = .ok (.putfield 158, 3) := dk_181 0 158 (dk_at dksX8_settle_1 5 rfl rfl)
theorem dX8_settle_32 : decode cX8_settle 32 = .ok (.aload_n 0, 1) := dk_42 (dk_at dksX8_settle_1 8 rfl rfl)
theorem dX8_settle_33 : decode cX8_settle 33 = .ok (.getfield 34, 3) := dk_180 0 34 (dk_at dksX8_settle_1 9 rfl rfl)
theorem dX8_settle_36 : decode cX8_settle 36 = .ok (.aload_n 0, 1) := dk_42 (dk_at dksX8_settle_1 12 rfl rfl)
theorem dX8_settle_37 : decode cX8_settle 37 = .ok (.getfield 158, 3) := dk_180 0 158 (dk_at dksX8_settle_1 13 rfl rfl)
theorem dX8_settle_40 : decode cX8_settle 40 = .ok (.iaload, 1) := dk_46 (dk_at dksX8_settle_1 16 rfl rfl)
theorem dX8_settle_41 : decode cX8_settle 41 = .ok (.istore_n 2, 1) := dk_61 (dk_at dksX8_settle_1 17 rfl rfl)
theorem dX8_settle_42 : decode cX8_settle 42 = .ok (.aload_n 0, 1) := dk_42 (dk_at dksX8_settle_1 18 rfl rfl)
theorem dX8_settle_43 : decode cX8_settle 43 = .ok (.dup, 1) := dk_89 (dk_at dksX8_settle_1 19 rfl rfl)
theorem dX8_settle_44 : decode cX8_settle 44 = .ok (.getfield 161, 3) := dk_180 0 161 (dk_at dksX8_settle_1 20 rfl rfl)
theorem dX8_settle_47 : decode cX8_settle 47 = .ok (.iload_n 2, 1) := dk_28 (dk_at dksX8_settle_1 23 rfl rfl)
theorem dX8_settle_48 : decode cX8_settle 48 = .ok (.iconst 3, 1) := dk_6 (dk_at dksX8_settle_2 0 rfl rfl)
theorem dX8_settle_49 : decode cX8_settle 49 = .ok (.if_icmp .ne 7, 3) := dk_160 0 7 (dk_at dksX8_settle_2 1 rfl rfl)
theorem dX8_settle_52 : decode cX8_settle 52 = .ok (.iconst 1, 1) := dk_4 (dk_at dksX8_settle_2 4 rfl rfl)
theorem dX8_settle_53 : decode cX8_settle 53 = .ok (.goto 4, 3) := dk_167 0 4 (dk_at dksX8_settle_2 5 rfl rfl)
theorem dX8_settle_56 : decode cX8_settle 56 = .ok (.iconst 0, 1) := dk_3 (dk_at dksX8_settle_2 8 rfl rfl)
theorem dX8_settle_57 : decode cX8_settle 57 = .ok (.isub, 1) := dk_100 (dk_at dksX8_settle_2 9 rfl rfl)
theorem dX8_settle_58 : decode cX8_settle 58 = .ok (.putfield 161, 3) := dk_181 0 161 (dk_at dksX8_settle_2 10 rfl rfl)
theorem dX8_settle_61 : decode cX8_settle 61 = .ok (.aload_n 0, 1) := dk_42 (dk_at dksX8_settle_2 13 rfl rfl)
theorem dX8_settle_62 : decode cX8_settle 62 = .ok (.iload_n 2, 1) := dk_28 (dk_at dksX8_settle_2 14 rfl rfl)
theorem dX8_settle_63 : decode cX8_settle 63 = .ok (.iconst 3, 1) := dk_6 (dk_at dksX8_settle_2 15 rfl rfl)
theorem dX8_settle_64 : decode cX8_settle 64 = .ok (.if_icmp .ne 8, 3) := dk_160 0 8 (dk_at dksX8_settle_2 16 rfl rfl)
theorem dX8_settle_67 : decode cX8_settle 67 = .ok (.ldc 164, 2) := dk_18 164 (dk_at dksX8_settle_2 19 rfl rfl)
theorem dX8_settle_69 : decode cX8_settle 69 = .ok (.goto 15, 3) := dk_167 0 15 (dk_at dksX8_settle_2 21 rfl rfl)
theorem dX8_settle_72 : decode cX8_settle 72 = .ok (.iload_n 2, 1) := dk_28 (dk_at dksX8_settle_3 0 rfl rfl)
theorem dX8_settle_73 : decode cX8_settle 73 = .ok (.iconst 2, 1) := dk_5 (dk_at dksX8_settle_3 1 rfl rfl)
theorem dX8_settle_74 : decode cX8_settle 74 = .ok (.if_icmp .ne 8, 3) := dk_160 0 8 (dk_at dksX8_settle_3 2 rfl rfl)
theorem dX8_settle_77 : decode cX8_settle 77 = .ok (.ldc 165, 2) := dk_18 165 (dk_at dksX8_settle_3 5 rfl rfl)
theorem dX8_settle_79 : decode cX8_settle 79 = .ok (.goto 5, 3) := dk_167 0 5 (dk_at dksX8_settle_3 7 rfl rfl)
theorem dX8_settle_82 : decode cX8_settle 82 = .ok (.ldc 166, 2) := dk_18 166 (dk_at dksX8_settle_3 10 rfl rfl)
theorem dX8_settle_84 : decode cX8_settle 84 = .ok (.invokevirtual 155, 3) := dk_182 0 155 (dk_at dksX8_settle_3 12 rfl rfl)
theorem dX8_settle_87 : decode cX8_settle 87 = .ok (.goto (-87), 3) := dk_167 255 169 (dk_at dksX8_settle_3 15 rfl rfl)
theorem dX8_settle_90 : decode cX8_settle 90 = .ok (.return_, 1) := dk_177 (dk_at dksX8_settle_3 18 rfl rfl)
abbrev cX8_act : ByteArray := prog_21_method_15_code
def yX8_act : MethodName := ⟨RX8, "act", "(I)V"⟩
def dkwX8_act_6 : List UInt8 := [7, 27, 104, 42, 180, 0, 46, 27, 46, 96, 29, 79, 42, 180, 0, 46, 27, 92, 46, 4, 96, 79, 177]
abbrev dktX8_act_6 : List UInt8 := dkwX8_act_6 ++ []
def dkwX8_act_5 : List UInt8 := [167, 0, 18, 28, 16, 71, 160, 0, 11, 42, 5, 182, 0, 150, 167, 0, 4, 3, 96, 62, 42, 180, 0, 43]
abbrev dktX8_act_5 : List UInt8 := dkwX8_act_5 ++ dktX8_act_6
def dkwX8_act_4 : List UInt8 := [177, 42, 89, 180, 0, 132, 4, 96, 181, 0, 132, 29, 28, 16, 70, 160, 0, 11, 42, 6, 182, 0, 150]
abbrev dktX8_act_4 : List UInt8 := dkwX8_act_4 ++ dktX8_act_5
def dkwX8_act_3 : List UInt8 := [16, 83, 160, 0, 8, 16, 10, 167, 0, 4, 2, 62, 29, 156, 0, 12, 42, 42, 180, 0, 132, 182, 0, 142]
abbrev dktX8_act_3 : List UInt8 := dkwX8_act_3 ++ dktX8_act_4
def dkwX8_act_2 : List UInt8 := [28, 16, 86, 160, 0, 8, 16, 8, 167, 0, 26, 28, 16, 77, 160, 0, 8, 16, 9, 167, 0, 15, 28]
abbrev dktX8_act_2 : List UInt8 := dkwX8_act_2 ++ dktX8_act_3
def dkwX8_act_1 : List UInt8 := [167, 0, 58, 28, 16, 71, 160, 0, 7, 7, 167, 0, 48, 28, 16, 88, 160, 0, 8, 16, 7, 167, 0, 37]
abbrev dktX8_act_1 : List UInt8 := dkwX8_act_1 ++ dktX8_act_2
def dkwX8_act_0 : List UInt8 := [42, 182, 0, 138, 61, 28, 16, 70, 160, 0, 7, 3, 167, 0, 68, 28, 16, 75, 160, 0, 7, 3]
abbrev dktX8_act_0 : List UInt8 := dkwX8_act_0 ++ dktX8_act_1
theorem dksX8_act_0 : cX8_act.data.toList.drop 0 = dktX8_act_0 := by decide +kernel
theorem dksX8_act_1 : cX8_act.data.toList.drop 22 = dktX8_act_1 := dk_seg dksX8_act_0 22 rfl rfl
theorem dksX8_act_2 : cX8_act.data.toList.drop 46 = dktX8_act_2 := dk_seg dksX8_act_1 24 rfl rfl
theorem dksX8_act_3 : cX8_act.data.toList.drop 69 = dktX8_act_3 := dk_seg dksX8_act_2 23 rfl rfl
theorem dksX8_act_4 : cX8_act.data.toList.drop 93 = dktX8_act_4 := dk_seg dksX8_act_3 24 rfl rfl
theorem dksX8_act_5 : cX8_act.data.toList.drop 116 = dktX8_act_5 := dk_seg dksX8_act_4 23 rfl rfl
theorem dksX8_act_6 : cX8_act.data.toList.drop 140 = dktX8_act_6 := dk_seg dksX8_act_5 24 rfl rfl
theorem dX8_act_0 : decode cX8_act 0 = .ok (.aload_n 0, 1) := dk_42 (dk_at dksX8_act_0 0 rfl rfl)
theorem dX8_act_1 : decode cX8_act 1 = .ok (.invokevirtual 138, 3) := dk_182 0 138 (dk_at dksX8_act_0 1 rfl rfl)
theorem dX8_act_4 : decode cX8_act 4 = .ok (.istore_n 2, 1) := dk_61 (dk_at dksX8_act_0 4 rfl rfl)
theorem dX8_act_5 : decode cX8_act 5 = .ok (.iload_n 2, 1) := dk_28 (dk_at dksX8_act_0 5 rfl rfl)
theorem dX8_act_6 : decode cX8_act 6 = .ok (.bipush 70, 2) := dk_16 70 (dk_at dksX8_act_0 6 rfl rfl)
theorem dX8_act_8 : decode cX8_act 8 = .ok (.if_icmp .ne 7, 3) := dk_160 0 7 (dk_at dksX8_act_0 8 rfl rfl)
theorem dX8_act_11 : decode cX8_act 11 = .ok (.iconst 0, 1) := dk_3 (dk_at dksX8_act_0 11 rfl rfl)
theorem dX8_act_12 : decode cX8_act 12 = .ok (.goto 68, 3) := dk_167 0 68 (dk_at dksX8_act_0 12 rfl rfl)
theorem dX8_act_15 : decode cX8_act 15 = .ok (.iload_n 2, 1) := dk_28 (dk_at dksX8_act_0 15 rfl rfl)
theorem dX8_act_16 : decode cX8_act 16 = .ok (.bipush 75, 2) := dk_16 75 (dk_at dksX8_act_0 16 rfl rfl)
theorem dX8_act_18 : decode cX8_act 18 = .ok (.if_icmp .ne 7, 3) := dk_160 0 7 (dk_at dksX8_act_0 18 rfl rfl)
theorem dX8_act_21 : decode cX8_act 21 = .ok (.iconst 0, 1) := dk_3 (dk_at dksX8_act_0 21 rfl rfl)
theorem dX8_act_22 : decode cX8_act 22 = .ok (.goto 58, 3) := dk_167 0 58 (dk_at dksX8_act_1 0 rfl rfl)
theorem dX8_act_25 : decode cX8_act 25 = .ok (.iload_n 2, 1) := dk_28 (dk_at dksX8_act_1 3 rfl rfl)
theorem dX8_act_26 : decode cX8_act 26 = .ok (.bipush 71, 2) := dk_16 71 (dk_at dksX8_act_1 4 rfl rfl)
theorem dX8_act_28 : decode cX8_act 28 = .ok (.if_icmp .ne 7, 3) := dk_160 0 7 (dk_at dksX8_act_1 6 rfl rfl)
theorem dX8_act_31 : decode cX8_act 31 = .ok (.iconst 4, 1) := dk_7 (dk_at dksX8_act_1 9 rfl rfl)
theorem dX8_act_32 : decode cX8_act 32 = .ok (.goto 48, 3) := dk_167 0 48 (dk_at dksX8_act_1 10 rfl rfl)
theorem dX8_act_35 : decode cX8_act 35 = .ok (.iload_n 2, 1) := dk_28 (dk_at dksX8_act_1 13 rfl rfl)
theorem dX8_act_36 : decode cX8_act 36 = .ok (.bipush 88, 2) := dk_16 88 (dk_at dksX8_act_1 14 rfl rfl)
theorem dX8_act_38 : decode cX8_act 38 = .ok (.if_icmp .ne 8, 3) := dk_160 0 8 (dk_at dksX8_act_1 16 rfl rfl)
theorem dX8_act_41 : decode cX8_act 41 = .ok (.bipush 7, 2) := dk_16 7 (dk_at dksX8_act_1 19 rfl rfl)
theorem dX8_act_43 : decode cX8_act 43 = .ok (.goto 37, 3) := dk_167 0 37 (dk_at dksX8_act_1 21 rfl rfl)
theorem dX8_act_46 : decode cX8_act 46 = .ok (.iload_n 2, 1) := dk_28 (dk_at dksX8_act_2 0 rfl rfl)
theorem dX8_act_47 : decode cX8_act 47 = .ok (.bipush 86, 2) := dk_16 86 (dk_at dksX8_act_2 1 rfl rfl)
theorem dX8_act_49 : decode cX8_act 49 = .ok (.if_icmp .ne 8, 3) := dk_160 0 8 (dk_at dksX8_act_2 3 rfl rfl)
theorem dX8_act_52 : decode cX8_act 52 = .ok (.bipush 8, 2) := dk_16 8 (dk_at dksX8_act_2 6 rfl rfl)
theorem dX8_act_54 : decode cX8_act 54 = .ok (.goto 26, 3) := dk_167 0 26 (dk_at dksX8_act_2 8 rfl rfl)
theorem dX8_act_57 : decode cX8_act 57 = .ok (.iload_n 2, 1) := dk_28 (dk_at dksX8_act_2 11 rfl rfl)
theorem dX8_act_58 : decode cX8_act 58 = .ok (.bipush 77, 2) := dk_16 77 (dk_at dksX8_act_2 12 rfl rfl)
theorem dX8_act_60 : decode cX8_act 60 = .ok (.if_icmp .ne 8, 3) := dk_160 0 8 (dk_at dksX8_act_2 14 rfl rfl)
theorem dX8_act_63 : decode cX8_act 63 = .ok (.bipush 9, 2) := dk_16 9 (dk_at dksX8_act_2 17 rfl rfl)
theorem dX8_act_65 : decode cX8_act 65 = .ok (.goto 15, 3) := dk_167 0 15 (dk_at dksX8_act_2 19 rfl rfl)
theorem dX8_act_68 : decode cX8_act 68 = .ok (.iload_n 2, 1) := dk_28 (dk_at dksX8_act_2 22 rfl rfl)
theorem dX8_act_69 : decode cX8_act 69 = .ok (.bipush 83, 2) := dk_16 83 (dk_at dksX8_act_3 0 rfl rfl)
theorem dX8_act_71 : decode cX8_act 71 = .ok (.if_icmp .ne 8, 3) := dk_160 0 8 (dk_at dksX8_act_3 2 rfl rfl)
theorem dX8_act_74 : decode cX8_act 74 = .ok (.bipush 10, 2) := dk_16 10 (dk_at dksX8_act_3 5 rfl rfl)
theorem dX8_act_76 : decode cX8_act 76 = .ok (.goto 4, 3) := dk_167 0 4 (dk_at dksX8_act_3 7 rfl rfl)
theorem dX8_act_79 : decode cX8_act 79 = .ok (.iconst (-1), 1) := dk_2 (dk_at dksX8_act_3 10 rfl rfl)
theorem dX8_act_80 : decode cX8_act 80 = .ok (.istore_n 3, 1) := dk_62 (dk_at dksX8_act_3 11 rfl rfl)
theorem dX8_act_81 : decode cX8_act 81 = .ok (.iload_n 3, 1) := dk_29 (dk_at dksX8_act_3 12 rfl rfl)
theorem dX8_act_82 : decode cX8_act 82 = .ok (.ifCond .ge 12, 3) := dk_156 0 12 (dk_at dksX8_act_3 13 rfl rfl)
theorem dX8_act_85 : decode cX8_act 85 = .ok (.aload_n 0, 1) := dk_42 (dk_at dksX8_act_3 16 rfl rfl)
theorem dX8_act_86 : decode cX8_act 86 = .ok (.aload_n 0, 1) := dk_42 (dk_at dksX8_act_3 17 rfl rfl)
theorem dX8_act_87 : decode cX8_act 87 = .ok (.getfield 132, 3) := dk_180 0 132 (dk_at dksX8_act_3 18 rfl rfl)
theorem dX8_act_90 : decode cX8_act 90 = .ok (.invokevirtual 142, 3) := dk_182 0 142 (dk_at dksX8_act_3 21 rfl rfl)
theorem dX8_act_93 : decode cX8_act 93 = .ok (.return_, 1) := dk_177 (dk_at dksX8_act_4 0 rfl rfl)
theorem dX8_act_94 : decode cX8_act 94 = .ok (.aload_n 0, 1) := dk_42 (dk_at dksX8_act_4 1 rfl rfl)
theorem dX8_act_95 : decode cX8_act 95 = .ok (.dup, 1) := dk_89 (dk_at dksX8_act_4 2 rfl rfl)
theorem dX8_act_96 : decode cX8_act 96 = .ok (.getfield 132, 3) := dk_180 0 132 (dk_at dksX8_act_4 3 rfl rfl)
theorem dX8_act_99 : decode cX8_act 99 = .ok (.iconst 1, 1) := dk_4 (dk_at dksX8_act_4 6 rfl rfl)
theorem dX8_act_100 : decode cX8_act 100 = .ok (.iadd, 1) := dk_96 (dk_at dksX8_act_4 7 rfl rfl)
theorem dX8_act_101 : decode cX8_act 101 = .ok (.putfield 132, 3) := dk_181 0 132 (dk_at dksX8_act_4 8 rfl rfl)
theorem dX8_act_104 : decode cX8_act 104 = .ok (.iload_n 3, 1) := dk_29 (dk_at dksX8_act_4 11 rfl rfl)
theorem dX8_act_105 : decode cX8_act 105 = .ok (.iload_n 2, 1) := dk_28 (dk_at dksX8_act_4 12 rfl rfl)
theorem dX8_act_106 : decode cX8_act 106 = .ok (.bipush 70, 2) := dk_16 70 (dk_at dksX8_act_4 13 rfl rfl)
theorem dX8_act_108 : decode cX8_act 108 = .ok (.if_icmp .ne 11, 3) := dk_160 0 11 (dk_at dksX8_act_4 15 rfl rfl)
theorem dX8_act_111 : decode cX8_act 111 = .ok (.aload_n 0, 1) := dk_42 (dk_at dksX8_act_4 18 rfl rfl)
theorem dX8_act_112 : decode cX8_act 112 = .ok (.iconst 3, 1) := dk_6 (dk_at dksX8_act_4 19 rfl rfl)
theorem dX8_act_113 : decode cX8_act 113 = .ok (.invokevirtual 150, 3) := dk_182 0 150 (dk_at dksX8_act_4 20 rfl rfl)
theorem dX8_act_116 : decode cX8_act 116 = .ok (.goto 18, 3) := dk_167 0 18 (dk_at dksX8_act_5 0 rfl rfl)
theorem dX8_act_119 : decode cX8_act 119 = .ok (.iload_n 2, 1) := dk_28 (dk_at dksX8_act_5 3 rfl rfl)
theorem dX8_act_120 : decode cX8_act 120 = .ok (.bipush 71, 2) := dk_16 71 (dk_at dksX8_act_5 4 rfl rfl)
theorem dX8_act_122 : decode cX8_act 122 = .ok (.if_icmp .ne 11, 3) := dk_160 0 11 (dk_at dksX8_act_5 6 rfl rfl)
theorem dX8_act_125 : decode cX8_act 125 = .ok (.aload_n 0, 1) := dk_42 (dk_at dksX8_act_5 9 rfl rfl)
theorem dX8_act_126 : decode cX8_act 126 = .ok (.iconst 2, 1) := dk_5 (dk_at dksX8_act_5 10 rfl rfl)
theorem dX8_act_127 : decode cX8_act 127 = .ok (.invokevirtual 150, 3) := dk_182 0 150 (dk_at dksX8_act_5 11 rfl rfl)
theorem dX8_act_130 : decode cX8_act 130 = .ok (.goto 4, 3) := dk_167 0 4 (dk_at dksX8_act_5 14 rfl rfl)
theorem dX8_act_133 : decode cX8_act 133 = .ok (.iconst 0, 1) := dk_3 (dk_at dksX8_act_5 17 rfl rfl)
theorem dX8_act_134 : decode cX8_act 134 = .ok (.iadd, 1) := dk_96 (dk_at dksX8_act_5 18 rfl rfl)
theorem dX8_act_135 : decode cX8_act 135 = .ok (.istore_n 3, 1) := dk_62 (dk_at dksX8_act_5 19 rfl rfl)
theorem dX8_act_136 : decode cX8_act 136 = .ok (.aload_n 0, 1) := dk_42 (dk_at dksX8_act_5 20 rfl rfl)
theorem dX8_act_137 : decode cX8_act 137 = .ok (.getfield 43, 3) := dk_180 0 43 (dk_at dksX8_act_5 21 rfl rfl)
theorem dX8_act_140 : decode cX8_act 140 = .ok (.iconst 4, 1) := dk_7 (dk_at dksX8_act_6 0 rfl rfl)
theorem dX8_act_141 : decode cX8_act 141 = .ok (.iload_n 1, 1) := dk_27 (dk_at dksX8_act_6 1 rfl rfl)
theorem dX8_act_142 : decode cX8_act 142 = .ok (.imul, 1) := dk_104 (dk_at dksX8_act_6 2 rfl rfl)
theorem dX8_act_143 : decode cX8_act 143 = .ok (.aload_n 0, 1) := dk_42 (dk_at dksX8_act_6 3 rfl rfl)
theorem dX8_act_144 : decode cX8_act 144 = .ok (.getfield 46, 3) := dk_180 0 46 (dk_at dksX8_act_6 4 rfl rfl)
theorem dX8_act_147 : decode cX8_act 147 = .ok (.iload_n 1, 1) := dk_27 (dk_at dksX8_act_6 7 rfl rfl)
theorem dX8_act_148 : decode cX8_act 148 = .ok (.iaload, 1) := dk_46 (dk_at dksX8_act_6 8 rfl rfl)
theorem dX8_act_149 : decode cX8_act 149 = .ok (.iadd, 1) := dk_96 (dk_at dksX8_act_6 9 rfl rfl)
theorem dX8_act_150 : decode cX8_act 150 = .ok (.iload_n 3, 1) := dk_29 (dk_at dksX8_act_6 10 rfl rfl)
theorem dX8_act_151 : decode cX8_act 151 = .ok (.iastore, 1) := dk_79 (dk_at dksX8_act_6 11 rfl rfl)
theorem dX8_act_152 : decode cX8_act 152 = .ok (.aload_n 0, 1) := dk_42 (dk_at dksX8_act_6 12 rfl rfl)
theorem dX8_act_153 : decode cX8_act 153 = .ok (.getfield 46, 3) := dk_180 0 46 (dk_at dksX8_act_6 13 rfl rfl)
theorem dX8_act_156 : decode cX8_act 156 = .ok (.iload_n 1, 1) := dk_27 (dk_at dksX8_act_6 16 rfl rfl)
theorem dX8_act_157 : decode cX8_act 157 = .ok (.dup2, 1) := dk_92 (dk_at dksX8_act_6 17 rfl rfl)
theorem dX8_act_158 : decode cX8_act 158 = .ok (.iaload, 1) := dk_46 (dk_at dksX8_act_6 18 rfl rfl)
theorem dX8_act_159 : decode cX8_act 159 = .ok (.iconst 1, 1) := dk_4 (dk_at dksX8_act_6 19 rfl rfl)
theorem dX8_act_160 : decode cX8_act 160 = .ok (.iadd, 1) := dk_96 (dk_at dksX8_act_6 20 rfl rfl)
theorem dX8_act_161 : decode cX8_act 161 = .ok (.iastore, 1) := dk_79 (dk_at dksX8_act_6 21 rfl rfl)
theorem dX8_act_162 : decode cX8_act 162 = .ok (.return_, 1) := dk_177 (dk_at dksX8_act_6 22 rfl rfl)
abbrev cX8_quota : ByteArray := prog_21_method_18_code
def yX8_quota : MethodName := ⟨RX8, "quota", "(III)I"⟩
def dkwX8_quota_2 : List UInt8 := [79, 21, 4, 172]
abbrev dktX8_quota_2 : List UInt8 := dkwX8_quota_2 ++ []
def dkwX8_quota_1 : List UInt8 := [2, 172, 42, 180, 0, 28, 7, 27, 104, 28, 96, 46, 54, 4, 42, 180, 0, 28, 7, 27, 104, 28, 96, 29]
abbrev dktX8_quota_1 : List UInt8 := dkwX8_quota_1 ++ dktX8_quota_2
def dkwX8_quota_0 : List UInt8 := [27, 184, 0, 186, 153, 0, 20, 28, 184, 0, 192, 153, 0, 13, 29, 3, 16, 99, 184, 0, 122, 154, 0, 5]
abbrev dktX8_quota_0 : List UInt8 := dkwX8_quota_0 ++ dktX8_quota_1
theorem dksX8_quota_0 : cX8_quota.data.toList.drop 0 = dktX8_quota_0 := by decide +kernel
theorem dksX8_quota_1 : cX8_quota.data.toList.drop 24 = dktX8_quota_1 := dk_seg dksX8_quota_0 24 rfl rfl
theorem dksX8_quota_2 : cX8_quota.data.toList.drop 48 = dktX8_quota_2 := dk_seg dksX8_quota_1 24 rfl rfl
theorem dX8_quota_0 : decode cX8_quota 0 = .ok (.iload_n 1, 1) := dk_27 (dk_at dksX8_quota_0 0 rfl rfl)
theorem dX8_quota_1 : decode cX8_quota 1 = .ok (.invokestatic 186, 3) := dk_184 0 186 (dk_at dksX8_quota_0 1 rfl rfl)
theorem dX8_quota_4 : decode cX8_quota 4 = .ok (.ifCond .eq 20, 3) := dk_153 0 20 (dk_at dksX8_quota_0 4 rfl rfl)
theorem dX8_quota_7 : decode cX8_quota 7 = .ok (.iload_n 2, 1) := dk_28 (dk_at dksX8_quota_0 7 rfl rfl)
theorem dX8_quota_8 : decode cX8_quota 8 = .ok (.invokestatic 192, 3) := dk_184 0 192 (dk_at dksX8_quota_0 8 rfl rfl)
theorem dX8_quota_11 : decode cX8_quota 11 = .ok (.ifCond .eq 13, 3) := dk_153 0 13 (dk_at dksX8_quota_0 11 rfl rfl)
theorem dX8_quota_14 : decode cX8_quota 14 = .ok (.iload_n 3, 1) := dk_29 (dk_at dksX8_quota_0 14 rfl rfl)
theorem dX8_quota_15 : decode cX8_quota 15 = .ok (.iconst 0, 1) := dk_3 (dk_at dksX8_quota_0 15 rfl rfl)
theorem dX8_quota_16 : decode cX8_quota 16 = .ok (.bipush 99, 2) := dk_16 99 (dk_at dksX8_quota_0 16 rfl rfl)
theorem dX8_quota_18 : decode cX8_quota 18 = .ok (.invokestatic 122, 3) := dk_184 0 122 (dk_at dksX8_quota_0 18 rfl rfl)
theorem dX8_quota_21 : decode cX8_quota 21 = .ok (.ifCond .ne 5, 3) := dk_154 0 5 (dk_at dksX8_quota_0 21 rfl rfl)
theorem dX8_quota_24 : decode cX8_quota 24 = .ok (.iconst (-1), 1) := dk_2 (dk_at dksX8_quota_1 0 rfl rfl)
theorem dX8_quota_25 : decode cX8_quota 25 = .ok (.ireturn, 1) := dk_172 (dk_at dksX8_quota_1 1 rfl rfl)
theorem dX8_quota_26 : decode cX8_quota 26 = .ok (.aload_n 0, 1) := dk_42 (dk_at dksX8_quota_1 2 rfl rfl)
theorem dX8_quota_27 : decode cX8_quota 27 = .ok (.getfield 28, 3) := dk_180 0 28 (dk_at dksX8_quota_1 3 rfl rfl)
theorem dX8_quota_30 : decode cX8_quota 30 = .ok (.iconst 4, 1) := dk_7 (dk_at dksX8_quota_1 6 rfl rfl)
theorem dX8_quota_31 : decode cX8_quota 31 = .ok (.iload_n 1, 1) := dk_27 (dk_at dksX8_quota_1 7 rfl rfl)
theorem dX8_quota_32 : decode cX8_quota 32 = .ok (.imul, 1) := dk_104 (dk_at dksX8_quota_1 8 rfl rfl)
theorem dX8_quota_33 : decode cX8_quota 33 = .ok (.iload_n 2, 1) := dk_28 (dk_at dksX8_quota_1 9 rfl rfl)
theorem dX8_quota_34 : decode cX8_quota 34 = .ok (.iadd, 1) := dk_96 (dk_at dksX8_quota_1 10 rfl rfl)
theorem dX8_quota_35 : decode cX8_quota 35 = .ok (.iaload, 1) := dk_46 (dk_at dksX8_quota_1 11 rfl rfl)
theorem dX8_quota_36 : decode cX8_quota 36 = .ok (.istore 4, 2) := dk_54 4 (dk_at dksX8_quota_1 12 rfl rfl)
theorem dX8_quota_38 : decode cX8_quota 38 = .ok (.aload_n 0, 1) := dk_42 (dk_at dksX8_quota_1 14 rfl rfl)
theorem dX8_quota_39 : decode cX8_quota 39 = .ok (.getfield 28, 3) := dk_180 0 28 (dk_at dksX8_quota_1 15 rfl rfl)
theorem dX8_quota_42 : decode cX8_quota 42 = .ok (.iconst 4, 1) := dk_7 (dk_at dksX8_quota_1 18 rfl rfl)
theorem dX8_quota_43 : decode cX8_quota 43 = .ok (.iload_n 1, 1) := dk_27 (dk_at dksX8_quota_1 19 rfl rfl)
theorem dX8_quota_44 : decode cX8_quota 44 = .ok (.imul, 1) := dk_104 (dk_at dksX8_quota_1 20 rfl rfl)
theorem dX8_quota_45 : decode cX8_quota 45 = .ok (.iload_n 2, 1) := dk_28 (dk_at dksX8_quota_1 21 rfl rfl)
theorem dX8_quota_46 : decode cX8_quota 46 = .ok (.iadd, 1) := dk_96 (dk_at dksX8_quota_1 22 rfl rfl)
theorem dX8_quota_47 : decode cX8_quota 47 = .ok (.iload_n 3, 1) := dk_29 (dk_at dksX8_quota_1 23 rfl rfl)
theorem dX8_quota_48 : decode cX8_quota 48 = .ok (.iastore, 1) := dk_79 (dk_at dksX8_quota_2 0 rfl rfl)
theorem dX8_quota_49 : decode cX8_quota 49 = .ok (.iload 4, 2) := dk_21 4 (dk_at dksX8_quota_2 1 rfl rfl)
theorem dX8_quota_51 : decode cX8_quota 51 = .ok (.ireturn, 1) := dk_172 (dk_at dksX8_quota_2 3 rfl rfl)
abbrev cX8_isTray : ByteArray := prog_21_method_5_code
def yX8_isTray : MethodName := ⟨RX8, "isTray", "(I)Z"⟩
def dkwX8_isTray_0 : List UInt8 := [26, 3, 6, 184, 0, 122, 172]
abbrev dktX8_isTray_0 : List UInt8 := dkwX8_isTray_0 ++ []
theorem dksX8_isTray_0 : cX8_isTray.data.toList.drop 0 = dktX8_isTray_0 := by decide +kernel
theorem dX8_isTray_0 : decode cX8_isTray 0 = .ok (.iload_n 0, 1) := dk_26 (dk_at dksX8_isTray_0 0 rfl rfl)
theorem dX8_isTray_1 : decode cX8_isTray 1 = .ok (.iconst 0, 1) := dk_3 (dk_at dksX8_isTray_0 1 rfl rfl)
theorem dX8_isTray_2 : decode cX8_isTray 2 = .ok (.iconst 3, 1) := dk_6 (dk_at dksX8_isTray_0 2 rfl rfl)
theorem dX8_isTray_3 : decode cX8_isTray 3 = .ok (.invokestatic 122, 3) := dk_184 0 122 (dk_at dksX8_isTray_0 3 rfl rfl)
theorem dX8_isTray_6 : decode cX8_isTray 6 = .ok (.ireturn, 1) := dk_172 (dk_at dksX8_isTray_0 6 rfl rfl)
abbrev cX8_days : ByteArray := prog_21_method_19_code
def yX8_days : MethodName := ⟨RX8, "days", "(II)I"⟩
def dkwX8_days_1 : List UInt8 := [46, 62, 42, 180, 0, 31, 27, 28, 79, 29, 172]
abbrev dktX8_days_1 : List UInt8 := dkwX8_days_1 ++ []
def dkwX8_days_0 : List UInt8 := [27, 184, 0, 186, 153, 0, 13, 28, 4, 16, 99, 184, 0, 122, 154, 0, 5, 2, 172, 42, 180, 0, 31, 27]
abbrev dktX8_days_0 : List UInt8 := dkwX8_days_0 ++ dktX8_days_1
theorem dksX8_days_0 : cX8_days.data.toList.drop 0 = dktX8_days_0 := by decide +kernel
theorem dksX8_days_1 : cX8_days.data.toList.drop 24 = dktX8_days_1 := dk_seg dksX8_days_0 24 rfl rfl
theorem dX8_days_0 : decode cX8_days 0 = .ok (.iload_n 1, 1) := dk_27 (dk_at dksX8_days_0 0 rfl rfl)
theorem dX8_days_1 : decode cX8_days 1 = .ok (.invokestatic 186, 3) := dk_184 0 186 (dk_at dksX8_days_0 1 rfl rfl)
theorem dX8_days_4 : decode cX8_days 4 = .ok (.ifCond .eq 13, 3) := dk_153 0 13 (dk_at dksX8_days_0 4 rfl rfl)
theorem dX8_days_7 : decode cX8_days 7 = .ok (.iload_n 2, 1) := dk_28 (dk_at dksX8_days_0 7 rfl rfl)
theorem dX8_days_8 : decode cX8_days 8 = .ok (.iconst 1, 1) := dk_4 (dk_at dksX8_days_0 8 rfl rfl)
theorem dX8_days_9 : decode cX8_days 9 = .ok (.bipush 99, 2) := dk_16 99 (dk_at dksX8_days_0 9 rfl rfl)
theorem dX8_days_11 : decode cX8_days 11 = .ok (.invokestatic 122, 3) := dk_184 0 122 (dk_at dksX8_days_0 11 rfl rfl)
theorem dX8_days_14 : decode cX8_days 14 = .ok (.ifCond .ne 5, 3) := dk_154 0 5 (dk_at dksX8_days_0 14 rfl rfl)
theorem dX8_days_17 : decode cX8_days 17 = .ok (.iconst (-1), 1) := dk_2 (dk_at dksX8_days_0 17 rfl rfl)
theorem dX8_days_18 : decode cX8_days 18 = .ok (.ireturn, 1) := dk_172 (dk_at dksX8_days_0 18 rfl rfl)
theorem dX8_days_19 : decode cX8_days 19 = .ok (.aload_n 0, 1) := dk_42 (dk_at dksX8_days_0 19 rfl rfl)
theorem dX8_days_20 : decode cX8_days 20 = .ok (.getfield 31, 3) := dk_180 0 31 (dk_at dksX8_days_0 20 rfl rfl)
theorem dX8_days_23 : decode cX8_days 23 = .ok (.iload_n 1, 1) := dk_27 (dk_at dksX8_days_0 23 rfl rfl)
theorem dX8_days_24 : decode cX8_days 24 = .ok (.iaload, 1) := dk_46 (dk_at dksX8_days_1 0 rfl rfl)
theorem dX8_days_25 : decode cX8_days 25 = .ok (.istore_n 3, 1) := dk_62 (dk_at dksX8_days_1 1 rfl rfl)
theorem dX8_days_26 : decode cX8_days 26 = .ok (.aload_n 0, 1) := dk_42 (dk_at dksX8_days_1 2 rfl rfl)
theorem dX8_days_27 : decode cX8_days 27 = .ok (.getfield 31, 3) := dk_180 0 31 (dk_at dksX8_days_1 3 rfl rfl)
theorem dX8_days_30 : decode cX8_days 30 = .ok (.iload_n 1, 1) := dk_27 (dk_at dksX8_days_1 6 rfl rfl)
theorem dX8_days_31 : decode cX8_days 31 = .ok (.iload_n 2, 1) := dk_28 (dk_at dksX8_days_1 7 rfl rfl)
theorem dX8_days_32 : decode cX8_days 32 = .ok (.iastore, 1) := dk_79 (dk_at dksX8_days_1 8 rfl rfl)
theorem dX8_days_33 : decode cX8_days 33 = .ok (.iload_n 3, 1) := dk_29 (dk_at dksX8_days_1 9 rfl rfl)
theorem dX8_days_34 : decode cX8_days 34 = .ok (.ireturn, 1) := dk_172 (dk_at dksX8_days_1 10 rfl rfl)
abbrev cX8_post : ByteArray := prog_21_method_36_code
def yX8_post : MethodName := ⟨RX8, "post", "(IIIIIIII)I"⟩
def dkwX8_post_2 : List UInt8 := [42, 27, 28, 29, 21, 4, 21, 5, 21, 6, 21, 7, 21, 8, 182, 1, 46, 42, 180, 1, 22, 172]
abbrev dktX8_post_2 : List UInt8 := dkwX8_post_2 ++ []
def dkwX8_post_1 : List UInt8 := [182, 1, 39, 162, 0, 6, 16, 254, 172, 42, 182, 1, 42, 153, 0, 6, 16, 253, 172, 42, 3, 181, 1, 22]
abbrev dktX8_post_1 : List UInt8 := dkwX8_post_1 ++ dktX8_post_2
def dkwX8_post_0 : List UInt8 := [27, 28, 29, 21, 4, 21, 5, 21, 6, 21, 7, 21, 8, 184, 1, 35, 154, 0, 5, 2, 172, 21, 8, 42]
abbrev dktX8_post_0 : List UInt8 := dkwX8_post_0 ++ dktX8_post_1
theorem dksX8_post_0 : cX8_post.data.toList.drop 0 = dktX8_post_0 := by decide +kernel
theorem dksX8_post_1 : cX8_post.data.toList.drop 24 = dktX8_post_1 := dk_seg dksX8_post_0 24 rfl rfl
theorem dksX8_post_2 : cX8_post.data.toList.drop 48 = dktX8_post_2 := dk_seg dksX8_post_1 24 rfl rfl
theorem dX8_post_0 : decode cX8_post 0 = .ok (.iload_n 1, 1) := dk_27 (dk_at dksX8_post_0 0 rfl rfl)
theorem dX8_post_1 : decode cX8_post 1 = .ok (.iload_n 2, 1) := dk_28 (dk_at dksX8_post_0 1 rfl rfl)
theorem dX8_post_2 : decode cX8_post 2 = .ok (.iload_n 3, 1) := dk_29 (dk_at dksX8_post_0 2 rfl rfl)
theorem dX8_post_3 : decode cX8_post 3 = .ok (.iload 4, 2) := dk_21 4 (dk_at dksX8_post_0 3 rfl rfl)
theorem dX8_post_5 : decode cX8_post 5 = .ok (.iload 5, 2) := dk_21 5 (dk_at dksX8_post_0 5 rfl rfl)
theorem dX8_post_7 : decode cX8_post 7 = .ok (.iload 6, 2) := dk_21 6 (dk_at dksX8_post_0 7 rfl rfl)
theorem dX8_post_9 : decode cX8_post 9 = .ok (.iload 7, 2) := dk_21 7 (dk_at dksX8_post_0 9 rfl rfl)
theorem dX8_post_11 : decode cX8_post 11 = .ok (.iload 8, 2) := dk_21 8 (dk_at dksX8_post_0 11 rfl rfl)
theorem dX8_post_13 : decode cX8_post 13 = .ok (.invokestatic 291, 3) := dk_184 1 35 (dk_at dksX8_post_0 13 rfl rfl)
theorem dX8_post_16 : decode cX8_post 16 = .ok (.ifCond .ne 5, 3) := dk_154 0 5 (dk_at dksX8_post_0 16 rfl rfl)
theorem dX8_post_19 : decode cX8_post 19 = .ok (.iconst (-1), 1) := dk_2 (dk_at dksX8_post_0 19 rfl rfl)
theorem dX8_post_20 : decode cX8_post 20 = .ok (.ireturn, 1) := dk_172 (dk_at dksX8_post_0 20 rfl rfl)
theorem dX8_post_21 : decode cX8_post 21 = .ok (.iload 8, 2) := dk_21 8 (dk_at dksX8_post_0 21 rfl rfl)
theorem dX8_post_23 : decode cX8_post 23 = .ok (.aload_n 0, 1) := dk_42 (dk_at dksX8_post_0 23 rfl rfl)
theorem dX8_post_24 : decode cX8_post 24 = .ok (.invokevirtual 295, 3) := dk_182 1 39 (dk_at dksX8_post_1 0 rfl rfl)
theorem dX8_post_27 : decode cX8_post 27 = .ok (.if_icmp .ge 6, 3) := dk_162 0 6 (dk_at dksX8_post_1 3 rfl rfl)
theorem dX8_post_30 : decode cX8_post 30 = .ok (.bipush (-2), 2) := dk_16 254 (dk_at dksX8_post_1 6 rfl rfl)
theorem dX8_post_32 : decode cX8_post 32 = .ok (.ireturn, 1) := dk_172 (dk_at dksX8_post_1 8 rfl rfl)
theorem dX8_post_33 : decode cX8_post 33 = .ok (.aload_n 0, 1) := dk_42 (dk_at dksX8_post_1 9 rfl rfl)
theorem dX8_post_34 : decode cX8_post 34 = .ok (.invokevirtual 298, 3) := dk_182 1 42 (dk_at dksX8_post_1 10 rfl rfl)
theorem dX8_post_37 : decode cX8_post 37 = .ok (.ifCond .eq 6, 3) := dk_153 0 6 (dk_at dksX8_post_1 13 rfl rfl)
theorem dX8_post_40 : decode cX8_post 40 = .ok (.bipush (-3), 2) := dk_16 253 (dk_at dksX8_post_1 16 rfl rfl)
theorem dX8_post_42 : decode cX8_post 42 = .ok (.ireturn, 1) := dk_172 (dk_at dksX8_post_1 18 rfl rfl)
theorem dX8_post_43 : decode cX8_post 43 = .ok (.aload_n 0, 1) := dk_42 (dk_at dksX8_post_1 19 rfl rfl)
theorem dX8_post_44 : decode cX8_post 44 = .ok (.iconst 0, 1) := dk_3 (dk_at dksX8_post_1 20 rfl rfl)
theorem dX8_post_45 : decode cX8_post 45 = .ok (.putfield 278, 3) := dk_181 1 22 (dk_at dksX8_post_1 21 rfl rfl)
theorem dX8_post_48 : decode cX8_post 48 = .ok (.aload_n 0, 1) := dk_42 (dk_at dksX8_post_2 0 rfl rfl)
theorem dX8_post_49 : decode cX8_post 49 = .ok (.iload_n 1, 1) := dk_27 (dk_at dksX8_post_2 1 rfl rfl)
theorem dX8_post_50 : decode cX8_post 50 = .ok (.iload_n 2, 1) := dk_28 (dk_at dksX8_post_2 2 rfl rfl)
theorem dX8_post_51 : decode cX8_post 51 = .ok (.iload_n 3, 1) := dk_29 (dk_at dksX8_post_2 3 rfl rfl)
theorem dX8_post_52 : decode cX8_post 52 = .ok (.iload 4, 2) := dk_21 4 (dk_at dksX8_post_2 4 rfl rfl)
theorem dX8_post_54 : decode cX8_post 54 = .ok (.iload 5, 2) := dk_21 5 (dk_at dksX8_post_2 6 rfl rfl)
theorem dX8_post_56 : decode cX8_post 56 = .ok (.iload 6, 2) := dk_21 6 (dk_at dksX8_post_2 8 rfl rfl)
theorem dX8_post_58 : decode cX8_post 58 = .ok (.iload 7, 2) := dk_21 7 (dk_at dksX8_post_2 10 rfl rfl)
theorem dX8_post_60 : decode cX8_post 60 = .ok (.iload 8, 2) := dk_21 8 (dk_at dksX8_post_2 12 rfl rfl)
theorem dX8_post_62 : decode cX8_post 62 = .ok (.invokevirtual 302, 3) := dk_182 1 46 (dk_at dksX8_post_2 14 rfl rfl)
theorem dX8_post_65 : decode cX8_post 65 = .ok (.aload_n 0, 1) := dk_42 (dk_at dksX8_post_2 17 rfl rfl)
theorem dX8_post_66 : decode cX8_post 66 = .ok (.getfield 278, 3) := dk_180 1 22 (dk_at dksX8_post_2 18 rfl rfl)
theorem dX8_post_69 : decode cX8_post 69 = .ok (.ireturn, 1) := dk_172 (dk_at dksX8_post_2 21 rfl rfl)
abbrev cX8_isGood : ByteArray := prog_21_method_32_code
def yX8_isGood : MethodName := ⟨RX8, "isGood", "(IIIIIIII)Z"⟩
def dkwX8_isGood_4 : List UInt8 := [153, 0, 19, 21, 7, 3, 17, 39, 15, 184, 0, 122, 153, 0, 7, 4, 167, 0, 4, 3, 172]
abbrev dktX8_isGood_4 : List UInt8 := dkwX8_isGood_4 ++ []
def dkwX8_isGood_3 : List UInt8 := [153, 0, 43, 21, 5, 3, 17, 39, 15, 184, 0, 122, 153, 0, 31, 21, 6, 2, 17, 39, 15, 184, 0, 122]
abbrev dktX8_isGood_3 : List UInt8 := dkwX8_isGood_3 ++ dktX8_isGood_4
def dkwX8_isGood_2 : List UInt8 := [21, 8, 153, 0, 63, 29, 3, 18, 149, 184, 0, 122, 153, 0, 53, 21, 4, 3, 6, 184, 0, 122]
abbrev dktX8_isGood_2 : List UInt8 := dkwX8_isGood_2 ++ dktX8_isGood_3
def dkwX8_isGood_1 : List UInt8 := [17, 15, 255, 184, 0, 122, 153, 0, 15, 28, 184, 1, 26, 8, 162, 0, 7, 4, 167, 0, 4, 3, 54, 8]
abbrev dktX8_isGood_1 : List UInt8 := dkwX8_isGood_1 ++ dktX8_isGood_2
def dkwX8_isGood_0 : List UInt8 := [26, 3, 16, 15, 184, 0, 122, 153, 0, 37, 27, 3, 19, 1, 25, 184, 0, 122, 153, 0, 26, 28, 3]
abbrev dktX8_isGood_0 : List UInt8 := dkwX8_isGood_0 ++ dktX8_isGood_1
theorem dksX8_isGood_0 : cX8_isGood.data.toList.drop 0 = dktX8_isGood_0 := by decide +kernel
theorem dksX8_isGood_1 : cX8_isGood.data.toList.drop 23 = dktX8_isGood_1 := dk_seg dksX8_isGood_0 23 rfl rfl
theorem dksX8_isGood_2 : cX8_isGood.data.toList.drop 47 = dktX8_isGood_2 := dk_seg dksX8_isGood_1 24 rfl rfl
theorem dksX8_isGood_3 : cX8_isGood.data.toList.drop 69 = dktX8_isGood_3 := dk_seg dksX8_isGood_2 22 rfl rfl
theorem dksX8_isGood_4 : cX8_isGood.data.toList.drop 93 = dktX8_isGood_4 := dk_seg dksX8_isGood_3 24 rfl rfl
theorem dX8_isGood_0 : decode cX8_isGood 0 = .ok (.iload_n 0, 1) := dk_26 (dk_at dksX8_isGood_0 0 rfl rfl)
theorem dX8_isGood_1 : decode cX8_isGood 1 = .ok (.iconst 0, 1) := dk_3 (dk_at dksX8_isGood_0 1 rfl rfl)
theorem dX8_isGood_2 : decode cX8_isGood 2 = .ok (.bipush 15, 2) := dk_16 15 (dk_at dksX8_isGood_0 2 rfl rfl)
theorem dX8_isGood_4 : decode cX8_isGood 4 = .ok (.invokestatic 122, 3) := dk_184 0 122 (dk_at dksX8_isGood_0 4 rfl rfl)
theorem dX8_isGood_7 : decode cX8_isGood 7 = .ok (.ifCond .eq 37, 3) := dk_153 0 37 (dk_at dksX8_isGood_0 7 rfl rfl)
theorem dX8_isGood_10 : decode cX8_isGood 10 = .ok (.iload_n 1, 1) := dk_27 (dk_at dksX8_isGood_0 10 rfl rfl)
theorem dX8_isGood_11 : decode cX8_isGood 11 = .ok (.iconst 0, 1) := dk_3 (dk_at dksX8_isGood_0 11 rfl rfl)
theorem dX8_isGood_12 : decode cX8_isGood 12 = .ok (.ldc_w 281, 3) := dk_19 1 25 (dk_at dksX8_isGood_0 12 rfl rfl)
theorem dX8_isGood_15 : decode cX8_isGood 15 = .ok (.invokestatic 122, 3) := dk_184 0 122 (dk_at dksX8_isGood_0 15 rfl rfl)
theorem dX8_isGood_18 : decode cX8_isGood 18 = .ok (.ifCond .eq 26, 3) := dk_153 0 26 (dk_at dksX8_isGood_0 18 rfl rfl)
theorem dX8_isGood_21 : decode cX8_isGood 21 = .ok (.iload_n 2, 1) := dk_28 (dk_at dksX8_isGood_0 21 rfl rfl)
theorem dX8_isGood_22 : decode cX8_isGood 22 = .ok (.iconst 0, 1) := dk_3 (dk_at dksX8_isGood_0 22 rfl rfl)
theorem dX8_isGood_23 : decode cX8_isGood 23 = .ok (.sipush 4095, 3) := dk_17 15 255 (dk_at dksX8_isGood_1 0 rfl rfl)
theorem dX8_isGood_26 : decode cX8_isGood 26 = .ok (.invokestatic 122, 3) := dk_184 0 122 (dk_at dksX8_isGood_1 3 rfl rfl)
theorem dX8_isGood_29 : decode cX8_isGood 29 = .ok (.ifCond .eq 15, 3) := dk_153 0 15 (dk_at dksX8_isGood_1 6 rfl rfl)
theorem dX8_isGood_32 : decode cX8_isGood 32 = .ok (.iload_n 2, 1) := dk_28 (dk_at dksX8_isGood_1 9 rfl rfl)
theorem dX8_isGood_33 : decode cX8_isGood 33 = .ok (.invokestatic 282, 3) := dk_184 1 26 (dk_at dksX8_isGood_1 10 rfl rfl)
theorem dX8_isGood_36 : decode cX8_isGood 36 = .ok (.iconst 5, 1) := dk_8 (dk_at dksX8_isGood_1 13 rfl rfl)
theorem dX8_isGood_37 : decode cX8_isGood 37 = .ok (.if_icmp .ge 7, 3) := dk_162 0 7 (dk_at dksX8_isGood_1 14 rfl rfl)
theorem dX8_isGood_40 : decode cX8_isGood 40 = .ok (.iconst 1, 1) := dk_4 (dk_at dksX8_isGood_1 17 rfl rfl)
theorem dX8_isGood_41 : decode cX8_isGood 41 = .ok (.goto 4, 3) := dk_167 0 4 (dk_at dksX8_isGood_1 18 rfl rfl)
theorem dX8_isGood_44 : decode cX8_isGood 44 = .ok (.iconst 0, 1) := dk_3 (dk_at dksX8_isGood_1 21 rfl rfl)
theorem dX8_isGood_45 : decode cX8_isGood 45 = .ok (.istore 8, 2) := dk_54 8 (dk_at dksX8_isGood_1 22 rfl rfl)
theorem dX8_isGood_47 : decode cX8_isGood 47 = .ok (.iload 8, 2) := dk_21 8 (dk_at dksX8_isGood_2 0 rfl rfl)
theorem dX8_isGood_49 : decode cX8_isGood 49 = .ok (.ifCond .eq 63, 3) := dk_153 0 63 (dk_at dksX8_isGood_2 2 rfl rfl)
theorem dX8_isGood_52 : decode cX8_isGood 52 = .ok (.iload_n 3, 1) := dk_29 (dk_at dksX8_isGood_2 5 rfl rfl)
theorem dX8_isGood_53 : decode cX8_isGood 53 = .ok (.iconst 0, 1) := dk_3 (dk_at dksX8_isGood_2 6 rfl rfl)
theorem dX8_isGood_54 : decode cX8_isGood 54 = .ok (.ldc 149, 2) := dk_18 149 (dk_at dksX8_isGood_2 7 rfl rfl)
theorem dX8_isGood_56 : decode cX8_isGood 56 = .ok (.invokestatic 122, 3) := dk_184 0 122 (dk_at dksX8_isGood_2 9 rfl rfl)
theorem dX8_isGood_59 : decode cX8_isGood 59 = .ok (.ifCond .eq 53, 3) := dk_153 0 53 (dk_at dksX8_isGood_2 12 rfl rfl)
theorem dX8_isGood_62 : decode cX8_isGood 62 = .ok (.iload 4, 2) := dk_21 4 (dk_at dksX8_isGood_2 15 rfl rfl)
theorem dX8_isGood_64 : decode cX8_isGood 64 = .ok (.iconst 0, 1) := dk_3 (dk_at dksX8_isGood_2 17 rfl rfl)
theorem dX8_isGood_65 : decode cX8_isGood 65 = .ok (.iconst 3, 1) := dk_6 (dk_at dksX8_isGood_2 18 rfl rfl)
theorem dX8_isGood_66 : decode cX8_isGood 66 = .ok (.invokestatic 122, 3) := dk_184 0 122 (dk_at dksX8_isGood_2 19 rfl rfl)
theorem dX8_isGood_69 : decode cX8_isGood 69 = .ok (.ifCond .eq 43, 3) := dk_153 0 43 (dk_at dksX8_isGood_3 0 rfl rfl)
theorem dX8_isGood_72 : decode cX8_isGood 72 = .ok (.iload 5, 2) := dk_21 5 (dk_at dksX8_isGood_3 3 rfl rfl)
theorem dX8_isGood_74 : decode cX8_isGood 74 = .ok (.iconst 0, 1) := dk_3 (dk_at dksX8_isGood_3 5 rfl rfl)
theorem dX8_isGood_75 : decode cX8_isGood 75 = .ok (.sipush 9999, 3) := dk_17 39 15 (dk_at dksX8_isGood_3 6 rfl rfl)
theorem dX8_isGood_78 : decode cX8_isGood 78 = .ok (.invokestatic 122, 3) := dk_184 0 122 (dk_at dksX8_isGood_3 9 rfl rfl)
theorem dX8_isGood_81 : decode cX8_isGood 81 = .ok (.ifCond .eq 31, 3) := dk_153 0 31 (dk_at dksX8_isGood_3 12 rfl rfl)
theorem dX8_isGood_84 : decode cX8_isGood 84 = .ok (.iload 6, 2) := dk_21 6 (dk_at dksX8_isGood_3 15 rfl rfl)
theorem dX8_isGood_86 : decode cX8_isGood 86 = .ok (.iconst (-1), 1) := dk_2 (dk_at dksX8_isGood_3 17 rfl rfl)
theorem dX8_isGood_87 : decode cX8_isGood 87 = .ok (.sipush 9999, 3) := dk_17 39 15 (dk_at dksX8_isGood_3 18 rfl rfl)
theorem dX8_isGood_90 : decode cX8_isGood 90 = .ok (.invokestatic 122, 3) := dk_184 0 122 (dk_at dksX8_isGood_3 21 rfl rfl)
theorem dX8_isGood_93 : decode cX8_isGood 93 = .ok (.ifCond .eq 19, 3) := dk_153 0 19 (dk_at dksX8_isGood_4 0 rfl rfl)
theorem dX8_isGood_96 : decode cX8_isGood 96 = .ok (.iload 7, 2) := dk_21 7 (dk_at dksX8_isGood_4 3 rfl rfl)
theorem dX8_isGood_98 : decode cX8_isGood 98 = .ok (.iconst 0, 1) := dk_3 (dk_at dksX8_isGood_4 5 rfl rfl)
theorem dX8_isGood_99 : decode cX8_isGood 99 = .ok (.sipush 9999, 3) := dk_17 39 15 (dk_at dksX8_isGood_4 6 rfl rfl)
theorem dX8_isGood_102 : decode cX8_isGood 102 = .ok (.invokestatic 122, 3) := dk_184 0 122 (dk_at dksX8_isGood_4 9 rfl rfl)
theorem dX8_isGood_105 : decode cX8_isGood 105 = .ok (.ifCond .eq 7, 3) := dk_153 0 7 (dk_at dksX8_isGood_4 12 rfl rfl)
theorem dX8_isGood_108 : decode cX8_isGood 108 = .ok (.iconst 1, 1) := dk_4 (dk_at dksX8_isGood_4 15 rfl rfl)
theorem dX8_isGood_109 : decode cX8_isGood 109 = .ok (.goto 4, 3) := dk_167 0 4 (dk_at dksX8_isGood_4 16 rfl rfl)
theorem dX8_isGood_112 : decode cX8_isGood 112 = .ok (.iconst 0, 1) := dk_3 (dk_at dksX8_isGood_4 19 rfl rfl)
theorem dX8_isGood_113 : decode cX8_isGood 113 = .ok (.ireturn, 1) := dk_172 (dk_at dksX8_isGood_4 20 rfl rfl)
abbrev cX8_bits : ByteArray := prog_21_method_21_code
def yX8_bits : MethodName := ⟨RX8, "bits", "(I)I"⟩
def dkwX8_bits_1 : List UInt8 := [27, 172]
abbrev dktX8_bits_1 : List UInt8 := dkwX8_bits_1 ++ []
def dkwX8_bits_0 : List UInt8 := [3, 60, 3, 61, 28, 16, 16, 162, 0, 17, 27, 26, 28, 122, 4, 126, 96, 60, 132, 2, 1, 167, 255, 239]
abbrev dktX8_bits_0 : List UInt8 := dkwX8_bits_0 ++ dktX8_bits_1
theorem dksX8_bits_0 : cX8_bits.data.toList.drop 0 = dktX8_bits_0 := by decide +kernel
theorem dksX8_bits_1 : cX8_bits.data.toList.drop 24 = dktX8_bits_1 := dk_seg dksX8_bits_0 24 rfl rfl
theorem dX8_bits_0 : decode cX8_bits 0 = .ok (.iconst 0, 1) := dk_3 (dk_at dksX8_bits_0 0 rfl rfl)
theorem dX8_bits_1 : decode cX8_bits 1 = .ok (.istore_n 1, 1) := dk_60 (dk_at dksX8_bits_0 1 rfl rfl)
theorem dX8_bits_2 : decode cX8_bits 2 = .ok (.iconst 0, 1) := dk_3 (dk_at dksX8_bits_0 2 rfl rfl)
theorem dX8_bits_3 : decode cX8_bits 3 = .ok (.istore_n 2, 1) := dk_61 (dk_at dksX8_bits_0 3 rfl rfl)
theorem dX8_bits_4 : decode cX8_bits 4 = .ok (.iload_n 2, 1) := dk_28 (dk_at dksX8_bits_0 4 rfl rfl)
theorem dX8_bits_5 : decode cX8_bits 5 = .ok (.bipush 16, 2) := dk_16 16 (dk_at dksX8_bits_0 5 rfl rfl)
theorem dX8_bits_7 : decode cX8_bits 7 = .ok (.if_icmp .ge 17, 3) := dk_162 0 17 (dk_at dksX8_bits_0 7 rfl rfl)
theorem dX8_bits_10 : decode cX8_bits 10 = .ok (.iload_n 1, 1) := dk_27 (dk_at dksX8_bits_0 10 rfl rfl)
theorem dX8_bits_11 : decode cX8_bits 11 = .ok (.iload_n 0, 1) := dk_26 (dk_at dksX8_bits_0 11 rfl rfl)
theorem dX8_bits_12 : decode cX8_bits 12 = .ok (.iload_n 2, 1) := dk_28 (dk_at dksX8_bits_0 12 rfl rfl)
theorem dX8_bits_13 : decode cX8_bits 13 = .ok (.ishr, 1) := dk_122 (dk_at dksX8_bits_0 13 rfl rfl)
theorem dX8_bits_14 : decode cX8_bits 14 = .ok (.iconst 1, 1) := dk_4 (dk_at dksX8_bits_0 14 rfl rfl)
theorem dX8_bits_15 : decode cX8_bits 15 = .ok (.iand, 1) := dk_126 (dk_at dksX8_bits_0 15 rfl rfl)
theorem dX8_bits_16 : decode cX8_bits 16 = .ok (.iadd, 1) := dk_96 (dk_at dksX8_bits_0 16 rfl rfl)
theorem dX8_bits_17 : decode cX8_bits 17 = .ok (.istore_n 1, 1) := dk_60 (dk_at dksX8_bits_0 17 rfl rfl)
theorem dX8_bits_18 : decode cX8_bits 18 = .ok (.iinc 2 1, 3) := dk_132 2 1 (dk_at dksX8_bits_0 18 rfl rfl)
theorem dX8_bits_21 : decode cX8_bits 21 = .ok (.goto (-17), 3) := dk_167 255 239 (dk_at dksX8_bits_0 21 rfl rfl)
theorem dX8_bits_24 : decode cX8_bits 24 = .ok (.iload_n 1, 1) := dk_27 (dk_at dksX8_bits_1 0 rfl rfl)
theorem dX8_bits_25 : decode cX8_bits 25 = .ok (.ireturn, 1) := dk_172 (dk_at dksX8_bits_1 1 rfl rfl)
abbrev cX8_latest : ByteArray := prog_21_method_33_code
def yX8_latest : MethodName := ⟨RX8, "latest", "()I"⟩
def dkwX8_latest_0 : List UInt8 := [42, 180, 0, 224, 154, 0, 7, 3, 167, 0, 14, 42, 180, 0, 74, 42, 180, 0, 224, 4, 100, 46, 172]
abbrev dktX8_latest_0 : List UInt8 := dkwX8_latest_0 ++ []
theorem dksX8_latest_0 : cX8_latest.data.toList.drop 0 = dktX8_latest_0 := by decide +kernel
theorem dX8_latest_0 : decode cX8_latest 0 = .ok (.aload_n 0, 1) := dk_42 (dk_at dksX8_latest_0 0 rfl rfl)
theorem dX8_latest_1 : decode cX8_latest 1 = .ok (.getfield 224, 3) := dk_180 0 224 (dk_at dksX8_latest_0 1 rfl rfl)
theorem dX8_latest_4 : decode cX8_latest 4 = .ok (.ifCond .ne 7, 3) := dk_154 0 7 (dk_at dksX8_latest_0 4 rfl rfl)
theorem dX8_latest_7 : decode cX8_latest 7 = .ok (.iconst 0, 1) := dk_3 (dk_at dksX8_latest_0 7 rfl rfl)
theorem dX8_latest_8 : decode cX8_latest 8 = .ok (.goto 14, 3) := dk_167 0 14 (dk_at dksX8_latest_0 8 rfl rfl)
theorem dX8_latest_11 : decode cX8_latest 11 = .ok (.aload_n 0, 1) := dk_42 (dk_at dksX8_latest_0 11 rfl rfl)
theorem dX8_latest_12 : decode cX8_latest 12 = .ok (.getfield 74, 3) := dk_180 0 74 (dk_at dksX8_latest_0 12 rfl rfl)
theorem dX8_latest_15 : decode cX8_latest 15 = .ok (.aload_n 0, 1) := dk_42 (dk_at dksX8_latest_0 15 rfl rfl)
theorem dX8_latest_16 : decode cX8_latest 16 = .ok (.getfield 224, 3) := dk_180 0 224 (dk_at dksX8_latest_0 16 rfl rfl)
theorem dX8_latest_19 : decode cX8_latest 19 = .ok (.iconst 1, 1) := dk_4 (dk_at dksX8_latest_0 19 rfl rfl)
theorem dX8_latest_20 : decode cX8_latest 20 = .ok (.isub, 1) := dk_100 (dk_at dksX8_latest_0 20 rfl rfl)
theorem dX8_latest_21 : decode cX8_latest 21 = .ok (.iaload, 1) := dk_46 (dk_at dksX8_latest_0 21 rfl rfl)
theorem dX8_latest_22 : decode cX8_latest 22 = .ok (.ireturn, 1) := dk_172 (dk_at dksX8_latest_0 22 rfl rfl)
abbrev cX8_isFull : ByteArray := prog_21_method_34_code
def yX8_isFull : MethodName := ⟨RX8, "isFull", "()Z"⟩
def dkwX8_isFull_1 : List UInt8 := [3, 172]
abbrev dktX8_isFull_1 : List UInt8 := dkwX8_isFull_1 ++ []
def dkwX8_isFull_0 : List UInt8 := [42, 182, 1, 29, 17, 0, 180, 163, 0, 13, 42, 180, 0, 224, 17, 0, 190, 164, 0, 7, 4, 167, 0, 4]
abbrev dktX8_isFull_0 : List UInt8 := dkwX8_isFull_0 ++ dktX8_isFull_1
theorem dksX8_isFull_0 : cX8_isFull.data.toList.drop 0 = dktX8_isFull_0 := by decide +kernel
theorem dksX8_isFull_1 : cX8_isFull.data.toList.drop 24 = dktX8_isFull_1 := dk_seg dksX8_isFull_0 24 rfl rfl
theorem dX8_isFull_0 : decode cX8_isFull 0 = .ok (.aload_n 0, 1) := dk_42 (dk_at dksX8_isFull_0 0 rfl rfl)
theorem dX8_isFull_1 : decode cX8_isFull 1 = .ok (.invokevirtual 285, 3) := dk_182 1 29 (dk_at dksX8_isFull_0 1 rfl rfl)
theorem dX8_isFull_4 : decode cX8_isFull 4 = .ok (.sipush 180, 3) := dk_17 0 180 (dk_at dksX8_isFull_0 4 rfl rfl)
theorem dX8_isFull_7 : decode cX8_isFull 7 = .ok (.if_icmp .gt 13, 3) := dk_163 0 13 (dk_at dksX8_isFull_0 7 rfl rfl)
theorem dX8_isFull_10 : decode cX8_isFull 10 = .ok (.aload_n 0, 1) := dk_42 (dk_at dksX8_isFull_0 10 rfl rfl)
theorem dX8_isFull_11 : decode cX8_isFull 11 = .ok (.getfield 224, 3) := dk_180 0 224 (dk_at dksX8_isFull_0 11 rfl rfl)
theorem dX8_isFull_14 : decode cX8_isFull 14 = .ok (.sipush 190, 3) := dk_17 0 190 (dk_at dksX8_isFull_0 14 rfl rfl)
theorem dX8_isFull_17 : decode cX8_isFull 17 = .ok (.if_icmp .le 7, 3) := dk_164 0 7 (dk_at dksX8_isFull_0 17 rfl rfl)
theorem dX8_isFull_20 : decode cX8_isFull 20 = .ok (.iconst 1, 1) := dk_4 (dk_at dksX8_isFull_0 20 rfl rfl)
theorem dX8_isFull_21 : decode cX8_isFull 21 = .ok (.goto 4, 3) := dk_167 0 4 (dk_at dksX8_isFull_0 21 rfl rfl)
theorem dX8_isFull_24 : decode cX8_isFull 24 = .ok (.iconst 0, 1) := dk_3 (dk_at dksX8_isFull_1 0 rfl rfl)
theorem dX8_isFull_25 : decode cX8_isFull 25 = .ok (.ireturn, 1) := dk_172 (dk_at dksX8_isFull_1 1 rfl rfl)
abbrev cX8_copies : ByteArray := prog_21_method_22_code
def yX8_copies : MethodName := ⟨RX8, "copies", "()I"⟩
def dkwX8_copies_1 : List UInt8 := [167, 255, 238, 27, 172]
abbrev dktX8_copies_1 : List UInt8 := dkwX8_copies_1 ++ []
def dkwX8_copies_0 : List UInt8 := [3, 60, 3, 61, 28, 16, 12, 162, 0, 18, 27, 42, 180, 0, 83, 28, 46, 96, 60, 132, 2, 1]
abbrev dktX8_copies_0 : List UInt8 := dkwX8_copies_0 ++ dktX8_copies_1
theorem dksX8_copies_0 : cX8_copies.data.toList.drop 0 = dktX8_copies_0 := by decide +kernel
theorem dksX8_copies_1 : cX8_copies.data.toList.drop 22 = dktX8_copies_1 := dk_seg dksX8_copies_0 22 rfl rfl
theorem dX8_copies_0 : decode cX8_copies 0 = .ok (.iconst 0, 1) := dk_3 (dk_at dksX8_copies_0 0 rfl rfl)
theorem dX8_copies_1 : decode cX8_copies 1 = .ok (.istore_n 1, 1) := dk_60 (dk_at dksX8_copies_0 1 rfl rfl)
theorem dX8_copies_2 : decode cX8_copies 2 = .ok (.iconst 0, 1) := dk_3 (dk_at dksX8_copies_0 2 rfl rfl)
theorem dX8_copies_3 : decode cX8_copies 3 = .ok (.istore_n 2, 1) := dk_61 (dk_at dksX8_copies_0 3 rfl rfl)
theorem dX8_copies_4 : decode cX8_copies 4 = .ok (.iload_n 2, 1) := dk_28 (dk_at dksX8_copies_0 4 rfl rfl)
theorem dX8_copies_5 : decode cX8_copies 5 = .ok (.bipush 12, 2) := dk_16 12 (dk_at dksX8_copies_0 5 rfl rfl)
theorem dX8_copies_7 : decode cX8_copies 7 = .ok (.if_icmp .ge 18, 3) := dk_162 0 18 (dk_at dksX8_copies_0 7 rfl rfl)
theorem dX8_copies_10 : decode cX8_copies 10 = .ok (.iload_n 1, 1) := dk_27 (dk_at dksX8_copies_0 10 rfl rfl)
theorem dX8_copies_11 : decode cX8_copies 11 = .ok (.aload_n 0, 1) := dk_42 (dk_at dksX8_copies_0 11 rfl rfl)
theorem dX8_copies_12 : decode cX8_copies 12 = .ok (.getfield 83, 3) := dk_180 0 83 (dk_at dksX8_copies_0 12 rfl rfl)
theorem dX8_copies_15 : decode cX8_copies 15 = .ok (.iload_n 2, 1) := dk_28 (dk_at dksX8_copies_0 15 rfl rfl)
theorem dX8_copies_16 : decode cX8_copies 16 = .ok (.iaload, 1) := dk_46 (dk_at dksX8_copies_0 16 rfl rfl)
theorem dX8_copies_17 : decode cX8_copies 17 = .ok (.iadd, 1) := dk_96 (dk_at dksX8_copies_0 17 rfl rfl)
theorem dX8_copies_18 : decode cX8_copies 18 = .ok (.istore_n 1, 1) := dk_60 (dk_at dksX8_copies_0 18 rfl rfl)
theorem dX8_copies_19 : decode cX8_copies 19 = .ok (.iinc 2 1, 3) := dk_132 2 1 (dk_at dksX8_copies_0 19 rfl rfl)
theorem dX8_copies_22 : decode cX8_copies 22 = .ok (.goto (-18), 3) := dk_167 255 238 (dk_at dksX8_copies_1 0 rfl rfl)
theorem dX8_copies_25 : decode cX8_copies 25 = .ok (.iload_n 1, 1) := dk_27 (dk_at dksX8_copies_1 3 rfl rfl)
theorem dX8_copies_26 : decode cX8_copies 26 = .ok (.ireturn, 1) := dk_172 (dk_at dksX8_copies_1 4 rfl rfl)
abbrev cX8_posted : ByteArray := prog_21_method_35_code
def yX8_posted : MethodName := ⟨RX8, "posted", "(IIIIIIII)V"⟩
def dkwX8_posted_4 : List UInt8 := [46, 182, 1, 32, 132, 10, 1, 167, 255, 219, 177]
abbrev dktX8_posted_4 : List UInt8 := dkwX8_posted_4 ++ []
def dkwX8_posted_3 : List UInt8 := [162, 0, 34, 42, 42, 180, 0, 95, 21, 10, 46, 42, 180, 0, 98, 21, 10, 46, 42, 180, 0, 101, 21, 10]
abbrev dktX8_posted_3 : List UInt8 := dkwX8_posted_3 ++ dktX8_posted_4
def dkwX8_posted_2 : List UInt8 := [21, 9, 21, 10, 3, 182, 0, 243, 132, 10, 1, 167, 255, 228, 3, 54, 10, 21, 10, 42, 180, 0, 218]
abbrev dktX8_posted_2 : List UInt8 := dkwX8_posted_2 ++ dktX8_posted_3
def dkwX8_posted_1 : List UInt8 := [3, 181, 0, 218, 3, 54, 10, 21, 10, 6, 162, 0, 28, 28, 21, 10, 122, 4, 126, 4, 160, 0, 12, 42]
abbrev dktX8_posted_1 : List UInt8 := dkwX8_posted_1 ++ dktX8_posted_2
def dkwX8_posted_0 : List UInt8 := [42, 180, 0, 224, 54, 9, 42, 27, 28, 29, 21, 4, 21, 5, 21, 6, 21, 7, 21, 8, 182, 0, 230, 42]
abbrev dktX8_posted_0 : List UInt8 := dkwX8_posted_0 ++ dktX8_posted_1
theorem dksX8_posted_0 : cX8_posted.data.toList.drop 0 = dktX8_posted_0 := by decide +kernel
theorem dksX8_posted_1 : cX8_posted.data.toList.drop 24 = dktX8_posted_1 := dk_seg dksX8_posted_0 24 rfl rfl
theorem dksX8_posted_2 : cX8_posted.data.toList.drop 48 = dktX8_posted_2 := dk_seg dksX8_posted_1 24 rfl rfl
theorem dksX8_posted_3 : cX8_posted.data.toList.drop 71 = dktX8_posted_3 := dk_seg dksX8_posted_2 23 rfl rfl
theorem dksX8_posted_4 : cX8_posted.data.toList.drop 95 = dktX8_posted_4 := dk_seg dksX8_posted_3 24 rfl rfl
theorem dX8_posted_0 : decode cX8_posted 0 = .ok (.aload_n 0, 1) := dk_42 (dk_at dksX8_posted_0 0 rfl rfl)
theorem dX8_posted_1 : decode cX8_posted 1 = .ok (.getfield 224, 3) := dk_180 0 224 (dk_at dksX8_posted_0 1 rfl rfl)
theorem dX8_posted_4 : decode cX8_posted 4 = .ok (.istore 9, 2) := dk_54 9 (dk_at dksX8_posted_0 4 rfl rfl)
theorem dX8_posted_6 : decode cX8_posted 6 = .ok (.aload_n 0, 1) := dk_42 (dk_at dksX8_posted_0 6 rfl rfl)
theorem dX8_posted_7 : decode cX8_posted 7 = .ok (.iload_n 1, 1) := dk_27 (dk_at dksX8_posted_0 7 rfl rfl)
theorem dX8_posted_8 : decode cX8_posted 8 = .ok (.iload_n 2, 1) := dk_28 (dk_at dksX8_posted_0 8 rfl rfl)
theorem dX8_posted_9 : decode cX8_posted 9 = .ok (.iload_n 3, 1) := dk_29 (dk_at dksX8_posted_0 9 rfl rfl)
theorem dX8_posted_10 : decode cX8_posted 10 = .ok (.iload 4, 2) := dk_21 4 (dk_at dksX8_posted_0 10 rfl rfl)
theorem dX8_posted_12 : decode cX8_posted 12 = .ok (.iload 5, 2) := dk_21 5 (dk_at dksX8_posted_0 12 rfl rfl)
theorem dX8_posted_14 : decode cX8_posted 14 = .ok (.iload 6, 2) := dk_21 6 (dk_at dksX8_posted_0 14 rfl rfl)
theorem dX8_posted_16 : decode cX8_posted 16 = .ok (.iload 7, 2) := dk_21 7 (dk_at dksX8_posted_0 16 rfl rfl)
theorem dX8_posted_18 : decode cX8_posted 18 = .ok (.iload 8, 2) := dk_21 8 (dk_at dksX8_posted_0 18 rfl rfl)
theorem dX8_posted_20 : decode cX8_posted 20 = .ok (.invokevirtual 230, 3) := dk_182 0 230 (dk_at dksX8_posted_0 20 rfl rfl)
theorem dX8_posted_23 : decode cX8_posted 23 = .ok (.aload_n 0, 1) := dk_42 (dk_at dksX8_posted_0 23 rfl rfl)
theorem dX8_posted_24 : decode cX8_posted 24 = .ok (.iconst 0, 1) := dk_3 (dk_at dksX8_posted_1 0 rfl rfl)
theorem dX8_posted_25 : decode cX8_posted 25 = .ok (.putfield 218, 3) := dk_181 0 218 (dk_at dksX8_posted_1 1 rfl rfl)
theorem dX8_posted_28 : decode cX8_posted 28 = .ok (.iconst 0, 1) := dk_3 (dk_at dksX8_posted_1 4 rfl rfl)
theorem dX8_posted_29 : decode cX8_posted 29 = .ok (.istore 10, 2) := dk_54 10 (dk_at dksX8_posted_1 5 rfl rfl)
theorem dX8_posted_31 : decode cX8_posted 31 = .ok (.iload 10, 2) := dk_21 10 (dk_at dksX8_posted_1 7 rfl rfl)
theorem dX8_posted_33 : decode cX8_posted 33 = .ok (.iconst 3, 1) := dk_6 (dk_at dksX8_posted_1 9 rfl rfl)
theorem dX8_posted_34 : decode cX8_posted 34 = .ok (.if_icmp .ge 28, 3) := dk_162 0 28 (dk_at dksX8_posted_1 10 rfl rfl)
theorem dX8_posted_37 : decode cX8_posted 37 = .ok (.iload_n 2, 1) := dk_28 (dk_at dksX8_posted_1 13 rfl rfl)
theorem dX8_posted_38 : decode cX8_posted 38 = .ok (.iload 10, 2) := dk_21 10 (dk_at dksX8_posted_1 14 rfl rfl)
theorem dX8_posted_40 : decode cX8_posted 40 = .ok (.ishr, 1) := dk_122 (dk_at dksX8_posted_1 16 rfl rfl)
theorem dX8_posted_41 : decode cX8_posted 41 = .ok (.iconst 1, 1) := dk_4 (dk_at dksX8_posted_1 17 rfl rfl)
theorem dX8_posted_42 : decode cX8_posted 42 = .ok (.iand, 1) := dk_126 (dk_at dksX8_posted_1 18 rfl rfl)
theorem dX8_posted_43 : decode cX8_posted 43 = .ok (.iconst 1, 1) := dk_4 (dk_at dksX8_posted_1 19 rfl rfl)
theorem dX8_posted_44 : decode cX8_posted 44 = .ok (.if_icmp .ne 12, 3) := dk_160 0 12 (dk_at dksX8_posted_1 20 rfl rfl)
theorem dX8_posted_47 : decode cX8_posted 47 = .ok (.aload_n 0, 1) := dk_42 (dk_at dksX8_posted_1 23 rfl rfl)
theorem dX8_posted_48 : decode cX8_posted 48 = .ok (.iload 9, 2) := dk_21 9 (dk_at dksX8_posted_2 0 rfl rfl)
theorem dX8_posted_50 : decode cX8_posted 50 = .ok (.iload 10, 2) := dk_21 10 (dk_at dksX8_posted_2 2 rfl rfl)
theorem dX8_posted_52 : decode cX8_posted 52 = .ok (.iconst 0, 1) := dk_3 (dk_at dksX8_posted_2 4 rfl rfl)
theorem dX8_posted_53 : decode cX8_posted 53 = .ok (.invokevirtual 243, 3) := dk_182 0 243 (dk_at dksX8_posted_2 5 rfl rfl)
theorem dX8_posted_56 : decode cX8_posted 56 = .ok (.iinc 10 1, 3) := dk_132 10 1 (dk_at dksX8_posted_2 8 rfl rfl)
theorem dX8_posted_59 : decode cX8_posted 59 = .ok (.goto (-28), 3) := dk_167 255 228 (dk_at dksX8_posted_2 11 rfl rfl)
theorem dX8_posted_62 : decode cX8_posted 62 = .ok (.iconst 0, 1) := dk_3 (dk_at dksX8_posted_2 14 rfl rfl)
theorem dX8_posted_63 : decode cX8_posted 63 = .ok (.istore 10, 2) := dk_54 10 (dk_at dksX8_posted_2 15 rfl rfl)
theorem dX8_posted_65 : decode cX8_posted 65 = .ok (.iload 10, 2) := dk_21 10 (dk_at dksX8_posted_2 17 rfl rfl)
theorem dX8_posted_67 : decode cX8_posted 67 = .ok (.aload_n 0, 1) := dk_42 (dk_at dksX8_posted_2 19 rfl rfl)
theorem dX8_posted_68 : decode cX8_posted 68 = .ok (.getfield 218, 3) := dk_180 0 218 (dk_at dksX8_posted_2 20 rfl rfl)
theorem dX8_posted_71 : decode cX8_posted 71 = .ok (.if_icmp .ge 34, 3) := dk_162 0 34 (dk_at dksX8_posted_3 0 rfl rfl)
theorem dX8_posted_74 : decode cX8_posted 74 = .ok (.aload_n 0, 1) := dk_42 (dk_at dksX8_posted_3 3 rfl rfl)
theorem dX8_posted_75 : decode cX8_posted 75 = .ok (.aload_n 0, 1) := dk_42 (dk_at dksX8_posted_3 4 rfl rfl)
theorem dX8_posted_76 : decode cX8_posted 76 = .ok (.getfield 95, 3) := dk_180 0 95 (dk_at dksX8_posted_3 5 rfl rfl)
theorem dX8_posted_79 : decode cX8_posted 79 = .ok (.iload 10, 2) := dk_21 10 (dk_at dksX8_posted_3 8 rfl rfl)
theorem dX8_posted_81 : decode cX8_posted 81 = .ok (.iaload, 1) := dk_46 (dk_at dksX8_posted_3 10 rfl rfl)
theorem dX8_posted_82 : decode cX8_posted 82 = .ok (.aload_n 0, 1) := dk_42 (dk_at dksX8_posted_3 11 rfl rfl)
theorem dX8_posted_83 : decode cX8_posted 83 = .ok (.getfield 98, 3) := dk_180 0 98 (dk_at dksX8_posted_3 12 rfl rfl)
theorem dX8_posted_86 : decode cX8_posted 86 = .ok (.iload 10, 2) := dk_21 10 (dk_at dksX8_posted_3 15 rfl rfl)
theorem dX8_posted_88 : decode cX8_posted 88 = .ok (.iaload, 1) := dk_46 (dk_at dksX8_posted_3 17 rfl rfl)
theorem dX8_posted_89 : decode cX8_posted 89 = .ok (.aload_n 0, 1) := dk_42 (dk_at dksX8_posted_3 18 rfl rfl)
theorem dX8_posted_90 : decode cX8_posted 90 = .ok (.getfield 101, 3) := dk_180 0 101 (dk_at dksX8_posted_3 19 rfl rfl)
theorem dX8_posted_93 : decode cX8_posted 93 = .ok (.iload 10, 2) := dk_21 10 (dk_at dksX8_posted_3 22 rfl rfl)
theorem dX8_posted_95 : decode cX8_posted 95 = .ok (.iaload, 1) := dk_46 (dk_at dksX8_posted_4 0 rfl rfl)
theorem dX8_posted_96 : decode cX8_posted 96 = .ok (.invokevirtual 288, 3) := dk_182 1 32 (dk_at dksX8_posted_4 1 rfl rfl)
theorem dX8_posted_99 : decode cX8_posted 99 = .ok (.iinc 10 1, 3) := dk_132 10 1 (dk_at dksX8_posted_4 4 rfl rfl)
theorem dX8_posted_102 : decode cX8_posted 102 = .ok (.goto (-37), 3) := dk_167 255 219 (dk_at dksX8_posted_4 7 rfl rfl)
theorem dX8_posted_105 : decode cX8_posted 105 = .ok (.return_, 1) := dk_177 (dk_at dksX8_posted_4 10 rfl rfl)
abbrev cX8_add : ByteArray := prog_21_method_27_code
def yX8_add : MethodName := ⟨RX8, "add", "(IIIIIIII)V"⟩
def dkwX8_add_4 : List UInt8 := [181, 0, 224, 177]
abbrev dktX8_add_4 : List UInt8 := dkwX8_add_4 ++ []
def dkwX8_add_3 : List UInt8 := [180, 0, 224, 21, 7, 79, 42, 180, 0, 74, 42, 180, 0, 224, 21, 8, 79, 42, 89, 180, 0, 224, 4, 96]
abbrev dktX8_add_3 : List UInt8 := dkwX8_add_3 ++ dktX8_add_4
def dkwX8_add_2 : List UInt8 := [180, 0, 224, 21, 5, 79, 42, 180, 0, 68, 42, 180, 0, 224, 21, 6, 79, 42, 180, 0, 71, 42]
abbrev dktX8_add_2 : List UInt8 := dkwX8_add_2 ++ dktX8_add_3
def dkwX8_add_1 : List UInt8 := [42, 180, 0, 224, 29, 79, 42, 180, 0, 62, 42, 180, 0, 224, 21, 4, 79, 42, 180, 0, 65, 42]
abbrev dktX8_add_1 : List UInt8 := dkwX8_add_1 ++ dktX8_add_2
def dkwX8_add_0 : List UInt8 := [42, 180, 0, 53, 42, 180, 0, 224, 27, 79, 42, 180, 0, 56, 42, 180, 0, 224, 28, 79, 42, 180, 0, 59]
abbrev dktX8_add_0 : List UInt8 := dkwX8_add_0 ++ dktX8_add_1
theorem dksX8_add_0 : cX8_add.data.toList.drop 0 = dktX8_add_0 := by decide +kernel
theorem dksX8_add_1 : cX8_add.data.toList.drop 24 = dktX8_add_1 := dk_seg dksX8_add_0 24 rfl rfl
theorem dksX8_add_2 : cX8_add.data.toList.drop 46 = dktX8_add_2 := dk_seg dksX8_add_1 22 rfl rfl
theorem dksX8_add_3 : cX8_add.data.toList.drop 68 = dktX8_add_3 := dk_seg dksX8_add_2 22 rfl rfl
theorem dksX8_add_4 : cX8_add.data.toList.drop 92 = dktX8_add_4 := dk_seg dksX8_add_3 24 rfl rfl
theorem dX8_add_0 : decode cX8_add 0 = .ok (.aload_n 0, 1) := dk_42 (dk_at dksX8_add_0 0 rfl rfl)
theorem dX8_add_1 : decode cX8_add 1 = .ok (.getfield 53, 3) := dk_180 0 53 (dk_at dksX8_add_0 1 rfl rfl)
theorem dX8_add_4 : decode cX8_add 4 = .ok (.aload_n 0, 1) := dk_42 (dk_at dksX8_add_0 4 rfl rfl)
theorem dX8_add_5 : decode cX8_add 5 = .ok (.getfield 224, 3) := dk_180 0 224 (dk_at dksX8_add_0 5 rfl rfl)
theorem dX8_add_8 : decode cX8_add 8 = .ok (.iload_n 1, 1) := dk_27 (dk_at dksX8_add_0 8 rfl rfl)
theorem dX8_add_9 : decode cX8_add 9 = .ok (.iastore, 1) := dk_79 (dk_at dksX8_add_0 9 rfl rfl)
theorem dX8_add_10 : decode cX8_add 10 = .ok (.aload_n 0, 1) := dk_42 (dk_at dksX8_add_0 10 rfl rfl)
theorem dX8_add_11 : decode cX8_add 11 = .ok (.getfield 56, 3) := dk_180 0 56 (dk_at dksX8_add_0 11 rfl rfl)
theorem dX8_add_14 : decode cX8_add 14 = .ok (.aload_n 0, 1) := dk_42 (dk_at dksX8_add_0 14 rfl rfl)
theorem dX8_add_15 : decode cX8_add 15 = .ok (.getfield 224, 3) := dk_180 0 224 (dk_at dksX8_add_0 15 rfl rfl)
theorem dX8_add_18 : decode cX8_add 18 = .ok (.iload_n 2, 1) := dk_28 (dk_at dksX8_add_0 18 rfl rfl)
theorem dX8_add_19 : decode cX8_add 19 = .ok (.iastore, 1) := dk_79 (dk_at dksX8_add_0 19 rfl rfl)
theorem dX8_add_20 : decode cX8_add 20 = .ok (.aload_n 0, 1) := dk_42 (dk_at dksX8_add_0 20 rfl rfl)
theorem dX8_add_21 : decode cX8_add 21 = .ok (.getfield 59, 3) := dk_180 0 59 (dk_at dksX8_add_0 21 rfl rfl)
theorem dX8_add_24 : decode cX8_add 24 = .ok (.aload_n 0, 1) := dk_42 (dk_at dksX8_add_1 0 rfl rfl)
theorem dX8_add_25 : decode cX8_add 25 = .ok (.getfield 224, 3) := dk_180 0 224 (dk_at dksX8_add_1 1 rfl rfl)
theorem dX8_add_28 : decode cX8_add 28 = .ok (.iload_n 3, 1) := dk_29 (dk_at dksX8_add_1 4 rfl rfl)
theorem dX8_add_29 : decode cX8_add 29 = .ok (.iastore, 1) := dk_79 (dk_at dksX8_add_1 5 rfl rfl)
theorem dX8_add_30 : decode cX8_add 30 = .ok (.aload_n 0, 1) := dk_42 (dk_at dksX8_add_1 6 rfl rfl)
theorem dX8_add_31 : decode cX8_add 31 = .ok (.getfield 62, 3) := dk_180 0 62 (dk_at dksX8_add_1 7 rfl rfl)
theorem dX8_add_34 : decode cX8_add 34 = .ok (.aload_n 0, 1) := dk_42 (dk_at dksX8_add_1 10 rfl rfl)
theorem dX8_add_35 : decode cX8_add 35 = .ok (.getfield 224, 3) := dk_180 0 224 (dk_at dksX8_add_1 11 rfl rfl)
theorem dX8_add_38 : decode cX8_add 38 = .ok (.iload 4, 2) := dk_21 4 (dk_at dksX8_add_1 14 rfl rfl)
theorem dX8_add_40 : decode cX8_add 40 = .ok (.iastore, 1) := dk_79 (dk_at dksX8_add_1 16 rfl rfl)
theorem dX8_add_41 : decode cX8_add 41 = .ok (.aload_n 0, 1) := dk_42 (dk_at dksX8_add_1 17 rfl rfl)
theorem dX8_add_42 : decode cX8_add 42 = .ok (.getfield 65, 3) := dk_180 0 65 (dk_at dksX8_add_1 18 rfl rfl)
theorem dX8_add_45 : decode cX8_add 45 = .ok (.aload_n 0, 1) := dk_42 (dk_at dksX8_add_1 21 rfl rfl)
theorem dX8_add_46 : decode cX8_add 46 = .ok (.getfield 224, 3) := dk_180 0 224 (dk_at dksX8_add_2 0 rfl rfl)
theorem dX8_add_49 : decode cX8_add 49 = .ok (.iload 5, 2) := dk_21 5 (dk_at dksX8_add_2 3 rfl rfl)
theorem dX8_add_51 : decode cX8_add 51 = .ok (.iastore, 1) := dk_79 (dk_at dksX8_add_2 5 rfl rfl)
theorem dX8_add_52 : decode cX8_add 52 = .ok (.aload_n 0, 1) := dk_42 (dk_at dksX8_add_2 6 rfl rfl)
theorem dX8_add_53 : decode cX8_add 53 = .ok (.getfield 68, 3) := dk_180 0 68 (dk_at dksX8_add_2 7 rfl rfl)
theorem dX8_add_56 : decode cX8_add 56 = .ok (.aload_n 0, 1) := dk_42 (dk_at dksX8_add_2 10 rfl rfl)
theorem dX8_add_57 : decode cX8_add 57 = .ok (.getfield 224, 3) := dk_180 0 224 (dk_at dksX8_add_2 11 rfl rfl)
theorem dX8_add_60 : decode cX8_add 60 = .ok (.iload 6, 2) := dk_21 6 (dk_at dksX8_add_2 14 rfl rfl)
theorem dX8_add_62 : decode cX8_add 62 = .ok (.iastore, 1) := dk_79 (dk_at dksX8_add_2 16 rfl rfl)
theorem dX8_add_63 : decode cX8_add 63 = .ok (.aload_n 0, 1) := dk_42 (dk_at dksX8_add_2 17 rfl rfl)
theorem dX8_add_64 : decode cX8_add 64 = .ok (.getfield 71, 3) := dk_180 0 71 (dk_at dksX8_add_2 18 rfl rfl)
theorem dX8_add_67 : decode cX8_add 67 = .ok (.aload_n 0, 1) := dk_42 (dk_at dksX8_add_2 21 rfl rfl)
theorem dX8_add_68 : decode cX8_add 68 = .ok (.getfield 224, 3) := dk_180 0 224 (dk_at dksX8_add_3 0 rfl rfl)
theorem dX8_add_71 : decode cX8_add 71 = .ok (.iload 7, 2) := dk_21 7 (dk_at dksX8_add_3 3 rfl rfl)
theorem dX8_add_73 : decode cX8_add 73 = .ok (.iastore, 1) := dk_79 (dk_at dksX8_add_3 5 rfl rfl)
theorem dX8_add_74 : decode cX8_add 74 = .ok (.aload_n 0, 1) := dk_42 (dk_at dksX8_add_3 6 rfl rfl)
theorem dX8_add_75 : decode cX8_add 75 = .ok (.getfield 74, 3) := dk_180 0 74 (dk_at dksX8_add_3 7 rfl rfl)
theorem dX8_add_78 : decode cX8_add 78 = .ok (.aload_n 0, 1) := dk_42 (dk_at dksX8_add_3 10 rfl rfl)
theorem dX8_add_79 : decode cX8_add 79 = .ok (.getfield 224, 3) := dk_180 0 224 (dk_at dksX8_add_3 11 rfl rfl)
theorem dX8_add_82 : decode cX8_add 82 = .ok (.iload 8, 2) := dk_21 8 (dk_at dksX8_add_3 14 rfl rfl)
theorem dX8_add_84 : decode cX8_add 84 = .ok (.iastore, 1) := dk_79 (dk_at dksX8_add_3 16 rfl rfl)
theorem dX8_add_85 : decode cX8_add 85 = .ok (.aload_n 0, 1) := dk_42 (dk_at dksX8_add_3 17 rfl rfl)
theorem dX8_add_86 : decode cX8_add 86 = .ok (.dup, 1) := dk_89 (dk_at dksX8_add_3 18 rfl rfl)
theorem dX8_add_87 : decode cX8_add 87 = .ok (.getfield 224, 3) := dk_180 0 224 (dk_at dksX8_add_3 19 rfl rfl)
theorem dX8_add_90 : decode cX8_add 90 = .ok (.iconst 1, 1) := dk_4 (dk_at dksX8_add_3 22 rfl rfl)
theorem dX8_add_91 : decode cX8_add 91 = .ok (.iadd, 1) := dk_96 (dk_at dksX8_add_3 23 rfl rfl)
theorem dX8_add_92 : decode cX8_add 92 = .ok (.putfield 224, 3) := dk_181 0 224 (dk_at dksX8_add_4 0 rfl rfl)
theorem dX8_add_95 : decode cX8_add 95 = .ok (.return_, 1) := dk_177 (dk_at dksX8_add_4 3 rfl rfl)
abbrev cX8_toCome : ByteArray := prog_21_method_24_code
def yX8_toCome : MethodName := ⟨RX8, "toCome", "(III)V"⟩
def dkwX8_toCome_1 : List UInt8 := [42, 180, 0, 218, 29, 79, 42, 89, 180, 0, 218, 4, 96, 181, 0, 218, 177]
abbrev dktX8_toCome_1 : List UInt8 := dkwX8_toCome_1 ++ []
def dkwX8_toCome_0 : List UInt8 := [42, 180, 0, 95, 42, 180, 0, 218, 27, 79, 42, 180, 0, 98, 42, 180, 0, 218, 28, 79, 42, 180, 0, 101]
abbrev dktX8_toCome_0 : List UInt8 := dkwX8_toCome_0 ++ dktX8_toCome_1
theorem dksX8_toCome_0 : cX8_toCome.data.toList.drop 0 = dktX8_toCome_0 := by decide +kernel
theorem dksX8_toCome_1 : cX8_toCome.data.toList.drop 24 = dktX8_toCome_1 := dk_seg dksX8_toCome_0 24 rfl rfl
theorem dX8_toCome_0 : decode cX8_toCome 0 = .ok (.aload_n 0, 1) := dk_42 (dk_at dksX8_toCome_0 0 rfl rfl)
theorem dX8_toCome_1 : decode cX8_toCome 1 = .ok (.getfield 95, 3) := dk_180 0 95 (dk_at dksX8_toCome_0 1 rfl rfl)
theorem dX8_toCome_4 : decode cX8_toCome 4 = .ok (.aload_n 0, 1) := dk_42 (dk_at dksX8_toCome_0 4 rfl rfl)
theorem dX8_toCome_5 : decode cX8_toCome 5 = .ok (.getfield 218, 3) := dk_180 0 218 (dk_at dksX8_toCome_0 5 rfl rfl)
theorem dX8_toCome_8 : decode cX8_toCome 8 = .ok (.iload_n 1, 1) := dk_27 (dk_at dksX8_toCome_0 8 rfl rfl)
theorem dX8_toCome_9 : decode cX8_toCome 9 = .ok (.iastore, 1) := dk_79 (dk_at dksX8_toCome_0 9 rfl rfl)
theorem dX8_toCome_10 : decode cX8_toCome 10 = .ok (.aload_n 0, 1) := dk_42 (dk_at dksX8_toCome_0 10 rfl rfl)
theorem dX8_toCome_11 : decode cX8_toCome 11 = .ok (.getfield 98, 3) := dk_180 0 98 (dk_at dksX8_toCome_0 11 rfl rfl)
theorem dX8_toCome_14 : decode cX8_toCome 14 = .ok (.aload_n 0, 1) := dk_42 (dk_at dksX8_toCome_0 14 rfl rfl)
theorem dX8_toCome_15 : decode cX8_toCome 15 = .ok (.getfield 218, 3) := dk_180 0 218 (dk_at dksX8_toCome_0 15 rfl rfl)
theorem dX8_toCome_18 : decode cX8_toCome 18 = .ok (.iload_n 2, 1) := dk_28 (dk_at dksX8_toCome_0 18 rfl rfl)
theorem dX8_toCome_19 : decode cX8_toCome 19 = .ok (.iastore, 1) := dk_79 (dk_at dksX8_toCome_0 19 rfl rfl)
theorem dX8_toCome_20 : decode cX8_toCome 20 = .ok (.aload_n 0, 1) := dk_42 (dk_at dksX8_toCome_0 20 rfl rfl)
theorem dX8_toCome_21 : decode cX8_toCome 21 = .ok (.getfield 101, 3) := dk_180 0 101 (dk_at dksX8_toCome_0 21 rfl rfl)
theorem dX8_toCome_24 : decode cX8_toCome 24 = .ok (.aload_n 0, 1) := dk_42 (dk_at dksX8_toCome_1 0 rfl rfl)
theorem dX8_toCome_25 : decode cX8_toCome 25 = .ok (.getfield 218, 3) := dk_180 0 218 (dk_at dksX8_toCome_1 1 rfl rfl)
theorem dX8_toCome_28 : decode cX8_toCome 28 = .ok (.iload_n 3, 1) := dk_29 (dk_at dksX8_toCome_1 4 rfl rfl)
theorem dX8_toCome_29 : decode cX8_toCome 29 = .ok (.iastore, 1) := dk_79 (dk_at dksX8_toCome_1 5 rfl rfl)
theorem dX8_toCome_30 : decode cX8_toCome 30 = .ok (.aload_n 0, 1) := dk_42 (dk_at dksX8_toCome_1 6 rfl rfl)
theorem dX8_toCome_31 : decode cX8_toCome 31 = .ok (.dup, 1) := dk_89 (dk_at dksX8_toCome_1 7 rfl rfl)
theorem dX8_toCome_32 : decode cX8_toCome 32 = .ok (.getfield 218, 3) := dk_180 0 218 (dk_at dksX8_toCome_1 8 rfl rfl)
theorem dX8_toCome_35 : decode cX8_toCome 35 = .ok (.iconst 1, 1) := dk_4 (dk_at dksX8_toCome_1 11 rfl rfl)
theorem dX8_toCome_36 : decode cX8_toCome 36 = .ok (.iadd, 1) := dk_96 (dk_at dksX8_toCome_1 12 rfl rfl)
theorem dX8_toCome_37 : decode cX8_toCome 37 = .ok (.putfield 218, 3) := dk_181 0 218 (dk_at dksX8_toCome_1 13 rfl rfl)
theorem dX8_toCome_40 : decode cX8_toCome 40 = .ok (.return_, 1) := dk_177 (dk_at dksX8_toCome_1 16 rfl rfl)
abbrev cX8_comes : ByteArray := prog_21_method_29_code
def yX8_comes : MethodName := ⟨RX8, "comes", "(III)V"⟩
def dkwX8_comes_12 : List UInt8 := [96, 4, 84, 177]
abbrev dktX8_comes_12 : List UInt8 := dkwX8_comes_12 ++ []
def dkwX8_comes_11 : List UInt8 := [181, 0, 234, 42, 27, 28, 182, 1, 13, 42, 180, 0, 77, 17, 39, 226, 28, 104, 42, 180, 0, 68, 27, 46]
abbrev dktX8_comes_11 : List UInt8 := dkwX8_comes_11 ++ dktX8_comes_12
def dkwX8_comes_10 : List UInt8 := [154, 0, 21, 42, 180, 0, 234, 154, 0, 14, 42, 180, 0, 237, 154, 0, 7, 4, 167, 0, 4, 3, 128]
abbrev dktX8_comes_10 : List UInt8 := dkwX8_comes_10 ++ dktX8_comes_11
def dkwX8_comes_9 : List UInt8 := [180, 0, 237, 154, 0, 7, 4, 167, 0, 4, 3, 96, 181, 1, 10, 42, 89, 180, 0, 234, 42, 180, 0, 247]
abbrev dktX8_comes_9 : List UInt8 := dkwX8_comes_9 ++ dktX8_comes_10
def dkwX8_comes_8 : List UInt8 := [3, 182, 0, 243, 42, 89, 180, 1, 10, 42, 180, 0, 247, 153, 0, 21, 42, 180, 0, 234, 154, 0, 14, 42]
abbrev dktX8_comes_8 : List UInt8 := dkwX8_comes_8 ++ dktX8_comes_9
def dkwX8_comes_7 : List UInt8 := [155, 0, 28, 42, 180, 0, 53, 27, 46, 6, 162, 0, 18, 42, 42, 180, 0, 227, 42, 180, 0, 53, 27, 46]
abbrev dktX8_comes_7 : List UInt8 := dkwX8_comes_7 ++ dktX8_comes_8
def dkwX8_comes_6 : List UInt8 := [21, 8, 27, 28, 29, 182, 1, 7, 132, 7, 1, 167, 255, 184, 132, 5, 1, 167, 255, 145, 42, 180, 0, 227]
abbrev dktX8_comes_6 : List UInt8 := dkwX8_comes_6 ++ dktX8_comes_7
def dkwX8_comes_5 : List UInt8 := [104, 96, 21, 7, 96, 46, 54, 8, 21, 8, 16, 10, 160, 0, 7, 4, 167, 0, 4, 3, 54, 4, 42]
abbrev dktX8_comes_5 : List UInt8 := dkwX8_comes_5 ++ dktX8_comes_6
def dkwX8_comes_4 : List UInt8 := [162, 0, 61, 21, 6, 153, 0, 56, 21, 4, 154, 0, 51, 42, 180, 0, 22, 16, 24, 28, 104, 7, 21, 5]
abbrev dktX8_comes_4 : List UInt8 := dkwX8_comes_4 ++ dktX8_comes_5
def dkwX8_comes_3 : List UInt8 := [182, 1, 4, 54, 6, 3, 54, 7, 21, 7, 42, 180, 0, 25, 16, 6, 28, 104, 21, 5, 96, 46]
abbrev dktX8_comes_3 : List UInt8 := dkwX8_comes_3 ++ dktX8_comes_4
def dkwX8_comes_2 : List UInt8 := [180, 0, 13, 28, 46, 162, 0, 106, 21, 4, 154, 0, 101, 42, 3, 181, 0, 196, 42, 28, 21, 5]
abbrev dktX8_comes_2 : List UInt8 := dkwX8_comes_2 ++ dktX8_comes_3
def dkwX8_comes_1 : List UInt8 := [181, 0, 227, 42, 27, 181, 0, 209, 42, 28, 181, 0, 215, 3, 54, 4, 3, 54, 5, 21, 5, 42]
abbrev dktX8_comes_1 : List UInt8 := dkwX8_comes_1 ++ dktX8_comes_2
def dkwX8_comes_0 : List UInt8 := [42, 3, 181, 0, 234, 42, 3, 181, 0, 237, 42, 3, 181, 0, 247, 42, 3, 181, 1, 1, 42, 2]
abbrev dktX8_comes_0 : List UInt8 := dkwX8_comes_0 ++ dktX8_comes_1
theorem dksX8_comes_0 : cX8_comes.data.toList.drop 0 = dktX8_comes_0 := by decide +kernel
theorem dksX8_comes_1 : cX8_comes.data.toList.drop 22 = dktX8_comes_1 := dk_seg dksX8_comes_0 22 rfl rfl
theorem dksX8_comes_2 : cX8_comes.data.toList.drop 44 = dktX8_comes_2 := dk_seg dksX8_comes_1 22 rfl rfl
theorem dksX8_comes_3 : cX8_comes.data.toList.drop 66 = dktX8_comes_3 := dk_seg dksX8_comes_2 22 rfl rfl
theorem dksX8_comes_4 : cX8_comes.data.toList.drop 88 = dktX8_comes_4 := dk_seg dksX8_comes_3 22 rfl rfl
theorem dksX8_comes_5 : cX8_comes.data.toList.drop 112 = dktX8_comes_5 := dk_seg dksX8_comes_4 24 rfl rfl
theorem dksX8_comes_6 : cX8_comes.data.toList.drop 135 = dktX8_comes_6 := dk_seg dksX8_comes_5 23 rfl rfl
theorem dksX8_comes_7 : cX8_comes.data.toList.drop 159 = dktX8_comes_7 := dk_seg dksX8_comes_6 24 rfl rfl
theorem dksX8_comes_8 : cX8_comes.data.toList.drop 183 = dktX8_comes_8 := dk_seg dksX8_comes_7 24 rfl rfl
theorem dksX8_comes_9 : cX8_comes.data.toList.drop 207 = dktX8_comes_9 := dk_seg dksX8_comes_8 24 rfl rfl
theorem dksX8_comes_10 : cX8_comes.data.toList.drop 231 = dktX8_comes_10 := dk_seg dksX8_comes_9 24 rfl rfl
theorem dksX8_comes_11 : cX8_comes.data.toList.drop 254 = dktX8_comes_11 := dk_seg dksX8_comes_10 23 rfl rfl
theorem dksX8_comes_12 : cX8_comes.data.toList.drop 278 = dktX8_comes_12 := dk_seg dksX8_comes_11 24 rfl rfl
theorem dX8_comes_0 : decode cX8_comes 0 = .ok (.aload_n 0, 1) := dk_42 (dk_at dksX8_comes_0 0 rfl rfl)
theorem dX8_comes_1 : decode cX8_comes 1 = .ok (.iconst 0, 1) := dk_3 (dk_at dksX8_comes_0 1 rfl rfl)
theorem dX8_comes_2 : decode cX8_comes 2 = .ok (.putfield 234, 3) := dk_181 0 234 (dk_at dksX8_comes_0 2 rfl rfl)
theorem dX8_comes_5 : decode cX8_comes 5 = .ok (.aload_n 0, 1) := dk_42 (dk_at dksX8_comes_0 5 rfl rfl)
theorem dX8_comes_6 : decode cX8_comes 6 = .ok (.iconst 0, 1) := dk_3 (dk_at dksX8_comes_0 6 rfl rfl)
theorem dX8_comes_7 : decode cX8_comes 7 = .ok (.putfield 237, 3) := dk_181 0 237 (dk_at dksX8_comes_0 7 rfl rfl)
theorem dX8_comes_10 : decode cX8_comes 10 = .ok (.aload_n 0, 1) := dk_42 (dk_at dksX8_comes_0 10 rfl rfl)
theorem dX8_comes_11 : decode cX8_comes 11 = .ok (.iconst 0, 1) := dk_3 (dk_at dksX8_comes_0 11 rfl rfl)
theorem dX8_comes_12 : decode cX8_comes 12 = .ok (.putfield 247, 3) := dk_181 0 247 (dk_at dksX8_comes_0 12 rfl rfl)
theorem dX8_comes_15 : decode cX8_comes 15 = .ok (.aload_n 0, 1) := dk_42 (dk_at dksX8_comes_0 15 rfl rfl)
theorem dX8_comes_16 : decode cX8_comes 16 = .ok (.iconst 0, 1) := dk_3 (dk_at dksX8_comes_0 16 rfl rfl)
theorem dX8_comes_17 : decode cX8_comes 17 = .ok (.putfield 257, 3) := dk_181 1 1 (dk_at dksX8_comes_0 17 rfl rfl)
theorem dX8_comes_20 : decode cX8_comes 20 = .ok (.aload_n 0, 1) := dk_42 (dk_at dksX8_comes_0 20 rfl rfl)
theorem dX8_comes_21 : decode cX8_comes 21 = .ok (.iconst (-1), 1) := dk_2 (dk_at dksX8_comes_0 21 rfl rfl)
theorem dX8_comes_22 : decode cX8_comes 22 = .ok (.putfield 227, 3) := dk_181 0 227 (dk_at dksX8_comes_1 0 rfl rfl)
theorem dX8_comes_25 : decode cX8_comes 25 = .ok (.aload_n 0, 1) := dk_42 (dk_at dksX8_comes_1 3 rfl rfl)
theorem dX8_comes_26 : decode cX8_comes 26 = .ok (.iload_n 1, 1) := dk_27 (dk_at dksX8_comes_1 4 rfl rfl)
theorem dX8_comes_27 : decode cX8_comes 27 = .ok (.putfield 209, 3) := dk_181 0 209 (dk_at dksX8_comes_1 5 rfl rfl)
theorem dX8_comes_30 : decode cX8_comes 30 = .ok (.aload_n 0, 1) := dk_42 (dk_at dksX8_comes_1 8 rfl rfl)
theorem dX8_comes_31 : decode cX8_comes 31 = .ok (.iload_n 2, 1) := dk_28 (dk_at dksX8_comes_1 9 rfl rfl)
theorem dX8_comes_32 : decode cX8_comes 32 = .ok (.putfield 215, 3) := dk_181 0 215 (dk_at dksX8_comes_1 10 rfl rfl)
theorem dX8_comes_35 : decode cX8_comes 35 = .ok (.iconst 0, 1) := dk_3 (dk_at dksX8_comes_1 13 rfl rfl)
theorem dX8_comes_36 : decode cX8_comes 36 = .ok (.istore 4, 2) := dk_54 4 (dk_at dksX8_comes_1 14 rfl rfl)
theorem dX8_comes_38 : decode cX8_comes 38 = .ok (.iconst 0, 1) := dk_3 (dk_at dksX8_comes_1 16 rfl rfl)
theorem dX8_comes_39 : decode cX8_comes 39 = .ok (.istore 5, 2) := dk_54 5 (dk_at dksX8_comes_1 17 rfl rfl)
theorem dX8_comes_41 : decode cX8_comes 41 = .ok (.iload 5, 2) := dk_21 5 (dk_at dksX8_comes_1 19 rfl rfl)
theorem dX8_comes_43 : decode cX8_comes 43 = .ok (.aload_n 0, 1) := dk_42 (dk_at dksX8_comes_1 21 rfl rfl)
theorem dX8_comes_44 : decode cX8_comes 44 = .ok (.getfield 13, 3) := dk_180 0 13 (dk_at dksX8_comes_2 0 rfl rfl)
theorem dX8_comes_47 : decode cX8_comes 47 = .ok (.iload_n 2, 1) := dk_28 (dk_at dksX8_comes_2 3 rfl rfl)
theorem dX8_comes_48 : decode cX8_comes 48 = .ok (.iaload, 1) := dk_46 (dk_at dksX8_comes_2 4 rfl rfl)
theorem dX8_comes_49 : decode cX8_comes 49 = .ok (.if_icmp .ge 106, 3) := dk_162 0 106 (dk_at dksX8_comes_2 5 rfl rfl)
theorem dX8_comes_52 : decode cX8_comes 52 = .ok (.iload 4, 2) := dk_21 4 (dk_at dksX8_comes_2 8 rfl rfl)
theorem dX8_comes_54 : decode cX8_comes 54 = .ok (.ifCond .ne 101, 3) := dk_154 0 101 (dk_at dksX8_comes_2 10 rfl rfl)
theorem dX8_comes_57 : decode cX8_comes 57 = .ok (.aload_n 0, 1) := dk_42 (dk_at dksX8_comes_2 13 rfl rfl)
theorem dX8_comes_58 : decode cX8_comes 58 = .ok (.iconst 0, 1) := dk_3 (dk_at dksX8_comes_2 14 rfl rfl)
theorem dX8_comes_59 : decode cX8_comes 59 = .ok (.putfield 196, 3) := dk_181 0 196 (dk_at dksX8_comes_2 15 rfl rfl)
theorem dX8_comes_62 : decode cX8_comes 62 = .ok (.aload_n 0, 1) := dk_42 (dk_at dksX8_comes_2 18 rfl rfl)
theorem dX8_comes_63 : decode cX8_comes 63 = .ok (.iload_n 2, 1) := dk_28 (dk_at dksX8_comes_2 19 rfl rfl)
theorem dX8_comes_64 : decode cX8_comes 64 = .ok (.iload 5, 2) := dk_21 5 (dk_at dksX8_comes_2 20 rfl rfl)
theorem dX8_comes_66 : decode cX8_comes 66 = .ok (.invokevirtual 260, 3) := dk_182 1 4 (dk_at dksX8_comes_3 0 rfl rfl)
theorem dX8_comes_69 : decode cX8_comes 69 = .ok (.istore 6, 2) := dk_54 6 (dk_at dksX8_comes_3 3 rfl rfl)
theorem dX8_comes_71 : decode cX8_comes 71 = .ok (.iconst 0, 1) := dk_3 (dk_at dksX8_comes_3 5 rfl rfl)
theorem dX8_comes_72 : decode cX8_comes 72 = .ok (.istore 7, 2) := dk_54 7 (dk_at dksX8_comes_3 6 rfl rfl)
theorem dX8_comes_74 : decode cX8_comes 74 = .ok (.iload 7, 2) := dk_21 7 (dk_at dksX8_comes_3 8 rfl rfl)
theorem dX8_comes_76 : decode cX8_comes 76 = .ok (.aload_n 0, 1) := dk_42 (dk_at dksX8_comes_3 10 rfl rfl)
theorem dX8_comes_77 : decode cX8_comes 77 = .ok (.getfield 25, 3) := dk_180 0 25 (dk_at dksX8_comes_3 11 rfl rfl)
theorem dX8_comes_80 : decode cX8_comes 80 = .ok (.bipush 6, 2) := dk_16 6 (dk_at dksX8_comes_3 14 rfl rfl)
theorem dX8_comes_82 : decode cX8_comes 82 = .ok (.iload_n 2, 1) := dk_28 (dk_at dksX8_comes_3 16 rfl rfl)
theorem dX8_comes_83 : decode cX8_comes 83 = .ok (.imul, 1) := dk_104 (dk_at dksX8_comes_3 17 rfl rfl)
theorem dX8_comes_84 : decode cX8_comes 84 = .ok (.iload 5, 2) := dk_21 5 (dk_at dksX8_comes_3 18 rfl rfl)
theorem dX8_comes_86 : decode cX8_comes 86 = .ok (.iadd, 1) := dk_96 (dk_at dksX8_comes_3 20 rfl rfl)
theorem dX8_comes_87 : decode cX8_comes 87 = .ok (.iaload, 1) := dk_46 (dk_at dksX8_comes_3 21 rfl rfl)
theorem dX8_comes_88 : decode cX8_comes 88 = .ok (.if_icmp .ge 61, 3) := dk_162 0 61 (dk_at dksX8_comes_4 0 rfl rfl)
theorem dX8_comes_91 : decode cX8_comes 91 = .ok (.iload 6, 2) := dk_21 6 (dk_at dksX8_comes_4 3 rfl rfl)
theorem dX8_comes_93 : decode cX8_comes 93 = .ok (.ifCond .eq 56, 3) := dk_153 0 56 (dk_at dksX8_comes_4 5 rfl rfl)
theorem dX8_comes_96 : decode cX8_comes 96 = .ok (.iload 4, 2) := dk_21 4 (dk_at dksX8_comes_4 8 rfl rfl)
theorem dX8_comes_98 : decode cX8_comes 98 = .ok (.ifCond .ne 51, 3) := dk_154 0 51 (dk_at dksX8_comes_4 10 rfl rfl)
theorem dX8_comes_101 : decode cX8_comes 101 = .ok (.aload_n 0, 1) := dk_42 (dk_at dksX8_comes_4 13 rfl rfl)
theorem dX8_comes_102 : decode cX8_comes 102 = .ok (.getfield 22, 3) := dk_180 0 22 (dk_at dksX8_comes_4 14 rfl rfl)
theorem dX8_comes_105 : decode cX8_comes 105 = .ok (.bipush 24, 2) := dk_16 24 (dk_at dksX8_comes_4 17 rfl rfl)
theorem dX8_comes_107 : decode cX8_comes 107 = .ok (.iload_n 2, 1) := dk_28 (dk_at dksX8_comes_4 19 rfl rfl)
theorem dX8_comes_108 : decode cX8_comes 108 = .ok (.imul, 1) := dk_104 (dk_at dksX8_comes_4 20 rfl rfl)
theorem dX8_comes_109 : decode cX8_comes 109 = .ok (.iconst 4, 1) := dk_7 (dk_at dksX8_comes_4 21 rfl rfl)
theorem dX8_comes_110 : decode cX8_comes 110 = .ok (.iload 5, 2) := dk_21 5 (dk_at dksX8_comes_4 22 rfl rfl)
theorem dX8_comes_112 : decode cX8_comes 112 = .ok (.imul, 1) := dk_104 (dk_at dksX8_comes_5 0 rfl rfl)
theorem dX8_comes_113 : decode cX8_comes 113 = .ok (.iadd, 1) := dk_96 (dk_at dksX8_comes_5 1 rfl rfl)
theorem dX8_comes_114 : decode cX8_comes 114 = .ok (.iload 7, 2) := dk_21 7 (dk_at dksX8_comes_5 2 rfl rfl)
theorem dX8_comes_116 : decode cX8_comes 116 = .ok (.iadd, 1) := dk_96 (dk_at dksX8_comes_5 4 rfl rfl)
theorem dX8_comes_117 : decode cX8_comes 117 = .ok (.iaload, 1) := dk_46 (dk_at dksX8_comes_5 5 rfl rfl)
theorem dX8_comes_118 : decode cX8_comes 118 = .ok (.istore 8, 2) := dk_54 8 (dk_at dksX8_comes_5 6 rfl rfl)
theorem dX8_comes_120 : decode cX8_comes 120 = .ok (.iload 8, 2) := dk_21 8 (dk_at dksX8_comes_5 8 rfl rfl)
theorem dX8_comes_122 : decode cX8_comes 122 = .ok (.bipush 10, 2) := dk_16 10 (dk_at dksX8_comes_5 10 rfl rfl)
theorem dX8_comes_124 : decode cX8_comes 124 = .ok (.if_icmp .ne 7, 3) := dk_160 0 7 (dk_at dksX8_comes_5 12 rfl rfl)
theorem dX8_comes_127 : decode cX8_comes 127 = .ok (.iconst 1, 1) := dk_4 (dk_at dksX8_comes_5 15 rfl rfl)
theorem dX8_comes_128 : decode cX8_comes 128 = .ok (.goto 4, 3) := dk_167 0 4 (dk_at dksX8_comes_5 16 rfl rfl)
theorem dX8_comes_131 : decode cX8_comes 131 = .ok (.iconst 0, 1) := dk_3 (dk_at dksX8_comes_5 19 rfl rfl)
theorem dX8_comes_132 : decode cX8_comes 132 = .ok (.istore 4, 2) := dk_54 4 (dk_at dksX8_comes_5 20 rfl rfl)
theorem dX8_comes_134 : decode cX8_comes 134 = .ok (.aload_n 0, 1) := dk_42 (dk_at dksX8_comes_5 22 rfl rfl)
theorem dX8_comes_135 : decode cX8_comes 135 = .ok (.iload 8, 2) := dk_21 8 (dk_at dksX8_comes_6 0 rfl rfl)
theorem dX8_comes_137 : decode cX8_comes 137 = .ok (.iload_n 1, 1) := dk_27 (dk_at dksX8_comes_6 2 rfl rfl)
theorem dX8_comes_138 : decode cX8_comes 138 = .ok (.iload_n 2, 1) := dk_28 (dk_at dksX8_comes_6 3 rfl rfl)
theorem dX8_comes_139 : decode cX8_comes 139 = .ok (.iload_n 3, 1) := dk_29 (dk_at dksX8_comes_6 4 rfl rfl)
theorem dX8_comes_140 : decode cX8_comes 140 = .ok (.invokevirtual 263, 3) := dk_182 1 7 (dk_at dksX8_comes_6 5 rfl rfl)
theorem dX8_comes_143 : decode cX8_comes 143 = .ok (.iinc 7 1, 3) := dk_132 7 1 (dk_at dksX8_comes_6 8 rfl rfl)
theorem dX8_comes_146 : decode cX8_comes 146 = .ok (.goto (-72), 3) := dk_167 255 184 (dk_at dksX8_comes_6 11 rfl rfl)
theorem dX8_comes_149 : decode cX8_comes 149 = .ok (.iinc 5 1, 3) := dk_132 5 1 (dk_at dksX8_comes_6 14 rfl rfl)
theorem dX8_comes_152 : decode cX8_comes 152 = .ok (.goto (-111), 3) := dk_167 255 145 (dk_at dksX8_comes_6 17 rfl rfl)
theorem dX8_comes_155 : decode cX8_comes 155 = .ok (.aload_n 0, 1) := dk_42 (dk_at dksX8_comes_6 20 rfl rfl)
theorem dX8_comes_156 : decode cX8_comes 156 = .ok (.getfield 227, 3) := dk_180 0 227 (dk_at dksX8_comes_6 21 rfl rfl)
theorem dX8_comes_159 : decode cX8_comes 159 = .ok (.ifCond .lt 28, 3) := dk_155 0 28 (dk_at dksX8_comes_7 0 rfl rfl)
theorem dX8_comes_162 : decode cX8_comes 162 = .ok (.aload_n 0, 1) := dk_42 (dk_at dksX8_comes_7 3 rfl rfl)
theorem dX8_comes_163 : decode cX8_comes 163 = .ok (.getfield 53, 3) := dk_180 0 53 (dk_at dksX8_comes_7 4 rfl rfl)
theorem dX8_comes_166 : decode cX8_comes 166 = .ok (.iload_n 1, 1) := dk_27 (dk_at dksX8_comes_7 7 rfl rfl)
theorem dX8_comes_167 : decode cX8_comes 167 = .ok (.iaload, 1) := dk_46 (dk_at dksX8_comes_7 8 rfl rfl)
theorem dX8_comes_168 : decode cX8_comes 168 = .ok (.iconst 3, 1) := dk_6 (dk_at dksX8_comes_7 9 rfl rfl)
theorem dX8_comes_169 : decode cX8_comes 169 = .ok (.if_icmp .ge 18, 3) := dk_162 0 18 (dk_at dksX8_comes_7 10 rfl rfl)
theorem dX8_comes_172 : decode cX8_comes 172 = .ok (.aload_n 0, 1) := dk_42 (dk_at dksX8_comes_7 13 rfl rfl)
theorem dX8_comes_173 : decode cX8_comes 173 = .ok (.aload_n 0, 1) := dk_42 (dk_at dksX8_comes_7 14 rfl rfl)
theorem dX8_comes_174 : decode cX8_comes 174 = .ok (.getfield 227, 3) := dk_180 0 227 (dk_at dksX8_comes_7 15 rfl rfl)
theorem dX8_comes_177 : decode cX8_comes 177 = .ok (.aload_n 0, 1) := dk_42 (dk_at dksX8_comes_7 18 rfl rfl)
theorem dX8_comes_178 : decode cX8_comes 178 = .ok (.getfield 53, 3) := dk_180 0 53 (dk_at dksX8_comes_7 19 rfl rfl)
theorem dX8_comes_181 : decode cX8_comes 181 = .ok (.iload_n 1, 1) := dk_27 (dk_at dksX8_comes_7 22 rfl rfl)
theorem dX8_comes_182 : decode cX8_comes 182 = .ok (.iaload, 1) := dk_46 (dk_at dksX8_comes_7 23 rfl rfl)
theorem dX8_comes_183 : decode cX8_comes 183 = .ok (.iconst 0, 1) := dk_3 (dk_at dksX8_comes_8 0 rfl rfl)
theorem dX8_comes_184 : decode cX8_comes 184 = .ok (.invokevirtual 243, 3) := dk_182 0 243 (dk_at dksX8_comes_8 1 rfl rfl)
theorem dX8_comes_187 : decode cX8_comes 187 = .ok (.aload_n 0, 1) := dk_42 (dk_at dksX8_comes_8 4 rfl rfl)
theorem dX8_comes_188 : decode cX8_comes 188 = .ok (.dup, 1) := dk_89 (dk_at dksX8_comes_8 5 rfl rfl)
theorem dX8_comes_189 : decode cX8_comes 189 = .ok (.getfield 266, 3) := dk_180 1 10 (dk_at dksX8_comes_8 6 rfl rfl)
theorem dX8_comes_192 : decode cX8_comes 192 = .ok (.aload_n 0, 1) := dk_42 (dk_at dksX8_comes_8 9 rfl rfl)
theorem dX8_comes_193 : decode cX8_comes 193 = .ok (.getfield 247, 3) := dk_180 0 247 (dk_at dksX8_comes_8 10 rfl rfl)
theorem dX8_comes_196 : decode cX8_comes 196 = .ok (.ifCond .eq 21, 3) := dk_153 0 21 (dk_at dksX8_comes_8 13 rfl rfl)
theorem dX8_comes_199 : decode cX8_comes 199 = .ok (.aload_n 0, 1) := dk_42 (dk_at dksX8_comes_8 16 rfl rfl)
theorem dX8_comes_200 : decode cX8_comes 200 = .ok (.getfield 234, 3) := dk_180 0 234 (dk_at dksX8_comes_8 17 rfl rfl)
theorem dX8_comes_203 : decode cX8_comes 203 = .ok (.ifCond .ne 14, 3) := dk_154 0 14 (dk_at dksX8_comes_8 20 rfl rfl)
theorem dX8_comes_206 : decode cX8_comes 206 = .ok (.aload_n 0, 1) := dk_42 (dk_at dksX8_comes_8 23 rfl rfl)
theorem dX8_comes_207 : decode cX8_comes 207 = .ok (.getfield 237, 3) := dk_180 0 237 (dk_at dksX8_comes_9 0 rfl rfl)
theorem dX8_comes_210 : decode cX8_comes 210 = .ok (.ifCond .ne 7, 3) := dk_154 0 7 (dk_at dksX8_comes_9 3 rfl rfl)
theorem dX8_comes_213 : decode cX8_comes 213 = .ok (.iconst 1, 1) := dk_4 (dk_at dksX8_comes_9 6 rfl rfl)
theorem dX8_comes_214 : decode cX8_comes 214 = .ok (.goto 4, 3) := dk_167 0 4 (dk_at dksX8_comes_9 7 rfl rfl)
theorem dX8_comes_217 : decode cX8_comes 217 = .ok (.iconst 0, 1) := dk_3 (dk_at dksX8_comes_9 10 rfl rfl)
theorem dX8_comes_218 : decode cX8_comes 218 = .ok (.iadd, 1) := dk_96 (dk_at dksX8_comes_9 11 rfl rfl)
theorem dX8_comes_219 : decode cX8_comes 219 = .ok (.putfield 266, 3) := dk_181 1 10 (dk_at dksX8_comes_9 12 rfl rfl)
theorem dX8_comes_222 : decode cX8_comes 222 = .ok (.aload_n 0, 1) := dk_42 (dk_at dksX8_comes_9 15 rfl rfl)
theorem dX8_comes_223 : decode cX8_comes 223 = .ok (.dup, 1) := dk_89 (dk_at dksX8_comes_9 16 rfl rfl)
theorem dX8_comes_224 : decode cX8_comes 224 = .ok (.getfield 234, 3) := dk_180 0 234 (dk_at dksX8_comes_9 17 rfl rfl)
theorem dX8_comes_227 : decode cX8_comes 227 = .ok (.aload_n 0, 1) := dk_42 (dk_at dksX8_comes_9 20 rfl rfl)
theorem dX8_comes_228 : decode cX8_comes 228 = .ok (.getfield 247, 3) := dk_180 0 247 (dk_at dksX8_comes_9 21 rfl rfl)
theorem dX8_comes_231 : decode cX8_comes 231 = .ok (.ifCond .ne 21, 3) := dk_154 0 21 (dk_at dksX8_comes_10 0 rfl rfl)
theorem dX8_comes_234 : decode cX8_comes 234 = .ok (.aload_n 0, 1) := dk_42 (dk_at dksX8_comes_10 3 rfl rfl)
theorem dX8_comes_235 : decode cX8_comes 235 = .ok (.getfield 234, 3) := dk_180 0 234 (dk_at dksX8_comes_10 4 rfl rfl)
theorem dX8_comes_238 : decode cX8_comes 238 = .ok (.ifCond .ne 14, 3) := dk_154 0 14 (dk_at dksX8_comes_10 7 rfl rfl)
theorem dX8_comes_241 : decode cX8_comes 241 = .ok (.aload_n 0, 1) := dk_42 (dk_at dksX8_comes_10 10 rfl rfl)
theorem dX8_comes_242 : decode cX8_comes 242 = .ok (.getfield 237, 3) := dk_180 0 237 (dk_at dksX8_comes_10 11 rfl rfl)
theorem dX8_comes_245 : decode cX8_comes 245 = .ok (.ifCond .ne 7, 3) := dk_154 0 7 (dk_at dksX8_comes_10 14 rfl rfl)
theorem dX8_comes_248 : decode cX8_comes 248 = .ok (.iconst 1, 1) := dk_4 (dk_at dksX8_comes_10 17 rfl rfl)
theorem dX8_comes_249 : decode cX8_comes 249 = .ok (.goto 4, 3) := dk_167 0 4 (dk_at dksX8_comes_10 18 rfl rfl)
theorem dX8_comes_252 : decode cX8_comes 252 = .ok (.iconst 0, 1) := dk_3 (dk_at dksX8_comes_10 21 rfl rfl)
theorem dX8_comes_253 : decode cX8_comes 253 = .ok (.ior, 1) := dk_128 (dk_at dksX8_comes_10 22 rfl rfl)
theorem dX8_comes_254 : decode cX8_comes 254 = .ok (.putfield 234, 3) := dk_181 0 234 (dk_at dksX8_comes_11 0 rfl rfl)
theorem dX8_comes_257 : decode cX8_comes 257 = .ok (.aload_n 0, 1) := dk_42 (dk_at dksX8_comes_11 3 rfl rfl)
theorem dX8_comes_258 : decode cX8_comes 258 = .ok (.iload_n 1, 1) := dk_27 (dk_at dksX8_comes_11 4 rfl rfl)
theorem dX8_comes_259 : decode cX8_comes 259 = .ok (.iload_n 2, 1) := dk_28 (dk_at dksX8_comes_11 5 rfl rfl)
theorem dX8_comes_260 : decode cX8_comes 260 = .ok (.invokevirtual 269, 3) := dk_182 1 13 (dk_at dksX8_comes_11 6 rfl rfl)
theorem dX8_comes_263 : decode cX8_comes 263 = .ok (.aload_n 0, 1) := dk_42 (dk_at dksX8_comes_11 9 rfl rfl)
theorem dX8_comes_264 : decode cX8_comes 264 = .ok (.getfield 77, 3) := dk_180 0 77 (dk_at dksX8_comes_11 10 rfl rfl)
theorem dX8_comes_267 : decode cX8_comes 267 = .ok (.sipush 10210, 3) := dk_17 39 226 (dk_at dksX8_comes_11 13 rfl rfl)
theorem dX8_comes_270 : decode cX8_comes 270 = .ok (.iload_n 2, 1) := dk_28 (dk_at dksX8_comes_11 16 rfl rfl)
theorem dX8_comes_271 : decode cX8_comes 271 = .ok (.imul, 1) := dk_104 (dk_at dksX8_comes_11 17 rfl rfl)
theorem dX8_comes_272 : decode cX8_comes 272 = .ok (.aload_n 0, 1) := dk_42 (dk_at dksX8_comes_11 18 rfl rfl)
theorem dX8_comes_273 : decode cX8_comes 273 = .ok (.getfield 68, 3) := dk_180 0 68 (dk_at dksX8_comes_11 19 rfl rfl)
theorem dX8_comes_276 : decode cX8_comes 276 = .ok (.iload_n 1, 1) := dk_27 (dk_at dksX8_comes_11 22 rfl rfl)
theorem dX8_comes_277 : decode cX8_comes 277 = .ok (.iaload, 1) := dk_46 (dk_at dksX8_comes_11 23 rfl rfl)
theorem dX8_comes_278 : decode cX8_comes 278 = .ok (.iadd, 1) := dk_96 (dk_at dksX8_comes_12 0 rfl rfl)
theorem dX8_comes_279 : decode cX8_comes 279 = .ok (.iconst 1, 1) := dk_4 (dk_at dksX8_comes_12 1 rfl rfl)
theorem dX8_comes_280 : decode cX8_comes 280 = .ok (.bastore, 1) := dk_84 (dk_at dksX8_comes_12 2 rfl rfl)
theorem dX8_comes_281 : decode cX8_comes 281 = .ok (.return_, 1) := dk_177 (dk_at dksX8_comes_12 3 rfl rfl)
abbrev cX8_holds : ByteArray := prog_21_method_20_code
def yX8_holds : MethodName := ⟨RX8, "holds", "(II)Z"⟩
def dkwX8_holds_10 : List UInt8 := [180, 0, 49, 3, 51, 172]
abbrev dktX8_holds_10 : List UInt8 := dkwX8_holds_10 ++ []
def dkwX8_holds_9 : List UInt8 := [182, 0, 206, 153, 0, 7, 4, 167, 0, 4, 3, 84, 132, 3, 1, 132, 4, 1, 167, 255, 41, 42]
abbrev dktX8_holds_9 : List UInt8 := dkwX8_holds_9 ++ dktX8_holds_10
def dkwX8_holds_8 : List UInt8 := [42, 180, 0, 200, 42, 21, 5, 182, 0, 203, 122, 4, 126, 4, 160, 0, 19, 167, 0, 12, 42, 21, 5]
abbrev dktX8_holds_8 : List UInt8 := dkwX8_holds_8 ++ dktX8_holds_9
def dkwX8_holds_7 : List UInt8 := [3, 84, 167, 0, 60, 42, 180, 0, 49, 29, 21, 5, 18, 195, 159, 0, 39, 42, 180, 0, 196, 153, 0, 23]
abbrev dktX8_holds_7 : List UInt8 := dkwX8_holds_7 ++ dktX8_holds_8
def dkwX8_holds_6 : List UInt8 := [42, 180, 0, 49, 29, 4, 100, 51, 154, 0, 12, 42, 180, 0, 49, 29, 51, 153, 0, 7, 4, 167, 0, 4]
abbrev dktX8_holds_6 : List UInt8 := dkwX8_holds_6 ++ dktX8_holds_7
def dkwX8_holds_5 : List UInt8 := [29, 4, 100, 51, 153, 0, 16, 42, 180, 0, 49, 29, 51, 153, 0, 7, 4, 167, 0, 32, 3, 167, 0, 28]
abbrev dktX8_holds_5 : List UInt8 := dkwX8_holds_5 ++ dktX8_holds_6
def dkwX8_holds_4 : List UInt8 := [160, 0, 77, 132, 3, 255, 42, 180, 0, 49, 29, 4, 100, 21, 5, 18, 165, 160, 0, 31, 42, 180, 0, 49]
abbrev dktX8_holds_4 : List UInt8 := dkwX8_holds_4 ++ dktX8_holds_5
def dkwX8_holds_3 : List UInt8 := [154, 0, 7, 4, 167, 0, 4, 3, 84, 167, 0, 148, 21, 5, 18, 165, 159, 0, 10, 21, 5, 18, 166]
abbrev dktX8_holds_3 : List UInt8 := dkwX8_holds_3 ++ dktX8_holds_4
def dkwX8_holds_2 : List UInt8 := [21, 5, 18, 164, 160, 0, 30, 42, 180, 0, 49, 29, 4, 100, 42, 180, 0, 49, 29, 4, 100, 51]
abbrev dktX8_holds_2 : List UInt8 := dkwX8_holds_2 ++ dktX8_holds_3
def dkwX8_holds_1 : List UInt8 := [104, 28, 96, 4, 96, 46, 162, 0, 203, 42, 180, 0, 16, 17, 0, 180, 27, 104, 21, 4, 96, 46, 54, 5]
abbrev dktX8_holds_1 : List UInt8 := dkwX8_holds_1 ++ dktX8_holds_2
def dkwX8_holds_0 : List UInt8 := [3, 62, 42, 180, 0, 19, 16, 7, 27, 104, 28, 96, 46, 54, 4, 21, 4, 42, 180, 0, 19, 16, 7, 27]
abbrev dktX8_holds_0 : List UInt8 := dkwX8_holds_0 ++ dktX8_holds_1
theorem dksX8_holds_0 : cX8_holds.data.toList.drop 0 = dktX8_holds_0 := by decide +kernel
theorem dksX8_holds_1 : cX8_holds.data.toList.drop 24 = dktX8_holds_1 := dk_seg dksX8_holds_0 24 rfl rfl
theorem dksX8_holds_2 : cX8_holds.data.toList.drop 48 = dktX8_holds_2 := dk_seg dksX8_holds_1 24 rfl rfl
theorem dksX8_holds_3 : cX8_holds.data.toList.drop 70 = dktX8_holds_3 := dk_seg dksX8_holds_2 22 rfl rfl
theorem dksX8_holds_4 : cX8_holds.data.toList.drop 93 = dktX8_holds_4 := dk_seg dksX8_holds_3 23 rfl rfl
theorem dksX8_holds_5 : cX8_holds.data.toList.drop 117 = dktX8_holds_5 := dk_seg dksX8_holds_4 24 rfl rfl
theorem dksX8_holds_6 : cX8_holds.data.toList.drop 141 = dktX8_holds_6 := dk_seg dksX8_holds_5 24 rfl rfl
theorem dksX8_holds_7 : cX8_holds.data.toList.drop 165 = dktX8_holds_7 := dk_seg dksX8_holds_6 24 rfl rfl
theorem dksX8_holds_8 : cX8_holds.data.toList.drop 189 = dktX8_holds_8 := dk_seg dksX8_holds_7 24 rfl rfl
theorem dksX8_holds_9 : cX8_holds.data.toList.drop 212 = dktX8_holds_9 := dk_seg dksX8_holds_8 23 rfl rfl
theorem dksX8_holds_10 : cX8_holds.data.toList.drop 234 = dktX8_holds_10 := dk_seg dksX8_holds_9 22 rfl rfl
theorem dX8_holds_0 : decode cX8_holds 0 = .ok (.iconst 0, 1) := dk_3 (dk_at dksX8_holds_0 0 rfl rfl)
theorem dX8_holds_1 : decode cX8_holds 1 = .ok (.istore_n 3, 1) := dk_62 (dk_at dksX8_holds_0 1 rfl rfl)
theorem dX8_holds_2 : decode cX8_holds 2 = .ok (.aload_n 0, 1) := dk_42 (dk_at dksX8_holds_0 2 rfl rfl)
theorem dX8_holds_3 : decode cX8_holds 3 = .ok (.getfield 19, 3) := dk_180 0 19 (dk_at dksX8_holds_0 3 rfl rfl)
theorem dX8_holds_6 : decode cX8_holds 6 = .ok (.bipush 7, 2) := dk_16 7 (dk_at dksX8_holds_0 6 rfl rfl)
theorem dX8_holds_8 : decode cX8_holds 8 = .ok (.iload_n 1, 1) := dk_27 (dk_at dksX8_holds_0 8 rfl rfl)
theorem dX8_holds_9 : decode cX8_holds 9 = .ok (.imul, 1) := dk_104 (dk_at dksX8_holds_0 9 rfl rfl)
theorem dX8_holds_10 : decode cX8_holds 10 = .ok (.iload_n 2, 1) := dk_28 (dk_at dksX8_holds_0 10 rfl rfl)
theorem dX8_holds_11 : decode cX8_holds 11 = .ok (.iadd, 1) := dk_96 (dk_at dksX8_holds_0 11 rfl rfl)
theorem dX8_holds_12 : decode cX8_holds 12 = .ok (.iaload, 1) := dk_46 (dk_at dksX8_holds_0 12 rfl rfl)
theorem dX8_holds_13 : decode cX8_holds 13 = .ok (.istore 4, 2) := dk_54 4 (dk_at dksX8_holds_0 13 rfl rfl)
theorem dX8_holds_15 : decode cX8_holds 15 = .ok (.iload 4, 2) := dk_21 4 (dk_at dksX8_holds_0 15 rfl rfl)
theorem dX8_holds_17 : decode cX8_holds 17 = .ok (.aload_n 0, 1) := dk_42 (dk_at dksX8_holds_0 17 rfl rfl)
theorem dX8_holds_18 : decode cX8_holds 18 = .ok (.getfield 19, 3) := dk_180 0 19 (dk_at dksX8_holds_0 18 rfl rfl)
theorem dX8_holds_21 : decode cX8_holds 21 = .ok (.bipush 7, 2) := dk_16 7 (dk_at dksX8_holds_0 21 rfl rfl)
theorem dX8_holds_23 : decode cX8_holds 23 = .ok (.iload_n 1, 1) := dk_27 (dk_at dksX8_holds_0 23 rfl rfl)
theorem dX8_holds_24 : decode cX8_holds 24 = .ok (.imul, 1) := dk_104 (dk_at dksX8_holds_1 0 rfl rfl)
theorem dX8_holds_25 : decode cX8_holds 25 = .ok (.iload_n 2, 1) := dk_28 (dk_at dksX8_holds_1 1 rfl rfl)
theorem dX8_holds_26 : decode cX8_holds 26 = .ok (.iadd, 1) := dk_96 (dk_at dksX8_holds_1 2 rfl rfl)
theorem dX8_holds_27 : decode cX8_holds 27 = .ok (.iconst 1, 1) := dk_4 (dk_at dksX8_holds_1 3 rfl rfl)
theorem dX8_holds_28 : decode cX8_holds 28 = .ok (.iadd, 1) := dk_96 (dk_at dksX8_holds_1 4 rfl rfl)
theorem dX8_holds_29 : decode cX8_holds 29 = .ok (.iaload, 1) := dk_46 (dk_at dksX8_holds_1 5 rfl rfl)
theorem dX8_holds_30 : decode cX8_holds 30 = .ok (.if_icmp .ge 203, 3) := dk_162 0 203 (dk_at dksX8_holds_1 6 rfl rfl)
theorem dX8_holds_33 : decode cX8_holds 33 = .ok (.aload_n 0, 1) := dk_42 (dk_at dksX8_holds_1 9 rfl rfl)
theorem dX8_holds_34 : decode cX8_holds 34 = .ok (.getfield 16, 3) := dk_180 0 16 (dk_at dksX8_holds_1 10 rfl rfl)
theorem dX8_holds_37 : decode cX8_holds 37 = .ok (.sipush 180, 3) := dk_17 0 180 (dk_at dksX8_holds_1 13 rfl rfl)
theorem dX8_holds_40 : decode cX8_holds 40 = .ok (.iload_n 1, 1) := dk_27 (dk_at dksX8_holds_1 16 rfl rfl)
theorem dX8_holds_41 : decode cX8_holds 41 = .ok (.imul, 1) := dk_104 (dk_at dksX8_holds_1 17 rfl rfl)
theorem dX8_holds_42 : decode cX8_holds 42 = .ok (.iload 4, 2) := dk_21 4 (dk_at dksX8_holds_1 18 rfl rfl)
theorem dX8_holds_44 : decode cX8_holds 44 = .ok (.iadd, 1) := dk_96 (dk_at dksX8_holds_1 20 rfl rfl)
theorem dX8_holds_45 : decode cX8_holds 45 = .ok (.iaload, 1) := dk_46 (dk_at dksX8_holds_1 21 rfl rfl)
theorem dX8_holds_46 : decode cX8_holds 46 = .ok (.istore 5, 2) := dk_54 5 (dk_at dksX8_holds_1 22 rfl rfl)
theorem dX8_holds_48 : decode cX8_holds 48 = .ok (.iload 5, 2) := dk_21 5 (dk_at dksX8_holds_2 0 rfl rfl)
theorem dX8_holds_50 : decode cX8_holds 50 = .ok (.ldc 164, 2) := dk_18 164 (dk_at dksX8_holds_2 2 rfl rfl)
theorem dX8_holds_52 : decode cX8_holds 52 = .ok (.if_icmp .ne 30, 3) := dk_160 0 30 (dk_at dksX8_holds_2 4 rfl rfl)
theorem dX8_holds_55 : decode cX8_holds 55 = .ok (.aload_n 0, 1) := dk_42 (dk_at dksX8_holds_2 7 rfl rfl)
theorem dX8_holds_56 : decode cX8_holds 56 = .ok (.getfield 49, 3) := dk_180 0 49 (dk_at dksX8_holds_2 8 rfl rfl)
theorem dX8_holds_59 : decode cX8_holds 59 = .ok (.iload_n 3, 1) := dk_29 (dk_at dksX8_holds_2 11 rfl rfl)
theorem dX8_holds_60 : decode cX8_holds 60 = .ok (.iconst 1, 1) := dk_4 (dk_at dksX8_holds_2 12 rfl rfl)
theorem dX8_holds_61 : decode cX8_holds 61 = .ok (.isub, 1) := dk_100 (dk_at dksX8_holds_2 13 rfl rfl)
theorem dX8_holds_62 : decode cX8_holds 62 = .ok (.aload_n 0, 1) := dk_42 (dk_at dksX8_holds_2 14 rfl rfl)
theorem dX8_holds_63 : decode cX8_holds 63 = .ok (.getfield 49, 3) := dk_180 0 49 (dk_at dksX8_holds_2 15 rfl rfl)
theorem dX8_holds_66 : decode cX8_holds 66 = .ok (.iload_n 3, 1) := dk_29 (dk_at dksX8_holds_2 18 rfl rfl)
theorem dX8_holds_67 : decode cX8_holds 67 = .ok (.iconst 1, 1) := dk_4 (dk_at dksX8_holds_2 19 rfl rfl)
theorem dX8_holds_68 : decode cX8_holds 68 = .ok (.isub, 1) := dk_100 (dk_at dksX8_holds_2 20 rfl rfl)
theorem dX8_holds_69 : decode cX8_holds 69 = .ok (.baload, 1) := dk_51 (dk_at dksX8_holds_2 21 rfl rfl)
theorem dX8_holds_70 : decode cX8_holds 70 = .ok (.ifCond .ne 7, 3) := dk_154 0 7 (dk_at dksX8_holds_3 0 rfl rfl)
theorem dX8_holds_73 : decode cX8_holds 73 = .ok (.iconst 1, 1) := dk_4 (dk_at dksX8_holds_3 3 rfl rfl)
theorem dX8_holds_74 : decode cX8_holds 74 = .ok (.goto 4, 3) := dk_167 0 4 (dk_at dksX8_holds_3 4 rfl rfl)
theorem dX8_holds_77 : decode cX8_holds 77 = .ok (.iconst 0, 1) := dk_3 (dk_at dksX8_holds_3 7 rfl rfl)
theorem dX8_holds_78 : decode cX8_holds 78 = .ok (.bastore, 1) := dk_84 (dk_at dksX8_holds_3 8 rfl rfl)
theorem dX8_holds_79 : decode cX8_holds 79 = .ok (.goto 148, 3) := dk_167 0 148 (dk_at dksX8_holds_3 9 rfl rfl)
theorem dX8_holds_82 : decode cX8_holds 82 = .ok (.iload 5, 2) := dk_21 5 (dk_at dksX8_holds_3 12 rfl rfl)
theorem dX8_holds_84 : decode cX8_holds 84 = .ok (.ldc 165, 2) := dk_18 165 (dk_at dksX8_holds_3 14 rfl rfl)
theorem dX8_holds_86 : decode cX8_holds 86 = .ok (.if_icmp .eq 10, 3) := dk_159 0 10 (dk_at dksX8_holds_3 16 rfl rfl)
theorem dX8_holds_89 : decode cX8_holds 89 = .ok (.iload 5, 2) := dk_21 5 (dk_at dksX8_holds_3 19 rfl rfl)
theorem dX8_holds_91 : decode cX8_holds 91 = .ok (.ldc 166, 2) := dk_18 166 (dk_at dksX8_holds_3 21 rfl rfl)
theorem dX8_holds_93 : decode cX8_holds 93 = .ok (.if_icmp .ne 77, 3) := dk_160 0 77 (dk_at dksX8_holds_4 0 rfl rfl)
theorem dX8_holds_96 : decode cX8_holds 96 = .ok (.iinc 3 (-1), 3) := dk_132 3 255 (dk_at dksX8_holds_4 3 rfl rfl)
theorem dX8_holds_99 : decode cX8_holds 99 = .ok (.aload_n 0, 1) := dk_42 (dk_at dksX8_holds_4 6 rfl rfl)
theorem dX8_holds_100 : decode cX8_holds 100 = .ok (.getfield 49, 3) := dk_180 0 49 (dk_at dksX8_holds_4 7 rfl rfl)
theorem dX8_holds_103 : decode cX8_holds 103 = .ok (.iload_n 3, 1) := dk_29 (dk_at dksX8_holds_4 10 rfl rfl)
theorem dX8_holds_104 : decode cX8_holds 104 = .ok (.iconst 1, 1) := dk_4 (dk_at dksX8_holds_4 11 rfl rfl)
theorem dX8_holds_105 : decode cX8_holds 105 = .ok (.isub, 1) := dk_100 (dk_at dksX8_holds_4 12 rfl rfl)
theorem dX8_holds_106 : decode cX8_holds 106 = .ok (.iload 5, 2) := dk_21 5 (dk_at dksX8_holds_4 13 rfl rfl)
theorem dX8_holds_108 : decode cX8_holds 108 = .ok (.ldc 165, 2) := dk_18 165 (dk_at dksX8_holds_4 15 rfl rfl)
theorem dX8_holds_110 : decode cX8_holds 110 = .ok (.if_icmp .ne 31, 3) := dk_160 0 31 (dk_at dksX8_holds_4 17 rfl rfl)
theorem dX8_holds_113 : decode cX8_holds 113 = .ok (.aload_n 0, 1) := dk_42 (dk_at dksX8_holds_4 20 rfl rfl)
theorem dX8_holds_114 : decode cX8_holds 114 = .ok (.getfield 49, 3) := dk_180 0 49 (dk_at dksX8_holds_4 21 rfl rfl)
theorem dX8_holds_117 : decode cX8_holds 117 = .ok (.iload_n 3, 1) := dk_29 (dk_at dksX8_holds_5 0 rfl rfl)
theorem dX8_holds_118 : decode cX8_holds 118 = .ok (.iconst 1, 1) := dk_4 (dk_at dksX8_holds_5 1 rfl rfl)
theorem dX8_holds_119 : decode cX8_holds 119 = .ok (.isub, 1) := dk_100 (dk_at dksX8_holds_5 2 rfl rfl)
theorem dX8_holds_120 : decode cX8_holds 120 = .ok (.baload, 1) := dk_51 (dk_at dksX8_holds_5 3 rfl rfl)
theorem dX8_holds_121 : decode cX8_holds 121 = .ok (.ifCond .eq 16, 3) := dk_153 0 16 (dk_at dksX8_holds_5 4 rfl rfl)
theorem dX8_holds_124 : decode cX8_holds 124 = .ok (.aload_n 0, 1) := dk_42 (dk_at dksX8_holds_5 7 rfl rfl)
theorem dX8_holds_125 : decode cX8_holds 125 = .ok (.getfield 49, 3) := dk_180 0 49 (dk_at dksX8_holds_5 8 rfl rfl)
theorem dX8_holds_128 : decode cX8_holds 128 = .ok (.iload_n 3, 1) := dk_29 (dk_at dksX8_holds_5 11 rfl rfl)
theorem dX8_holds_129 : decode cX8_holds 129 = .ok (.baload, 1) := dk_51 (dk_at dksX8_holds_5 12 rfl rfl)
theorem dX8_holds_130 : decode cX8_holds 130 = .ok (.ifCond .eq 7, 3) := dk_153 0 7 (dk_at dksX8_holds_5 13 rfl rfl)
theorem dX8_holds_133 : decode cX8_holds 133 = .ok (.iconst 1, 1) := dk_4 (dk_at dksX8_holds_5 16 rfl rfl)
theorem dX8_holds_134 : decode cX8_holds 134 = .ok (.goto 32, 3) := dk_167 0 32 (dk_at dksX8_holds_5 17 rfl rfl)
theorem dX8_holds_137 : decode cX8_holds 137 = .ok (.iconst 0, 1) := dk_3 (dk_at dksX8_holds_5 20 rfl rfl)
theorem dX8_holds_138 : decode cX8_holds 138 = .ok (.goto 28, 3) := dk_167 0 28 (dk_at dksX8_holds_5 21 rfl rfl)
theorem dX8_holds_141 : decode cX8_holds 141 = .ok (.aload_n 0, 1) := dk_42 (dk_at dksX8_holds_6 0 rfl rfl)
theorem dX8_holds_142 : decode cX8_holds 142 = .ok (.getfield 49, 3) := dk_180 0 49 (dk_at dksX8_holds_6 1 rfl rfl)
theorem dX8_holds_145 : decode cX8_holds 145 = .ok (.iload_n 3, 1) := dk_29 (dk_at dksX8_holds_6 4 rfl rfl)
theorem dX8_holds_146 : decode cX8_holds 146 = .ok (.iconst 1, 1) := dk_4 (dk_at dksX8_holds_6 5 rfl rfl)
theorem dX8_holds_147 : decode cX8_holds 147 = .ok (.isub, 1) := dk_100 (dk_at dksX8_holds_6 6 rfl rfl)
theorem dX8_holds_148 : decode cX8_holds 148 = .ok (.baload, 1) := dk_51 (dk_at dksX8_holds_6 7 rfl rfl)
theorem dX8_holds_149 : decode cX8_holds 149 = .ok (.ifCond .ne 12, 3) := dk_154 0 12 (dk_at dksX8_holds_6 8 rfl rfl)
theorem dX8_holds_152 : decode cX8_holds 152 = .ok (.aload_n 0, 1) := dk_42 (dk_at dksX8_holds_6 11 rfl rfl)
theorem dX8_holds_153 : decode cX8_holds 153 = .ok (.getfield 49, 3) := dk_180 0 49 (dk_at dksX8_holds_6 12 rfl rfl)
theorem dX8_holds_156 : decode cX8_holds 156 = .ok (.iload_n 3, 1) := dk_29 (dk_at dksX8_holds_6 15 rfl rfl)
theorem dX8_holds_157 : decode cX8_holds 157 = .ok (.baload, 1) := dk_51 (dk_at dksX8_holds_6 16 rfl rfl)
theorem dX8_holds_158 : decode cX8_holds 158 = .ok (.ifCond .eq 7, 3) := dk_153 0 7 (dk_at dksX8_holds_6 17 rfl rfl)
theorem dX8_holds_161 : decode cX8_holds 161 = .ok (.iconst 1, 1) := dk_4 (dk_at dksX8_holds_6 20 rfl rfl)
theorem dX8_holds_162 : decode cX8_holds 162 = .ok (.goto 4, 3) := dk_167 0 4 (dk_at dksX8_holds_6 21 rfl rfl)
theorem dX8_holds_165 : decode cX8_holds 165 = .ok (.iconst 0, 1) := dk_3 (dk_at dksX8_holds_7 0 rfl rfl)
theorem dX8_holds_166 : decode cX8_holds 166 = .ok (.bastore, 1) := dk_84 (dk_at dksX8_holds_7 1 rfl rfl)
theorem dX8_holds_167 : decode cX8_holds 167 = .ok (.goto 60, 3) := dk_167 0 60 (dk_at dksX8_holds_7 2 rfl rfl)
theorem dX8_holds_170 : decode cX8_holds 170 = .ok (.aload_n 0, 1) := dk_42 (dk_at dksX8_holds_7 5 rfl rfl)
theorem dX8_holds_171 : decode cX8_holds 171 = .ok (.getfield 49, 3) := dk_180 0 49 (dk_at dksX8_holds_7 6 rfl rfl)
theorem dX8_holds_174 : decode cX8_holds 174 = .ok (.iload_n 3, 1) := dk_29 (dk_at dksX8_holds_7 9 rfl rfl)
theorem dX8_holds_175 : decode cX8_holds 175 = .ok (.iload 5, 2) := dk_21 5 (dk_at dksX8_holds_7 10 rfl rfl)
theorem dX8_holds_177 : decode cX8_holds 177 = .ok (.ldc 195, 2) := dk_18 195 (dk_at dksX8_holds_7 12 rfl rfl)
theorem dX8_holds_179 : decode cX8_holds 179 = .ok (.if_icmp .eq 39, 3) := dk_159 0 39 (dk_at dksX8_holds_7 14 rfl rfl)
theorem dX8_holds_182 : decode cX8_holds 182 = .ok (.aload_n 0, 1) := dk_42 (dk_at dksX8_holds_7 17 rfl rfl)
theorem dX8_holds_183 : decode cX8_holds 183 = .ok (.getfield 196, 3) := dk_180 0 196 (dk_at dksX8_holds_7 18 rfl rfl)
theorem dX8_holds_186 : decode cX8_holds 186 = .ok (.ifCond .eq 23, 3) := dk_153 0 23 (dk_at dksX8_holds_7 21 rfl rfl)
theorem dX8_holds_189 : decode cX8_holds 189 = .ok (.aload_n 0, 1) := dk_42 (dk_at dksX8_holds_8 0 rfl rfl)
theorem dX8_holds_190 : decode cX8_holds 190 = .ok (.getfield 200, 3) := dk_180 0 200 (dk_at dksX8_holds_8 1 rfl rfl)
theorem dX8_holds_193 : decode cX8_holds 193 = .ok (.aload_n 0, 1) := dk_42 (dk_at dksX8_holds_8 4 rfl rfl)
theorem dX8_holds_194 : decode cX8_holds 194 = .ok (.iload 5, 2) := dk_21 5 (dk_at dksX8_holds_8 5 rfl rfl)
theorem dX8_holds_196 : decode cX8_holds 196 = .ok (.invokevirtual 203, 3) := dk_182 0 203 (dk_at dksX8_holds_8 7 rfl rfl)
theorem dX8_holds_199 : decode cX8_holds 199 = .ok (.ishr, 1) := dk_122 (dk_at dksX8_holds_8 10 rfl rfl)
theorem dX8_holds_200 : decode cX8_holds 200 = .ok (.iconst 1, 1) := dk_4 (dk_at dksX8_holds_8 11 rfl rfl)
theorem dX8_holds_201 : decode cX8_holds 201 = .ok (.iand, 1) := dk_126 (dk_at dksX8_holds_8 12 rfl rfl)
theorem dX8_holds_202 : decode cX8_holds 202 = .ok (.iconst 1, 1) := dk_4 (dk_at dksX8_holds_8 13 rfl rfl)
theorem dX8_holds_203 : decode cX8_holds 203 = .ok (.if_icmp .ne 19, 3) := dk_160 0 19 (dk_at dksX8_holds_8 14 rfl rfl)
theorem dX8_holds_206 : decode cX8_holds 206 = .ok (.goto 12, 3) := dk_167 0 12 (dk_at dksX8_holds_8 17 rfl rfl)
theorem dX8_holds_209 : decode cX8_holds 209 = .ok (.aload_n 0, 1) := dk_42 (dk_at dksX8_holds_8 20 rfl rfl)
theorem dX8_holds_210 : decode cX8_holds 210 = .ok (.iload 5, 2) := dk_21 5 (dk_at dksX8_holds_8 21 rfl rfl)
theorem dX8_holds_212 : decode cX8_holds 212 = .ok (.invokevirtual 206, 3) := dk_182 0 206 (dk_at dksX8_holds_9 0 rfl rfl)
theorem dX8_holds_215 : decode cX8_holds 215 = .ok (.ifCond .eq 7, 3) := dk_153 0 7 (dk_at dksX8_holds_9 3 rfl rfl)
theorem dX8_holds_218 : decode cX8_holds 218 = .ok (.iconst 1, 1) := dk_4 (dk_at dksX8_holds_9 6 rfl rfl)
theorem dX8_holds_219 : decode cX8_holds 219 = .ok (.goto 4, 3) := dk_167 0 4 (dk_at dksX8_holds_9 7 rfl rfl)
theorem dX8_holds_222 : decode cX8_holds 222 = .ok (.iconst 0, 1) := dk_3 (dk_at dksX8_holds_9 10 rfl rfl)
theorem dX8_holds_223 : decode cX8_holds 223 = .ok (.bastore, 1) := dk_84 (dk_at dksX8_holds_9 11 rfl rfl)
theorem dX8_holds_224 : decode cX8_holds 224 = .ok (.iinc 3 1, 3) := dk_132 3 1 (dk_at dksX8_holds_9 12 rfl rfl)
theorem dX8_holds_227 : decode cX8_holds 227 = .ok (.iinc 4 1, 3) := dk_132 4 1 (dk_at dksX8_holds_9 15 rfl rfl)
theorem dX8_holds_230 : decode cX8_holds 230 = .ok (.goto (-215), 3) := dk_167 255 41 (dk_at dksX8_holds_9 18 rfl rfl)
theorem dX8_holds_233 : decode cX8_holds 233 = .ok (.aload_n 0, 1) := dk_42 (dk_at dksX8_holds_9 21 rfl rfl)
theorem dX8_holds_234 : decode cX8_holds 234 = .ok (.getfield 49, 3) := dk_180 0 49 (dk_at dksX8_holds_10 0 rfl rfl)
theorem dX8_holds_237 : decode cX8_holds 237 = .ok (.iconst 0, 1) := dk_3 (dk_at dksX8_holds_10 3 rfl rfl)
theorem dX8_holds_238 : decode cX8_holds 238 = .ok (.baload, 1) := dk_51 (dk_at dksX8_holds_10 4 rfl rfl)
theorem dX8_holds_239 : decode cX8_holds 239 = .ok (.ireturn, 1) := dk_172 (dk_at dksX8_holds_10 5 rfl rfl)
abbrev cX8_numberOf : ByteArray := prog_21_method_57_code
def yX8_numberOf : MethodName := ⟨RX8, "numberOf", "(I)I"⟩
def dkwX8_numberOf_1 : List UInt8 := [167, 255, 235, 28, 172]
abbrev dktX8_numberOf_1 : List UInt8 := dkwX8_numberOf_1 ++ []
def dkwX8_numberOf_0 : List UInt8 := [3, 61, 28, 42, 180, 1, 66, 162, 0, 19, 42, 180, 0, 119, 28, 46, 27, 159, 0, 9, 132, 2, 1]
abbrev dktX8_numberOf_0 : List UInt8 := dkwX8_numberOf_0 ++ dktX8_numberOf_1
theorem dksX8_numberOf_0 : cX8_numberOf.data.toList.drop 0 = dktX8_numberOf_0 := by decide +kernel
theorem dksX8_numberOf_1 : cX8_numberOf.data.toList.drop 23 = dktX8_numberOf_1 := dk_seg dksX8_numberOf_0 23 rfl rfl
theorem dX8_numberOf_0 : decode cX8_numberOf 0 = .ok (.iconst 0, 1) := dk_3 (dk_at dksX8_numberOf_0 0 rfl rfl)
theorem dX8_numberOf_1 : decode cX8_numberOf 1 = .ok (.istore_n 2, 1) := dk_61 (dk_at dksX8_numberOf_0 1 rfl rfl)
theorem dX8_numberOf_2 : decode cX8_numberOf 2 = .ok (.iload_n 2, 1) := dk_28 (dk_at dksX8_numberOf_0 2 rfl rfl)
theorem dX8_numberOf_3 : decode cX8_numberOf 3 = .ok (.aload_n 0, 1) := dk_42 (dk_at dksX8_numberOf_0 3 rfl rfl)
theorem dX8_numberOf_4 : decode cX8_numberOf 4 = .ok (.getfield 322, 3) := dk_180 1 66 (dk_at dksX8_numberOf_0 4 rfl rfl)
theorem dX8_numberOf_7 : decode cX8_numberOf 7 = .ok (.if_icmp .ge 19, 3) := dk_162 0 19 (dk_at dksX8_numberOf_0 7 rfl rfl)
theorem dX8_numberOf_10 : decode cX8_numberOf 10 = .ok (.aload_n 0, 1) := dk_42 (dk_at dksX8_numberOf_0 10 rfl rfl)
theorem dX8_numberOf_11 : decode cX8_numberOf 11 = .ok (.getfield 119, 3) := dk_180 0 119 (dk_at dksX8_numberOf_0 11 rfl rfl)
theorem dX8_numberOf_14 : decode cX8_numberOf 14 = .ok (.iload_n 2, 1) := dk_28 (dk_at dksX8_numberOf_0 14 rfl rfl)
theorem dX8_numberOf_15 : decode cX8_numberOf 15 = .ok (.iaload, 1) := dk_46 (dk_at dksX8_numberOf_0 15 rfl rfl)
theorem dX8_numberOf_16 : decode cX8_numberOf 16 = .ok (.iload_n 1, 1) := dk_27 (dk_at dksX8_numberOf_0 16 rfl rfl)
theorem dX8_numberOf_17 : decode cX8_numberOf 17 = .ok (.if_icmp .eq 9, 3) := dk_159 0 9 (dk_at dksX8_numberOf_0 17 rfl rfl)
theorem dX8_numberOf_20 : decode cX8_numberOf 20 = .ok (.iinc 2 1, 3) := dk_132 2 1 (dk_at dksX8_numberOf_0 20 rfl rfl)
theorem dX8_numberOf_23 : decode cX8_numberOf 23 = .ok (.goto (-21), 3) := dk_167 255 235 (dk_at dksX8_numberOf_1 0 rfl rfl)
theorem dX8_numberOf_26 : decode cX8_numberOf 26 = .ok (.iload_n 2, 1) := dk_28 (dk_at dksX8_numberOf_1 3 rfl rfl)
theorem dX8_numberOf_27 : decode cX8_numberOf 27 = .ok (.ireturn, 1) := dk_172 (dk_at dksX8_numberOf_1 4 rfl rfl)
abbrev cX8_isSo : ByteArray := prog_21_method_23_code
def yX8_isSo : MethodName := ⟨RX8, "isSo", "(I)Z"⟩
def dkwX8_isSo_9 : List UInt8 := [153, 0, 7, 4, 167, 0, 4, 3, 172]
abbrev dktX8_isSo_9 : List UInt8 := dkwX8_isSo_9 ++ []
def dkwX8_isSo_8 : List UInt8 := [155, 0, 30, 42, 180, 0, 77, 17, 39, 226, 42, 180, 0, 215, 104, 42, 180, 0, 71, 29, 46, 96, 51]
abbrev dktX8_isSo_8 : List UInt8 := dkwX8_isSo_8 ++ dktX8_isSo_9
def dkwX8_isSo_7 : List UInt8 := [17, 39, 226, 42, 180, 0, 215, 104, 42, 180, 0, 68, 29, 46, 96, 51, 172, 42, 180, 0, 71, 29, 46]
abbrev dktX8_isSo_7 : List UInt8 := dkwX8_isSo_7 ++ dktX8_isSo_8
def dkwX8_isSo_6 : List UInt8 := [46, 5, 126, 5, 160, 0, 7, 4, 167, 0, 4, 3, 172, 42, 29, 182, 0, 212, 172, 42, 180, 0, 77]
abbrev dktX8_isSo_6 : List UInt8 := dkwX8_isSo_6 ++ dktX8_isSo_7
def dkwX8_isSo_5 : List UInt8 := [172, 42, 180, 0, 65, 29, 46, 4, 126, 4, 160, 0, 7, 4, 167, 0, 4, 3, 172, 42, 180, 0, 65, 29]
abbrev dktX8_isSo_5 : List UInt8 := dkwX8_isSo_5 ++ dktX8_isSo_6
def dkwX8_isSo_4 : List UInt8 := [160, 0, 7, 4, 167, 0, 4, 3, 172, 42, 180, 0, 62, 29, 46, 28, 164, 0, 7, 4, 167, 0, 4, 3]
abbrev dktX8_isSo_4 : List UInt8 := dkwX8_isSo_4 ++ dktX8_isSo_5
def dkwX8_isSo_3 : List UInt8 := [4, 126, 4, 160, 0, 7, 4, 167, 0, 4, 3, 172, 42, 180, 0, 59, 29, 46, 28, 122, 4, 126, 4]
abbrev dktX8_isSo_3 : List UInt8 := dkwX8_isSo_3 ++ dktX8_isSo_4
def dkwX8_isSo_2 : List UInt8 := [42, 180, 0, 53, 29, 46, 28, 160, 0, 7, 4, 167, 0, 4, 3, 172, 42, 180, 0, 56, 29, 46, 28, 122]
abbrev dktX8_isSo_2 : List UInt8 := dkwX8_isSo_2 ++ dktX8_isSo_3
def dkwX8_isSo_1 : List UInt8 := [170, 0, 0, 0, 0, 181, 0, 0, 0, 0, 0, 0, 0, 7, 0, 0, 0, 46, 0, 0, 0, 62, 0, 0, 0, 82, 0, 0, 0, 102, 0, 0, 0, 118, 0, 0, 0, 136, 0, 0, 0, 154, 0, 0, 0, 160]
abbrev dktX8_isSo_1 : List UInt8 := dkwX8_isSo_1 ++ dktX8_isSo_2
def dkwX8_isSo_0 : List UInt8 := [27, 18, 154, 112, 61, 42, 180, 0, 209, 62, 27, 18, 154, 108]
abbrev dktX8_isSo_0 : List UInt8 := dkwX8_isSo_0 ++ dktX8_isSo_1
theorem dksX8_isSo_0 : cX8_isSo.data.toList.drop 0 = dktX8_isSo_0 := by decide +kernel
theorem dksX8_isSo_1 : cX8_isSo.data.toList.drop 14 = dktX8_isSo_1 := dk_seg dksX8_isSo_0 14 rfl rfl
theorem dksX8_isSo_2 : cX8_isSo.data.toList.drop 60 = dktX8_isSo_2 := dk_seg dksX8_isSo_1 46 rfl rfl
theorem dksX8_isSo_3 : cX8_isSo.data.toList.drop 84 = dktX8_isSo_3 := dk_seg dksX8_isSo_2 24 rfl rfl
theorem dksX8_isSo_4 : cX8_isSo.data.toList.drop 107 = dktX8_isSo_4 := dk_seg dksX8_isSo_3 23 rfl rfl
theorem dksX8_isSo_5 : cX8_isSo.data.toList.drop 131 = dktX8_isSo_5 := dk_seg dksX8_isSo_4 24 rfl rfl
theorem dksX8_isSo_6 : cX8_isSo.data.toList.drop 155 = dktX8_isSo_6 := dk_seg dksX8_isSo_5 24 rfl rfl
theorem dksX8_isSo_7 : cX8_isSo.data.toList.drop 178 = dktX8_isSo_7 := dk_seg dksX8_isSo_6 23 rfl rfl
theorem dksX8_isSo_8 : cX8_isSo.data.toList.drop 201 = dktX8_isSo_8 := dk_seg dksX8_isSo_7 23 rfl rfl
theorem dksX8_isSo_9 : cX8_isSo.data.toList.drop 224 = dktX8_isSo_9 := dk_seg dksX8_isSo_8 23 rfl rfl
theorem dX8_isSo_0 : decode cX8_isSo 0 = .ok (.iload_n 1, 1) := dk_27 (dk_at dksX8_isSo_0 0 rfl rfl)
theorem dX8_isSo_1 : decode cX8_isSo 1 = .ok (.ldc 154, 2) := dk_18 154 (dk_at dksX8_isSo_0 1 rfl rfl)
theorem dX8_isSo_3 : decode cX8_isSo 3 = .ok (.irem, 1) := dk_112 (dk_at dksX8_isSo_0 3 rfl rfl)
theorem dX8_isSo_4 : decode cX8_isSo 4 = .ok (.istore_n 2, 1) := dk_61 (dk_at dksX8_isSo_0 4 rfl rfl)
theorem dX8_isSo_5 : decode cX8_isSo 5 = .ok (.aload_n 0, 1) := dk_42 (dk_at dksX8_isSo_0 5 rfl rfl)
theorem dX8_isSo_6 : decode cX8_isSo 6 = .ok (.getfield 209, 3) := dk_180 0 209 (dk_at dksX8_isSo_0 6 rfl rfl)
theorem dX8_isSo_9 : decode cX8_isSo 9 = .ok (.istore_n 3, 1) := dk_62 (dk_at dksX8_isSo_0 9 rfl rfl)
theorem dX8_isSo_10 : decode cX8_isSo 10 = .ok (.iload_n 1, 1) := dk_27 (dk_at dksX8_isSo_0 10 rfl rfl)
theorem dX8_isSo_11 : decode cX8_isSo 11 = .ok (.ldc 154, 2) := dk_18 154 (dk_at dksX8_isSo_0 11 rfl rfl)
theorem dX8_isSo_13 : decode cX8_isSo 13 = .ok (.idiv, 1) := dk_108 (dk_at dksX8_isSo_0 13 rfl rfl)
theorem dX8_isSo_14 : decode cX8_isSo 14 = .ok (.tableswitch 181 0 7 #[46, 62, 82, 102, 118, 136, 154, 160], 46) := by decide +kernel
theorem dX8_isSo_60 : decode cX8_isSo 60 = .ok (.aload_n 0, 1) := dk_42 (dk_at dksX8_isSo_2 0 rfl rfl)
theorem dX8_isSo_61 : decode cX8_isSo 61 = .ok (.getfield 53, 3) := dk_180 0 53 (dk_at dksX8_isSo_2 1 rfl rfl)
theorem dX8_isSo_64 : decode cX8_isSo 64 = .ok (.iload_n 3, 1) := dk_29 (dk_at dksX8_isSo_2 4 rfl rfl)
theorem dX8_isSo_65 : decode cX8_isSo 65 = .ok (.iaload, 1) := dk_46 (dk_at dksX8_isSo_2 5 rfl rfl)
theorem dX8_isSo_66 : decode cX8_isSo 66 = .ok (.iload_n 2, 1) := dk_28 (dk_at dksX8_isSo_2 6 rfl rfl)
theorem dX8_isSo_67 : decode cX8_isSo 67 = .ok (.if_icmp .ne 7, 3) := dk_160 0 7 (dk_at dksX8_isSo_2 7 rfl rfl)
theorem dX8_isSo_70 : decode cX8_isSo 70 = .ok (.iconst 1, 1) := dk_4 (dk_at dksX8_isSo_2 10 rfl rfl)
theorem dX8_isSo_71 : decode cX8_isSo 71 = .ok (.goto 4, 3) := dk_167 0 4 (dk_at dksX8_isSo_2 11 rfl rfl)
theorem dX8_isSo_74 : decode cX8_isSo 74 = .ok (.iconst 0, 1) := dk_3 (dk_at dksX8_isSo_2 14 rfl rfl)
theorem dX8_isSo_75 : decode cX8_isSo 75 = .ok (.ireturn, 1) := dk_172 (dk_at dksX8_isSo_2 15 rfl rfl)
theorem dX8_isSo_76 : decode cX8_isSo 76 = .ok (.aload_n 0, 1) := dk_42 (dk_at dksX8_isSo_2 16 rfl rfl)
theorem dX8_isSo_77 : decode cX8_isSo 77 = .ok (.getfield 56, 3) := dk_180 0 56 (dk_at dksX8_isSo_2 17 rfl rfl)
theorem dX8_isSo_80 : decode cX8_isSo 80 = .ok (.iload_n 3, 1) := dk_29 (dk_at dksX8_isSo_2 20 rfl rfl)
theorem dX8_isSo_81 : decode cX8_isSo 81 = .ok (.iaload, 1) := dk_46 (dk_at dksX8_isSo_2 21 rfl rfl)
theorem dX8_isSo_82 : decode cX8_isSo 82 = .ok (.iload_n 2, 1) := dk_28 (dk_at dksX8_isSo_2 22 rfl rfl)
theorem dX8_isSo_83 : decode cX8_isSo 83 = .ok (.ishr, 1) := dk_122 (dk_at dksX8_isSo_2 23 rfl rfl)
theorem dX8_isSo_84 : decode cX8_isSo 84 = .ok (.iconst 1, 1) := dk_4 (dk_at dksX8_isSo_3 0 rfl rfl)
theorem dX8_isSo_85 : decode cX8_isSo 85 = .ok (.iand, 1) := dk_126 (dk_at dksX8_isSo_3 1 rfl rfl)
theorem dX8_isSo_86 : decode cX8_isSo 86 = .ok (.iconst 1, 1) := dk_4 (dk_at dksX8_isSo_3 2 rfl rfl)
theorem dX8_isSo_87 : decode cX8_isSo 87 = .ok (.if_icmp .ne 7, 3) := dk_160 0 7 (dk_at dksX8_isSo_3 3 rfl rfl)
theorem dX8_isSo_90 : decode cX8_isSo 90 = .ok (.iconst 1, 1) := dk_4 (dk_at dksX8_isSo_3 6 rfl rfl)
theorem dX8_isSo_91 : decode cX8_isSo 91 = .ok (.goto 4, 3) := dk_167 0 4 (dk_at dksX8_isSo_3 7 rfl rfl)
theorem dX8_isSo_94 : decode cX8_isSo 94 = .ok (.iconst 0, 1) := dk_3 (dk_at dksX8_isSo_3 10 rfl rfl)
theorem dX8_isSo_95 : decode cX8_isSo 95 = .ok (.ireturn, 1) := dk_172 (dk_at dksX8_isSo_3 11 rfl rfl)
theorem dX8_isSo_96 : decode cX8_isSo 96 = .ok (.aload_n 0, 1) := dk_42 (dk_at dksX8_isSo_3 12 rfl rfl)
theorem dX8_isSo_97 : decode cX8_isSo 97 = .ok (.getfield 59, 3) := dk_180 0 59 (dk_at dksX8_isSo_3 13 rfl rfl)
theorem dX8_isSo_100 : decode cX8_isSo 100 = .ok (.iload_n 3, 1) := dk_29 (dk_at dksX8_isSo_3 16 rfl rfl)
theorem dX8_isSo_101 : decode cX8_isSo 101 = .ok (.iaload, 1) := dk_46 (dk_at dksX8_isSo_3 17 rfl rfl)
theorem dX8_isSo_102 : decode cX8_isSo 102 = .ok (.iload_n 2, 1) := dk_28 (dk_at dksX8_isSo_3 18 rfl rfl)
theorem dX8_isSo_103 : decode cX8_isSo 103 = .ok (.ishr, 1) := dk_122 (dk_at dksX8_isSo_3 19 rfl rfl)
theorem dX8_isSo_104 : decode cX8_isSo 104 = .ok (.iconst 1, 1) := dk_4 (dk_at dksX8_isSo_3 20 rfl rfl)
theorem dX8_isSo_105 : decode cX8_isSo 105 = .ok (.iand, 1) := dk_126 (dk_at dksX8_isSo_3 21 rfl rfl)
theorem dX8_isSo_106 : decode cX8_isSo 106 = .ok (.iconst 1, 1) := dk_4 (dk_at dksX8_isSo_3 22 rfl rfl)
theorem dX8_isSo_107 : decode cX8_isSo 107 = .ok (.if_icmp .ne 7, 3) := dk_160 0 7 (dk_at dksX8_isSo_4 0 rfl rfl)
theorem dX8_isSo_110 : decode cX8_isSo 110 = .ok (.iconst 1, 1) := dk_4 (dk_at dksX8_isSo_4 3 rfl rfl)
theorem dX8_isSo_111 : decode cX8_isSo 111 = .ok (.goto 4, 3) := dk_167 0 4 (dk_at dksX8_isSo_4 4 rfl rfl)
theorem dX8_isSo_114 : decode cX8_isSo 114 = .ok (.iconst 0, 1) := dk_3 (dk_at dksX8_isSo_4 7 rfl rfl)
theorem dX8_isSo_115 : decode cX8_isSo 115 = .ok (.ireturn, 1) := dk_172 (dk_at dksX8_isSo_4 8 rfl rfl)
theorem dX8_isSo_116 : decode cX8_isSo 116 = .ok (.aload_n 0, 1) := dk_42 (dk_at dksX8_isSo_4 9 rfl rfl)
theorem dX8_isSo_117 : decode cX8_isSo 117 = .ok (.getfield 62, 3) := dk_180 0 62 (dk_at dksX8_isSo_4 10 rfl rfl)
theorem dX8_isSo_120 : decode cX8_isSo 120 = .ok (.iload_n 3, 1) := dk_29 (dk_at dksX8_isSo_4 13 rfl rfl)
theorem dX8_isSo_121 : decode cX8_isSo 121 = .ok (.iaload, 1) := dk_46 (dk_at dksX8_isSo_4 14 rfl rfl)
theorem dX8_isSo_122 : decode cX8_isSo 122 = .ok (.iload_n 2, 1) := dk_28 (dk_at dksX8_isSo_4 15 rfl rfl)
theorem dX8_isSo_123 : decode cX8_isSo 123 = .ok (.if_icmp .le 7, 3) := dk_164 0 7 (dk_at dksX8_isSo_4 16 rfl rfl)
theorem dX8_isSo_126 : decode cX8_isSo 126 = .ok (.iconst 1, 1) := dk_4 (dk_at dksX8_isSo_4 19 rfl rfl)
theorem dX8_isSo_127 : decode cX8_isSo 127 = .ok (.goto 4, 3) := dk_167 0 4 (dk_at dksX8_isSo_4 20 rfl rfl)
theorem dX8_isSo_130 : decode cX8_isSo 130 = .ok (.iconst 0, 1) := dk_3 (dk_at dksX8_isSo_4 23 rfl rfl)
theorem dX8_isSo_131 : decode cX8_isSo 131 = .ok (.ireturn, 1) := dk_172 (dk_at dksX8_isSo_5 0 rfl rfl)
theorem dX8_isSo_132 : decode cX8_isSo 132 = .ok (.aload_n 0, 1) := dk_42 (dk_at dksX8_isSo_5 1 rfl rfl)
theorem dX8_isSo_133 : decode cX8_isSo 133 = .ok (.getfield 65, 3) := dk_180 0 65 (dk_at dksX8_isSo_5 2 rfl rfl)
theorem dX8_isSo_136 : decode cX8_isSo 136 = .ok (.iload_n 3, 1) := dk_29 (dk_at dksX8_isSo_5 5 rfl rfl)
theorem dX8_isSo_137 : decode cX8_isSo 137 = .ok (.iaload, 1) := dk_46 (dk_at dksX8_isSo_5 6 rfl rfl)
theorem dX8_isSo_138 : decode cX8_isSo 138 = .ok (.iconst 1, 1) := dk_4 (dk_at dksX8_isSo_5 7 rfl rfl)
theorem dX8_isSo_139 : decode cX8_isSo 139 = .ok (.iand, 1) := dk_126 (dk_at dksX8_isSo_5 8 rfl rfl)
theorem dX8_isSo_140 : decode cX8_isSo 140 = .ok (.iconst 1, 1) := dk_4 (dk_at dksX8_isSo_5 9 rfl rfl)
theorem dX8_isSo_141 : decode cX8_isSo 141 = .ok (.if_icmp .ne 7, 3) := dk_160 0 7 (dk_at dksX8_isSo_5 10 rfl rfl)
theorem dX8_isSo_144 : decode cX8_isSo 144 = .ok (.iconst 1, 1) := dk_4 (dk_at dksX8_isSo_5 13 rfl rfl)
theorem dX8_isSo_145 : decode cX8_isSo 145 = .ok (.goto 4, 3) := dk_167 0 4 (dk_at dksX8_isSo_5 14 rfl rfl)
theorem dX8_isSo_148 : decode cX8_isSo 148 = .ok (.iconst 0, 1) := dk_3 (dk_at dksX8_isSo_5 17 rfl rfl)
theorem dX8_isSo_149 : decode cX8_isSo 149 = .ok (.ireturn, 1) := dk_172 (dk_at dksX8_isSo_5 18 rfl rfl)
theorem dX8_isSo_150 : decode cX8_isSo 150 = .ok (.aload_n 0, 1) := dk_42 (dk_at dksX8_isSo_5 19 rfl rfl)
theorem dX8_isSo_151 : decode cX8_isSo 151 = .ok (.getfield 65, 3) := dk_180 0 65 (dk_at dksX8_isSo_5 20 rfl rfl)
theorem dX8_isSo_154 : decode cX8_isSo 154 = .ok (.iload_n 3, 1) := dk_29 (dk_at dksX8_isSo_5 23 rfl rfl)
theorem dX8_isSo_155 : decode cX8_isSo 155 = .ok (.iaload, 1) := dk_46 (dk_at dksX8_isSo_6 0 rfl rfl)
theorem dX8_isSo_156 : decode cX8_isSo 156 = .ok (.iconst 2, 1) := dk_5 (dk_at dksX8_isSo_6 1 rfl rfl)
theorem dX8_isSo_157 : decode cX8_isSo 157 = .ok (.iand, 1) := dk_126 (dk_at dksX8_isSo_6 2 rfl rfl)
theorem dX8_isSo_158 : decode cX8_isSo 158 = .ok (.iconst 2, 1) := dk_5 (dk_at dksX8_isSo_6 3 rfl rfl)
theorem dX8_isSo_159 : decode cX8_isSo 159 = .ok (.if_icmp .ne 7, 3) := dk_160 0 7 (dk_at dksX8_isSo_6 4 rfl rfl)
theorem dX8_isSo_162 : decode cX8_isSo 162 = .ok (.iconst 1, 1) := dk_4 (dk_at dksX8_isSo_6 7 rfl rfl)
theorem dX8_isSo_163 : decode cX8_isSo 163 = .ok (.goto 4, 3) := dk_167 0 4 (dk_at dksX8_isSo_6 8 rfl rfl)
theorem dX8_isSo_166 : decode cX8_isSo 166 = .ok (.iconst 0, 1) := dk_3 (dk_at dksX8_isSo_6 11 rfl rfl)
theorem dX8_isSo_167 : decode cX8_isSo 167 = .ok (.ireturn, 1) := dk_172 (dk_at dksX8_isSo_6 12 rfl rfl)
theorem dX8_isSo_168 : decode cX8_isSo 168 = .ok (.aload_n 0, 1) := dk_42 (dk_at dksX8_isSo_6 13 rfl rfl)
theorem dX8_isSo_169 : decode cX8_isSo 169 = .ok (.iload_n 3, 1) := dk_29 (dk_at dksX8_isSo_6 14 rfl rfl)
theorem dX8_isSo_170 : decode cX8_isSo 170 = .ok (.invokevirtual 212, 3) := dk_182 0 212 (dk_at dksX8_isSo_6 15 rfl rfl)
theorem dX8_isSo_173 : decode cX8_isSo 173 = .ok (.ireturn, 1) := dk_172 (dk_at dksX8_isSo_6 18 rfl rfl)
theorem dX8_isSo_174 : decode cX8_isSo 174 = .ok (.aload_n 0, 1) := dk_42 (dk_at dksX8_isSo_6 19 rfl rfl)
theorem dX8_isSo_175 : decode cX8_isSo 175 = .ok (.getfield 77, 3) := dk_180 0 77 (dk_at dksX8_isSo_6 20 rfl rfl)
theorem dX8_isSo_178 : decode cX8_isSo 178 = .ok (.sipush 10210, 3) := dk_17 39 226 (dk_at dksX8_isSo_7 0 rfl rfl)
theorem dX8_isSo_181 : decode cX8_isSo 181 = .ok (.aload_n 0, 1) := dk_42 (dk_at dksX8_isSo_7 3 rfl rfl)
theorem dX8_isSo_182 : decode cX8_isSo 182 = .ok (.getfield 215, 3) := dk_180 0 215 (dk_at dksX8_isSo_7 4 rfl rfl)
theorem dX8_isSo_185 : decode cX8_isSo 185 = .ok (.imul, 1) := dk_104 (dk_at dksX8_isSo_7 7 rfl rfl)
theorem dX8_isSo_186 : decode cX8_isSo 186 = .ok (.aload_n 0, 1) := dk_42 (dk_at dksX8_isSo_7 8 rfl rfl)
theorem dX8_isSo_187 : decode cX8_isSo 187 = .ok (.getfield 68, 3) := dk_180 0 68 (dk_at dksX8_isSo_7 9 rfl rfl)
theorem dX8_isSo_190 : decode cX8_isSo 190 = .ok (.iload_n 3, 1) := dk_29 (dk_at dksX8_isSo_7 12 rfl rfl)
theorem dX8_isSo_191 : decode cX8_isSo 191 = .ok (.iaload, 1) := dk_46 (dk_at dksX8_isSo_7 13 rfl rfl)
theorem dX8_isSo_192 : decode cX8_isSo 192 = .ok (.iadd, 1) := dk_96 (dk_at dksX8_isSo_7 14 rfl rfl)
theorem dX8_isSo_193 : decode cX8_isSo 193 = .ok (.baload, 1) := dk_51 (dk_at dksX8_isSo_7 15 rfl rfl)
theorem dX8_isSo_194 : decode cX8_isSo 194 = .ok (.ireturn, 1) := dk_172 (dk_at dksX8_isSo_7 16 rfl rfl)
theorem dX8_isSo_195 : decode cX8_isSo 195 = .ok (.aload_n 0, 1) := dk_42 (dk_at dksX8_isSo_7 17 rfl rfl)
theorem dX8_isSo_196 : decode cX8_isSo 196 = .ok (.getfield 71, 3) := dk_180 0 71 (dk_at dksX8_isSo_7 18 rfl rfl)
theorem dX8_isSo_199 : decode cX8_isSo 199 = .ok (.iload_n 3, 1) := dk_29 (dk_at dksX8_isSo_7 21 rfl rfl)
theorem dX8_isSo_200 : decode cX8_isSo 200 = .ok (.iaload, 1) := dk_46 (dk_at dksX8_isSo_7 22 rfl rfl)
theorem dX8_isSo_201 : decode cX8_isSo 201 = .ok (.ifCond .lt 30, 3) := dk_155 0 30 (dk_at dksX8_isSo_8 0 rfl rfl)
theorem dX8_isSo_204 : decode cX8_isSo 204 = .ok (.aload_n 0, 1) := dk_42 (dk_at dksX8_isSo_8 3 rfl rfl)
theorem dX8_isSo_205 : decode cX8_isSo 205 = .ok (.getfield 77, 3) := dk_180 0 77 (dk_at dksX8_isSo_8 4 rfl rfl)
theorem dX8_isSo_208 : decode cX8_isSo 208 = .ok (.sipush 10210, 3) := dk_17 39 226 (dk_at dksX8_isSo_8 7 rfl rfl)
theorem dX8_isSo_211 : decode cX8_isSo 211 = .ok (.aload_n 0, 1) := dk_42 (dk_at dksX8_isSo_8 10 rfl rfl)
theorem dX8_isSo_212 : decode cX8_isSo 212 = .ok (.getfield 215, 3) := dk_180 0 215 (dk_at dksX8_isSo_8 11 rfl rfl)
theorem dX8_isSo_215 : decode cX8_isSo 215 = .ok (.imul, 1) := dk_104 (dk_at dksX8_isSo_8 14 rfl rfl)
theorem dX8_isSo_216 : decode cX8_isSo 216 = .ok (.aload_n 0, 1) := dk_42 (dk_at dksX8_isSo_8 15 rfl rfl)
theorem dX8_isSo_217 : decode cX8_isSo 217 = .ok (.getfield 71, 3) := dk_180 0 71 (dk_at dksX8_isSo_8 16 rfl rfl)
theorem dX8_isSo_220 : decode cX8_isSo 220 = .ok (.iload_n 3, 1) := dk_29 (dk_at dksX8_isSo_8 19 rfl rfl)
theorem dX8_isSo_221 : decode cX8_isSo 221 = .ok (.iaload, 1) := dk_46 (dk_at dksX8_isSo_8 20 rfl rfl)
theorem dX8_isSo_222 : decode cX8_isSo 222 = .ok (.iadd, 1) := dk_96 (dk_at dksX8_isSo_8 21 rfl rfl)
theorem dX8_isSo_223 : decode cX8_isSo 223 = .ok (.baload, 1) := dk_51 (dk_at dksX8_isSo_8 22 rfl rfl)
theorem dX8_isSo_224 : decode cX8_isSo 224 = .ok (.ifCond .eq 7, 3) := dk_153 0 7 (dk_at dksX8_isSo_9 0 rfl rfl)
theorem dX8_isSo_227 : decode cX8_isSo 227 = .ok (.iconst 1, 1) := dk_4 (dk_at dksX8_isSo_9 3 rfl rfl)
theorem dX8_isSo_228 : decode cX8_isSo 228 = .ok (.goto 4, 3) := dk_167 0 4 (dk_at dksX8_isSo_9 4 rfl rfl)
theorem dX8_isSo_231 : decode cX8_isSo 231 = .ok (.iconst 0, 1) := dk_3 (dk_at dksX8_isSo_9 7 rfl rfl)
theorem dX8_isSo_232 : decode cX8_isSo 232 = .ok (.ireturn, 1) := dk_172 (dk_at dksX8_isSo_9 8 rfl rfl)
abbrev cX8_isJunk : ByteArray := prog_21_method_52_code
def yX8_isJunk : MethodName := ⟨RX8, "isJunk", "(I)Z"⟩
def dkwX8_isJunk_5 : List UInt8 := [172]
abbrev dktX8_isJunk_5 : List UInt8 := dkwX8_isJunk_5 ++ []
def dkwX8_isJunk_4 : List UInt8 := [10, 97, 105, 105, 55, 4, 132, 6, 1, 167, 255, 176, 32, 22, 4, 148, 158, 0, 7, 4, 167, 0, 4, 3]
abbrev dktX8_isJunk_4 : List UInt8 := dkwX8_isJunk_4 ++ dktX8_isJunk_5
def dkwX8_isJunk_3 : List UInt8 := [22, 4, 42, 180, 0, 113, 3, 46, 133, 20, 1, 61, 97, 42, 180, 0, 116, 16, 12, 21, 6, 96, 46, 133]
abbrev dktX8_isJunk_3 : List UInt8 := dkwX8_isJunk_3 ++ dktX8_isJunk_4
def dkwX8_isJunk_2 : List UInt8 := [180, 0, 113, 4, 46, 133, 20, 1, 61, 97, 42, 180, 0, 116, 21, 6, 46, 133, 10, 97, 105, 105, 65]
abbrev dktX8_isJunk_2 : List UInt8 := dkwX8_isJunk_2 ++ dktX8_isJunk_3
def dkwX8_isJunk_1 : List UInt8 := [21, 6, 16, 12, 162, 0, 79, 42, 180, 0, 59, 27, 46, 21, 6, 122, 4, 126, 4, 160, 0, 58, 32, 42]
abbrev dktX8_isJunk_1 : List UInt8 := dkwX8_isJunk_1 ++ dktX8_isJunk_2
def dkwX8_isJunk_0 : List UInt8 := [42, 180, 0, 113, 3, 46, 133, 10, 97, 65, 42, 180, 0, 113, 4, 46, 133, 10, 97, 55, 4, 3, 54, 6]
abbrev dktX8_isJunk_0 : List UInt8 := dkwX8_isJunk_0 ++ dktX8_isJunk_1
theorem dksX8_isJunk_0 : cX8_isJunk.data.toList.drop 0 = dktX8_isJunk_0 := by decide +kernel
theorem dksX8_isJunk_1 : cX8_isJunk.data.toList.drop 24 = dktX8_isJunk_1 := dk_seg dksX8_isJunk_0 24 rfl rfl
theorem dksX8_isJunk_2 : cX8_isJunk.data.toList.drop 48 = dktX8_isJunk_2 := dk_seg dksX8_isJunk_1 24 rfl rfl
theorem dksX8_isJunk_3 : cX8_isJunk.data.toList.drop 71 = dktX8_isJunk_3 := dk_seg dksX8_isJunk_2 23 rfl rfl
theorem dksX8_isJunk_4 : cX8_isJunk.data.toList.drop 95 = dktX8_isJunk_4 := dk_seg dksX8_isJunk_3 24 rfl rfl
theorem dksX8_isJunk_5 : cX8_isJunk.data.toList.drop 119 = dktX8_isJunk_5 := dk_seg dksX8_isJunk_4 24 rfl rfl
theorem dX8_isJunk_0 : decode cX8_isJunk 0 = .ok (.aload_n 0, 1) := dk_42 (dk_at dksX8_isJunk_0 0 rfl rfl)
theorem dX8_isJunk_1 : decode cX8_isJunk 1 = .ok (.getfield 113, 3) := dk_180 0 113 (dk_at dksX8_isJunk_0 1 rfl rfl)
theorem dX8_isJunk_4 : decode cX8_isJunk 4 = .ok (.iconst 0, 1) := dk_3 (dk_at dksX8_isJunk_0 4 rfl rfl)
theorem dX8_isJunk_5 : decode cX8_isJunk 5 = .ok (.iaload, 1) := dk_46 (dk_at dksX8_isJunk_0 5 rfl rfl)
theorem dX8_isJunk_6 : decode cX8_isJunk 6 = .ok (.i2l, 1) := dk_133 (dk_at dksX8_isJunk_0 6 rfl rfl)
theorem dX8_isJunk_7 : decode cX8_isJunk 7 = .ok (.lconst 1, 1) := dk_10 (dk_at dksX8_isJunk_0 7 rfl rfl)
theorem dX8_isJunk_8 : decode cX8_isJunk 8 = .ok (.ladd, 1) := dk_97 (dk_at dksX8_isJunk_0 8 rfl rfl)
theorem dX8_isJunk_9 : decode cX8_isJunk 9 = .ok (.lstore_n 2, 1) := dk_65 (dk_at dksX8_isJunk_0 9 rfl rfl)
theorem dX8_isJunk_10 : decode cX8_isJunk 10 = .ok (.aload_n 0, 1) := dk_42 (dk_at dksX8_isJunk_0 10 rfl rfl)
theorem dX8_isJunk_11 : decode cX8_isJunk 11 = .ok (.getfield 113, 3) := dk_180 0 113 (dk_at dksX8_isJunk_0 11 rfl rfl)
theorem dX8_isJunk_14 : decode cX8_isJunk 14 = .ok (.iconst 1, 1) := dk_4 (dk_at dksX8_isJunk_0 14 rfl rfl)
theorem dX8_isJunk_15 : decode cX8_isJunk 15 = .ok (.iaload, 1) := dk_46 (dk_at dksX8_isJunk_0 15 rfl rfl)
theorem dX8_isJunk_16 : decode cX8_isJunk 16 = .ok (.i2l, 1) := dk_133 (dk_at dksX8_isJunk_0 16 rfl rfl)
theorem dX8_isJunk_17 : decode cX8_isJunk 17 = .ok (.lconst 1, 1) := dk_10 (dk_at dksX8_isJunk_0 17 rfl rfl)
theorem dX8_isJunk_18 : decode cX8_isJunk 18 = .ok (.ladd, 1) := dk_97 (dk_at dksX8_isJunk_0 18 rfl rfl)
theorem dX8_isJunk_19 : decode cX8_isJunk 19 = .ok (.lstore 4, 2) := dk_55 4 (dk_at dksX8_isJunk_0 19 rfl rfl)
theorem dX8_isJunk_21 : decode cX8_isJunk 21 = .ok (.iconst 0, 1) := dk_3 (dk_at dksX8_isJunk_0 21 rfl rfl)
theorem dX8_isJunk_22 : decode cX8_isJunk 22 = .ok (.istore 6, 2) := dk_54 6 (dk_at dksX8_isJunk_0 22 rfl rfl)
theorem dX8_isJunk_24 : decode cX8_isJunk 24 = .ok (.iload 6, 2) := dk_21 6 (dk_at dksX8_isJunk_1 0 rfl rfl)
theorem dX8_isJunk_26 : decode cX8_isJunk 26 = .ok (.bipush 12, 2) := dk_16 12 (dk_at dksX8_isJunk_1 2 rfl rfl)
theorem dX8_isJunk_28 : decode cX8_isJunk 28 = .ok (.if_icmp .ge 79, 3) := dk_162 0 79 (dk_at dksX8_isJunk_1 4 rfl rfl)
theorem dX8_isJunk_31 : decode cX8_isJunk 31 = .ok (.aload_n 0, 1) := dk_42 (dk_at dksX8_isJunk_1 7 rfl rfl)
theorem dX8_isJunk_32 : decode cX8_isJunk 32 = .ok (.getfield 59, 3) := dk_180 0 59 (dk_at dksX8_isJunk_1 8 rfl rfl)
theorem dX8_isJunk_35 : decode cX8_isJunk 35 = .ok (.iload_n 1, 1) := dk_27 (dk_at dksX8_isJunk_1 11 rfl rfl)
theorem dX8_isJunk_36 : decode cX8_isJunk 36 = .ok (.iaload, 1) := dk_46 (dk_at dksX8_isJunk_1 12 rfl rfl)
theorem dX8_isJunk_37 : decode cX8_isJunk 37 = .ok (.iload 6, 2) := dk_21 6 (dk_at dksX8_isJunk_1 13 rfl rfl)
theorem dX8_isJunk_39 : decode cX8_isJunk 39 = .ok (.ishr, 1) := dk_122 (dk_at dksX8_isJunk_1 15 rfl rfl)
theorem dX8_isJunk_40 : decode cX8_isJunk 40 = .ok (.iconst 1, 1) := dk_4 (dk_at dksX8_isJunk_1 16 rfl rfl)
theorem dX8_isJunk_41 : decode cX8_isJunk 41 = .ok (.iand, 1) := dk_126 (dk_at dksX8_isJunk_1 17 rfl rfl)
theorem dX8_isJunk_42 : decode cX8_isJunk 42 = .ok (.iconst 1, 1) := dk_4 (dk_at dksX8_isJunk_1 18 rfl rfl)
theorem dX8_isJunk_43 : decode cX8_isJunk 43 = .ok (.if_icmp .ne 58, 3) := dk_160 0 58 (dk_at dksX8_isJunk_1 19 rfl rfl)
theorem dX8_isJunk_46 : decode cX8_isJunk 46 = .ok (.lload_n 2, 1) := dk_32 (dk_at dksX8_isJunk_1 22 rfl rfl)
theorem dX8_isJunk_47 : decode cX8_isJunk 47 = .ok (.aload_n 0, 1) := dk_42 (dk_at dksX8_isJunk_1 23 rfl rfl)
theorem dX8_isJunk_48 : decode cX8_isJunk 48 = .ok (.getfield 113, 3) := dk_180 0 113 (dk_at dksX8_isJunk_2 0 rfl rfl)
theorem dX8_isJunk_51 : decode cX8_isJunk 51 = .ok (.iconst 1, 1) := dk_4 (dk_at dksX8_isJunk_2 3 rfl rfl)
theorem dX8_isJunk_52 : decode cX8_isJunk 52 = .ok (.iaload, 1) := dk_46 (dk_at dksX8_isJunk_2 4 rfl rfl)
theorem dX8_isJunk_53 : decode cX8_isJunk 53 = .ok (.i2l, 1) := dk_133 (dk_at dksX8_isJunk_2 5 rfl rfl)
theorem dX8_isJunk_54 : decode cX8_isJunk 54 = .ok (.ldc2_w 317, 3) := dk_20 1 61 (dk_at dksX8_isJunk_2 6 rfl rfl)
theorem dX8_isJunk_57 : decode cX8_isJunk 57 = .ok (.ladd, 1) := dk_97 (dk_at dksX8_isJunk_2 9 rfl rfl)
theorem dX8_isJunk_58 : decode cX8_isJunk 58 = .ok (.aload_n 0, 1) := dk_42 (dk_at dksX8_isJunk_2 10 rfl rfl)
theorem dX8_isJunk_59 : decode cX8_isJunk 59 = .ok (.getfield 116, 3) := dk_180 0 116 (dk_at dksX8_isJunk_2 11 rfl rfl)
theorem dX8_isJunk_62 : decode cX8_isJunk 62 = .ok (.iload 6, 2) := dk_21 6 (dk_at dksX8_isJunk_2 14 rfl rfl)
theorem dX8_isJunk_64 : decode cX8_isJunk 64 = .ok (.iaload, 1) := dk_46 (dk_at dksX8_isJunk_2 16 rfl rfl)
theorem dX8_isJunk_65 : decode cX8_isJunk 65 = .ok (.i2l, 1) := dk_133 (dk_at dksX8_isJunk_2 17 rfl rfl)
theorem dX8_isJunk_66 : decode cX8_isJunk 66 = .ok (.lconst 1, 1) := dk_10 (dk_at dksX8_isJunk_2 18 rfl rfl)
theorem dX8_isJunk_67 : decode cX8_isJunk 67 = .ok (.ladd, 1) := dk_97 (dk_at dksX8_isJunk_2 19 rfl rfl)
theorem dX8_isJunk_68 : decode cX8_isJunk 68 = .ok (.lmul, 1) := dk_105 (dk_at dksX8_isJunk_2 20 rfl rfl)
theorem dX8_isJunk_69 : decode cX8_isJunk 69 = .ok (.lmul, 1) := dk_105 (dk_at dksX8_isJunk_2 21 rfl rfl)
theorem dX8_isJunk_70 : decode cX8_isJunk 70 = .ok (.lstore_n 2, 1) := dk_65 (dk_at dksX8_isJunk_2 22 rfl rfl)
theorem dX8_isJunk_71 : decode cX8_isJunk 71 = .ok (.lload 4, 2) := dk_22 4 (dk_at dksX8_isJunk_3 0 rfl rfl)
theorem dX8_isJunk_73 : decode cX8_isJunk 73 = .ok (.aload_n 0, 1) := dk_42 (dk_at dksX8_isJunk_3 2 rfl rfl)
theorem dX8_isJunk_74 : decode cX8_isJunk 74 = .ok (.getfield 113, 3) := dk_180 0 113 (dk_at dksX8_isJunk_3 3 rfl rfl)
theorem dX8_isJunk_77 : decode cX8_isJunk 77 = .ok (.iconst 0, 1) := dk_3 (dk_at dksX8_isJunk_3 6 rfl rfl)
theorem dX8_isJunk_78 : decode cX8_isJunk 78 = .ok (.iaload, 1) := dk_46 (dk_at dksX8_isJunk_3 7 rfl rfl)
theorem dX8_isJunk_79 : decode cX8_isJunk 79 = .ok (.i2l, 1) := dk_133 (dk_at dksX8_isJunk_3 8 rfl rfl)
theorem dX8_isJunk_80 : decode cX8_isJunk 80 = .ok (.ldc2_w 317, 3) := dk_20 1 61 (dk_at dksX8_isJunk_3 9 rfl rfl)
theorem dX8_isJunk_83 : decode cX8_isJunk 83 = .ok (.ladd, 1) := dk_97 (dk_at dksX8_isJunk_3 12 rfl rfl)
theorem dX8_isJunk_84 : decode cX8_isJunk 84 = .ok (.aload_n 0, 1) := dk_42 (dk_at dksX8_isJunk_3 13 rfl rfl)
theorem dX8_isJunk_85 : decode cX8_isJunk 85 = .ok (.getfield 116, 3) := dk_180 0 116 (dk_at dksX8_isJunk_3 14 rfl rfl)
theorem dX8_isJunk_88 : decode cX8_isJunk 88 = .ok (.bipush 12, 2) := dk_16 12 (dk_at dksX8_isJunk_3 17 rfl rfl)
theorem dX8_isJunk_90 : decode cX8_isJunk 90 = .ok (.iload 6, 2) := dk_21 6 (dk_at dksX8_isJunk_3 19 rfl rfl)
theorem dX8_isJunk_92 : decode cX8_isJunk 92 = .ok (.iadd, 1) := dk_96 (dk_at dksX8_isJunk_3 21 rfl rfl)
theorem dX8_isJunk_93 : decode cX8_isJunk 93 = .ok (.iaload, 1) := dk_46 (dk_at dksX8_isJunk_3 22 rfl rfl)
theorem dX8_isJunk_94 : decode cX8_isJunk 94 = .ok (.i2l, 1) := dk_133 (dk_at dksX8_isJunk_3 23 rfl rfl)
theorem dX8_isJunk_95 : decode cX8_isJunk 95 = .ok (.lconst 1, 1) := dk_10 (dk_at dksX8_isJunk_4 0 rfl rfl)
theorem dX8_isJunk_96 : decode cX8_isJunk 96 = .ok (.ladd, 1) := dk_97 (dk_at dksX8_isJunk_4 1 rfl rfl)
theorem dX8_isJunk_97 : decode cX8_isJunk 97 = .ok (.lmul, 1) := dk_105 (dk_at dksX8_isJunk_4 2 rfl rfl)
theorem dX8_isJunk_98 : decode cX8_isJunk 98 = .ok (.lmul, 1) := dk_105 (dk_at dksX8_isJunk_4 3 rfl rfl)
theorem dX8_isJunk_99 : decode cX8_isJunk 99 = .ok (.lstore 4, 2) := dk_55 4 (dk_at dksX8_isJunk_4 4 rfl rfl)
theorem dX8_isJunk_101 : decode cX8_isJunk 101 = .ok (.iinc 6 1, 3) := dk_132 6 1 (dk_at dksX8_isJunk_4 6 rfl rfl)
theorem dX8_isJunk_104 : decode cX8_isJunk 104 = .ok (.goto (-80), 3) := dk_167 255 176 (dk_at dksX8_isJunk_4 9 rfl rfl)
theorem dX8_isJunk_107 : decode cX8_isJunk 107 = .ok (.lload_n 2, 1) := dk_32 (dk_at dksX8_isJunk_4 12 rfl rfl)
theorem dX8_isJunk_108 : decode cX8_isJunk 108 = .ok (.lload 4, 2) := dk_22 4 (dk_at dksX8_isJunk_4 13 rfl rfl)
theorem dX8_isJunk_110 : decode cX8_isJunk 110 = .ok (.lcmp, 1) := dk_148 (dk_at dksX8_isJunk_4 15 rfl rfl)
theorem dX8_isJunk_111 : decode cX8_isJunk 111 = .ok (.ifCond .le 7, 3) := dk_158 0 7 (dk_at dksX8_isJunk_4 16 rfl rfl)
theorem dX8_isJunk_114 : decode cX8_isJunk 114 = .ok (.iconst 1, 1) := dk_4 (dk_at dksX8_isJunk_4 19 rfl rfl)
theorem dX8_isJunk_115 : decode cX8_isJunk 115 = .ok (.goto 4, 3) := dk_167 0 4 (dk_at dksX8_isJunk_4 20 rfl rfl)
theorem dX8_isJunk_118 : decode cX8_isJunk 118 = .ok (.iconst 0, 1) := dk_3 (dk_at dksX8_isJunk_4 23 rfl rfl)
theorem dX8_isJunk_119 : decode cX8_isJunk 119 = .ok (.ireturn, 1) := dk_172 (dk_at dksX8_isJunk_5 0 rfl rfl)
abbrev cX8_acts : ByteArray := prog_21_method_28_code
def yX8_acts : MethodName := ⟨RX8, "acts", "(IIII)V"⟩
def dkwX8_acts_6 : List UInt8 := [160, 0, 8, 42, 4, 181, 1, 1, 177]
abbrev dktX8_acts_6 : List UInt8 := dkwX8_acts_6 ++ []
def dkwX8_acts_5 : List UInt8 := [160, 0, 21, 42, 28, 29, 182, 0, 250, 153, 0, 23, 42, 28, 29, 182, 0, 254, 167, 0, 14, 27, 16, 9]
abbrev dktX8_acts_5 : List UInt8 := dkwX8_acts_5 ++ dktX8_acts_6
def dkwX8_acts_4 : List UInt8 := [182, 0, 243, 167, 0, 52, 27, 16, 7, 160, 0, 11, 42, 4, 181, 0, 247, 167, 0, 38, 27, 16, 8]
abbrev dktX8_acts_4 : List UInt8 := dkwX8_acts_4 ++ dktX8_acts_5
def dkwX8_acts_3 : List UInt8 := [181, 0, 237, 42, 89, 180, 0, 240, 4, 96, 181, 0, 240, 42, 28, 21, 5, 21, 4, 4, 29, 120, 128]
abbrev dktX8_acts_3 : List UInt8 := dkwX8_acts_3 ++ dktX8_acts_4
def dkwX8_acts_2 : List UInt8 := [42, 180, 0, 237, 21, 5, 122, 4, 126, 154, 0, 39, 42, 89, 180, 0, 237, 4, 21, 5, 120, 128]
abbrev dktX8_acts_2 : List UInt8 := dkwX8_acts_2 ++ dktX8_acts_3
def dkwX8_acts_1 : List UInt8 := [162, 0, 75, 27, 7, 100, 54, 5, 21, 5, 29, 159, 0, 61, 21, 4, 21, 5, 122, 4, 126, 154, 0, 51]
abbrev dktX8_acts_1 : List UInt8 := dkwX8_acts_1 ++ dktX8_acts_2
def dkwX8_acts_0 : List UInt8 := [27, 7, 162, 0, 18, 42, 89, 180, 0, 234, 4, 27, 120, 128, 181, 0, 234, 167, 0, 130, 27, 16, 7]
abbrev dktX8_acts_0 : List UInt8 := dkwX8_acts_0 ++ dktX8_acts_1
theorem dksX8_acts_0 : cX8_acts.data.toList.drop 0 = dktX8_acts_0 := by decide +kernel
theorem dksX8_acts_1 : cX8_acts.data.toList.drop 23 = dktX8_acts_1 := dk_seg dksX8_acts_0 23 rfl rfl
theorem dksX8_acts_2 : cX8_acts.data.toList.drop 47 = dktX8_acts_2 := dk_seg dksX8_acts_1 24 rfl rfl
theorem dksX8_acts_3 : cX8_acts.data.toList.drop 69 = dktX8_acts_3 := dk_seg dksX8_acts_2 22 rfl rfl
theorem dksX8_acts_4 : cX8_acts.data.toList.drop 92 = dktX8_acts_4 := dk_seg dksX8_acts_3 23 rfl rfl
theorem dksX8_acts_5 : cX8_acts.data.toList.drop 115 = dktX8_acts_5 := dk_seg dksX8_acts_4 23 rfl rfl
theorem dksX8_acts_6 : cX8_acts.data.toList.drop 139 = dktX8_acts_6 := dk_seg dksX8_acts_5 24 rfl rfl
theorem dX8_acts_0 : decode cX8_acts 0 = .ok (.iload_n 1, 1) := dk_27 (dk_at dksX8_acts_0 0 rfl rfl)
theorem dX8_acts_1 : decode cX8_acts 1 = .ok (.iconst 4, 1) := dk_7 (dk_at dksX8_acts_0 1 rfl rfl)
theorem dX8_acts_2 : decode cX8_acts 2 = .ok (.if_icmp .ge 18, 3) := dk_162 0 18 (dk_at dksX8_acts_0 2 rfl rfl)
theorem dX8_acts_5 : decode cX8_acts 5 = .ok (.aload_n 0, 1) := dk_42 (dk_at dksX8_acts_0 5 rfl rfl)
theorem dX8_acts_6 : decode cX8_acts 6 = .ok (.dup, 1) := dk_89 (dk_at dksX8_acts_0 6 rfl rfl)
theorem dX8_acts_7 : decode cX8_acts 7 = .ok (.getfield 234, 3) := dk_180 0 234 (dk_at dksX8_acts_0 7 rfl rfl)
theorem dX8_acts_10 : decode cX8_acts 10 = .ok (.iconst 1, 1) := dk_4 (dk_at dksX8_acts_0 10 rfl rfl)
theorem dX8_acts_11 : decode cX8_acts 11 = .ok (.iload_n 1, 1) := dk_27 (dk_at dksX8_acts_0 11 rfl rfl)
theorem dX8_acts_12 : decode cX8_acts 12 = .ok (.ishl, 1) := dk_120 (dk_at dksX8_acts_0 12 rfl rfl)
theorem dX8_acts_13 : decode cX8_acts 13 = .ok (.ior, 1) := dk_128 (dk_at dksX8_acts_0 13 rfl rfl)
theorem dX8_acts_14 : decode cX8_acts 14 = .ok (.putfield 234, 3) := dk_181 0 234 (dk_at dksX8_acts_0 14 rfl rfl)
theorem dX8_acts_17 : decode cX8_acts 17 = .ok (.goto 130, 3) := dk_167 0 130 (dk_at dksX8_acts_0 17 rfl rfl)
theorem dX8_acts_20 : decode cX8_acts 20 = .ok (.iload_n 1, 1) := dk_27 (dk_at dksX8_acts_0 20 rfl rfl)
theorem dX8_acts_21 : decode cX8_acts 21 = .ok (.bipush 7, 2) := dk_16 7 (dk_at dksX8_acts_0 21 rfl rfl)
theorem dX8_acts_23 : decode cX8_acts 23 = .ok (.if_icmp .ge 75, 3) := dk_162 0 75 (dk_at dksX8_acts_1 0 rfl rfl)
theorem dX8_acts_26 : decode cX8_acts 26 = .ok (.iload_n 1, 1) := dk_27 (dk_at dksX8_acts_1 3 rfl rfl)
theorem dX8_acts_27 : decode cX8_acts 27 = .ok (.iconst 4, 1) := dk_7 (dk_at dksX8_acts_1 4 rfl rfl)
theorem dX8_acts_28 : decode cX8_acts 28 = .ok (.isub, 1) := dk_100 (dk_at dksX8_acts_1 5 rfl rfl)
theorem dX8_acts_29 : decode cX8_acts 29 = .ok (.istore 5, 2) := dk_54 5 (dk_at dksX8_acts_1 6 rfl rfl)
theorem dX8_acts_31 : decode cX8_acts 31 = .ok (.iload 5, 2) := dk_21 5 (dk_at dksX8_acts_1 8 rfl rfl)
theorem dX8_acts_33 : decode cX8_acts 33 = .ok (.iload_n 3, 1) := dk_29 (dk_at dksX8_acts_1 10 rfl rfl)
theorem dX8_acts_34 : decode cX8_acts 34 = .ok (.if_icmp .eq 61, 3) := dk_159 0 61 (dk_at dksX8_acts_1 11 rfl rfl)
theorem dX8_acts_37 : decode cX8_acts 37 = .ok (.iload 4, 2) := dk_21 4 (dk_at dksX8_acts_1 14 rfl rfl)
theorem dX8_acts_39 : decode cX8_acts 39 = .ok (.iload 5, 2) := dk_21 5 (dk_at dksX8_acts_1 16 rfl rfl)
theorem dX8_acts_41 : decode cX8_acts 41 = .ok (.ishr, 1) := dk_122 (dk_at dksX8_acts_1 18 rfl rfl)
theorem dX8_acts_42 : decode cX8_acts 42 = .ok (.iconst 1, 1) := dk_4 (dk_at dksX8_acts_1 19 rfl rfl)
theorem dX8_acts_43 : decode cX8_acts 43 = .ok (.iand, 1) := dk_126 (dk_at dksX8_acts_1 20 rfl rfl)
theorem dX8_acts_44 : decode cX8_acts 44 = .ok (.ifCond .ne 51, 3) := dk_154 0 51 (dk_at dksX8_acts_1 21 rfl rfl)
theorem dX8_acts_47 : decode cX8_acts 47 = .ok (.aload_n 0, 1) := dk_42 (dk_at dksX8_acts_2 0 rfl rfl)
theorem dX8_acts_48 : decode cX8_acts 48 = .ok (.getfield 237, 3) := dk_180 0 237 (dk_at dksX8_acts_2 1 rfl rfl)
theorem dX8_acts_51 : decode cX8_acts 51 = .ok (.iload 5, 2) := dk_21 5 (dk_at dksX8_acts_2 4 rfl rfl)
theorem dX8_acts_53 : decode cX8_acts 53 = .ok (.ishr, 1) := dk_122 (dk_at dksX8_acts_2 6 rfl rfl)
theorem dX8_acts_54 : decode cX8_acts 54 = .ok (.iconst 1, 1) := dk_4 (dk_at dksX8_acts_2 7 rfl rfl)
theorem dX8_acts_55 : decode cX8_acts 55 = .ok (.iand, 1) := dk_126 (dk_at dksX8_acts_2 8 rfl rfl)
theorem dX8_acts_56 : decode cX8_acts 56 = .ok (.ifCond .ne 39, 3) := dk_154 0 39 (dk_at dksX8_acts_2 9 rfl rfl)
theorem dX8_acts_59 : decode cX8_acts 59 = .ok (.aload_n 0, 1) := dk_42 (dk_at dksX8_acts_2 12 rfl rfl)
theorem dX8_acts_60 : decode cX8_acts 60 = .ok (.dup, 1) := dk_89 (dk_at dksX8_acts_2 13 rfl rfl)
theorem dX8_acts_61 : decode cX8_acts 61 = .ok (.getfield 237, 3) := dk_180 0 237 (dk_at dksX8_acts_2 14 rfl rfl)
theorem dX8_acts_64 : decode cX8_acts 64 = .ok (.iconst 1, 1) := dk_4 (dk_at dksX8_acts_2 17 rfl rfl)
theorem dX8_acts_65 : decode cX8_acts 65 = .ok (.iload 5, 2) := dk_21 5 (dk_at dksX8_acts_2 18 rfl rfl)
theorem dX8_acts_67 : decode cX8_acts 67 = .ok (.ishl, 1) := dk_120 (dk_at dksX8_acts_2 20 rfl rfl)
theorem dX8_acts_68 : decode cX8_acts 68 = .ok (.ior, 1) := dk_128 (dk_at dksX8_acts_2 21 rfl rfl)
theorem dX8_acts_69 : decode cX8_acts 69 = .ok (.putfield 237, 3) := dk_181 0 237 (dk_at dksX8_acts_3 0 rfl rfl)
theorem dX8_acts_72 : decode cX8_acts 72 = .ok (.aload_n 0, 1) := dk_42 (dk_at dksX8_acts_3 3 rfl rfl)
theorem dX8_acts_73 : decode cX8_acts 73 = .ok (.dup, 1) := dk_89 (dk_at dksX8_acts_3 4 rfl rfl)
theorem dX8_acts_74 : decode cX8_acts 74 = .ok (.getfield 240, 3) := dk_180 0 240 (dk_at dksX8_acts_3 5 rfl rfl)
theorem dX8_acts_77 : decode cX8_acts 77 = .ok (.iconst 1, 1) := dk_4 (dk_at dksX8_acts_3 8 rfl rfl)
theorem dX8_acts_78 : decode cX8_acts 78 = .ok (.iadd, 1) := dk_96 (dk_at dksX8_acts_3 9 rfl rfl)
theorem dX8_acts_79 : decode cX8_acts 79 = .ok (.putfield 240, 3) := dk_181 0 240 (dk_at dksX8_acts_3 10 rfl rfl)
theorem dX8_acts_82 : decode cX8_acts 82 = .ok (.aload_n 0, 1) := dk_42 (dk_at dksX8_acts_3 13 rfl rfl)
theorem dX8_acts_83 : decode cX8_acts 83 = .ok (.iload_n 2, 1) := dk_28 (dk_at dksX8_acts_3 14 rfl rfl)
theorem dX8_acts_84 : decode cX8_acts 84 = .ok (.iload 5, 2) := dk_21 5 (dk_at dksX8_acts_3 15 rfl rfl)
theorem dX8_acts_86 : decode cX8_acts 86 = .ok (.iload 4, 2) := dk_21 4 (dk_at dksX8_acts_3 17 rfl rfl)
theorem dX8_acts_88 : decode cX8_acts 88 = .ok (.iconst 1, 1) := dk_4 (dk_at dksX8_acts_3 19 rfl rfl)
theorem dX8_acts_89 : decode cX8_acts 89 = .ok (.iload_n 3, 1) := dk_29 (dk_at dksX8_acts_3 20 rfl rfl)
theorem dX8_acts_90 : decode cX8_acts 90 = .ok (.ishl, 1) := dk_120 (dk_at dksX8_acts_3 21 rfl rfl)
theorem dX8_acts_91 : decode cX8_acts 91 = .ok (.ior, 1) := dk_128 (dk_at dksX8_acts_3 22 rfl rfl)
theorem dX8_acts_92 : decode cX8_acts 92 = .ok (.invokevirtual 243, 3) := dk_182 0 243 (dk_at dksX8_acts_4 0 rfl rfl)
theorem dX8_acts_95 : decode cX8_acts 95 = .ok (.goto 52, 3) := dk_167 0 52 (dk_at dksX8_acts_4 3 rfl rfl)
theorem dX8_acts_98 : decode cX8_acts 98 = .ok (.iload_n 1, 1) := dk_27 (dk_at dksX8_acts_4 6 rfl rfl)
theorem dX8_acts_99 : decode cX8_acts 99 = .ok (.bipush 7, 2) := dk_16 7 (dk_at dksX8_acts_4 7 rfl rfl)
theorem dX8_acts_101 : decode cX8_acts 101 = .ok (.if_icmp .ne 11, 3) := dk_160 0 11 (dk_at dksX8_acts_4 9 rfl rfl)
theorem dX8_acts_104 : decode cX8_acts 104 = .ok (.aload_n 0, 1) := dk_42 (dk_at dksX8_acts_4 12 rfl rfl)
theorem dX8_acts_105 : decode cX8_acts 105 = .ok (.iconst 1, 1) := dk_4 (dk_at dksX8_acts_4 13 rfl rfl)
theorem dX8_acts_106 : decode cX8_acts 106 = .ok (.putfield 247, 3) := dk_181 0 247 (dk_at dksX8_acts_4 14 rfl rfl)
theorem dX8_acts_109 : decode cX8_acts 109 = .ok (.goto 38, 3) := dk_167 0 38 (dk_at dksX8_acts_4 17 rfl rfl)
theorem dX8_acts_112 : decode cX8_acts 112 = .ok (.iload_n 1, 1) := dk_27 (dk_at dksX8_acts_4 20 rfl rfl)
theorem dX8_acts_113 : decode cX8_acts 113 = .ok (.bipush 8, 2) := dk_16 8 (dk_at dksX8_acts_4 21 rfl rfl)
theorem dX8_acts_115 : decode cX8_acts 115 = .ok (.if_icmp .ne 21, 3) := dk_160 0 21 (dk_at dksX8_acts_5 0 rfl rfl)
theorem dX8_acts_118 : decode cX8_acts 118 = .ok (.aload_n 0, 1) := dk_42 (dk_at dksX8_acts_5 3 rfl rfl)
theorem dX8_acts_119 : decode cX8_acts 119 = .ok (.iload_n 2, 1) := dk_28 (dk_at dksX8_acts_5 4 rfl rfl)
theorem dX8_acts_120 : decode cX8_acts 120 = .ok (.iload_n 3, 1) := dk_29 (dk_at dksX8_acts_5 5 rfl rfl)
theorem dX8_acts_121 : decode cX8_acts 121 = .ok (.invokevirtual 250, 3) := dk_182 0 250 (dk_at dksX8_acts_5 6 rfl rfl)
theorem dX8_acts_124 : decode cX8_acts 124 = .ok (.ifCond .eq 23, 3) := dk_153 0 23 (dk_at dksX8_acts_5 9 rfl rfl)
theorem dX8_acts_127 : decode cX8_acts 127 = .ok (.aload_n 0, 1) := dk_42 (dk_at dksX8_acts_5 12 rfl rfl)
theorem dX8_acts_128 : decode cX8_acts 128 = .ok (.iload_n 2, 1) := dk_28 (dk_at dksX8_acts_5 13 rfl rfl)
theorem dX8_acts_129 : decode cX8_acts 129 = .ok (.iload_n 3, 1) := dk_29 (dk_at dksX8_acts_5 14 rfl rfl)
theorem dX8_acts_130 : decode cX8_acts 130 = .ok (.invokevirtual 254, 3) := dk_182 0 254 (dk_at dksX8_acts_5 15 rfl rfl)
theorem dX8_acts_133 : decode cX8_acts 133 = .ok (.goto 14, 3) := dk_167 0 14 (dk_at dksX8_acts_5 18 rfl rfl)
theorem dX8_acts_136 : decode cX8_acts 136 = .ok (.iload_n 1, 1) := dk_27 (dk_at dksX8_acts_5 21 rfl rfl)
theorem dX8_acts_137 : decode cX8_acts 137 = .ok (.bipush 9, 2) := dk_16 9 (dk_at dksX8_acts_5 22 rfl rfl)
theorem dX8_acts_139 : decode cX8_acts 139 = .ok (.if_icmp .ne 8, 3) := dk_160 0 8 (dk_at dksX8_acts_6 0 rfl rfl)
theorem dX8_acts_142 : decode cX8_acts 142 = .ok (.aload_n 0, 1) := dk_42 (dk_at dksX8_acts_6 3 rfl rfl)
theorem dX8_acts_143 : decode cX8_acts 143 = .ok (.iconst 1, 1) := dk_4 (dk_at dksX8_acts_6 4 rfl rfl)
theorem dX8_acts_144 : decode cX8_acts 144 = .ok (.putfield 257, 3) := dk_181 1 1 (dk_at dksX8_acts_6 5 rfl rfl)
theorem dX8_acts_147 : decode cX8_acts 147 = .ok (.return_, 1) := dk_177 (dk_at dksX8_acts_6 8 rfl rfl)
abbrev cX8_mayAnswer : ByteArray := prog_21_method_25_code
def yX8_mayAnswer : MethodName := ⟨RX8, "mayAnswer", "(II)Z"⟩
def dkwX8_mayAnswer_3 : List UInt8 := [161, 0, 7, 4, 167, 0, 4, 3, 172]
abbrev dktX8_mayAnswer_3 : List UInt8 := dkwX8_mayAnswer_3 ++ []
def dkwX8_mayAnswer_2 : List UInt8 := [46, 42, 180, 0, 80, 16, 16, 28, 104, 42, 180, 0, 53, 27, 46, 96, 46, 100, 42, 180, 0, 31, 28, 46]
abbrev dktX8_mayAnswer_2 : List UInt8 := dkwX8_mayAnswer_2 ++ dktX8_mayAnswer_3
def dkwX8_mayAnswer_1 : List UInt8 := [180, 0, 53, 27, 46, 28, 159, 0, 7, 4, 167, 0, 4, 3, 62, 29, 153, 0, 39, 42, 180, 0, 74, 27]
abbrev dktX8_mayAnswer_1 : List UInt8 := dkwX8_mayAnswer_1 ++ dktX8_mayAnswer_2
def dkwX8_mayAnswer_0 : List UInt8 := [42, 180, 0, 65, 27, 46, 154, 0, 31, 42, 180, 0, 56, 27, 46, 28, 122, 4, 126, 4, 160, 0, 17, 42]
abbrev dktX8_mayAnswer_0 : List UInt8 := dkwX8_mayAnswer_0 ++ dktX8_mayAnswer_1
theorem dksX8_mayAnswer_0 : cX8_mayAnswer.data.toList.drop 0 = dktX8_mayAnswer_0 := by decide +kernel
theorem dksX8_mayAnswer_1 : cX8_mayAnswer.data.toList.drop 24 = dktX8_mayAnswer_1 := dk_seg dksX8_mayAnswer_0 24 rfl rfl
theorem dksX8_mayAnswer_2 : cX8_mayAnswer.data.toList.drop 48 = dktX8_mayAnswer_2 := dk_seg dksX8_mayAnswer_1 24 rfl rfl
theorem dksX8_mayAnswer_3 : cX8_mayAnswer.data.toList.drop 72 = dktX8_mayAnswer_3 := dk_seg dksX8_mayAnswer_2 24 rfl rfl
theorem dX8_mayAnswer_0 : decode cX8_mayAnswer 0 = .ok (.aload_n 0, 1) := dk_42 (dk_at dksX8_mayAnswer_0 0 rfl rfl)
theorem dX8_mayAnswer_1 : decode cX8_mayAnswer 1 = .ok (.getfield 65, 3) := dk_180 0 65 (dk_at dksX8_mayAnswer_0 1 rfl rfl)
theorem dX8_mayAnswer_4 : decode cX8_mayAnswer 4 = .ok (.iload_n 1, 1) := dk_27 (dk_at dksX8_mayAnswer_0 4 rfl rfl)
theorem dX8_mayAnswer_5 : decode cX8_mayAnswer 5 = .ok (.iaload, 1) := dk_46 (dk_at dksX8_mayAnswer_0 5 rfl rfl)
theorem dX8_mayAnswer_6 : decode cX8_mayAnswer 6 = .ok (.ifCond .ne 31, 3) := dk_154 0 31 (dk_at dksX8_mayAnswer_0 6 rfl rfl)
theorem dX8_mayAnswer_9 : decode cX8_mayAnswer 9 = .ok (.aload_n 0, 1) := dk_42 (dk_at dksX8_mayAnswer_0 9 rfl rfl)
theorem dX8_mayAnswer_10 : decode cX8_mayAnswer 10 = .ok (.getfield 56, 3) := dk_180 0 56 (dk_at dksX8_mayAnswer_0 10 rfl rfl)
theorem dX8_mayAnswer_13 : decode cX8_mayAnswer 13 = .ok (.iload_n 1, 1) := dk_27 (dk_at dksX8_mayAnswer_0 13 rfl rfl)
theorem dX8_mayAnswer_14 : decode cX8_mayAnswer 14 = .ok (.iaload, 1) := dk_46 (dk_at dksX8_mayAnswer_0 14 rfl rfl)
theorem dX8_mayAnswer_15 : decode cX8_mayAnswer 15 = .ok (.iload_n 2, 1) := dk_28 (dk_at dksX8_mayAnswer_0 15 rfl rfl)
theorem dX8_mayAnswer_16 : decode cX8_mayAnswer 16 = .ok (.ishr, 1) := dk_122 (dk_at dksX8_mayAnswer_0 16 rfl rfl)
theorem dX8_mayAnswer_17 : decode cX8_mayAnswer 17 = .ok (.iconst 1, 1) := dk_4 (dk_at dksX8_mayAnswer_0 17 rfl rfl)
theorem dX8_mayAnswer_18 : decode cX8_mayAnswer 18 = .ok (.iand, 1) := dk_126 (dk_at dksX8_mayAnswer_0 18 rfl rfl)
theorem dX8_mayAnswer_19 : decode cX8_mayAnswer 19 = .ok (.iconst 1, 1) := dk_4 (dk_at dksX8_mayAnswer_0 19 rfl rfl)
theorem dX8_mayAnswer_20 : decode cX8_mayAnswer 20 = .ok (.if_icmp .ne 17, 3) := dk_160 0 17 (dk_at dksX8_mayAnswer_0 20 rfl rfl)
theorem dX8_mayAnswer_23 : decode cX8_mayAnswer 23 = .ok (.aload_n 0, 1) := dk_42 (dk_at dksX8_mayAnswer_0 23 rfl rfl)
theorem dX8_mayAnswer_24 : decode cX8_mayAnswer 24 = .ok (.getfield 53, 3) := dk_180 0 53 (dk_at dksX8_mayAnswer_1 0 rfl rfl)
theorem dX8_mayAnswer_27 : decode cX8_mayAnswer 27 = .ok (.iload_n 1, 1) := dk_27 (dk_at dksX8_mayAnswer_1 3 rfl rfl)
theorem dX8_mayAnswer_28 : decode cX8_mayAnswer 28 = .ok (.iaload, 1) := dk_46 (dk_at dksX8_mayAnswer_1 4 rfl rfl)
theorem dX8_mayAnswer_29 : decode cX8_mayAnswer 29 = .ok (.iload_n 2, 1) := dk_28 (dk_at dksX8_mayAnswer_1 5 rfl rfl)
theorem dX8_mayAnswer_30 : decode cX8_mayAnswer 30 = .ok (.if_icmp .eq 7, 3) := dk_159 0 7 (dk_at dksX8_mayAnswer_1 6 rfl rfl)
theorem dX8_mayAnswer_33 : decode cX8_mayAnswer 33 = .ok (.iconst 1, 1) := dk_4 (dk_at dksX8_mayAnswer_1 9 rfl rfl)
theorem dX8_mayAnswer_34 : decode cX8_mayAnswer 34 = .ok (.goto 4, 3) := dk_167 0 4 (dk_at dksX8_mayAnswer_1 10 rfl rfl)
theorem dX8_mayAnswer_37 : decode cX8_mayAnswer 37 = .ok (.iconst 0, 1) := dk_3 (dk_at dksX8_mayAnswer_1 13 rfl rfl)
theorem dX8_mayAnswer_38 : decode cX8_mayAnswer 38 = .ok (.istore_n 3, 1) := dk_62 (dk_at dksX8_mayAnswer_1 14 rfl rfl)
theorem dX8_mayAnswer_39 : decode cX8_mayAnswer 39 = .ok (.iload_n 3, 1) := dk_29 (dk_at dksX8_mayAnswer_1 15 rfl rfl)
theorem dX8_mayAnswer_40 : decode cX8_mayAnswer 40 = .ok (.ifCond .eq 39, 3) := dk_153 0 39 (dk_at dksX8_mayAnswer_1 16 rfl rfl)
theorem dX8_mayAnswer_43 : decode cX8_mayAnswer 43 = .ok (.aload_n 0, 1) := dk_42 (dk_at dksX8_mayAnswer_1 19 rfl rfl)
theorem dX8_mayAnswer_44 : decode cX8_mayAnswer 44 = .ok (.getfield 74, 3) := dk_180 0 74 (dk_at dksX8_mayAnswer_1 20 rfl rfl)
theorem dX8_mayAnswer_47 : decode cX8_mayAnswer 47 = .ok (.iload_n 1, 1) := dk_27 (dk_at dksX8_mayAnswer_1 23 rfl rfl)
theorem dX8_mayAnswer_48 : decode cX8_mayAnswer 48 = .ok (.iaload, 1) := dk_46 (dk_at dksX8_mayAnswer_2 0 rfl rfl)
theorem dX8_mayAnswer_49 : decode cX8_mayAnswer 49 = .ok (.aload_n 0, 1) := dk_42 (dk_at dksX8_mayAnswer_2 1 rfl rfl)
theorem dX8_mayAnswer_50 : decode cX8_mayAnswer 50 = .ok (.getfield 80, 3) := dk_180 0 80 (dk_at dksX8_mayAnswer_2 2 rfl rfl)
theorem dX8_mayAnswer_53 : decode cX8_mayAnswer 53 = .ok (.bipush 16, 2) := dk_16 16 (dk_at dksX8_mayAnswer_2 5 rfl rfl)
theorem dX8_mayAnswer_55 : decode cX8_mayAnswer 55 = .ok (.iload_n 2, 1) := dk_28 (dk_at dksX8_mayAnswer_2 7 rfl rfl)
theorem dX8_mayAnswer_56 : decode cX8_mayAnswer 56 = .ok (.imul, 1) := dk_104 (dk_at dksX8_mayAnswer_2 8 rfl rfl)
theorem dX8_mayAnswer_57 : decode cX8_mayAnswer 57 = .ok (.aload_n 0, 1) := dk_42 (dk_at dksX8_mayAnswer_2 9 rfl rfl)
theorem dX8_mayAnswer_58 : decode cX8_mayAnswer 58 = .ok (.getfield 53, 3) := dk_180 0 53 (dk_at dksX8_mayAnswer_2 10 rfl rfl)
theorem dX8_mayAnswer_61 : decode cX8_mayAnswer 61 = .ok (.iload_n 1, 1) := dk_27 (dk_at dksX8_mayAnswer_2 13 rfl rfl)
theorem dX8_mayAnswer_62 : decode cX8_mayAnswer 62 = .ok (.iaload, 1) := dk_46 (dk_at dksX8_mayAnswer_2 14 rfl rfl)
theorem dX8_mayAnswer_63 : decode cX8_mayAnswer 63 = .ok (.iadd, 1) := dk_96 (dk_at dksX8_mayAnswer_2 15 rfl rfl)
theorem dX8_mayAnswer_64 : decode cX8_mayAnswer 64 = .ok (.iaload, 1) := dk_46 (dk_at dksX8_mayAnswer_2 16 rfl rfl)
theorem dX8_mayAnswer_65 : decode cX8_mayAnswer 65 = .ok (.isub, 1) := dk_100 (dk_at dksX8_mayAnswer_2 17 rfl rfl)
theorem dX8_mayAnswer_66 : decode cX8_mayAnswer 66 = .ok (.aload_n 0, 1) := dk_42 (dk_at dksX8_mayAnswer_2 18 rfl rfl)
theorem dX8_mayAnswer_67 : decode cX8_mayAnswer 67 = .ok (.getfield 31, 3) := dk_180 0 31 (dk_at dksX8_mayAnswer_2 19 rfl rfl)
theorem dX8_mayAnswer_70 : decode cX8_mayAnswer 70 = .ok (.iload_n 2, 1) := dk_28 (dk_at dksX8_mayAnswer_2 22 rfl rfl)
theorem dX8_mayAnswer_71 : decode cX8_mayAnswer 71 = .ok (.iaload, 1) := dk_46 (dk_at dksX8_mayAnswer_2 23 rfl rfl)
theorem dX8_mayAnswer_72 : decode cX8_mayAnswer 72 = .ok (.if_icmp .lt 7, 3) := dk_161 0 7 (dk_at dksX8_mayAnswer_3 0 rfl rfl)
theorem dX8_mayAnswer_75 : decode cX8_mayAnswer 75 = .ok (.iconst 1, 1) := dk_4 (dk_at dksX8_mayAnswer_3 3 rfl rfl)
theorem dX8_mayAnswer_76 : decode cX8_mayAnswer 76 = .ok (.goto 4, 3) := dk_167 0 4 (dk_at dksX8_mayAnswer_3 4 rfl rfl)
theorem dX8_mayAnswer_79 : decode cX8_mayAnswer 79 = .ok (.iconst 0, 1) := dk_3 (dk_at dksX8_mayAnswer_3 7 rfl rfl)
theorem dX8_mayAnswer_80 : decode cX8_mayAnswer 80 = .ok (.ireturn, 1) := dk_172 (dk_at dksX8_mayAnswer_3 8 rfl rfl)
abbrev cX8_answers : ByteArray := prog_21_method_26_code
def yX8_answers : MethodName := ⟨RX8, "answers", "(II)V"⟩
def dkwX8_answers_3 : List UInt8 := [27, 46, 182, 0, 230, 177]
abbrev dktX8_answers_3 : List UInt8 := dkwX8_answers_3 ++ []
def dkwX8_answers_2 : List UInt8 := [46, 120, 3, 16, 100, 5, 17, 39, 16, 42, 180, 0, 224, 96, 42, 180, 0, 68, 27, 46, 42, 180, 0, 74]
abbrev dktX8_answers_2 : List UInt8 := dkwX8_answers_2 ++ dktX8_answers_3
def dkwX8_answers_1 : List UInt8 := [180, 0, 221, 4, 96, 181, 0, 221, 42, 42, 180, 0, 224, 181, 0, 227, 42, 28, 4, 42, 180, 0, 53, 27]
abbrev dktX8_answers_1 : List UInt8 := dkwX8_answers_1 ++ dktX8_answers_2
def dkwX8_answers_0 : List UInt8 := [42, 180, 0, 80, 16, 16, 28, 104, 42, 180, 0, 53, 27, 46, 96, 42, 180, 0, 74, 27, 46, 79, 42, 89]
abbrev dktX8_answers_0 : List UInt8 := dkwX8_answers_0 ++ dktX8_answers_1
theorem dksX8_answers_0 : cX8_answers.data.toList.drop 0 = dktX8_answers_0 := by decide +kernel
theorem dksX8_answers_1 : cX8_answers.data.toList.drop 24 = dktX8_answers_1 := dk_seg dksX8_answers_0 24 rfl rfl
theorem dksX8_answers_2 : cX8_answers.data.toList.drop 48 = dktX8_answers_2 := dk_seg dksX8_answers_1 24 rfl rfl
theorem dksX8_answers_3 : cX8_answers.data.toList.drop 72 = dktX8_answers_3 := dk_seg dksX8_answers_2 24 rfl rfl
theorem dX8_answers_0 : decode cX8_answers 0 = .ok (.aload_n 0, 1) := dk_42 (dk_at dksX8_answers_0 0 rfl rfl)
theorem dX8_answers_1 : decode cX8_answers 1 = .ok (.getfield 80, 3) := dk_180 0 80 (dk_at dksX8_answers_0 1 rfl rfl)
theorem dX8_answers_4 : decode cX8_answers 4 = .ok (.bipush 16, 2) := dk_16 16 (dk_at dksX8_answers_0 4 rfl rfl)
theorem dX8_answers_6 : decode cX8_answers 6 = .ok (.iload_n 2, 1) := dk_28 (dk_at dksX8_answers_0 6 rfl rfl)
theorem dX8_answers_7 : decode cX8_answers 7 = .ok (.imul, 1) := dk_104 (dk_at dksX8_answers_0 7 rfl rfl)
theorem dX8_answers_8 : decode cX8_answers 8 = .ok (.aload_n 0, 1) := dk_42 (dk_at dksX8_answers_0 8 rfl rfl)
theorem dX8_answers_9 : decode cX8_answers 9 = .ok (.getfield 53, 3) := dk_180 0 53 (dk_at dksX8_answers_0 9 rfl rfl)
theorem dX8_answers_12 : decode cX8_answers 12 = .ok (.iload_n 1, 1) := dk_27 (dk_at dksX8_answers_0 12 rfl rfl)
theorem dX8_answers_13 : decode cX8_answers 13 = .ok (.iaload, 1) := dk_46 (dk_at dksX8_answers_0 13 rfl rfl)
theorem dX8_answers_14 : decode cX8_answers 14 = .ok (.iadd, 1) := dk_96 (dk_at dksX8_answers_0 14 rfl rfl)
theorem dX8_answers_15 : decode cX8_answers 15 = .ok (.aload_n 0, 1) := dk_42 (dk_at dksX8_answers_0 15 rfl rfl)
theorem dX8_answers_16 : decode cX8_answers 16 = .ok (.getfield 74, 3) := dk_180 0 74 (dk_at dksX8_answers_0 16 rfl rfl)
theorem dX8_answers_19 : decode cX8_answers 19 = .ok (.iload_n 1, 1) := dk_27 (dk_at dksX8_answers_0 19 rfl rfl)
theorem dX8_answers_20 : decode cX8_answers 20 = .ok (.iaload, 1) := dk_46 (dk_at dksX8_answers_0 20 rfl rfl)
theorem dX8_answers_21 : decode cX8_answers 21 = .ok (.iastore, 1) := dk_79 (dk_at dksX8_answers_0 21 rfl rfl)
theorem dX8_answers_22 : decode cX8_answers 22 = .ok (.aload_n 0, 1) := dk_42 (dk_at dksX8_answers_0 22 rfl rfl)
theorem dX8_answers_23 : decode cX8_answers 23 = .ok (.dup, 1) := dk_89 (dk_at dksX8_answers_0 23 rfl rfl)
theorem dX8_answers_24 : decode cX8_answers 24 = .ok (.getfield 221, 3) := dk_180 0 221 (dk_at dksX8_answers_1 0 rfl rfl)
theorem dX8_answers_27 : decode cX8_answers 27 = .ok (.iconst 1, 1) := dk_4 (dk_at dksX8_answers_1 3 rfl rfl)
theorem dX8_answers_28 : decode cX8_answers 28 = .ok (.iadd, 1) := dk_96 (dk_at dksX8_answers_1 4 rfl rfl)
theorem dX8_answers_29 : decode cX8_answers 29 = .ok (.putfield 221, 3) := dk_181 0 221 (dk_at dksX8_answers_1 5 rfl rfl)
theorem dX8_answers_32 : decode cX8_answers 32 = .ok (.aload_n 0, 1) := dk_42 (dk_at dksX8_answers_1 8 rfl rfl)
theorem dX8_answers_33 : decode cX8_answers 33 = .ok (.aload_n 0, 1) := dk_42 (dk_at dksX8_answers_1 9 rfl rfl)
theorem dX8_answers_34 : decode cX8_answers 34 = .ok (.getfield 224, 3) := dk_180 0 224 (dk_at dksX8_answers_1 10 rfl rfl)
theorem dX8_answers_37 : decode cX8_answers 37 = .ok (.putfield 227, 3) := dk_181 0 227 (dk_at dksX8_answers_1 13 rfl rfl)
theorem dX8_answers_40 : decode cX8_answers 40 = .ok (.aload_n 0, 1) := dk_42 (dk_at dksX8_answers_1 16 rfl rfl)
theorem dX8_answers_41 : decode cX8_answers 41 = .ok (.iload_n 2, 1) := dk_28 (dk_at dksX8_answers_1 17 rfl rfl)
theorem dX8_answers_42 : decode cX8_answers 42 = .ok (.iconst 1, 1) := dk_4 (dk_at dksX8_answers_1 18 rfl rfl)
theorem dX8_answers_43 : decode cX8_answers 43 = .ok (.aload_n 0, 1) := dk_42 (dk_at dksX8_answers_1 19 rfl rfl)
theorem dX8_answers_44 : decode cX8_answers 44 = .ok (.getfield 53, 3) := dk_180 0 53 (dk_at dksX8_answers_1 20 rfl rfl)
theorem dX8_answers_47 : decode cX8_answers 47 = .ok (.iload_n 1, 1) := dk_27 (dk_at dksX8_answers_1 23 rfl rfl)
theorem dX8_answers_48 : decode cX8_answers 48 = .ok (.iaload, 1) := dk_46 (dk_at dksX8_answers_2 0 rfl rfl)
theorem dX8_answers_49 : decode cX8_answers 49 = .ok (.ishl, 1) := dk_120 (dk_at dksX8_answers_2 1 rfl rfl)
theorem dX8_answers_50 : decode cX8_answers 50 = .ok (.iconst 0, 1) := dk_3 (dk_at dksX8_answers_2 2 rfl rfl)
theorem dX8_answers_51 : decode cX8_answers 51 = .ok (.bipush 100, 2) := dk_16 100 (dk_at dksX8_answers_2 3 rfl rfl)
theorem dX8_answers_53 : decode cX8_answers 53 = .ok (.iconst 2, 1) := dk_5 (dk_at dksX8_answers_2 5 rfl rfl)
theorem dX8_answers_54 : decode cX8_answers 54 = .ok (.sipush 10000, 3) := dk_17 39 16 (dk_at dksX8_answers_2 6 rfl rfl)
theorem dX8_answers_57 : decode cX8_answers 57 = .ok (.aload_n 0, 1) := dk_42 (dk_at dksX8_answers_2 9 rfl rfl)
theorem dX8_answers_58 : decode cX8_answers 58 = .ok (.getfield 224, 3) := dk_180 0 224 (dk_at dksX8_answers_2 10 rfl rfl)
theorem dX8_answers_61 : decode cX8_answers 61 = .ok (.iadd, 1) := dk_96 (dk_at dksX8_answers_2 13 rfl rfl)
theorem dX8_answers_62 : decode cX8_answers 62 = .ok (.aload_n 0, 1) := dk_42 (dk_at dksX8_answers_2 14 rfl rfl)
theorem dX8_answers_63 : decode cX8_answers 63 = .ok (.getfield 68, 3) := dk_180 0 68 (dk_at dksX8_answers_2 15 rfl rfl)
theorem dX8_answers_66 : decode cX8_answers 66 = .ok (.iload_n 1, 1) := dk_27 (dk_at dksX8_answers_2 18 rfl rfl)
theorem dX8_answers_67 : decode cX8_answers 67 = .ok (.iaload, 1) := dk_46 (dk_at dksX8_answers_2 19 rfl rfl)
theorem dX8_answers_68 : decode cX8_answers 68 = .ok (.aload_n 0, 1) := dk_42 (dk_at dksX8_answers_2 20 rfl rfl)
theorem dX8_answers_69 : decode cX8_answers 69 = .ok (.getfield 74, 3) := dk_180 0 74 (dk_at dksX8_answers_2 21 rfl rfl)
theorem dX8_answers_72 : decode cX8_answers 72 = .ok (.iload_n 1, 1) := dk_27 (dk_at dksX8_answers_3 0 rfl rfl)
theorem dX8_answers_73 : decode cX8_answers 73 = .ok (.iaload, 1) := dk_46 (dk_at dksX8_answers_3 1 rfl rfl)
theorem dX8_answers_74 : decode cX8_answers 74 = .ok (.invokevirtual 230, 3) := dk_182 0 230 (dk_at dksX8_answers_3 2 rfl rfl)
theorem dX8_answers_77 : decode cX8_answers 77 = .ok (.return_, 1) := dk_177 (dk_at dksX8_answers_3 5 rfl rfl)
abbrev cX8_files : ByteArray := prog_21_method_30_code
def yX8_files : MethodName := ⟨RX8, "files", "(II)V"⟩
def dkwX8_files_6 : List UInt8 := [167, 0, 4, 3, 62, 132, 4, 1, 167, 255, 112, 177]
abbrev dktX8_files_6 : List UInt8 := dkwX8_files_6 ++ []
def dkwX8_files_5 : List UInt8 := [180, 1, 22, 4, 96, 181, 1, 22, 29, 154, 0, 13, 21, 4, 153, 0, 8, 21, 6, 153, 0, 7, 4]
abbrev dktX8_files_5 : List UInt8 := dkwX8_files_5 ++ dktX8_files_6
def dkwX8_files_4 : List UInt8 := [21, 6, 153, 0, 7, 29, 154, 0, 25, 42, 21, 5, 27, 42, 180, 1, 1, 3, 182, 1, 19, 42, 89]
abbrev dktX8_files_4 : List UInt8 := dkwX8_files_4 ++ dktX8_files_5
def dkwX8_files_3 : List UInt8 := [167, 0, 4, 3, 96, 181, 1, 16, 21, 6, 153, 0, 9, 7, 28, 104, 167, 0, 5, 21, 5, 54, 5]
abbrev dktX8_files_3 : List UInt8 := dkwX8_files_3 ++ dktX8_files_4
def dkwX8_files_2 : List UInt8 := [21, 5, 46, 161, 0, 7, 4, 167, 0, 4, 3, 54, 6, 42, 89, 180, 1, 16, 21, 6, 153, 0, 7, 4]
abbrev dktX8_files_2 : List UInt8 := dkwX8_files_2 ++ dktX8_files_3
def dkwX8_files_1 : List UInt8 := [7, 28, 104, 21, 4, 96, 54, 5, 21, 4, 158, 0, 24, 42, 180, 0, 83, 21, 5, 46, 42, 180, 0, 28]
abbrev dktX8_files_1 : List UInt8 := dkwX8_files_1 ++ dktX8_files_2
def dkwX8_files_0 : List UInt8 := [3, 62, 3, 54, 4, 21, 4, 7, 162, 0, 144, 42, 180, 0, 234, 21, 4, 122, 4, 126, 4, 160, 0, 125]
abbrev dktX8_files_0 : List UInt8 := dkwX8_files_0 ++ dktX8_files_1
theorem dksX8_files_0 : cX8_files.data.toList.drop 0 = dktX8_files_0 := by decide +kernel
theorem dksX8_files_1 : cX8_files.data.toList.drop 24 = dktX8_files_1 := dk_seg dksX8_files_0 24 rfl rfl
theorem dksX8_files_2 : cX8_files.data.toList.drop 48 = dktX8_files_2 := dk_seg dksX8_files_1 24 rfl rfl
theorem dksX8_files_3 : cX8_files.data.toList.drop 72 = dktX8_files_3 := dk_seg dksX8_files_2 24 rfl rfl
theorem dksX8_files_4 : cX8_files.data.toList.drop 95 = dktX8_files_4 := dk_seg dksX8_files_3 23 rfl rfl
theorem dksX8_files_5 : cX8_files.data.toList.drop 118 = dktX8_files_5 := dk_seg dksX8_files_4 23 rfl rfl
theorem dksX8_files_6 : cX8_files.data.toList.drop 141 = dktX8_files_6 := dk_seg dksX8_files_5 23 rfl rfl
theorem dX8_files_0 : decode cX8_files 0 = .ok (.iconst 0, 1) := dk_3 (dk_at dksX8_files_0 0 rfl rfl)
theorem dX8_files_1 : decode cX8_files 1 = .ok (.istore_n 3, 1) := dk_62 (dk_at dksX8_files_0 1 rfl rfl)
theorem dX8_files_2 : decode cX8_files 2 = .ok (.iconst 0, 1) := dk_3 (dk_at dksX8_files_0 2 rfl rfl)
theorem dX8_files_3 : decode cX8_files 3 = .ok (.istore 4, 2) := dk_54 4 (dk_at dksX8_files_0 3 rfl rfl)
theorem dX8_files_5 : decode cX8_files 5 = .ok (.iload 4, 2) := dk_21 4 (dk_at dksX8_files_0 5 rfl rfl)
theorem dX8_files_7 : decode cX8_files 7 = .ok (.iconst 4, 1) := dk_7 (dk_at dksX8_files_0 7 rfl rfl)
theorem dX8_files_8 : decode cX8_files 8 = .ok (.if_icmp .ge 144, 3) := dk_162 0 144 (dk_at dksX8_files_0 8 rfl rfl)
theorem dX8_files_11 : decode cX8_files 11 = .ok (.aload_n 0, 1) := dk_42 (dk_at dksX8_files_0 11 rfl rfl)
theorem dX8_files_12 : decode cX8_files 12 = .ok (.getfield 234, 3) := dk_180 0 234 (dk_at dksX8_files_0 12 rfl rfl)
theorem dX8_files_15 : decode cX8_files 15 = .ok (.iload 4, 2) := dk_21 4 (dk_at dksX8_files_0 15 rfl rfl)
theorem dX8_files_17 : decode cX8_files 17 = .ok (.ishr, 1) := dk_122 (dk_at dksX8_files_0 17 rfl rfl)
theorem dX8_files_18 : decode cX8_files 18 = .ok (.iconst 1, 1) := dk_4 (dk_at dksX8_files_0 18 rfl rfl)
theorem dX8_files_19 : decode cX8_files 19 = .ok (.iand, 1) := dk_126 (dk_at dksX8_files_0 19 rfl rfl)
theorem dX8_files_20 : decode cX8_files 20 = .ok (.iconst 1, 1) := dk_4 (dk_at dksX8_files_0 20 rfl rfl)
theorem dX8_files_21 : decode cX8_files 21 = .ok (.if_icmp .ne 125, 3) := dk_160 0 125 (dk_at dksX8_files_0 21 rfl rfl)
theorem dX8_files_24 : decode cX8_files 24 = .ok (.iconst 4, 1) := dk_7 (dk_at dksX8_files_1 0 rfl rfl)
theorem dX8_files_25 : decode cX8_files 25 = .ok (.iload_n 2, 1) := dk_28 (dk_at dksX8_files_1 1 rfl rfl)
theorem dX8_files_26 : decode cX8_files 26 = .ok (.imul, 1) := dk_104 (dk_at dksX8_files_1 2 rfl rfl)
theorem dX8_files_27 : decode cX8_files 27 = .ok (.iload 4, 2) := dk_21 4 (dk_at dksX8_files_1 3 rfl rfl)
theorem dX8_files_29 : decode cX8_files 29 = .ok (.iadd, 1) := dk_96 (dk_at dksX8_files_1 5 rfl rfl)
theorem dX8_files_30 : decode cX8_files 30 = .ok (.istore 5, 2) := dk_54 5 (dk_at dksX8_files_1 6 rfl rfl)
theorem dX8_files_32 : decode cX8_files 32 = .ok (.iload 4, 2) := dk_21 4 (dk_at dksX8_files_1 8 rfl rfl)
theorem dX8_files_34 : decode cX8_files 34 = .ok (.ifCond .le 24, 3) := dk_158 0 24 (dk_at dksX8_files_1 10 rfl rfl)
theorem dX8_files_37 : decode cX8_files 37 = .ok (.aload_n 0, 1) := dk_42 (dk_at dksX8_files_1 13 rfl rfl)
theorem dX8_files_38 : decode cX8_files 38 = .ok (.getfield 83, 3) := dk_180 0 83 (dk_at dksX8_files_1 14 rfl rfl)
theorem dX8_files_41 : decode cX8_files 41 = .ok (.iload 5, 2) := dk_21 5 (dk_at dksX8_files_1 17 rfl rfl)
theorem dX8_files_43 : decode cX8_files 43 = .ok (.iaload, 1) := dk_46 (dk_at dksX8_files_1 19 rfl rfl)
theorem dX8_files_44 : decode cX8_files 44 = .ok (.aload_n 0, 1) := dk_42 (dk_at dksX8_files_1 20 rfl rfl)
theorem dX8_files_45 : decode cX8_files 45 = .ok (.getfield 28, 3) := dk_180 0 28 (dk_at dksX8_files_1 21 rfl rfl)
theorem dX8_files_48 : decode cX8_files 48 = .ok (.iload 5, 2) := dk_21 5 (dk_at dksX8_files_2 0 rfl rfl)
theorem dX8_files_50 : decode cX8_files 50 = .ok (.iaload, 1) := dk_46 (dk_at dksX8_files_2 2 rfl rfl)
theorem dX8_files_51 : decode cX8_files 51 = .ok (.if_icmp .lt 7, 3) := dk_161 0 7 (dk_at dksX8_files_2 3 rfl rfl)
theorem dX8_files_54 : decode cX8_files 54 = .ok (.iconst 1, 1) := dk_4 (dk_at dksX8_files_2 6 rfl rfl)
theorem dX8_files_55 : decode cX8_files 55 = .ok (.goto 4, 3) := dk_167 0 4 (dk_at dksX8_files_2 7 rfl rfl)
theorem dX8_files_58 : decode cX8_files 58 = .ok (.iconst 0, 1) := dk_3 (dk_at dksX8_files_2 10 rfl rfl)
theorem dX8_files_59 : decode cX8_files 59 = .ok (.istore 6, 2) := dk_54 6 (dk_at dksX8_files_2 11 rfl rfl)
theorem dX8_files_61 : decode cX8_files 61 = .ok (.aload_n 0, 1) := dk_42 (dk_at dksX8_files_2 13 rfl rfl)
theorem dX8_files_62 : decode cX8_files 62 = .ok (.dup, 1) := dk_89 (dk_at dksX8_files_2 14 rfl rfl)
theorem dX8_files_63 : decode cX8_files 63 = .ok (.getfield 272, 3) := dk_180 1 16 (dk_at dksX8_files_2 15 rfl rfl)
theorem dX8_files_66 : decode cX8_files 66 = .ok (.iload 6, 2) := dk_21 6 (dk_at dksX8_files_2 18 rfl rfl)
theorem dX8_files_68 : decode cX8_files 68 = .ok (.ifCond .eq 7, 3) := dk_153 0 7 (dk_at dksX8_files_2 20 rfl rfl)
theorem dX8_files_71 : decode cX8_files 71 = .ok (.iconst 1, 1) := dk_4 (dk_at dksX8_files_2 23 rfl rfl)
theorem dX8_files_72 : decode cX8_files 72 = .ok (.goto 4, 3) := dk_167 0 4 (dk_at dksX8_files_3 0 rfl rfl)
theorem dX8_files_75 : decode cX8_files 75 = .ok (.iconst 0, 1) := dk_3 (dk_at dksX8_files_3 3 rfl rfl)
theorem dX8_files_76 : decode cX8_files 76 = .ok (.iadd, 1) := dk_96 (dk_at dksX8_files_3 4 rfl rfl)
theorem dX8_files_77 : decode cX8_files 77 = .ok (.putfield 272, 3) := dk_181 1 16 (dk_at dksX8_files_3 5 rfl rfl)
theorem dX8_files_80 : decode cX8_files 80 = .ok (.iload 6, 2) := dk_21 6 (dk_at dksX8_files_3 8 rfl rfl)
theorem dX8_files_82 : decode cX8_files 82 = .ok (.ifCond .eq 9, 3) := dk_153 0 9 (dk_at dksX8_files_3 10 rfl rfl)
theorem dX8_files_85 : decode cX8_files 85 = .ok (.iconst 4, 1) := dk_7 (dk_at dksX8_files_3 13 rfl rfl)
theorem dX8_files_86 : decode cX8_files 86 = .ok (.iload_n 2, 1) := dk_28 (dk_at dksX8_files_3 14 rfl rfl)
theorem dX8_files_87 : decode cX8_files 87 = .ok (.imul, 1) := dk_104 (dk_at dksX8_files_3 15 rfl rfl)
theorem dX8_files_88 : decode cX8_files 88 = .ok (.goto 5, 3) := dk_167 0 5 (dk_at dksX8_files_3 16 rfl rfl)
theorem dX8_files_91 : decode cX8_files 91 = .ok (.iload 5, 2) := dk_21 5 (dk_at dksX8_files_3 19 rfl rfl)
theorem dX8_files_93 : decode cX8_files 93 = .ok (.istore 5, 2) := dk_54 5 (dk_at dksX8_files_3 21 rfl rfl)
theorem dX8_files_95 : decode cX8_files 95 = .ok (.iload 6, 2) := dk_21 6 (dk_at dksX8_files_4 0 rfl rfl)
theorem dX8_files_97 : decode cX8_files 97 = .ok (.ifCond .eq 7, 3) := dk_153 0 7 (dk_at dksX8_files_4 2 rfl rfl)
theorem dX8_files_100 : decode cX8_files 100 = .ok (.iload_n 3, 1) := dk_29 (dk_at dksX8_files_4 5 rfl rfl)
theorem dX8_files_101 : decode cX8_files 101 = .ok (.ifCond .ne 25, 3) := dk_154 0 25 (dk_at dksX8_files_4 6 rfl rfl)
theorem dX8_files_104 : decode cX8_files 104 = .ok (.aload_n 0, 1) := dk_42 (dk_at dksX8_files_4 9 rfl rfl)
theorem dX8_files_105 : decode cX8_files 105 = .ok (.iload 5, 2) := dk_21 5 (dk_at dksX8_files_4 10 rfl rfl)
theorem dX8_files_107 : decode cX8_files 107 = .ok (.iload_n 1, 1) := dk_27 (dk_at dksX8_files_4 12 rfl rfl)
theorem dX8_files_108 : decode cX8_files 108 = .ok (.aload_n 0, 1) := dk_42 (dk_at dksX8_files_4 13 rfl rfl)
theorem dX8_files_109 : decode cX8_files 109 = .ok (.getfield 257, 3) := dk_180 1 1 (dk_at dksX8_files_4 14 rfl rfl)
theorem dX8_files_112 : decode cX8_files 112 = .ok (.iconst 0, 1) := dk_3 (dk_at dksX8_files_4 17 rfl rfl)
theorem dX8_files_113 : decode cX8_files 113 = .ok (.invokevirtual 275, 3) := dk_182 1 19 (dk_at dksX8_files_4 18 rfl rfl)
theorem dX8_files_116 : decode cX8_files 116 = .ok (.aload_n 0, 1) := dk_42 (dk_at dksX8_files_4 21 rfl rfl)
theorem dX8_files_117 : decode cX8_files 117 = .ok (.dup, 1) := dk_89 (dk_at dksX8_files_4 22 rfl rfl)
theorem dX8_files_118 : decode cX8_files 118 = .ok (.getfield 278, 3) := dk_180 1 22 (dk_at dksX8_files_5 0 rfl rfl)
theorem dX8_files_121 : decode cX8_files 121 = .ok (.iconst 1, 1) := dk_4 (dk_at dksX8_files_5 3 rfl rfl)
theorem dX8_files_122 : decode cX8_files 122 = .ok (.iadd, 1) := dk_96 (dk_at dksX8_files_5 4 rfl rfl)
theorem dX8_files_123 : decode cX8_files 123 = .ok (.putfield 278, 3) := dk_181 1 22 (dk_at dksX8_files_5 5 rfl rfl)
theorem dX8_files_126 : decode cX8_files 126 = .ok (.iload_n 3, 1) := dk_29 (dk_at dksX8_files_5 8 rfl rfl)
theorem dX8_files_127 : decode cX8_files 127 = .ok (.ifCond .ne 13, 3) := dk_154 0 13 (dk_at dksX8_files_5 9 rfl rfl)
theorem dX8_files_130 : decode cX8_files 130 = .ok (.iload 4, 2) := dk_21 4 (dk_at dksX8_files_5 12 rfl rfl)
theorem dX8_files_132 : decode cX8_files 132 = .ok (.ifCond .eq 8, 3) := dk_153 0 8 (dk_at dksX8_files_5 14 rfl rfl)
theorem dX8_files_135 : decode cX8_files 135 = .ok (.iload 6, 2) := dk_21 6 (dk_at dksX8_files_5 17 rfl rfl)
theorem dX8_files_137 : decode cX8_files 137 = .ok (.ifCond .eq 7, 3) := dk_153 0 7 (dk_at dksX8_files_5 19 rfl rfl)
theorem dX8_files_140 : decode cX8_files 140 = .ok (.iconst 1, 1) := dk_4 (dk_at dksX8_files_5 22 rfl rfl)
theorem dX8_files_141 : decode cX8_files 141 = .ok (.goto 4, 3) := dk_167 0 4 (dk_at dksX8_files_6 0 rfl rfl)
theorem dX8_files_144 : decode cX8_files 144 = .ok (.iconst 0, 1) := dk_3 (dk_at dksX8_files_6 3 rfl rfl)
theorem dX8_files_145 : decode cX8_files 145 = .ok (.istore_n 3, 1) := dk_62 (dk_at dksX8_files_6 4 rfl rfl)
theorem dX8_files_146 : decode cX8_files 146 = .ok (.iinc 4 1, 3) := dk_132 4 1 (dk_at dksX8_files_6 5 rfl rfl)
theorem dX8_files_149 : decode cX8_files 149 = .ok (.goto (-144), 3) := dk_167 255 112 (dk_at dksX8_files_6 8 rfl rfl)
theorem dX8_files_152 : decode cX8_files 152 = .ok (.return_, 1) := dk_177 (dk_at dksX8_files_6 11 rfl rfl)
abbrev cX8_put_2 : ByteArray := prog_21_method_31_code
def yX8_put_2 : MethodName := ⟨RX8, "put", "(IIZI)V"⟩
def dkwX8_put_2_2 : List UInt8 := [96, 79, 177]
abbrev dktX8_put_2_2 : List UInt8 := dkwX8_put_2_2 ++ []
def dkwX8_put_2_1 : List UInt8 := [180, 0, 89, 21, 5, 29, 84, 42, 180, 0, 92, 21, 5, 21, 4, 79, 42, 180, 0, 83, 27, 92, 46, 4]
abbrev dktX8_put_2_1 : List UInt8 := dkwX8_put_2_1 ++ dktX8_put_2_2
def dkwX8_put_2_0 : List UInt8 := [17, 1, 44, 27, 104, 42, 180, 0, 83, 27, 46, 96, 54, 5, 42, 180, 0, 86, 21, 5, 28, 79, 42]
abbrev dktX8_put_2_0 : List UInt8 := dkwX8_put_2_0 ++ dktX8_put_2_1
theorem dksX8_put_2_0 : cX8_put_2.data.toList.drop 0 = dktX8_put_2_0 := by decide +kernel
theorem dksX8_put_2_1 : cX8_put_2.data.toList.drop 23 = dktX8_put_2_1 := dk_seg dksX8_put_2_0 23 rfl rfl
theorem dksX8_put_2_2 : cX8_put_2.data.toList.drop 47 = dktX8_put_2_2 := dk_seg dksX8_put_2_1 24 rfl rfl
theorem dX8_put_2_0 : decode cX8_put_2 0 = .ok (.sipush 300, 3) := dk_17 1 44 (dk_at dksX8_put_2_0 0 rfl rfl)
theorem dX8_put_2_3 : decode cX8_put_2 3 = .ok (.iload_n 1, 1) := dk_27 (dk_at dksX8_put_2_0 3 rfl rfl)
theorem dX8_put_2_4 : decode cX8_put_2 4 = .ok (.imul, 1) := dk_104 (dk_at dksX8_put_2_0 4 rfl rfl)
theorem dX8_put_2_5 : decode cX8_put_2 5 = .ok (.aload_n 0, 1) := dk_42 (dk_at dksX8_put_2_0 5 rfl rfl)
theorem dX8_put_2_6 : decode cX8_put_2 6 = .ok (.getfield 83, 3) := dk_180 0 83 (dk_at dksX8_put_2_0 6 rfl rfl)
theorem dX8_put_2_9 : decode cX8_put_2 9 = .ok (.iload_n 1, 1) := dk_27 (dk_at dksX8_put_2_0 9 rfl rfl)
theorem dX8_put_2_10 : decode cX8_put_2 10 = .ok (.iaload, 1) := dk_46 (dk_at dksX8_put_2_0 10 rfl rfl)
theorem dX8_put_2_11 : decode cX8_put_2 11 = .ok (.iadd, 1) := dk_96 (dk_at dksX8_put_2_0 11 rfl rfl)
theorem dX8_put_2_12 : decode cX8_put_2 12 = .ok (.istore 5, 2) := dk_54 5 (dk_at dksX8_put_2_0 12 rfl rfl)
theorem dX8_put_2_14 : decode cX8_put_2 14 = .ok (.aload_n 0, 1) := dk_42 (dk_at dksX8_put_2_0 14 rfl rfl)
theorem dX8_put_2_15 : decode cX8_put_2 15 = .ok (.getfield 86, 3) := dk_180 0 86 (dk_at dksX8_put_2_0 15 rfl rfl)
theorem dX8_put_2_18 : decode cX8_put_2 18 = .ok (.iload 5, 2) := dk_21 5 (dk_at dksX8_put_2_0 18 rfl rfl)
theorem dX8_put_2_20 : decode cX8_put_2 20 = .ok (.iload_n 2, 1) := dk_28 (dk_at dksX8_put_2_0 20 rfl rfl)
theorem dX8_put_2_21 : decode cX8_put_2 21 = .ok (.iastore, 1) := dk_79 (dk_at dksX8_put_2_0 21 rfl rfl)
theorem dX8_put_2_22 : decode cX8_put_2 22 = .ok (.aload_n 0, 1) := dk_42 (dk_at dksX8_put_2_0 22 rfl rfl)
theorem dX8_put_2_23 : decode cX8_put_2 23 = .ok (.getfield 89, 3) := dk_180 0 89 (dk_at dksX8_put_2_1 0 rfl rfl)
theorem dX8_put_2_26 : decode cX8_put_2 26 = .ok (.iload 5, 2) := dk_21 5 (dk_at dksX8_put_2_1 3 rfl rfl)
theorem dX8_put_2_28 : decode cX8_put_2 28 = .ok (.iload_n 3, 1) := dk_29 (dk_at dksX8_put_2_1 5 rfl rfl)
theorem dX8_put_2_29 : decode cX8_put_2 29 = .ok (.bastore, 1) := dk_84 (dk_at dksX8_put_2_1 6 rfl rfl)
theorem dX8_put_2_30 : decode cX8_put_2 30 = .ok (.aload_n 0, 1) := dk_42 (dk_at dksX8_put_2_1 7 rfl rfl)
theorem dX8_put_2_31 : decode cX8_put_2 31 = .ok (.getfield 92, 3) := dk_180 0 92 (dk_at dksX8_put_2_1 8 rfl rfl)
theorem dX8_put_2_34 : decode cX8_put_2 34 = .ok (.iload 5, 2) := dk_21 5 (dk_at dksX8_put_2_1 11 rfl rfl)
theorem dX8_put_2_36 : decode cX8_put_2 36 = .ok (.iload 4, 2) := dk_21 4 (dk_at dksX8_put_2_1 13 rfl rfl)
theorem dX8_put_2_38 : decode cX8_put_2 38 = .ok (.iastore, 1) := dk_79 (dk_at dksX8_put_2_1 15 rfl rfl)
theorem dX8_put_2_39 : decode cX8_put_2 39 = .ok (.aload_n 0, 1) := dk_42 (dk_at dksX8_put_2_1 16 rfl rfl)
theorem dX8_put_2_40 : decode cX8_put_2 40 = .ok (.getfield 83, 3) := dk_180 0 83 (dk_at dksX8_put_2_1 17 rfl rfl)
theorem dX8_put_2_43 : decode cX8_put_2 43 = .ok (.iload_n 1, 1) := dk_27 (dk_at dksX8_put_2_1 20 rfl rfl)
theorem dX8_put_2_44 : decode cX8_put_2 44 = .ok (.dup2, 1) := dk_92 (dk_at dksX8_put_2_1 21 rfl rfl)
theorem dX8_put_2_45 : decode cX8_put_2 45 = .ok (.iaload, 1) := dk_46 (dk_at dksX8_put_2_1 22 rfl rfl)
theorem dX8_put_2_46 : decode cX8_put_2 46 = .ok (.iconst 1, 1) := dk_4 (dk_at dksX8_put_2_1 23 rfl rfl)
theorem dX8_put_2_47 : decode cX8_put_2 47 = .ok (.iadd, 1) := dk_96 (dk_at dksX8_put_2_2 0 rfl rfl)
theorem dX8_put_2_48 : decode cX8_put_2 48 = .ok (.iastore, 1) := dk_79 (dk_at dksX8_put_2_2 1 rfl rfl)
theorem dX8_put_2_49 : decode cX8_put_2 49 = .ok (.return_, 1) := dk_177 (dk_at dksX8_put_2_2 2 rfl rfl)
abbrev cX8_sheet : ByteArray := prog_21_method_38_code
def yX8_sheet : MethodName := ⟨RX8, "sheet", "(III)I"⟩
def dkwX8_sheet_3 : List UInt8 := [167, 255, 233, 29, 172]
abbrev dktX8_sheet_3 : List UInt8 := dkwX8_sheet_3 ++ []
def dkwX8_sheet_2 : List UInt8 := [21, 4, 16, 40, 162, 0, 22, 42, 180, 0, 110, 16, 40, 27, 104, 21, 4, 96, 3, 79, 132, 4, 1]
abbrev dktX8_sheet_2 : List UInt8 := dkwX8_sheet_2 ++ dktX8_sheet_3
def dkwX8_sheet_1 : List UInt8 := [29, 156, 0, 6, 16, 242, 172, 42, 180, 0, 104, 27, 28, 79, 42, 180, 0, 107, 27, 29, 79, 3, 54, 4]
abbrev dktX8_sheet_1 : List UInt8 := dkwX8_sheet_1 ++ dktX8_sheet_2
def dkwX8_sheet_0 : List UInt8 := [27, 184, 1, 49, 153, 0, 18, 28, 3, 4, 184, 0, 122, 153, 0, 9, 29, 16, 40, 164, 0, 5, 2, 172]
abbrev dktX8_sheet_0 : List UInt8 := dkwX8_sheet_0 ++ dktX8_sheet_1
theorem dksX8_sheet_0 : cX8_sheet.data.toList.drop 0 = dktX8_sheet_0 := by decide +kernel
theorem dksX8_sheet_1 : cX8_sheet.data.toList.drop 24 = dktX8_sheet_1 := dk_seg dksX8_sheet_0 24 rfl rfl
theorem dksX8_sheet_2 : cX8_sheet.data.toList.drop 48 = dktX8_sheet_2 := dk_seg dksX8_sheet_1 24 rfl rfl
theorem dksX8_sheet_3 : cX8_sheet.data.toList.drop 71 = dktX8_sheet_3 := dk_seg dksX8_sheet_2 23 rfl rfl
theorem dX8_sheet_0 : decode cX8_sheet 0 = .ok (.iload_n 1, 1) := dk_27 (dk_at dksX8_sheet_0 0 rfl rfl)
theorem dX8_sheet_1 : decode cX8_sheet 1 = .ok (.invokestatic 305, 3) := dk_184 1 49 (dk_at dksX8_sheet_0 1 rfl rfl)
theorem dX8_sheet_4 : decode cX8_sheet 4 = .ok (.ifCond .eq 18, 3) := dk_153 0 18 (dk_at dksX8_sheet_0 4 rfl rfl)
theorem dX8_sheet_7 : decode cX8_sheet 7 = .ok (.iload_n 2, 1) := dk_28 (dk_at dksX8_sheet_0 7 rfl rfl)
theorem dX8_sheet_8 : decode cX8_sheet 8 = .ok (.iconst 0, 1) := dk_3 (dk_at dksX8_sheet_0 8 rfl rfl)
theorem dX8_sheet_9 : decode cX8_sheet 9 = .ok (.iconst 1, 1) := dk_4 (dk_at dksX8_sheet_0 9 rfl rfl)
theorem dX8_sheet_10 : decode cX8_sheet 10 = .ok (.invokestatic 122, 3) := dk_184 0 122 (dk_at dksX8_sheet_0 10 rfl rfl)
theorem dX8_sheet_13 : decode cX8_sheet 13 = .ok (.ifCond .eq 9, 3) := dk_153 0 9 (dk_at dksX8_sheet_0 13 rfl rfl)
theorem dX8_sheet_16 : decode cX8_sheet 16 = .ok (.iload_n 3, 1) := dk_29 (dk_at dksX8_sheet_0 16 rfl rfl)
theorem dX8_sheet_17 : decode cX8_sheet 17 = .ok (.bipush 40, 2) := dk_16 40 (dk_at dksX8_sheet_0 17 rfl rfl)
theorem dX8_sheet_19 : decode cX8_sheet 19 = .ok (.if_icmp .le 5, 3) := dk_164 0 5 (dk_at dksX8_sheet_0 19 rfl rfl)
theorem dX8_sheet_22 : decode cX8_sheet 22 = .ok (.iconst (-1), 1) := dk_2 (dk_at dksX8_sheet_0 22 rfl rfl)
theorem dX8_sheet_23 : decode cX8_sheet 23 = .ok (.ireturn, 1) := dk_172 (dk_at dksX8_sheet_0 23 rfl rfl)
theorem dX8_sheet_24 : decode cX8_sheet 24 = .ok (.iload_n 3, 1) := dk_29 (dk_at dksX8_sheet_1 0 rfl rfl)
theorem dX8_sheet_25 : decode cX8_sheet 25 = .ok (.ifCond .ge 6, 3) := dk_156 0 6 (dk_at dksX8_sheet_1 1 rfl rfl)
theorem dX8_sheet_28 : decode cX8_sheet 28 = .ok (.bipush (-14), 2) := dk_16 242 (dk_at dksX8_sheet_1 4 rfl rfl)
theorem dX8_sheet_30 : decode cX8_sheet 30 = .ok (.ireturn, 1) := dk_172 (dk_at dksX8_sheet_1 6 rfl rfl)
theorem dX8_sheet_31 : decode cX8_sheet 31 = .ok (.aload_n 0, 1) := dk_42 (dk_at dksX8_sheet_1 7 rfl rfl)
theorem dX8_sheet_32 : decode cX8_sheet 32 = .ok (.getfield 104, 3) := dk_180 0 104 (dk_at dksX8_sheet_1 8 rfl rfl)
theorem dX8_sheet_35 : decode cX8_sheet 35 = .ok (.iload_n 1, 1) := dk_27 (dk_at dksX8_sheet_1 11 rfl rfl)
theorem dX8_sheet_36 : decode cX8_sheet 36 = .ok (.iload_n 2, 1) := dk_28 (dk_at dksX8_sheet_1 12 rfl rfl)
theorem dX8_sheet_37 : decode cX8_sheet 37 = .ok (.iastore, 1) := dk_79 (dk_at dksX8_sheet_1 13 rfl rfl)
theorem dX8_sheet_38 : decode cX8_sheet 38 = .ok (.aload_n 0, 1) := dk_42 (dk_at dksX8_sheet_1 14 rfl rfl)
theorem dX8_sheet_39 : decode cX8_sheet 39 = .ok (.getfield 107, 3) := dk_180 0 107 (dk_at dksX8_sheet_1 15 rfl rfl)
theorem dX8_sheet_42 : decode cX8_sheet 42 = .ok (.iload_n 1, 1) := dk_27 (dk_at dksX8_sheet_1 18 rfl rfl)
theorem dX8_sheet_43 : decode cX8_sheet 43 = .ok (.iload_n 3, 1) := dk_29 (dk_at dksX8_sheet_1 19 rfl rfl)
theorem dX8_sheet_44 : decode cX8_sheet 44 = .ok (.iastore, 1) := dk_79 (dk_at dksX8_sheet_1 20 rfl rfl)
theorem dX8_sheet_45 : decode cX8_sheet 45 = .ok (.iconst 0, 1) := dk_3 (dk_at dksX8_sheet_1 21 rfl rfl)
theorem dX8_sheet_46 : decode cX8_sheet 46 = .ok (.istore 4, 2) := dk_54 4 (dk_at dksX8_sheet_1 22 rfl rfl)
theorem dX8_sheet_48 : decode cX8_sheet 48 = .ok (.iload 4, 2) := dk_21 4 (dk_at dksX8_sheet_2 0 rfl rfl)
theorem dX8_sheet_50 : decode cX8_sheet 50 = .ok (.bipush 40, 2) := dk_16 40 (dk_at dksX8_sheet_2 2 rfl rfl)
theorem dX8_sheet_52 : decode cX8_sheet 52 = .ok (.if_icmp .ge 22, 3) := dk_162 0 22 (dk_at dksX8_sheet_2 4 rfl rfl)
theorem dX8_sheet_55 : decode cX8_sheet 55 = .ok (.aload_n 0, 1) := dk_42 (dk_at dksX8_sheet_2 7 rfl rfl)
theorem dX8_sheet_56 : decode cX8_sheet 56 = .ok (.getfield 110, 3) := dk_180 0 110 (dk_at dksX8_sheet_2 8 rfl rfl)
theorem dX8_sheet_59 : decode cX8_sheet 59 = .ok (.bipush 40, 2) := dk_16 40 (dk_at dksX8_sheet_2 11 rfl rfl)
theorem dX8_sheet_61 : decode cX8_sheet 61 = .ok (.iload_n 1, 1) := dk_27 (dk_at dksX8_sheet_2 13 rfl rfl)
theorem dX8_sheet_62 : decode cX8_sheet 62 = .ok (.imul, 1) := dk_104 (dk_at dksX8_sheet_2 14 rfl rfl)
theorem dX8_sheet_63 : decode cX8_sheet 63 = .ok (.iload 4, 2) := dk_21 4 (dk_at dksX8_sheet_2 15 rfl rfl)
theorem dX8_sheet_65 : decode cX8_sheet 65 = .ok (.iadd, 1) := dk_96 (dk_at dksX8_sheet_2 17 rfl rfl)
theorem dX8_sheet_66 : decode cX8_sheet 66 = .ok (.iconst 0, 1) := dk_3 (dk_at dksX8_sheet_2 18 rfl rfl)
theorem dX8_sheet_67 : decode cX8_sheet 67 = .ok (.iastore, 1) := dk_79 (dk_at dksX8_sheet_2 19 rfl rfl)
theorem dX8_sheet_68 : decode cX8_sheet 68 = .ok (.iinc 4 1, 3) := dk_132 4 1 (dk_at dksX8_sheet_2 20 rfl rfl)
theorem dX8_sheet_71 : decode cX8_sheet 71 = .ok (.goto (-23), 3) := dk_167 255 233 (dk_at dksX8_sheet_3 0 rfl rfl)
theorem dX8_sheet_74 : decode cX8_sheet 74 = .ok (.iload_n 3, 1) := dk_29 (dk_at dksX8_sheet_3 3 rfl rfl)
theorem dX8_sheet_75 : decode cX8_sheet 75 = .ok (.ireturn, 1) := dk_172 (dk_at dksX8_sheet_3 4 rfl rfl)
abbrev cX8_isSheet : ByteArray := prog_21_method_37_code
def yX8_isSheet : MethodName := ⟨RX8, "isSheet", "(I)Z"⟩
def dkwX8_isSheet_0 : List UInt8 := [26, 3, 4, 184, 0, 122, 172]
abbrev dktX8_isSheet_0 : List UInt8 := dkwX8_isSheet_0 ++ []
theorem dksX8_isSheet_0 : cX8_isSheet.data.toList.drop 0 = dktX8_isSheet_0 := by decide +kernel
theorem dX8_isSheet_0 : decode cX8_isSheet 0 = .ok (.iload_n 0, 1) := dk_26 (dk_at dksX8_isSheet_0 0 rfl rfl)
theorem dX8_isSheet_1 : decode cX8_isSheet 1 = .ok (.iconst 0, 1) := dk_3 (dk_at dksX8_isSheet_0 1 rfl rfl)
theorem dX8_isSheet_2 : decode cX8_isSheet 2 = .ok (.iconst 1, 1) := dk_4 (dk_at dksX8_isSheet_0 2 rfl rfl)
theorem dX8_isSheet_3 : decode cX8_isSheet 3 = .ok (.invokestatic 122, 3) := dk_184 0 122 (dk_at dksX8_isSheet_0 3 rfl rfl)
theorem dX8_isSheet_6 : decode cX8_isSheet 6 = .ok (.ireturn, 1) := dk_172 (dk_at dksX8_isSheet_0 6 rfl rfl)
abbrev cX8_drop : ByteArray := prog_21_method_39_code
def yX8_drop : MethodName := ⟨RX8, "drop", "(I)I"⟩
def dkwX8_drop_1 : List UInt8 := [180, 0, 104, 27, 2, 79, 42, 180, 0, 107, 27, 46, 172]
abbrev dktX8_drop_1 : List UInt8 := dkwX8_drop_1 ++ []
def dkwX8_drop_0 : List UInt8 := [27, 184, 1, 49, 154, 0, 5, 2, 172, 42, 180, 0, 104, 27, 46, 156, 0, 6, 16, 245, 172, 42]
abbrev dktX8_drop_0 : List UInt8 := dkwX8_drop_0 ++ dktX8_drop_1
theorem dksX8_drop_0 : cX8_drop.data.toList.drop 0 = dktX8_drop_0 := by decide +kernel
theorem dksX8_drop_1 : cX8_drop.data.toList.drop 22 = dktX8_drop_1 := dk_seg dksX8_drop_0 22 rfl rfl
theorem dX8_drop_0 : decode cX8_drop 0 = .ok (.iload_n 1, 1) := dk_27 (dk_at dksX8_drop_0 0 rfl rfl)
theorem dX8_drop_1 : decode cX8_drop 1 = .ok (.invokestatic 305, 3) := dk_184 1 49 (dk_at dksX8_drop_0 1 rfl rfl)
theorem dX8_drop_4 : decode cX8_drop 4 = .ok (.ifCond .ne 5, 3) := dk_154 0 5 (dk_at dksX8_drop_0 4 rfl rfl)
theorem dX8_drop_7 : decode cX8_drop 7 = .ok (.iconst (-1), 1) := dk_2 (dk_at dksX8_drop_0 7 rfl rfl)
theorem dX8_drop_8 : decode cX8_drop 8 = .ok (.ireturn, 1) := dk_172 (dk_at dksX8_drop_0 8 rfl rfl)
theorem dX8_drop_9 : decode cX8_drop 9 = .ok (.aload_n 0, 1) := dk_42 (dk_at dksX8_drop_0 9 rfl rfl)
theorem dX8_drop_10 : decode cX8_drop 10 = .ok (.getfield 104, 3) := dk_180 0 104 (dk_at dksX8_drop_0 10 rfl rfl)
theorem dX8_drop_13 : decode cX8_drop 13 = .ok (.iload_n 1, 1) := dk_27 (dk_at dksX8_drop_0 13 rfl rfl)
theorem dX8_drop_14 : decode cX8_drop 14 = .ok (.iaload, 1) := dk_46 (dk_at dksX8_drop_0 14 rfl rfl)
theorem dX8_drop_15 : decode cX8_drop 15 = .ok (.ifCond .ge 6, 3) := dk_156 0 6 (dk_at dksX8_drop_0 15 rfl rfl)
theorem dX8_drop_18 : decode cX8_drop 18 = .ok (.bipush (-11), 2) := dk_16 245 (dk_at dksX8_drop_0 18 rfl rfl)
theorem dX8_drop_20 : decode cX8_drop 20 = .ok (.ireturn, 1) := dk_172 (dk_at dksX8_drop_0 20 rfl rfl)
theorem dX8_drop_21 : decode cX8_drop 21 = .ok (.aload_n 0, 1) := dk_42 (dk_at dksX8_drop_0 21 rfl rfl)
theorem dX8_drop_22 : decode cX8_drop 22 = .ok (.getfield 104, 3) := dk_180 0 104 (dk_at dksX8_drop_1 0 rfl rfl)
theorem dX8_drop_25 : decode cX8_drop 25 = .ok (.iload_n 1, 1) := dk_27 (dk_at dksX8_drop_1 3 rfl rfl)
theorem dX8_drop_26 : decode cX8_drop 26 = .ok (.iconst (-1), 1) := dk_2 (dk_at dksX8_drop_1 4 rfl rfl)
theorem dX8_drop_27 : decode cX8_drop 27 = .ok (.iastore, 1) := dk_79 (dk_at dksX8_drop_1 5 rfl rfl)
theorem dX8_drop_28 : decode cX8_drop 28 = .ok (.aload_n 0, 1) := dk_42 (dk_at dksX8_drop_1 6 rfl rfl)
theorem dX8_drop_29 : decode cX8_drop 29 = .ok (.getfield 107, 3) := dk_180 0 107 (dk_at dksX8_drop_1 7 rfl rfl)
theorem dX8_drop_32 : decode cX8_drop 32 = .ok (.iload_n 1, 1) := dk_27 (dk_at dksX8_drop_1 10 rfl rfl)
theorem dX8_drop_33 : decode cX8_drop 33 = .ok (.iaload, 1) := dk_46 (dk_at dksX8_drop_1 11 rfl rfl)
theorem dX8_drop_34 : decode cX8_drop 34 = .ok (.ireturn, 1) := dk_172 (dk_at dksX8_drop_1 12 rfl rfl)
abbrev cX8_item : ByteArray := prog_21_method_40_code
def yX8_item : MethodName := ⟨RX8, "item", "(IIII)I"⟩
def dkwX8_item_3 : List UInt8 := [29, 96, 28, 154, 0, 9, 21, 4, 147, 167, 0, 5, 21, 4, 79, 4, 172]
abbrev dktX8_item_3 : List UInt8 := dkwX8_item_3 ++ []
def dkwX8_item_2 : List UInt8 := [180, 0, 107, 27, 46, 4, 100, 184, 0, 122, 154, 0, 6, 16, 243, 172, 42, 180, 0, 110, 16, 40, 27, 104]
abbrev dktX8_item_2 : List UInt8 := dkwX8_item_2 ++ dktX8_item_3
def dkwX8_item_1 : List UInt8 := [156, 0, 6, 16, 245, 172, 42, 180, 0, 104, 27, 46, 28, 159, 0, 6, 16, 244, 172, 29, 3, 42]
abbrev dktX8_item_1 : List UInt8 := dkwX8_item_1 ++ dktX8_item_2
def dkwX8_item_0 : List UInt8 := [27, 184, 1, 49, 153, 0, 12, 28, 3, 4, 184, 0, 122, 154, 0, 5, 2, 172, 42, 180, 0, 104, 27, 46]
abbrev dktX8_item_0 : List UInt8 := dkwX8_item_0 ++ dktX8_item_1
theorem dksX8_item_0 : cX8_item.data.toList.drop 0 = dktX8_item_0 := by decide +kernel
theorem dksX8_item_1 : cX8_item.data.toList.drop 24 = dktX8_item_1 := dk_seg dksX8_item_0 24 rfl rfl
theorem dksX8_item_2 : cX8_item.data.toList.drop 46 = dktX8_item_2 := dk_seg dksX8_item_1 22 rfl rfl
theorem dksX8_item_3 : cX8_item.data.toList.drop 70 = dktX8_item_3 := dk_seg dksX8_item_2 24 rfl rfl
theorem dX8_item_0 : decode cX8_item 0 = .ok (.iload_n 1, 1) := dk_27 (dk_at dksX8_item_0 0 rfl rfl)
theorem dX8_item_1 : decode cX8_item 1 = .ok (.invokestatic 305, 3) := dk_184 1 49 (dk_at dksX8_item_0 1 rfl rfl)
theorem dX8_item_4 : decode cX8_item 4 = .ok (.ifCond .eq 12, 3) := dk_153 0 12 (dk_at dksX8_item_0 4 rfl rfl)
theorem dX8_item_7 : decode cX8_item 7 = .ok (.iload_n 2, 1) := dk_28 (dk_at dksX8_item_0 7 rfl rfl)
theorem dX8_item_8 : decode cX8_item 8 = .ok (.iconst 0, 1) := dk_3 (dk_at dksX8_item_0 8 rfl rfl)
theorem dX8_item_9 : decode cX8_item 9 = .ok (.iconst 1, 1) := dk_4 (dk_at dksX8_item_0 9 rfl rfl)
theorem dX8_item_10 : decode cX8_item 10 = .ok (.invokestatic 122, 3) := dk_184 0 122 (dk_at dksX8_item_0 10 rfl rfl)
theorem dX8_item_13 : decode cX8_item 13 = .ok (.ifCond .ne 5, 3) := dk_154 0 5 (dk_at dksX8_item_0 13 rfl rfl)
theorem dX8_item_16 : decode cX8_item 16 = .ok (.iconst (-1), 1) := dk_2 (dk_at dksX8_item_0 16 rfl rfl)
theorem dX8_item_17 : decode cX8_item 17 = .ok (.ireturn, 1) := dk_172 (dk_at dksX8_item_0 17 rfl rfl)
theorem dX8_item_18 : decode cX8_item 18 = .ok (.aload_n 0, 1) := dk_42 (dk_at dksX8_item_0 18 rfl rfl)
theorem dX8_item_19 : decode cX8_item 19 = .ok (.getfield 104, 3) := dk_180 0 104 (dk_at dksX8_item_0 19 rfl rfl)
theorem dX8_item_22 : decode cX8_item 22 = .ok (.iload_n 1, 1) := dk_27 (dk_at dksX8_item_0 22 rfl rfl)
theorem dX8_item_23 : decode cX8_item 23 = .ok (.iaload, 1) := dk_46 (dk_at dksX8_item_0 23 rfl rfl)
theorem dX8_item_24 : decode cX8_item 24 = .ok (.ifCond .ge 6, 3) := dk_156 0 6 (dk_at dksX8_item_1 0 rfl rfl)
theorem dX8_item_27 : decode cX8_item 27 = .ok (.bipush (-11), 2) := dk_16 245 (dk_at dksX8_item_1 3 rfl rfl)
theorem dX8_item_29 : decode cX8_item 29 = .ok (.ireturn, 1) := dk_172 (dk_at dksX8_item_1 5 rfl rfl)
theorem dX8_item_30 : decode cX8_item 30 = .ok (.aload_n 0, 1) := dk_42 (dk_at dksX8_item_1 6 rfl rfl)
theorem dX8_item_31 : decode cX8_item 31 = .ok (.getfield 104, 3) := dk_180 0 104 (dk_at dksX8_item_1 7 rfl rfl)
theorem dX8_item_34 : decode cX8_item 34 = .ok (.iload_n 1, 1) := dk_27 (dk_at dksX8_item_1 10 rfl rfl)
theorem dX8_item_35 : decode cX8_item 35 = .ok (.iaload, 1) := dk_46 (dk_at dksX8_item_1 11 rfl rfl)
theorem dX8_item_36 : decode cX8_item 36 = .ok (.iload_n 2, 1) := dk_28 (dk_at dksX8_item_1 12 rfl rfl)
theorem dX8_item_37 : decode cX8_item 37 = .ok (.if_icmp .eq 6, 3) := dk_159 0 6 (dk_at dksX8_item_1 13 rfl rfl)
theorem dX8_item_40 : decode cX8_item 40 = .ok (.bipush (-12), 2) := dk_16 244 (dk_at dksX8_item_1 16 rfl rfl)
theorem dX8_item_42 : decode cX8_item 42 = .ok (.ireturn, 1) := dk_172 (dk_at dksX8_item_1 18 rfl rfl)
theorem dX8_item_43 : decode cX8_item 43 = .ok (.iload_n 3, 1) := dk_29 (dk_at dksX8_item_1 19 rfl rfl)
theorem dX8_item_44 : decode cX8_item 44 = .ok (.iconst 0, 1) := dk_3 (dk_at dksX8_item_1 20 rfl rfl)
theorem dX8_item_45 : decode cX8_item 45 = .ok (.aload_n 0, 1) := dk_42 (dk_at dksX8_item_1 21 rfl rfl)
theorem dX8_item_46 : decode cX8_item 46 = .ok (.getfield 107, 3) := dk_180 0 107 (dk_at dksX8_item_2 0 rfl rfl)
theorem dX8_item_49 : decode cX8_item 49 = .ok (.iload_n 1, 1) := dk_27 (dk_at dksX8_item_2 3 rfl rfl)
theorem dX8_item_50 : decode cX8_item 50 = .ok (.iaload, 1) := dk_46 (dk_at dksX8_item_2 4 rfl rfl)
theorem dX8_item_51 : decode cX8_item 51 = .ok (.iconst 1, 1) := dk_4 (dk_at dksX8_item_2 5 rfl rfl)
theorem dX8_item_52 : decode cX8_item 52 = .ok (.isub, 1) := dk_100 (dk_at dksX8_item_2 6 rfl rfl)
theorem dX8_item_53 : decode cX8_item 53 = .ok (.invokestatic 122, 3) := dk_184 0 122 (dk_at dksX8_item_2 7 rfl rfl)
theorem dX8_item_56 : decode cX8_item 56 = .ok (.ifCond .ne 6, 3) := dk_154 0 6 (dk_at dksX8_item_2 10 rfl rfl)
theorem dX8_item_59 : decode cX8_item 59 = .ok (.bipush (-13), 2) := dk_16 243 (dk_at dksX8_item_2 13 rfl rfl)
theorem dX8_item_61 : decode cX8_item 61 = .ok (.ireturn, 1) := dk_172 (dk_at dksX8_item_2 15 rfl rfl)
theorem dX8_item_62 : decode cX8_item 62 = .ok (.aload_n 0, 1) := dk_42 (dk_at dksX8_item_2 16 rfl rfl)
theorem dX8_item_63 : decode cX8_item 63 = .ok (.getfield 110, 3) := dk_180 0 110 (dk_at dksX8_item_2 17 rfl rfl)
theorem dX8_item_66 : decode cX8_item 66 = .ok (.bipush 40, 2) := dk_16 40 (dk_at dksX8_item_2 20 rfl rfl)
theorem dX8_item_68 : decode cX8_item 68 = .ok (.iload_n 1, 1) := dk_27 (dk_at dksX8_item_2 22 rfl rfl)
theorem dX8_item_69 : decode cX8_item 69 = .ok (.imul, 1) := dk_104 (dk_at dksX8_item_2 23 rfl rfl)
theorem dX8_item_70 : decode cX8_item 70 = .ok (.iload_n 3, 1) := dk_29 (dk_at dksX8_item_3 0 rfl rfl)
theorem dX8_item_71 : decode cX8_item 71 = .ok (.iadd, 1) := dk_96 (dk_at dksX8_item_3 1 rfl rfl)
theorem dX8_item_72 : decode cX8_item 72 = .ok (.iload_n 2, 1) := dk_28 (dk_at dksX8_item_3 2 rfl rfl)
theorem dX8_item_73 : decode cX8_item 73 = .ok (.ifCond .ne 9, 3) := dk_154 0 9 (dk_at dksX8_item_3 3 rfl rfl)
theorem dX8_item_76 : decode cX8_item 76 = .ok (.iload 4, 2) := dk_21 4 (dk_at dksX8_item_3 6 rfl rfl)
theorem dX8_item_78 : decode cX8_item 78 = .ok (.i2s, 1) := dk_147 (dk_at dksX8_item_3 8 rfl rfl)
theorem dX8_item_79 : decode cX8_item 79 = .ok (.goto 5, 3) := dk_167 0 5 (dk_at dksX8_item_3 9 rfl rfl)
theorem dX8_item_82 : decode cX8_item 82 = .ok (.iload 4, 2) := dk_21 4 (dk_at dksX8_item_3 12 rfl rfl)
theorem dX8_item_84 : decode cX8_item 84 = .ok (.iastore, 1) := dk_79 (dk_at dksX8_item_3 14 rfl rfl)
theorem dX8_item_85 : decode cX8_item 85 = .ok (.iconst 1, 1) := dk_4 (dk_at dksX8_item_3 15 rfl rfl)
theorem dX8_item_86 : decode cX8_item 86 = .ok (.ireturn, 1) := dk_172 (dk_at dksX8_item_3 16 rfl rfl)
abbrev cX8_posts : ByteArray := prog_21_method_41_code
def yX8_posts : MethodName := ⟨RX8, "posts", "(IIII)I"⟩
def dkwX8_posts_14 : List UInt8 := [42, 180, 0, 110, 21, 7, 16, 7, 96, 46, 182, 1, 46, 132, 6, 1, 167, 255, 146, 42, 180, 1, 22, 172]
abbrev dktX8_posts_14 : List UInt8 := dkwX8_posts_14 ++ []
def dkwX8_posts_13 : List UInt8 := [21, 7, 7, 96, 46, 42, 180, 0, 110, 21, 7, 8, 96, 46, 42, 180, 0, 110, 21, 7, 16, 6, 96, 46]
abbrev dktX8_posts_13 : List UInt8 := dkwX8_posts_13 ++ dktX8_posts_14
def dkwX8_posts_12 : List UInt8 := [96, 46, 42, 180, 0, 110, 21, 7, 5, 96, 46, 42, 180, 0, 110, 21, 7, 6, 96, 46, 42, 180, 0, 110]
abbrev dktX8_posts_12 : List UInt8 := dkwX8_posts_12 ++ dktX8_posts_13
def dkwX8_posts_11 : List UInt8 := [182, 1, 42, 153, 0, 6, 16, 253, 172, 42, 42, 180, 0, 110, 21, 7, 46, 42, 180, 0, 110, 21, 7, 4]
abbrev dktX8_posts_11 : List UInt8 := dkwX8_posts_11 ++ dktX8_posts_12
def dkwX8_posts_10 : List UInt8 := [54, 6, 21, 6, 21, 4, 162, 0, 109, 16, 40, 27, 104, 29, 96, 16, 8, 21, 6, 104, 96, 54, 7, 42]
abbrev dktX8_posts_10 : List UInt8 := dkwX8_posts_10 ++ dktX8_posts_11
def dkwX8_posts_9 : List UInt8 := [180, 0, 110, 21, 7, 16, 7, 96, 46, 54, 5, 132, 6, 1, 167, 255, 120, 42, 3, 181, 1, 22, 3]
abbrev dktX8_posts_9 : List UInt8 := dkwX8_posts_9 ++ dktX8_posts_10
def dkwX8_posts_8 : List UInt8 := [21, 8, 153, 0, 18, 42, 180, 0, 110, 21, 7, 16, 7, 96, 46, 21, 5, 162, 0, 6, 16, 254, 172, 42]
abbrev dktX8_posts_8 : List UInt8 := dkwX8_posts_8 ++ dktX8_posts_9
def dkwX8_posts_7 : List UInt8 := [180, 0, 110, 21, 7, 16, 6, 96, 46, 42, 180, 0, 110, 21, 7, 16, 7, 96, 46, 184, 1, 35, 54, 8]
abbrev dktX8_posts_7 : List UInt8 := dkwX8_posts_7 ++ dktX8_posts_8
def dkwX8_posts_6 : List UInt8 := [6, 96, 46, 42, 180, 0, 110, 21, 7, 7, 96, 46, 42, 180, 0, 110, 21, 7, 8, 96, 46, 42]
abbrev dktX8_posts_6 : List UInt8 := dkwX8_posts_6 ++ dktX8_posts_7
def dkwX8_posts_5 : List UInt8 := [42, 180, 0, 110, 21, 7, 4, 96, 46, 42, 180, 0, 110, 21, 7, 5, 96, 46, 42, 180, 0, 110, 21, 7]
abbrev dktX8_posts_5 : List UInt8 := dkwX8_posts_5 ++ dktX8_posts_6
def dkwX8_posts_4 : List UInt8 := [162, 0, 135, 16, 40, 27, 104, 29, 96, 16, 8, 21, 6, 104, 96, 54, 7, 42, 180, 0, 110, 21, 7, 46]
abbrev dktX8_posts_4 : List UInt8 := dkwX8_posts_4 ++ dktX8_posts_5
def dkwX8_posts_3 : List UInt8 := [46, 133, 148, 158, 0, 6, 16, 243, 172, 42, 182, 1, 39, 54, 5, 3, 54, 6, 21, 6, 21, 4]
abbrev dktX8_posts_3 : List UInt8 := dkwX8_posts_3 ++ dktX8_posts_4
def dkwX8_posts_2 : List UInt8 := [159, 0, 6, 16, 244, 172, 29, 155, 0, 23, 29, 133, 16, 8, 21, 4, 104, 133, 97, 42, 180, 0, 107, 27]
abbrev dktX8_posts_2 : List UInt8 := dkwX8_posts_2 ++ dktX8_posts_3
def dkwX8_posts_1 : List UInt8 := [154, 0, 5, 2, 172, 42, 180, 0, 104, 27, 46, 156, 0, 6, 16, 245, 172, 42, 180, 0, 104, 27, 46, 28]
abbrev dktX8_posts_1 : List UInt8 := dkwX8_posts_1 ++ dktX8_posts_2
def dkwX8_posts_0 : List UInt8 := [27, 184, 1, 49, 153, 0, 22, 28, 3, 4, 184, 0, 122, 153, 0, 13, 21, 4, 3, 8, 184, 0, 122]
abbrev dktX8_posts_0 : List UInt8 := dkwX8_posts_0 ++ dktX8_posts_1
theorem dksX8_posts_0 : cX8_posts.data.toList.drop 0 = dktX8_posts_0 := by decide +kernel
theorem dksX8_posts_1 : cX8_posts.data.toList.drop 23 = dktX8_posts_1 := dk_seg dksX8_posts_0 23 rfl rfl
theorem dksX8_posts_2 : cX8_posts.data.toList.drop 47 = dktX8_posts_2 := dk_seg dksX8_posts_1 24 rfl rfl
theorem dksX8_posts_3 : cX8_posts.data.toList.drop 71 = dktX8_posts_3 := dk_seg dksX8_posts_2 24 rfl rfl
theorem dksX8_posts_4 : cX8_posts.data.toList.drop 93 = dktX8_posts_4 := dk_seg dksX8_posts_3 22 rfl rfl
theorem dksX8_posts_5 : cX8_posts.data.toList.drop 117 = dktX8_posts_5 := dk_seg dksX8_posts_4 24 rfl rfl
theorem dksX8_posts_6 : cX8_posts.data.toList.drop 141 = dktX8_posts_6 := dk_seg dksX8_posts_5 24 rfl rfl
theorem dksX8_posts_7 : cX8_posts.data.toList.drop 163 = dktX8_posts_7 := dk_seg dksX8_posts_6 22 rfl rfl
theorem dksX8_posts_8 : cX8_posts.data.toList.drop 187 = dktX8_posts_8 := dk_seg dksX8_posts_7 24 rfl rfl
theorem dksX8_posts_9 : cX8_posts.data.toList.drop 211 = dktX8_posts_9 := dk_seg dksX8_posts_8 24 rfl rfl
theorem dksX8_posts_10 : cX8_posts.data.toList.drop 234 = dktX8_posts_10 := dk_seg dksX8_posts_9 23 rfl rfl
theorem dksX8_posts_11 : cX8_posts.data.toList.drop 258 = dktX8_posts_11 := dk_seg dksX8_posts_10 24 rfl rfl
theorem dksX8_posts_12 : cX8_posts.data.toList.drop 282 = dktX8_posts_12 := dk_seg dksX8_posts_11 24 rfl rfl
theorem dksX8_posts_13 : cX8_posts.data.toList.drop 306 = dktX8_posts_13 := dk_seg dksX8_posts_12 24 rfl rfl
theorem dksX8_posts_14 : cX8_posts.data.toList.drop 330 = dktX8_posts_14 := dk_seg dksX8_posts_13 24 rfl rfl
theorem dX8_posts_0 : decode cX8_posts 0 = .ok (.iload_n 1, 1) := dk_27 (dk_at dksX8_posts_0 0 rfl rfl)
theorem dX8_posts_1 : decode cX8_posts 1 = .ok (.invokestatic 305, 3) := dk_184 1 49 (dk_at dksX8_posts_0 1 rfl rfl)
theorem dX8_posts_4 : decode cX8_posts 4 = .ok (.ifCond .eq 22, 3) := dk_153 0 22 (dk_at dksX8_posts_0 4 rfl rfl)
theorem dX8_posts_7 : decode cX8_posts 7 = .ok (.iload_n 2, 1) := dk_28 (dk_at dksX8_posts_0 7 rfl rfl)
theorem dX8_posts_8 : decode cX8_posts 8 = .ok (.iconst 0, 1) := dk_3 (dk_at dksX8_posts_0 8 rfl rfl)
theorem dX8_posts_9 : decode cX8_posts 9 = .ok (.iconst 1, 1) := dk_4 (dk_at dksX8_posts_0 9 rfl rfl)
theorem dX8_posts_10 : decode cX8_posts 10 = .ok (.invokestatic 122, 3) := dk_184 0 122 (dk_at dksX8_posts_0 10 rfl rfl)
theorem dX8_posts_13 : decode cX8_posts 13 = .ok (.ifCond .eq 13, 3) := dk_153 0 13 (dk_at dksX8_posts_0 13 rfl rfl)
theorem dX8_posts_16 : decode cX8_posts 16 = .ok (.iload 4, 2) := dk_21 4 (dk_at dksX8_posts_0 16 rfl rfl)
theorem dX8_posts_18 : decode cX8_posts 18 = .ok (.iconst 0, 1) := dk_3 (dk_at dksX8_posts_0 18 rfl rfl)
theorem dX8_posts_19 : decode cX8_posts 19 = .ok (.iconst 5, 1) := dk_8 (dk_at dksX8_posts_0 19 rfl rfl)
theorem dX8_posts_20 : decode cX8_posts 20 = .ok (.invokestatic 122, 3) := dk_184 0 122 (dk_at dksX8_posts_0 20 rfl rfl)
theorem dX8_posts_23 : decode cX8_posts 23 = .ok (.ifCond .ne 5, 3) := dk_154 0 5 (dk_at dksX8_posts_1 0 rfl rfl)
theorem dX8_posts_26 : decode cX8_posts 26 = .ok (.iconst (-1), 1) := dk_2 (dk_at dksX8_posts_1 3 rfl rfl)
theorem dX8_posts_27 : decode cX8_posts 27 = .ok (.ireturn, 1) := dk_172 (dk_at dksX8_posts_1 4 rfl rfl)
theorem dX8_posts_28 : decode cX8_posts 28 = .ok (.aload_n 0, 1) := dk_42 (dk_at dksX8_posts_1 5 rfl rfl)
theorem dX8_posts_29 : decode cX8_posts 29 = .ok (.getfield 104, 3) := dk_180 0 104 (dk_at dksX8_posts_1 6 rfl rfl)
theorem dX8_posts_32 : decode cX8_posts 32 = .ok (.iload_n 1, 1) := dk_27 (dk_at dksX8_posts_1 9 rfl rfl)
theorem dX8_posts_33 : decode cX8_posts 33 = .ok (.iaload, 1) := dk_46 (dk_at dksX8_posts_1 10 rfl rfl)
theorem dX8_posts_34 : decode cX8_posts 34 = .ok (.ifCond .ge 6, 3) := dk_156 0 6 (dk_at dksX8_posts_1 11 rfl rfl)
theorem dX8_posts_37 : decode cX8_posts 37 = .ok (.bipush (-11), 2) := dk_16 245 (dk_at dksX8_posts_1 14 rfl rfl)
theorem dX8_posts_39 : decode cX8_posts 39 = .ok (.ireturn, 1) := dk_172 (dk_at dksX8_posts_1 16 rfl rfl)
theorem dX8_posts_40 : decode cX8_posts 40 = .ok (.aload_n 0, 1) := dk_42 (dk_at dksX8_posts_1 17 rfl rfl)
theorem dX8_posts_41 : decode cX8_posts 41 = .ok (.getfield 104, 3) := dk_180 0 104 (dk_at dksX8_posts_1 18 rfl rfl)
theorem dX8_posts_44 : decode cX8_posts 44 = .ok (.iload_n 1, 1) := dk_27 (dk_at dksX8_posts_1 21 rfl rfl)
theorem dX8_posts_45 : decode cX8_posts 45 = .ok (.iaload, 1) := dk_46 (dk_at dksX8_posts_1 22 rfl rfl)
theorem dX8_posts_46 : decode cX8_posts 46 = .ok (.iload_n 2, 1) := dk_28 (dk_at dksX8_posts_1 23 rfl rfl)
theorem dX8_posts_47 : decode cX8_posts 47 = .ok (.if_icmp .eq 6, 3) := dk_159 0 6 (dk_at dksX8_posts_2 0 rfl rfl)
theorem dX8_posts_50 : decode cX8_posts 50 = .ok (.bipush (-12), 2) := dk_16 244 (dk_at dksX8_posts_2 3 rfl rfl)
theorem dX8_posts_52 : decode cX8_posts 52 = .ok (.ireturn, 1) := dk_172 (dk_at dksX8_posts_2 5 rfl rfl)
theorem dX8_posts_53 : decode cX8_posts 53 = .ok (.iload_n 3, 1) := dk_29 (dk_at dksX8_posts_2 6 rfl rfl)
theorem dX8_posts_54 : decode cX8_posts 54 = .ok (.ifCond .lt 23, 3) := dk_155 0 23 (dk_at dksX8_posts_2 7 rfl rfl)
theorem dX8_posts_57 : decode cX8_posts 57 = .ok (.iload_n 3, 1) := dk_29 (dk_at dksX8_posts_2 10 rfl rfl)
theorem dX8_posts_58 : decode cX8_posts 58 = .ok (.i2l, 1) := dk_133 (dk_at dksX8_posts_2 11 rfl rfl)
theorem dX8_posts_59 : decode cX8_posts 59 = .ok (.bipush 8, 2) := dk_16 8 (dk_at dksX8_posts_2 12 rfl rfl)
theorem dX8_posts_61 : decode cX8_posts 61 = .ok (.iload 4, 2) := dk_21 4 (dk_at dksX8_posts_2 14 rfl rfl)
theorem dX8_posts_63 : decode cX8_posts 63 = .ok (.imul, 1) := dk_104 (dk_at dksX8_posts_2 16 rfl rfl)
theorem dX8_posts_64 : decode cX8_posts 64 = .ok (.i2l, 1) := dk_133 (dk_at dksX8_posts_2 17 rfl rfl)
theorem dX8_posts_65 : decode cX8_posts 65 = .ok (.ladd, 1) := dk_97 (dk_at dksX8_posts_2 18 rfl rfl)
theorem dX8_posts_66 : decode cX8_posts 66 = .ok (.aload_n 0, 1) := dk_42 (dk_at dksX8_posts_2 19 rfl rfl)
theorem dX8_posts_67 : decode cX8_posts 67 = .ok (.getfield 107, 3) := dk_180 0 107 (dk_at dksX8_posts_2 20 rfl rfl)
theorem dX8_posts_70 : decode cX8_posts 70 = .ok (.iload_n 1, 1) := dk_27 (dk_at dksX8_posts_2 23 rfl rfl)
theorem dX8_posts_71 : decode cX8_posts 71 = .ok (.iaload, 1) := dk_46 (dk_at dksX8_posts_3 0 rfl rfl)
theorem dX8_posts_72 : decode cX8_posts 72 = .ok (.i2l, 1) := dk_133 (dk_at dksX8_posts_3 1 rfl rfl)
theorem dX8_posts_73 : decode cX8_posts 73 = .ok (.lcmp, 1) := dk_148 (dk_at dksX8_posts_3 2 rfl rfl)
theorem dX8_posts_74 : decode cX8_posts 74 = .ok (.ifCond .le 6, 3) := dk_158 0 6 (dk_at dksX8_posts_3 3 rfl rfl)
theorem dX8_posts_77 : decode cX8_posts 77 = .ok (.bipush (-13), 2) := dk_16 243 (dk_at dksX8_posts_3 6 rfl rfl)
theorem dX8_posts_79 : decode cX8_posts 79 = .ok (.ireturn, 1) := dk_172 (dk_at dksX8_posts_3 8 rfl rfl)
theorem dX8_posts_80 : decode cX8_posts 80 = .ok (.aload_n 0, 1) := dk_42 (dk_at dksX8_posts_3 9 rfl rfl)
theorem dX8_posts_81 : decode cX8_posts 81 = .ok (.invokevirtual 295, 3) := dk_182 1 39 (dk_at dksX8_posts_3 10 rfl rfl)
theorem dX8_posts_84 : decode cX8_posts 84 = .ok (.istore 5, 2) := dk_54 5 (dk_at dksX8_posts_3 13 rfl rfl)
theorem dX8_posts_86 : decode cX8_posts 86 = .ok (.iconst 0, 1) := dk_3 (dk_at dksX8_posts_3 15 rfl rfl)
theorem dX8_posts_87 : decode cX8_posts 87 = .ok (.istore 6, 2) := dk_54 6 (dk_at dksX8_posts_3 16 rfl rfl)
theorem dX8_posts_89 : decode cX8_posts 89 = .ok (.iload 6, 2) := dk_21 6 (dk_at dksX8_posts_3 18 rfl rfl)
theorem dX8_posts_91 : decode cX8_posts 91 = .ok (.iload 4, 2) := dk_21 4 (dk_at dksX8_posts_3 20 rfl rfl)
theorem dX8_posts_93 : decode cX8_posts 93 = .ok (.if_icmp .ge 135, 3) := dk_162 0 135 (dk_at dksX8_posts_4 0 rfl rfl)
theorem dX8_posts_96 : decode cX8_posts 96 = .ok (.bipush 40, 2) := dk_16 40 (dk_at dksX8_posts_4 3 rfl rfl)
theorem dX8_posts_98 : decode cX8_posts 98 = .ok (.iload_n 1, 1) := dk_27 (dk_at dksX8_posts_4 5 rfl rfl)
theorem dX8_posts_99 : decode cX8_posts 99 = .ok (.imul, 1) := dk_104 (dk_at dksX8_posts_4 6 rfl rfl)
theorem dX8_posts_100 : decode cX8_posts 100 = .ok (.iload_n 3, 1) := dk_29 (dk_at dksX8_posts_4 7 rfl rfl)
theorem dX8_posts_101 : decode cX8_posts 101 = .ok (.iadd, 1) := dk_96 (dk_at dksX8_posts_4 8 rfl rfl)
theorem dX8_posts_102 : decode cX8_posts 102 = .ok (.bipush 8, 2) := dk_16 8 (dk_at dksX8_posts_4 9 rfl rfl)
theorem dX8_posts_104 : decode cX8_posts 104 = .ok (.iload 6, 2) := dk_21 6 (dk_at dksX8_posts_4 11 rfl rfl)
theorem dX8_posts_106 : decode cX8_posts 106 = .ok (.imul, 1) := dk_104 (dk_at dksX8_posts_4 13 rfl rfl)
theorem dX8_posts_107 : decode cX8_posts 107 = .ok (.iadd, 1) := dk_96 (dk_at dksX8_posts_4 14 rfl rfl)
theorem dX8_posts_108 : decode cX8_posts 108 = .ok (.istore 7, 2) := dk_54 7 (dk_at dksX8_posts_4 15 rfl rfl)
theorem dX8_posts_110 : decode cX8_posts 110 = .ok (.aload_n 0, 1) := dk_42 (dk_at dksX8_posts_4 17 rfl rfl)
theorem dX8_posts_111 : decode cX8_posts 111 = .ok (.getfield 110, 3) := dk_180 0 110 (dk_at dksX8_posts_4 18 rfl rfl)
theorem dX8_posts_114 : decode cX8_posts 114 = .ok (.iload 7, 2) := dk_21 7 (dk_at dksX8_posts_4 21 rfl rfl)
theorem dX8_posts_116 : decode cX8_posts 116 = .ok (.iaload, 1) := dk_46 (dk_at dksX8_posts_4 23 rfl rfl)
theorem dX8_posts_117 : decode cX8_posts 117 = .ok (.aload_n 0, 1) := dk_42 (dk_at dksX8_posts_5 0 rfl rfl)
theorem dX8_posts_118 : decode cX8_posts 118 = .ok (.getfield 110, 3) := dk_180 0 110 (dk_at dksX8_posts_5 1 rfl rfl)
theorem dX8_posts_121 : decode cX8_posts 121 = .ok (.iload 7, 2) := dk_21 7 (dk_at dksX8_posts_5 4 rfl rfl)
theorem dX8_posts_123 : decode cX8_posts 123 = .ok (.iconst 1, 1) := dk_4 (dk_at dksX8_posts_5 6 rfl rfl)
theorem dX8_posts_124 : decode cX8_posts 124 = .ok (.iadd, 1) := dk_96 (dk_at dksX8_posts_5 7 rfl rfl)
theorem dX8_posts_125 : decode cX8_posts 125 = .ok (.iaload, 1) := dk_46 (dk_at dksX8_posts_5 8 rfl rfl)
theorem dX8_posts_126 : decode cX8_posts 126 = .ok (.aload_n 0, 1) := dk_42 (dk_at dksX8_posts_5 9 rfl rfl)
theorem dX8_posts_127 : decode cX8_posts 127 = .ok (.getfield 110, 3) := dk_180 0 110 (dk_at dksX8_posts_5 10 rfl rfl)
theorem dX8_posts_130 : decode cX8_posts 130 = .ok (.iload 7, 2) := dk_21 7 (dk_at dksX8_posts_5 13 rfl rfl)
theorem dX8_posts_132 : decode cX8_posts 132 = .ok (.iconst 2, 1) := dk_5 (dk_at dksX8_posts_5 15 rfl rfl)
theorem dX8_posts_133 : decode cX8_posts 133 = .ok (.iadd, 1) := dk_96 (dk_at dksX8_posts_5 16 rfl rfl)
theorem dX8_posts_134 : decode cX8_posts 134 = .ok (.iaload, 1) := dk_46 (dk_at dksX8_posts_5 17 rfl rfl)
theorem dX8_posts_135 : decode cX8_posts 135 = .ok (.aload_n 0, 1) := dk_42 (dk_at dksX8_posts_5 18 rfl rfl)
theorem dX8_posts_136 : decode cX8_posts 136 = .ok (.getfield 110, 3) := dk_180 0 110 (dk_at dksX8_posts_5 19 rfl rfl)
theorem dX8_posts_139 : decode cX8_posts 139 = .ok (.iload 7, 2) := dk_21 7 (dk_at dksX8_posts_5 22 rfl rfl)
theorem dX8_posts_141 : decode cX8_posts 141 = .ok (.iconst 3, 1) := dk_6 (dk_at dksX8_posts_6 0 rfl rfl)
theorem dX8_posts_142 : decode cX8_posts 142 = .ok (.iadd, 1) := dk_96 (dk_at dksX8_posts_6 1 rfl rfl)
theorem dX8_posts_143 : decode cX8_posts 143 = .ok (.iaload, 1) := dk_46 (dk_at dksX8_posts_6 2 rfl rfl)
theorem dX8_posts_144 : decode cX8_posts 144 = .ok (.aload_n 0, 1) := dk_42 (dk_at dksX8_posts_6 3 rfl rfl)
theorem dX8_posts_145 : decode cX8_posts 145 = .ok (.getfield 110, 3) := dk_180 0 110 (dk_at dksX8_posts_6 4 rfl rfl)
theorem dX8_posts_148 : decode cX8_posts 148 = .ok (.iload 7, 2) := dk_21 7 (dk_at dksX8_posts_6 7 rfl rfl)
theorem dX8_posts_150 : decode cX8_posts 150 = .ok (.iconst 4, 1) := dk_7 (dk_at dksX8_posts_6 9 rfl rfl)
theorem dX8_posts_151 : decode cX8_posts 151 = .ok (.iadd, 1) := dk_96 (dk_at dksX8_posts_6 10 rfl rfl)
theorem dX8_posts_152 : decode cX8_posts 152 = .ok (.iaload, 1) := dk_46 (dk_at dksX8_posts_6 11 rfl rfl)
theorem dX8_posts_153 : decode cX8_posts 153 = .ok (.aload_n 0, 1) := dk_42 (dk_at dksX8_posts_6 12 rfl rfl)
theorem dX8_posts_154 : decode cX8_posts 154 = .ok (.getfield 110, 3) := dk_180 0 110 (dk_at dksX8_posts_6 13 rfl rfl)
theorem dX8_posts_157 : decode cX8_posts 157 = .ok (.iload 7, 2) := dk_21 7 (dk_at dksX8_posts_6 16 rfl rfl)
theorem dX8_posts_159 : decode cX8_posts 159 = .ok (.iconst 5, 1) := dk_8 (dk_at dksX8_posts_6 18 rfl rfl)
theorem dX8_posts_160 : decode cX8_posts 160 = .ok (.iadd, 1) := dk_96 (dk_at dksX8_posts_6 19 rfl rfl)
theorem dX8_posts_161 : decode cX8_posts 161 = .ok (.iaload, 1) := dk_46 (dk_at dksX8_posts_6 20 rfl rfl)
theorem dX8_posts_162 : decode cX8_posts 162 = .ok (.aload_n 0, 1) := dk_42 (dk_at dksX8_posts_6 21 rfl rfl)
theorem dX8_posts_163 : decode cX8_posts 163 = .ok (.getfield 110, 3) := dk_180 0 110 (dk_at dksX8_posts_7 0 rfl rfl)
theorem dX8_posts_166 : decode cX8_posts 166 = .ok (.iload 7, 2) := dk_21 7 (dk_at dksX8_posts_7 3 rfl rfl)
theorem dX8_posts_168 : decode cX8_posts 168 = .ok (.bipush 6, 2) := dk_16 6 (dk_at dksX8_posts_7 5 rfl rfl)
theorem dX8_posts_170 : decode cX8_posts 170 = .ok (.iadd, 1) := dk_96 (dk_at dksX8_posts_7 7 rfl rfl)
theorem dX8_posts_171 : decode cX8_posts 171 = .ok (.iaload, 1) := dk_46 (dk_at dksX8_posts_7 8 rfl rfl)
theorem dX8_posts_172 : decode cX8_posts 172 = .ok (.aload_n 0, 1) := dk_42 (dk_at dksX8_posts_7 9 rfl rfl)
theorem dX8_posts_173 : decode cX8_posts 173 = .ok (.getfield 110, 3) := dk_180 0 110 (dk_at dksX8_posts_7 10 rfl rfl)
theorem dX8_posts_176 : decode cX8_posts 176 = .ok (.iload 7, 2) := dk_21 7 (dk_at dksX8_posts_7 13 rfl rfl)
theorem dX8_posts_178 : decode cX8_posts 178 = .ok (.bipush 7, 2) := dk_16 7 (dk_at dksX8_posts_7 15 rfl rfl)
theorem dX8_posts_180 : decode cX8_posts 180 = .ok (.iadd, 1) := dk_96 (dk_at dksX8_posts_7 17 rfl rfl)
theorem dX8_posts_181 : decode cX8_posts 181 = .ok (.iaload, 1) := dk_46 (dk_at dksX8_posts_7 18 rfl rfl)
theorem dX8_posts_182 : decode cX8_posts 182 = .ok (.invokestatic 291, 3) := dk_184 1 35 (dk_at dksX8_posts_7 19 rfl rfl)
theorem dX8_posts_185 : decode cX8_posts 185 = .ok (.istore 8, 2) := dk_54 8 (dk_at dksX8_posts_7 22 rfl rfl)
theorem dX8_posts_187 : decode cX8_posts 187 = .ok (.iload 8, 2) := dk_21 8 (dk_at dksX8_posts_8 0 rfl rfl)
theorem dX8_posts_189 : decode cX8_posts 189 = .ok (.ifCond .eq 18, 3) := dk_153 0 18 (dk_at dksX8_posts_8 2 rfl rfl)
theorem dX8_posts_192 : decode cX8_posts 192 = .ok (.aload_n 0, 1) := dk_42 (dk_at dksX8_posts_8 5 rfl rfl)
theorem dX8_posts_193 : decode cX8_posts 193 = .ok (.getfield 110, 3) := dk_180 0 110 (dk_at dksX8_posts_8 6 rfl rfl)
theorem dX8_posts_196 : decode cX8_posts 196 = .ok (.iload 7, 2) := dk_21 7 (dk_at dksX8_posts_8 9 rfl rfl)
theorem dX8_posts_198 : decode cX8_posts 198 = .ok (.bipush 7, 2) := dk_16 7 (dk_at dksX8_posts_8 11 rfl rfl)
theorem dX8_posts_200 : decode cX8_posts 200 = .ok (.iadd, 1) := dk_96 (dk_at dksX8_posts_8 13 rfl rfl)
theorem dX8_posts_201 : decode cX8_posts 201 = .ok (.iaload, 1) := dk_46 (dk_at dksX8_posts_8 14 rfl rfl)
theorem dX8_posts_202 : decode cX8_posts 202 = .ok (.iload 5, 2) := dk_21 5 (dk_at dksX8_posts_8 15 rfl rfl)
theorem dX8_posts_204 : decode cX8_posts 204 = .ok (.if_icmp .ge 6, 3) := dk_162 0 6 (dk_at dksX8_posts_8 17 rfl rfl)
theorem dX8_posts_207 : decode cX8_posts 207 = .ok (.bipush (-2), 2) := dk_16 254 (dk_at dksX8_posts_8 20 rfl rfl)
theorem dX8_posts_209 : decode cX8_posts 209 = .ok (.ireturn, 1) := dk_172 (dk_at dksX8_posts_8 22 rfl rfl)
theorem dX8_posts_210 : decode cX8_posts 210 = .ok (.aload_n 0, 1) := dk_42 (dk_at dksX8_posts_8 23 rfl rfl)
theorem dX8_posts_211 : decode cX8_posts 211 = .ok (.getfield 110, 3) := dk_180 0 110 (dk_at dksX8_posts_9 0 rfl rfl)
theorem dX8_posts_214 : decode cX8_posts 214 = .ok (.iload 7, 2) := dk_21 7 (dk_at dksX8_posts_9 3 rfl rfl)
theorem dX8_posts_216 : decode cX8_posts 216 = .ok (.bipush 7, 2) := dk_16 7 (dk_at dksX8_posts_9 5 rfl rfl)
theorem dX8_posts_218 : decode cX8_posts 218 = .ok (.iadd, 1) := dk_96 (dk_at dksX8_posts_9 7 rfl rfl)
theorem dX8_posts_219 : decode cX8_posts 219 = .ok (.iaload, 1) := dk_46 (dk_at dksX8_posts_9 8 rfl rfl)
theorem dX8_posts_220 : decode cX8_posts 220 = .ok (.istore 5, 2) := dk_54 5 (dk_at dksX8_posts_9 9 rfl rfl)
theorem dX8_posts_222 : decode cX8_posts 222 = .ok (.iinc 6 1, 3) := dk_132 6 1 (dk_at dksX8_posts_9 11 rfl rfl)
theorem dX8_posts_225 : decode cX8_posts 225 = .ok (.goto (-136), 3) := dk_167 255 120 (dk_at dksX8_posts_9 14 rfl rfl)
theorem dX8_posts_228 : decode cX8_posts 228 = .ok (.aload_n 0, 1) := dk_42 (dk_at dksX8_posts_9 17 rfl rfl)
theorem dX8_posts_229 : decode cX8_posts 229 = .ok (.iconst 0, 1) := dk_3 (dk_at dksX8_posts_9 18 rfl rfl)
theorem dX8_posts_230 : decode cX8_posts 230 = .ok (.putfield 278, 3) := dk_181 1 22 (dk_at dksX8_posts_9 19 rfl rfl)
theorem dX8_posts_233 : decode cX8_posts 233 = .ok (.iconst 0, 1) := dk_3 (dk_at dksX8_posts_9 22 rfl rfl)
theorem dX8_posts_234 : decode cX8_posts 234 = .ok (.istore 6, 2) := dk_54 6 (dk_at dksX8_posts_10 0 rfl rfl)
theorem dX8_posts_236 : decode cX8_posts 236 = .ok (.iload 6, 2) := dk_21 6 (dk_at dksX8_posts_10 2 rfl rfl)
theorem dX8_posts_238 : decode cX8_posts 238 = .ok (.iload 4, 2) := dk_21 4 (dk_at dksX8_posts_10 4 rfl rfl)
theorem dX8_posts_240 : decode cX8_posts 240 = .ok (.if_icmp .ge 109, 3) := dk_162 0 109 (dk_at dksX8_posts_10 6 rfl rfl)
theorem dX8_posts_243 : decode cX8_posts 243 = .ok (.bipush 40, 2) := dk_16 40 (dk_at dksX8_posts_10 9 rfl rfl)
theorem dX8_posts_245 : decode cX8_posts 245 = .ok (.iload_n 1, 1) := dk_27 (dk_at dksX8_posts_10 11 rfl rfl)
theorem dX8_posts_246 : decode cX8_posts 246 = .ok (.imul, 1) := dk_104 (dk_at dksX8_posts_10 12 rfl rfl)
theorem dX8_posts_247 : decode cX8_posts 247 = .ok (.iload_n 3, 1) := dk_29 (dk_at dksX8_posts_10 13 rfl rfl)
theorem dX8_posts_248 : decode cX8_posts 248 = .ok (.iadd, 1) := dk_96 (dk_at dksX8_posts_10 14 rfl rfl)
theorem dX8_posts_249 : decode cX8_posts 249 = .ok (.bipush 8, 2) := dk_16 8 (dk_at dksX8_posts_10 15 rfl rfl)
theorem dX8_posts_251 : decode cX8_posts 251 = .ok (.iload 6, 2) := dk_21 6 (dk_at dksX8_posts_10 17 rfl rfl)
theorem dX8_posts_253 : decode cX8_posts 253 = .ok (.imul, 1) := dk_104 (dk_at dksX8_posts_10 19 rfl rfl)
theorem dX8_posts_254 : decode cX8_posts 254 = .ok (.iadd, 1) := dk_96 (dk_at dksX8_posts_10 20 rfl rfl)
theorem dX8_posts_255 : decode cX8_posts 255 = .ok (.istore 7, 2) := dk_54 7 (dk_at dksX8_posts_10 21 rfl rfl)
theorem dX8_posts_257 : decode cX8_posts 257 = .ok (.aload_n 0, 1) := dk_42 (dk_at dksX8_posts_10 23 rfl rfl)
theorem dX8_posts_258 : decode cX8_posts 258 = .ok (.invokevirtual 298, 3) := dk_182 1 42 (dk_at dksX8_posts_11 0 rfl rfl)
theorem dX8_posts_261 : decode cX8_posts 261 = .ok (.ifCond .eq 6, 3) := dk_153 0 6 (dk_at dksX8_posts_11 3 rfl rfl)
theorem dX8_posts_264 : decode cX8_posts 264 = .ok (.bipush (-3), 2) := dk_16 253 (dk_at dksX8_posts_11 6 rfl rfl)
theorem dX8_posts_266 : decode cX8_posts 266 = .ok (.ireturn, 1) := dk_172 (dk_at dksX8_posts_11 8 rfl rfl)
theorem dX8_posts_267 : decode cX8_posts 267 = .ok (.aload_n 0, 1) := dk_42 (dk_at dksX8_posts_11 9 rfl rfl)
theorem dX8_posts_268 : decode cX8_posts 268 = .ok (.aload_n 0, 1) := dk_42 (dk_at dksX8_posts_11 10 rfl rfl)
theorem dX8_posts_269 : decode cX8_posts 269 = .ok (.getfield 110, 3) := dk_180 0 110 (dk_at dksX8_posts_11 11 rfl rfl)
theorem dX8_posts_272 : decode cX8_posts 272 = .ok (.iload 7, 2) := dk_21 7 (dk_at dksX8_posts_11 14 rfl rfl)
theorem dX8_posts_274 : decode cX8_posts 274 = .ok (.iaload, 1) := dk_46 (dk_at dksX8_posts_11 16 rfl rfl)
theorem dX8_posts_275 : decode cX8_posts 275 = .ok (.aload_n 0, 1) := dk_42 (dk_at dksX8_posts_11 17 rfl rfl)
theorem dX8_posts_276 : decode cX8_posts 276 = .ok (.getfield 110, 3) := dk_180 0 110 (dk_at dksX8_posts_11 18 rfl rfl)
theorem dX8_posts_279 : decode cX8_posts 279 = .ok (.iload 7, 2) := dk_21 7 (dk_at dksX8_posts_11 21 rfl rfl)
theorem dX8_posts_281 : decode cX8_posts 281 = .ok (.iconst 1, 1) := dk_4 (dk_at dksX8_posts_11 23 rfl rfl)
theorem dX8_posts_282 : decode cX8_posts 282 = .ok (.iadd, 1) := dk_96 (dk_at dksX8_posts_12 0 rfl rfl)
theorem dX8_posts_283 : decode cX8_posts 283 = .ok (.iaload, 1) := dk_46 (dk_at dksX8_posts_12 1 rfl rfl)
theorem dX8_posts_284 : decode cX8_posts 284 = .ok (.aload_n 0, 1) := dk_42 (dk_at dksX8_posts_12 2 rfl rfl)
theorem dX8_posts_285 : decode cX8_posts 285 = .ok (.getfield 110, 3) := dk_180 0 110 (dk_at dksX8_posts_12 3 rfl rfl)
theorem dX8_posts_288 : decode cX8_posts 288 = .ok (.iload 7, 2) := dk_21 7 (dk_at dksX8_posts_12 6 rfl rfl)
theorem dX8_posts_290 : decode cX8_posts 290 = .ok (.iconst 2, 1) := dk_5 (dk_at dksX8_posts_12 8 rfl rfl)
theorem dX8_posts_291 : decode cX8_posts 291 = .ok (.iadd, 1) := dk_96 (dk_at dksX8_posts_12 9 rfl rfl)
theorem dX8_posts_292 : decode cX8_posts 292 = .ok (.iaload, 1) := dk_46 (dk_at dksX8_posts_12 10 rfl rfl)
theorem dX8_posts_293 : decode cX8_posts 293 = .ok (.aload_n 0, 1) := dk_42 (dk_at dksX8_posts_12 11 rfl rfl)
theorem dX8_posts_294 : decode cX8_posts 294 = .ok (.getfield 110, 3) := dk_180 0 110 (dk_at dksX8_posts_12 12 rfl rfl)
theorem dX8_posts_297 : decode cX8_posts 297 = .ok (.iload 7, 2) := dk_21 7 (dk_at dksX8_posts_12 15 rfl rfl)
theorem dX8_posts_299 : decode cX8_posts 299 = .ok (.iconst 3, 1) := dk_6 (dk_at dksX8_posts_12 17 rfl rfl)
theorem dX8_posts_300 : decode cX8_posts 300 = .ok (.iadd, 1) := dk_96 (dk_at dksX8_posts_12 18 rfl rfl)
theorem dX8_posts_301 : decode cX8_posts 301 = .ok (.iaload, 1) := dk_46 (dk_at dksX8_posts_12 19 rfl rfl)
theorem dX8_posts_302 : decode cX8_posts 302 = .ok (.aload_n 0, 1) := dk_42 (dk_at dksX8_posts_12 20 rfl rfl)
theorem dX8_posts_303 : decode cX8_posts 303 = .ok (.getfield 110, 3) := dk_180 0 110 (dk_at dksX8_posts_12 21 rfl rfl)
theorem dX8_posts_306 : decode cX8_posts 306 = .ok (.iload 7, 2) := dk_21 7 (dk_at dksX8_posts_13 0 rfl rfl)
theorem dX8_posts_308 : decode cX8_posts 308 = .ok (.iconst 4, 1) := dk_7 (dk_at dksX8_posts_13 2 rfl rfl)
theorem dX8_posts_309 : decode cX8_posts 309 = .ok (.iadd, 1) := dk_96 (dk_at dksX8_posts_13 3 rfl rfl)
theorem dX8_posts_310 : decode cX8_posts 310 = .ok (.iaload, 1) := dk_46 (dk_at dksX8_posts_13 4 rfl rfl)
theorem dX8_posts_311 : decode cX8_posts 311 = .ok (.aload_n 0, 1) := dk_42 (dk_at dksX8_posts_13 5 rfl rfl)
theorem dX8_posts_312 : decode cX8_posts 312 = .ok (.getfield 110, 3) := dk_180 0 110 (dk_at dksX8_posts_13 6 rfl rfl)
theorem dX8_posts_315 : decode cX8_posts 315 = .ok (.iload 7, 2) := dk_21 7 (dk_at dksX8_posts_13 9 rfl rfl)
theorem dX8_posts_317 : decode cX8_posts 317 = .ok (.iconst 5, 1) := dk_8 (dk_at dksX8_posts_13 11 rfl rfl)
theorem dX8_posts_318 : decode cX8_posts 318 = .ok (.iadd, 1) := dk_96 (dk_at dksX8_posts_13 12 rfl rfl)
theorem dX8_posts_319 : decode cX8_posts 319 = .ok (.iaload, 1) := dk_46 (dk_at dksX8_posts_13 13 rfl rfl)
theorem dX8_posts_320 : decode cX8_posts 320 = .ok (.aload_n 0, 1) := dk_42 (dk_at dksX8_posts_13 14 rfl rfl)
theorem dX8_posts_321 : decode cX8_posts 321 = .ok (.getfield 110, 3) := dk_180 0 110 (dk_at dksX8_posts_13 15 rfl rfl)
theorem dX8_posts_324 : decode cX8_posts 324 = .ok (.iload 7, 2) := dk_21 7 (dk_at dksX8_posts_13 18 rfl rfl)
theorem dX8_posts_326 : decode cX8_posts 326 = .ok (.bipush 6, 2) := dk_16 6 (dk_at dksX8_posts_13 20 rfl rfl)
theorem dX8_posts_328 : decode cX8_posts 328 = .ok (.iadd, 1) := dk_96 (dk_at dksX8_posts_13 22 rfl rfl)
theorem dX8_posts_329 : decode cX8_posts 329 = .ok (.iaload, 1) := dk_46 (dk_at dksX8_posts_13 23 rfl rfl)
theorem dX8_posts_330 : decode cX8_posts 330 = .ok (.aload_n 0, 1) := dk_42 (dk_at dksX8_posts_14 0 rfl rfl)
theorem dX8_posts_331 : decode cX8_posts 331 = .ok (.getfield 110, 3) := dk_180 0 110 (dk_at dksX8_posts_14 1 rfl rfl)
theorem dX8_posts_334 : decode cX8_posts 334 = .ok (.iload 7, 2) := dk_21 7 (dk_at dksX8_posts_14 4 rfl rfl)
theorem dX8_posts_336 : decode cX8_posts 336 = .ok (.bipush 7, 2) := dk_16 7 (dk_at dksX8_posts_14 6 rfl rfl)
theorem dX8_posts_338 : decode cX8_posts 338 = .ok (.iadd, 1) := dk_96 (dk_at dksX8_posts_14 8 rfl rfl)
theorem dX8_posts_339 : decode cX8_posts 339 = .ok (.iaload, 1) := dk_46 (dk_at dksX8_posts_14 9 rfl rfl)
theorem dX8_posts_340 : decode cX8_posts 340 = .ok (.invokevirtual 302, 3) := dk_182 1 46 (dk_at dksX8_posts_14 10 rfl rfl)
theorem dX8_posts_343 : decode cX8_posts 343 = .ok (.iinc 6 1, 3) := dk_132 6 1 (dk_at dksX8_posts_14 13 rfl rfl)
theorem dX8_posts_346 : decode cX8_posts 346 = .ok (.goto (-110), 3) := dk_167 255 146 (dk_at dksX8_posts_14 16 rfl rfl)
theorem dX8_posts_349 : decode cX8_posts 349 = .ok (.aload_n 0, 1) := dk_42 (dk_at dksX8_posts_14 19 rfl rfl)
theorem dX8_posts_350 : decode cX8_posts 350 = .ok (.getfield 278, 3) := dk_180 1 22 (dk_at dksX8_posts_14 20 rfl rfl)
theorem dX8_posts_353 : decode cX8_posts 353 = .ok (.ireturn, 1) := dk_172 (dk_at dksX8_posts_14 23 rfl rfl)
abbrev cX8_letter : ByteArray := prog_21_method_42_code
def yX8_letter : MethodName := ⟨RX8, "letter", "(II)I"⟩
def dkwX8_letter_5 : List UInt8 := [27, 46, 172, 42, 180, 0, 74, 27, 46, 172, 42, 27, 182, 0, 212, 153, 0, 7, 4, 167, 0, 4, 3, 172]
abbrev dktX8_letter_5 : List UInt8 := dkwX8_letter_5 ++ []
def dkwX8_letter_4 : List UInt8 := [180, 0, 62, 27, 46, 172, 42, 180, 0, 65, 27, 46, 172, 42, 180, 0, 68, 27, 46, 172, 42, 180, 0, 71]
abbrev dktX8_letter_4 : List UInt8 := dkwX8_letter_4 ++ dktX8_letter_5
def dkwX8_letter_3 : List UInt8 := [42, 180, 0, 53, 27, 46, 172, 42, 180, 0, 56, 27, 46, 172, 42, 180, 0, 59, 27, 46, 172, 42]
abbrev dktX8_letter_3 : List UInt8 := dkwX8_letter_3 ++ dktX8_letter_4
def dkwX8_letter_2 : List UInt8 := [170, 0, 0, 0, 0, 0, 0, 104, 0, 0, 0, 0, 0, 0, 0, 7, 0, 0, 0, 48, 0, 0, 0, 55, 0, 0, 0, 62, 0, 0, 0, 69, 0, 0, 0, 76, 0, 0, 0, 83, 0, 0, 0, 90, 0, 0, 0, 97]
abbrev dktX8_letter_2 : List UInt8 := dkwX8_letter_2 ++ dktX8_letter_3
def dkwX8_letter_1 : List UInt8 := [16, 155, 172, 28]
abbrev dktX8_letter_1 : List UInt8 := dkwX8_letter_1 ++ dktX8_letter_2
def dkwX8_letter_0 : List UInt8 := [27, 3, 42, 180, 0, 224, 4, 100, 184, 0, 122, 153, 0, 13, 28, 3, 16, 8, 184, 0, 122, 154, 0, 6]
abbrev dktX8_letter_0 : List UInt8 := dkwX8_letter_0 ++ dktX8_letter_1
theorem dksX8_letter_0 : cX8_letter.data.toList.drop 0 = dktX8_letter_0 := by decide +kernel
theorem dksX8_letter_1 : cX8_letter.data.toList.drop 24 = dktX8_letter_1 := dk_seg dksX8_letter_0 24 rfl rfl
theorem dksX8_letter_2 : cX8_letter.data.toList.drop 28 = dktX8_letter_2 := dk_seg dksX8_letter_1 4 rfl rfl
theorem dksX8_letter_3 : cX8_letter.data.toList.drop 76 = dktX8_letter_3 := dk_seg dksX8_letter_2 48 rfl rfl
theorem dksX8_letter_4 : cX8_letter.data.toList.drop 98 = dktX8_letter_4 := dk_seg dksX8_letter_3 22 rfl rfl
theorem dksX8_letter_5 : cX8_letter.data.toList.drop 122 = dktX8_letter_5 := dk_seg dksX8_letter_4 24 rfl rfl
theorem dX8_letter_0 : decode cX8_letter 0 = .ok (.iload_n 1, 1) := dk_27 (dk_at dksX8_letter_0 0 rfl rfl)
theorem dX8_letter_1 : decode cX8_letter 1 = .ok (.iconst 0, 1) := dk_3 (dk_at dksX8_letter_0 1 rfl rfl)
theorem dX8_letter_2 : decode cX8_letter 2 = .ok (.aload_n 0, 1) := dk_42 (dk_at dksX8_letter_0 2 rfl rfl)
theorem dX8_letter_3 : decode cX8_letter 3 = .ok (.getfield 224, 3) := dk_180 0 224 (dk_at dksX8_letter_0 3 rfl rfl)
theorem dX8_letter_6 : decode cX8_letter 6 = .ok (.iconst 1, 1) := dk_4 (dk_at dksX8_letter_0 6 rfl rfl)
theorem dX8_letter_7 : decode cX8_letter 7 = .ok (.isub, 1) := dk_100 (dk_at dksX8_letter_0 7 rfl rfl)
theorem dX8_letter_8 : decode cX8_letter 8 = .ok (.invokestatic 122, 3) := dk_184 0 122 (dk_at dksX8_letter_0 8 rfl rfl)
theorem dX8_letter_11 : decode cX8_letter 11 = .ok (.ifCond .eq 13, 3) := dk_153 0 13 (dk_at dksX8_letter_0 11 rfl rfl)
theorem dX8_letter_14 : decode cX8_letter 14 = .ok (.iload_n 2, 1) := dk_28 (dk_at dksX8_letter_0 14 rfl rfl)
theorem dX8_letter_15 : decode cX8_letter 15 = .ok (.iconst 0, 1) := dk_3 (dk_at dksX8_letter_0 15 rfl rfl)
theorem dX8_letter_16 : decode cX8_letter 16 = .ok (.bipush 8, 2) := dk_16 8 (dk_at dksX8_letter_0 16 rfl rfl)
theorem dX8_letter_18 : decode cX8_letter 18 = .ok (.invokestatic 122, 3) := dk_184 0 122 (dk_at dksX8_letter_0 18 rfl rfl)
theorem dX8_letter_21 : decode cX8_letter 21 = .ok (.ifCond .ne 6, 3) := dk_154 0 6 (dk_at dksX8_letter_0 21 rfl rfl)
theorem dX8_letter_24 : decode cX8_letter 24 = .ok (.bipush (-101), 2) := dk_16 155 (dk_at dksX8_letter_1 0 rfl rfl)
theorem dX8_letter_26 : decode cX8_letter 26 = .ok (.ireturn, 1) := dk_172 (dk_at dksX8_letter_1 2 rfl rfl)
theorem dX8_letter_27 : decode cX8_letter 27 = .ok (.iload_n 2, 1) := dk_28 (dk_at dksX8_letter_1 3 rfl rfl)
theorem dX8_letter_28 : decode cX8_letter 28 = .ok (.tableswitch 104 0 7 #[48, 55, 62, 69, 76, 83, 90, 97], 48) := by decide +kernel
theorem dX8_letter_76 : decode cX8_letter 76 = .ok (.aload_n 0, 1) := dk_42 (dk_at dksX8_letter_3 0 rfl rfl)
theorem dX8_letter_77 : decode cX8_letter 77 = .ok (.getfield 53, 3) := dk_180 0 53 (dk_at dksX8_letter_3 1 rfl rfl)
theorem dX8_letter_80 : decode cX8_letter 80 = .ok (.iload_n 1, 1) := dk_27 (dk_at dksX8_letter_3 4 rfl rfl)
theorem dX8_letter_81 : decode cX8_letter 81 = .ok (.iaload, 1) := dk_46 (dk_at dksX8_letter_3 5 rfl rfl)
theorem dX8_letter_82 : decode cX8_letter 82 = .ok (.ireturn, 1) := dk_172 (dk_at dksX8_letter_3 6 rfl rfl)
theorem dX8_letter_83 : decode cX8_letter 83 = .ok (.aload_n 0, 1) := dk_42 (dk_at dksX8_letter_3 7 rfl rfl)
theorem dX8_letter_84 : decode cX8_letter 84 = .ok (.getfield 56, 3) := dk_180 0 56 (dk_at dksX8_letter_3 8 rfl rfl)
theorem dX8_letter_87 : decode cX8_letter 87 = .ok (.iload_n 1, 1) := dk_27 (dk_at dksX8_letter_3 11 rfl rfl)
theorem dX8_letter_88 : decode cX8_letter 88 = .ok (.iaload, 1) := dk_46 (dk_at dksX8_letter_3 12 rfl rfl)
theorem dX8_letter_89 : decode cX8_letter 89 = .ok (.ireturn, 1) := dk_172 (dk_at dksX8_letter_3 13 rfl rfl)
theorem dX8_letter_90 : decode cX8_letter 90 = .ok (.aload_n 0, 1) := dk_42 (dk_at dksX8_letter_3 14 rfl rfl)
theorem dX8_letter_91 : decode cX8_letter 91 = .ok (.getfield 59, 3) := dk_180 0 59 (dk_at dksX8_letter_3 15 rfl rfl)
theorem dX8_letter_94 : decode cX8_letter 94 = .ok (.iload_n 1, 1) := dk_27 (dk_at dksX8_letter_3 18 rfl rfl)
theorem dX8_letter_95 : decode cX8_letter 95 = .ok (.iaload, 1) := dk_46 (dk_at dksX8_letter_3 19 rfl rfl)
theorem dX8_letter_96 : decode cX8_letter 96 = .ok (.ireturn, 1) := dk_172 (dk_at dksX8_letter_3 20 rfl rfl)
theorem dX8_letter_97 : decode cX8_letter 97 = .ok (.aload_n 0, 1) := dk_42 (dk_at dksX8_letter_3 21 rfl rfl)
theorem dX8_letter_98 : decode cX8_letter 98 = .ok (.getfield 62, 3) := dk_180 0 62 (dk_at dksX8_letter_4 0 rfl rfl)
theorem dX8_letter_101 : decode cX8_letter 101 = .ok (.iload_n 1, 1) := dk_27 (dk_at dksX8_letter_4 3 rfl rfl)
theorem dX8_letter_102 : decode cX8_letter 102 = .ok (.iaload, 1) := dk_46 (dk_at dksX8_letter_4 4 rfl rfl)
theorem dX8_letter_103 : decode cX8_letter 103 = .ok (.ireturn, 1) := dk_172 (dk_at dksX8_letter_4 5 rfl rfl)
theorem dX8_letter_104 : decode cX8_letter 104 = .ok (.aload_n 0, 1) := dk_42 (dk_at dksX8_letter_4 6 rfl rfl)
theorem dX8_letter_105 : decode cX8_letter 105 = .ok (.getfield 65, 3) := dk_180 0 65 (dk_at dksX8_letter_4 7 rfl rfl)
theorem dX8_letter_108 : decode cX8_letter 108 = .ok (.iload_n 1, 1) := dk_27 (dk_at dksX8_letter_4 10 rfl rfl)
theorem dX8_letter_109 : decode cX8_letter 109 = .ok (.iaload, 1) := dk_46 (dk_at dksX8_letter_4 11 rfl rfl)
theorem dX8_letter_110 : decode cX8_letter 110 = .ok (.ireturn, 1) := dk_172 (dk_at dksX8_letter_4 12 rfl rfl)
theorem dX8_letter_111 : decode cX8_letter 111 = .ok (.aload_n 0, 1) := dk_42 (dk_at dksX8_letter_4 13 rfl rfl)
theorem dX8_letter_112 : decode cX8_letter 112 = .ok (.getfield 68, 3) := dk_180 0 68 (dk_at dksX8_letter_4 14 rfl rfl)
theorem dX8_letter_115 : decode cX8_letter 115 = .ok (.iload_n 1, 1) := dk_27 (dk_at dksX8_letter_4 17 rfl rfl)
theorem dX8_letter_116 : decode cX8_letter 116 = .ok (.iaload, 1) := dk_46 (dk_at dksX8_letter_4 18 rfl rfl)
theorem dX8_letter_117 : decode cX8_letter 117 = .ok (.ireturn, 1) := dk_172 (dk_at dksX8_letter_4 19 rfl rfl)
theorem dX8_letter_118 : decode cX8_letter 118 = .ok (.aload_n 0, 1) := dk_42 (dk_at dksX8_letter_4 20 rfl rfl)
theorem dX8_letter_119 : decode cX8_letter 119 = .ok (.getfield 71, 3) := dk_180 0 71 (dk_at dksX8_letter_4 21 rfl rfl)
theorem dX8_letter_122 : decode cX8_letter 122 = .ok (.iload_n 1, 1) := dk_27 (dk_at dksX8_letter_5 0 rfl rfl)
theorem dX8_letter_123 : decode cX8_letter 123 = .ok (.iaload, 1) := dk_46 (dk_at dksX8_letter_5 1 rfl rfl)
theorem dX8_letter_124 : decode cX8_letter 124 = .ok (.ireturn, 1) := dk_172 (dk_at dksX8_letter_5 2 rfl rfl)
theorem dX8_letter_125 : decode cX8_letter 125 = .ok (.aload_n 0, 1) := dk_42 (dk_at dksX8_letter_5 3 rfl rfl)
theorem dX8_letter_126 : decode cX8_letter 126 = .ok (.getfield 74, 3) := dk_180 0 74 (dk_at dksX8_letter_5 4 rfl rfl)
theorem dX8_letter_129 : decode cX8_letter 129 = .ok (.iload_n 1, 1) := dk_27 (dk_at dksX8_letter_5 7 rfl rfl)
theorem dX8_letter_130 : decode cX8_letter 130 = .ok (.iaload, 1) := dk_46 (dk_at dksX8_letter_5 8 rfl rfl)
theorem dX8_letter_131 : decode cX8_letter 131 = .ok (.ireturn, 1) := dk_172 (dk_at dksX8_letter_5 9 rfl rfl)
theorem dX8_letter_132 : decode cX8_letter 132 = .ok (.aload_n 0, 1) := dk_42 (dk_at dksX8_letter_5 10 rfl rfl)
theorem dX8_letter_133 : decode cX8_letter 133 = .ok (.iload_n 1, 1) := dk_27 (dk_at dksX8_letter_5 11 rfl rfl)
theorem dX8_letter_134 : decode cX8_letter 134 = .ok (.invokevirtual 212, 3) := dk_182 0 212 (dk_at dksX8_letter_5 12 rfl rfl)
theorem dX8_letter_137 : decode cX8_letter 137 = .ok (.ifCond .eq 7, 3) := dk_153 0 7 (dk_at dksX8_letter_5 15 rfl rfl)
theorem dX8_letter_140 : decode cX8_letter 140 = .ok (.iconst 1, 1) := dk_4 (dk_at dksX8_letter_5 18 rfl rfl)
theorem dX8_letter_141 : decode cX8_letter 141 = .ok (.goto 4, 3) := dk_167 0 4 (dk_at dksX8_letter_5 19 rfl rfl)
theorem dX8_letter_144 : decode cX8_letter 144 = .ok (.iconst 0, 1) := dk_3 (dk_at dksX8_letter_5 22 rfl rfl)
theorem dX8_letter_145 : decode cX8_letter 145 = .ok (.ireturn, 1) := dk_172 (dk_at dksX8_letter_5 23 rfl rfl)
abbrev cX8_size : ByteArray := prog_21_method_44_code
def yX8_size : MethodName := ⟨RX8, "size", "(II)I"⟩
def dkwX8_size_0 : List UInt8 := [27, 28, 184, 1, 52, 153, 0, 16, 42, 180, 0, 83, 7, 27, 104, 28, 96, 46, 167, 0, 4, 2, 172]
abbrev dktX8_size_0 : List UInt8 := dkwX8_size_0 ++ []
theorem dksX8_size_0 : cX8_size.data.toList.drop 0 = dktX8_size_0 := by decide +kernel
theorem dX8_size_0 : decode cX8_size 0 = .ok (.iload_n 1, 1) := dk_27 (dk_at dksX8_size_0 0 rfl rfl)
theorem dX8_size_1 : decode cX8_size 1 = .ok (.iload_n 2, 1) := dk_28 (dk_at dksX8_size_0 1 rfl rfl)
theorem dX8_size_2 : decode cX8_size 2 = .ok (.invokestatic 308, 3) := dk_184 1 52 (dk_at dksX8_size_0 2 rfl rfl)
theorem dX8_size_5 : decode cX8_size 5 = .ok (.ifCond .eq 16, 3) := dk_153 0 16 (dk_at dksX8_size_0 5 rfl rfl)
theorem dX8_size_8 : decode cX8_size 8 = .ok (.aload_n 0, 1) := dk_42 (dk_at dksX8_size_0 8 rfl rfl)
theorem dX8_size_9 : decode cX8_size 9 = .ok (.getfield 83, 3) := dk_180 0 83 (dk_at dksX8_size_0 9 rfl rfl)
theorem dX8_size_12 : decode cX8_size 12 = .ok (.iconst 4, 1) := dk_7 (dk_at dksX8_size_0 12 rfl rfl)
theorem dX8_size_13 : decode cX8_size 13 = .ok (.iload_n 1, 1) := dk_27 (dk_at dksX8_size_0 13 rfl rfl)
theorem dX8_size_14 : decode cX8_size 14 = .ok (.imul, 1) := dk_104 (dk_at dksX8_size_0 14 rfl rfl)
theorem dX8_size_15 : decode cX8_size 15 = .ok (.iload_n 2, 1) := dk_28 (dk_at dksX8_size_0 15 rfl rfl)
theorem dX8_size_16 : decode cX8_size 16 = .ok (.iadd, 1) := dk_96 (dk_at dksX8_size_0 16 rfl rfl)
theorem dX8_size_17 : decode cX8_size 17 = .ok (.iaload, 1) := dk_46 (dk_at dksX8_size_0 17 rfl rfl)
theorem dX8_size_18 : decode cX8_size 18 = .ok (.goto 4, 3) := dk_167 0 4 (dk_at dksX8_size_0 18 rfl rfl)
theorem dX8_size_21 : decode cX8_size 21 = .ok (.iconst (-1), 1) := dk_2 (dk_at dksX8_size_0 21 rfl rfl)
theorem dX8_size_22 : decode cX8_size 22 = .ok (.ireturn, 1) := dk_172 (dk_at dksX8_size_0 22 rfl rfl)
abbrev cX8_isPlace : ByteArray := prog_21_method_43_code
def yX8_isPlace : MethodName := ⟨RX8, "isPlace", "(II)Z"⟩
def dkwX8_isPlace_0 : List UInt8 := [26, 184, 0, 186, 153, 0, 14, 27, 184, 0, 192, 153, 0, 7, 4, 167, 0, 4, 3, 172]
abbrev dktX8_isPlace_0 : List UInt8 := dkwX8_isPlace_0 ++ []
theorem dksX8_isPlace_0 : cX8_isPlace.data.toList.drop 0 = dktX8_isPlace_0 := by decide +kernel
theorem dX8_isPlace_0 : decode cX8_isPlace 0 = .ok (.iload_n 0, 1) := dk_26 (dk_at dksX8_isPlace_0 0 rfl rfl)
theorem dX8_isPlace_1 : decode cX8_isPlace 1 = .ok (.invokestatic 186, 3) := dk_184 0 186 (dk_at dksX8_isPlace_0 1 rfl rfl)
theorem dX8_isPlace_4 : decode cX8_isPlace 4 = .ok (.ifCond .eq 14, 3) := dk_153 0 14 (dk_at dksX8_isPlace_0 4 rfl rfl)
theorem dX8_isPlace_7 : decode cX8_isPlace 7 = .ok (.iload_n 1, 1) := dk_27 (dk_at dksX8_isPlace_0 7 rfl rfl)
theorem dX8_isPlace_8 : decode cX8_isPlace 8 = .ok (.invokestatic 192, 3) := dk_184 0 192 (dk_at dksX8_isPlace_0 8 rfl rfl)
theorem dX8_isPlace_11 : decode cX8_isPlace 11 = .ok (.ifCond .eq 7, 3) := dk_153 0 7 (dk_at dksX8_isPlace_0 11 rfl rfl)
theorem dX8_isPlace_14 : decode cX8_isPlace 14 = .ok (.iconst 1, 1) := dk_4 (dk_at dksX8_isPlace_0 14 rfl rfl)
theorem dX8_isPlace_15 : decode cX8_isPlace 15 = .ok (.goto 4, 3) := dk_167 0 4 (dk_at dksX8_isPlace_0 15 rfl rfl)
theorem dX8_isPlace_18 : decode cX8_isPlace 18 = .ok (.iconst 0, 1) := dk_3 (dk_at dksX8_isPlace_0 18 rfl rfl)
theorem dX8_isPlace_19 : decode cX8_isPlace 19 = .ok (.ireturn, 1) := dk_172 (dk_at dksX8_isPlace_0 19 rfl rfl)
abbrev cX8_copy : ByteArray := prog_21_method_46_code
def yX8_copy : MethodName := ⟨RX8, "copy", "(IIII)I"⟩
def dkwX8_copy_3 : List UInt8 := [3, 167, 0, 10, 42, 180, 0, 92, 21, 5, 46, 172]
abbrev dktX8_copy_3 : List UInt8 := dkwX8_copy_3 ++ []
def dkwX8_copy_2 : List UInt8 := [46, 167, 0, 34, 21, 4, 4, 160, 0, 21, 42, 180, 0, 89, 21, 5, 51, 153, 0, 7, 4, 167, 0, 14]
abbrev dktX8_copy_2 : List UInt8 := dkwX8_copy_2 ++ dktX8_copy_3
def dkwX8_copy_1 : List UInt8 := [17, 1, 44, 7, 27, 104, 28, 96, 104, 29, 96, 54, 5, 21, 4, 154, 0, 13, 42, 180, 0, 86, 21, 5]
abbrev dktX8_copy_1 : List UInt8 := dkwX8_copy_1 ++ dktX8_copy_2
def dkwX8_copy_0 : List UInt8 := [42, 27, 28, 29, 182, 1, 55, 153, 0, 13, 21, 4, 3, 5, 184, 0, 122, 154, 0, 5, 2, 172]
abbrev dktX8_copy_0 : List UInt8 := dkwX8_copy_0 ++ dktX8_copy_1
theorem dksX8_copy_0 : cX8_copy.data.toList.drop 0 = dktX8_copy_0 := by decide +kernel
theorem dksX8_copy_1 : cX8_copy.data.toList.drop 22 = dktX8_copy_1 := dk_seg dksX8_copy_0 22 rfl rfl
theorem dksX8_copy_2 : cX8_copy.data.toList.drop 46 = dktX8_copy_2 := dk_seg dksX8_copy_1 24 rfl rfl
theorem dksX8_copy_3 : cX8_copy.data.toList.drop 70 = dktX8_copy_3 := dk_seg dksX8_copy_2 24 rfl rfl
theorem dX8_copy_0 : decode cX8_copy 0 = .ok (.aload_n 0, 1) := dk_42 (dk_at dksX8_copy_0 0 rfl rfl)
theorem dX8_copy_1 : decode cX8_copy 1 = .ok (.iload_n 1, 1) := dk_27 (dk_at dksX8_copy_0 1 rfl rfl)
theorem dX8_copy_2 : decode cX8_copy 2 = .ok (.iload_n 2, 1) := dk_28 (dk_at dksX8_copy_0 2 rfl rfl)
theorem dX8_copy_3 : decode cX8_copy 3 = .ok (.iload_n 3, 1) := dk_29 (dk_at dksX8_copy_0 3 rfl rfl)
theorem dX8_copy_4 : decode cX8_copy 4 = .ok (.invokevirtual 311, 3) := dk_182 1 55 (dk_at dksX8_copy_0 4 rfl rfl)
theorem dX8_copy_7 : decode cX8_copy 7 = .ok (.ifCond .eq 13, 3) := dk_153 0 13 (dk_at dksX8_copy_0 7 rfl rfl)
theorem dX8_copy_10 : decode cX8_copy 10 = .ok (.iload 4, 2) := dk_21 4 (dk_at dksX8_copy_0 10 rfl rfl)
theorem dX8_copy_12 : decode cX8_copy 12 = .ok (.iconst 0, 1) := dk_3 (dk_at dksX8_copy_0 12 rfl rfl)
theorem dX8_copy_13 : decode cX8_copy 13 = .ok (.iconst 2, 1) := dk_5 (dk_at dksX8_copy_0 13 rfl rfl)
theorem dX8_copy_14 : decode cX8_copy 14 = .ok (.invokestatic 122, 3) := dk_184 0 122 (dk_at dksX8_copy_0 14 rfl rfl)
theorem dX8_copy_17 : decode cX8_copy 17 = .ok (.ifCond .ne 5, 3) := dk_154 0 5 (dk_at dksX8_copy_0 17 rfl rfl)
theorem dX8_copy_20 : decode cX8_copy 20 = .ok (.iconst (-1), 1) := dk_2 (dk_at dksX8_copy_0 20 rfl rfl)
theorem dX8_copy_21 : decode cX8_copy 21 = .ok (.ireturn, 1) := dk_172 (dk_at dksX8_copy_0 21 rfl rfl)
theorem dX8_copy_22 : decode cX8_copy 22 = .ok (.sipush 300, 3) := dk_17 1 44 (dk_at dksX8_copy_1 0 rfl rfl)
theorem dX8_copy_25 : decode cX8_copy 25 = .ok (.iconst 4, 1) := dk_7 (dk_at dksX8_copy_1 3 rfl rfl)
theorem dX8_copy_26 : decode cX8_copy 26 = .ok (.iload_n 1, 1) := dk_27 (dk_at dksX8_copy_1 4 rfl rfl)
theorem dX8_copy_27 : decode cX8_copy 27 = .ok (.imul, 1) := dk_104 (dk_at dksX8_copy_1 5 rfl rfl)
theorem dX8_copy_28 : decode cX8_copy 28 = .ok (.iload_n 2, 1) := dk_28 (dk_at dksX8_copy_1 6 rfl rfl)
theorem dX8_copy_29 : decode cX8_copy 29 = .ok (.iadd, 1) := dk_96 (dk_at dksX8_copy_1 7 rfl rfl)
theorem dX8_copy_30 : decode cX8_copy 30 = .ok (.imul, 1) := dk_104 (dk_at dksX8_copy_1 8 rfl rfl)
theorem dX8_copy_31 : decode cX8_copy 31 = .ok (.iload_n 3, 1) := dk_29 (dk_at dksX8_copy_1 9 rfl rfl)
theorem dX8_copy_32 : decode cX8_copy 32 = .ok (.iadd, 1) := dk_96 (dk_at dksX8_copy_1 10 rfl rfl)
theorem dX8_copy_33 : decode cX8_copy 33 = .ok (.istore 5, 2) := dk_54 5 (dk_at dksX8_copy_1 11 rfl rfl)
theorem dX8_copy_35 : decode cX8_copy 35 = .ok (.iload 4, 2) := dk_21 4 (dk_at dksX8_copy_1 13 rfl rfl)
theorem dX8_copy_37 : decode cX8_copy 37 = .ok (.ifCond .ne 13, 3) := dk_154 0 13 (dk_at dksX8_copy_1 15 rfl rfl)
theorem dX8_copy_40 : decode cX8_copy 40 = .ok (.aload_n 0, 1) := dk_42 (dk_at dksX8_copy_1 18 rfl rfl)
theorem dX8_copy_41 : decode cX8_copy 41 = .ok (.getfield 86, 3) := dk_180 0 86 (dk_at dksX8_copy_1 19 rfl rfl)
theorem dX8_copy_44 : decode cX8_copy 44 = .ok (.iload 5, 2) := dk_21 5 (dk_at dksX8_copy_1 22 rfl rfl)
theorem dX8_copy_46 : decode cX8_copy 46 = .ok (.iaload, 1) := dk_46 (dk_at dksX8_copy_2 0 rfl rfl)
theorem dX8_copy_47 : decode cX8_copy 47 = .ok (.goto 34, 3) := dk_167 0 34 (dk_at dksX8_copy_2 1 rfl rfl)
theorem dX8_copy_50 : decode cX8_copy 50 = .ok (.iload 4, 2) := dk_21 4 (dk_at dksX8_copy_2 4 rfl rfl)
theorem dX8_copy_52 : decode cX8_copy 52 = .ok (.iconst 1, 1) := dk_4 (dk_at dksX8_copy_2 6 rfl rfl)
theorem dX8_copy_53 : decode cX8_copy 53 = .ok (.if_icmp .ne 21, 3) := dk_160 0 21 (dk_at dksX8_copy_2 7 rfl rfl)
theorem dX8_copy_56 : decode cX8_copy 56 = .ok (.aload_n 0, 1) := dk_42 (dk_at dksX8_copy_2 10 rfl rfl)
theorem dX8_copy_57 : decode cX8_copy 57 = .ok (.getfield 89, 3) := dk_180 0 89 (dk_at dksX8_copy_2 11 rfl rfl)
theorem dX8_copy_60 : decode cX8_copy 60 = .ok (.iload 5, 2) := dk_21 5 (dk_at dksX8_copy_2 14 rfl rfl)
theorem dX8_copy_62 : decode cX8_copy 62 = .ok (.baload, 1) := dk_51 (dk_at dksX8_copy_2 16 rfl rfl)
theorem dX8_copy_63 : decode cX8_copy 63 = .ok (.ifCond .eq 7, 3) := dk_153 0 7 (dk_at dksX8_copy_2 17 rfl rfl)
theorem dX8_copy_66 : decode cX8_copy 66 = .ok (.iconst 1, 1) := dk_4 (dk_at dksX8_copy_2 20 rfl rfl)
theorem dX8_copy_67 : decode cX8_copy 67 = .ok (.goto 14, 3) := dk_167 0 14 (dk_at dksX8_copy_2 21 rfl rfl)
theorem dX8_copy_70 : decode cX8_copy 70 = .ok (.iconst 0, 1) := dk_3 (dk_at dksX8_copy_3 0 rfl rfl)
theorem dX8_copy_71 : decode cX8_copy 71 = .ok (.goto 10, 3) := dk_167 0 10 (dk_at dksX8_copy_3 1 rfl rfl)
theorem dX8_copy_74 : decode cX8_copy 74 = .ok (.aload_n 0, 1) := dk_42 (dk_at dksX8_copy_3 4 rfl rfl)
theorem dX8_copy_75 : decode cX8_copy 75 = .ok (.getfield 92, 3) := dk_180 0 92 (dk_at dksX8_copy_3 5 rfl rfl)
theorem dX8_copy_78 : decode cX8_copy 78 = .ok (.iload 5, 2) := dk_21 5 (dk_at dksX8_copy_3 8 rfl rfl)
theorem dX8_copy_80 : decode cX8_copy 80 = .ok (.iaload, 1) := dk_46 (dk_at dksX8_copy_3 10 rfl rfl)
theorem dX8_copy_81 : decode cX8_copy 81 = .ok (.ireturn, 1) := dk_172 (dk_at dksX8_copy_3 11 rfl rfl)
abbrev cX8_isCopy : ByteArray := prog_21_method_45_code
def yX8_isCopy : MethodName := ⟨RX8, "isCopy", "(III)Z"⟩
def dkwX8_isCopy_1 : List UInt8 := [184, 0, 122, 153, 0, 7, 4, 167, 0, 4, 3, 172]
abbrev dktX8_isCopy_1 : List UInt8 := dkwX8_isCopy_1 ++ []
def dkwX8_isCopy_0 : List UInt8 := [27, 28, 184, 1, 52, 153, 0, 27, 29, 3, 42, 180, 0, 83, 7, 27, 104, 28, 96, 46, 4, 100]
abbrev dktX8_isCopy_0 : List UInt8 := dkwX8_isCopy_0 ++ dktX8_isCopy_1
theorem dksX8_isCopy_0 : cX8_isCopy.data.toList.drop 0 = dktX8_isCopy_0 := by decide +kernel
theorem dksX8_isCopy_1 : cX8_isCopy.data.toList.drop 22 = dktX8_isCopy_1 := dk_seg dksX8_isCopy_0 22 rfl rfl
theorem dX8_isCopy_0 : decode cX8_isCopy 0 = .ok (.iload_n 1, 1) := dk_27 (dk_at dksX8_isCopy_0 0 rfl rfl)
theorem dX8_isCopy_1 : decode cX8_isCopy 1 = .ok (.iload_n 2, 1) := dk_28 (dk_at dksX8_isCopy_0 1 rfl rfl)
theorem dX8_isCopy_2 : decode cX8_isCopy 2 = .ok (.invokestatic 308, 3) := dk_184 1 52 (dk_at dksX8_isCopy_0 2 rfl rfl)
theorem dX8_isCopy_5 : decode cX8_isCopy 5 = .ok (.ifCond .eq 27, 3) := dk_153 0 27 (dk_at dksX8_isCopy_0 5 rfl rfl)
theorem dX8_isCopy_8 : decode cX8_isCopy 8 = .ok (.iload_n 3, 1) := dk_29 (dk_at dksX8_isCopy_0 8 rfl rfl)
theorem dX8_isCopy_9 : decode cX8_isCopy 9 = .ok (.iconst 0, 1) := dk_3 (dk_at dksX8_isCopy_0 9 rfl rfl)
theorem dX8_isCopy_10 : decode cX8_isCopy 10 = .ok (.aload_n 0, 1) := dk_42 (dk_at dksX8_isCopy_0 10 rfl rfl)
theorem dX8_isCopy_11 : decode cX8_isCopy 11 = .ok (.getfield 83, 3) := dk_180 0 83 (dk_at dksX8_isCopy_0 11 rfl rfl)
theorem dX8_isCopy_14 : decode cX8_isCopy 14 = .ok (.iconst 4, 1) := dk_7 (dk_at dksX8_isCopy_0 14 rfl rfl)
theorem dX8_isCopy_15 : decode cX8_isCopy 15 = .ok (.iload_n 1, 1) := dk_27 (dk_at dksX8_isCopy_0 15 rfl rfl)
theorem dX8_isCopy_16 : decode cX8_isCopy 16 = .ok (.imul, 1) := dk_104 (dk_at dksX8_isCopy_0 16 rfl rfl)
theorem dX8_isCopy_17 : decode cX8_isCopy 17 = .ok (.iload_n 2, 1) := dk_28 (dk_at dksX8_isCopy_0 17 rfl rfl)
theorem dX8_isCopy_18 : decode cX8_isCopy 18 = .ok (.iadd, 1) := dk_96 (dk_at dksX8_isCopy_0 18 rfl rfl)
theorem dX8_isCopy_19 : decode cX8_isCopy 19 = .ok (.iaload, 1) := dk_46 (dk_at dksX8_isCopy_0 19 rfl rfl)
theorem dX8_isCopy_20 : decode cX8_isCopy 20 = .ok (.iconst 1, 1) := dk_4 (dk_at dksX8_isCopy_0 20 rfl rfl)
theorem dX8_isCopy_21 : decode cX8_isCopy 21 = .ok (.isub, 1) := dk_100 (dk_at dksX8_isCopy_0 21 rfl rfl)
theorem dX8_isCopy_22 : decode cX8_isCopy 22 = .ok (.invokestatic 122, 3) := dk_184 0 122 (dk_at dksX8_isCopy_1 0 rfl rfl)
theorem dX8_isCopy_25 : decode cX8_isCopy 25 = .ok (.ifCond .eq 7, 3) := dk_153 0 7 (dk_at dksX8_isCopy_1 3 rfl rfl)
theorem dX8_isCopy_28 : decode cX8_isCopy 28 = .ok (.iconst 1, 1) := dk_4 (dk_at dksX8_isCopy_1 6 rfl rfl)
theorem dX8_isCopy_29 : decode cX8_isCopy 29 = .ok (.goto 4, 3) := dk_167 0 4 (dk_at dksX8_isCopy_1 7 rfl rfl)
theorem dX8_isCopy_32 : decode cX8_isCopy 32 = .ok (.iconst 0, 1) := dk_3 (dk_at dksX8_isCopy_1 10 rfl rfl)
theorem dX8_isCopy_33 : decode cX8_isCopy 33 = .ok (.ireturn, 1) := dk_172 (dk_at dksX8_isCopy_1 11 rfl rfl)
abbrev cX8_move : ByteArray := prog_21_method_47_code
def yX8_move : MethodName := ⟨RX8, "move", "(IIII)I"⟩
def dkwX8_move_9 : List UInt8 := [21, 9, 182, 1, 19, 42, 180, 0, 83, 21, 6, 46, 172]
abbrev dktX8_move_9 : List UInt8 := dkwX8_move_9 ++ []
def dkwX8_move_8 : List UInt8 := [42, 180, 0, 92, 21, 10, 4, 96, 46, 79, 132, 10, 1, 167, 255, 186, 42, 21, 6, 21, 7, 21, 8]
abbrev dktX8_move_8 : List UInt8 := dkwX8_move_8 ++ dktX8_move_9
def dkwX8_move_7 : List UInt8 := [46, 79, 42, 180, 0, 89, 21, 10, 42, 180, 0, 89, 21, 10, 4, 96, 51, 84, 42, 180, 0, 92, 21, 10]
abbrev dktX8_move_7 : List UInt8 := dkwX8_move_7 ++ dktX8_move_8
def dkwX8_move_6 : List UInt8 := [180, 0, 83, 21, 5, 46, 96, 162, 0, 57, 42, 180, 0, 86, 21, 10, 42, 180, 0, 86, 21, 10, 4, 96]
abbrev dktX8_move_6 : List UInt8 := dkwX8_move_6 ++ dktX8_move_7
def dkwX8_move_5 : List UInt8 := [46, 4, 100, 79, 17, 1, 44, 21, 5, 104, 29, 96, 54, 10, 21, 10, 17, 1, 44, 21, 5, 104, 42]
abbrev dktX8_move_5 : List UInt8 := dkwX8_move_5 ++ dktX8_move_6
def dkwX8_move_4 : List UInt8 := [54, 8, 42, 180, 0, 92, 17, 1, 44, 21, 5, 104, 29, 96, 46, 54, 9, 42, 180, 0, 83, 21, 5, 92]
abbrev dktX8_move_4 : List UInt8 := dkwX8_move_4 ++ dktX8_move_5
def dkwX8_move_3 : List UInt8 := [17, 1, 44, 21, 5, 104, 29, 96, 46, 54, 7, 42, 180, 0, 89, 17, 1, 44, 21, 5, 104, 29, 96, 51]
abbrev dktX8_move_3 : List UInt8 := dkwX8_move_3 ++ dktX8_move_4
def dkwX8_move_2 : List UInt8 := [180, 0, 83, 21, 6, 46, 42, 180, 0, 28, 21, 6, 46, 161, 0, 6, 16, 253, 172, 42, 180, 0, 86]
abbrev dktX8_move_2 : List UInt8 := dkwX8_move_2 ++ dktX8_move_3
def dkwX8_move_1 : List UInt8 := [96, 54, 5, 7, 27, 104, 21, 4, 96, 54, 6, 21, 4, 158, 0, 29, 21, 4, 28, 159, 0, 23, 42]
abbrev dktX8_move_1 : List UInt8 := dkwX8_move_1 ++ dktX8_move_2
def dkwX8_move_0 : List UInt8 := [42, 27, 28, 29, 182, 1, 55, 153, 0, 11, 21, 4, 184, 0, 192, 154, 0, 5, 2, 172, 7, 27, 104, 28]
abbrev dktX8_move_0 : List UInt8 := dkwX8_move_0 ++ dktX8_move_1
theorem dksX8_move_0 : cX8_move.data.toList.drop 0 = dktX8_move_0 := by decide +kernel
theorem dksX8_move_1 : cX8_move.data.toList.drop 24 = dktX8_move_1 := dk_seg dksX8_move_0 24 rfl rfl
theorem dksX8_move_2 : cX8_move.data.toList.drop 47 = dktX8_move_2 := dk_seg dksX8_move_1 23 rfl rfl
theorem dksX8_move_3 : cX8_move.data.toList.drop 70 = dktX8_move_3 := dk_seg dksX8_move_2 23 rfl rfl
theorem dksX8_move_4 : cX8_move.data.toList.drop 94 = dktX8_move_4 := dk_seg dksX8_move_3 24 rfl rfl
theorem dksX8_move_5 : cX8_move.data.toList.drop 118 = dktX8_move_5 := dk_seg dksX8_move_4 24 rfl rfl
theorem dksX8_move_6 : cX8_move.data.toList.drop 141 = dktX8_move_6 := dk_seg dksX8_move_5 23 rfl rfl
theorem dksX8_move_7 : cX8_move.data.toList.drop 165 = dktX8_move_7 := dk_seg dksX8_move_6 24 rfl rfl
theorem dksX8_move_8 : cX8_move.data.toList.drop 189 = dktX8_move_8 := dk_seg dksX8_move_7 24 rfl rfl
theorem dksX8_move_9 : cX8_move.data.toList.drop 212 = dktX8_move_9 := dk_seg dksX8_move_8 23 rfl rfl
theorem dX8_move_0 : decode cX8_move 0 = .ok (.aload_n 0, 1) := dk_42 (dk_at dksX8_move_0 0 rfl rfl)
theorem dX8_move_1 : decode cX8_move 1 = .ok (.iload_n 1, 1) := dk_27 (dk_at dksX8_move_0 1 rfl rfl)
theorem dX8_move_2 : decode cX8_move 2 = .ok (.iload_n 2, 1) := dk_28 (dk_at dksX8_move_0 2 rfl rfl)
theorem dX8_move_3 : decode cX8_move 3 = .ok (.iload_n 3, 1) := dk_29 (dk_at dksX8_move_0 3 rfl rfl)
theorem dX8_move_4 : decode cX8_move 4 = .ok (.invokevirtual 311, 3) := dk_182 1 55 (dk_at dksX8_move_0 4 rfl rfl)
theorem dX8_move_7 : decode cX8_move 7 = .ok (.ifCond .eq 11, 3) := dk_153 0 11 (dk_at dksX8_move_0 7 rfl rfl)
theorem dX8_move_10 : decode cX8_move 10 = .ok (.iload 4, 2) := dk_21 4 (dk_at dksX8_move_0 10 rfl rfl)
theorem dX8_move_12 : decode cX8_move 12 = .ok (.invokestatic 192, 3) := dk_184 0 192 (dk_at dksX8_move_0 12 rfl rfl)
theorem dX8_move_15 : decode cX8_move 15 = .ok (.ifCond .ne 5, 3) := dk_154 0 5 (dk_at dksX8_move_0 15 rfl rfl)
theorem dX8_move_18 : decode cX8_move 18 = .ok (.iconst (-1), 1) := dk_2 (dk_at dksX8_move_0 18 rfl rfl)
theorem dX8_move_19 : decode cX8_move 19 = .ok (.ireturn, 1) := dk_172 (dk_at dksX8_move_0 19 rfl rfl)
theorem dX8_move_20 : decode cX8_move 20 = .ok (.iconst 4, 1) := dk_7 (dk_at dksX8_move_0 20 rfl rfl)
theorem dX8_move_21 : decode cX8_move 21 = .ok (.iload_n 1, 1) := dk_27 (dk_at dksX8_move_0 21 rfl rfl)
theorem dX8_move_22 : decode cX8_move 22 = .ok (.imul, 1) := dk_104 (dk_at dksX8_move_0 22 rfl rfl)
theorem dX8_move_23 : decode cX8_move 23 = .ok (.iload_n 2, 1) := dk_28 (dk_at dksX8_move_0 23 rfl rfl)
theorem dX8_move_24 : decode cX8_move 24 = .ok (.iadd, 1) := dk_96 (dk_at dksX8_move_1 0 rfl rfl)
theorem dX8_move_25 : decode cX8_move 25 = .ok (.istore 5, 2) := dk_54 5 (dk_at dksX8_move_1 1 rfl rfl)
theorem dX8_move_27 : decode cX8_move 27 = .ok (.iconst 4, 1) := dk_7 (dk_at dksX8_move_1 3 rfl rfl)
theorem dX8_move_28 : decode cX8_move 28 = .ok (.iload_n 1, 1) := dk_27 (dk_at dksX8_move_1 4 rfl rfl)
theorem dX8_move_29 : decode cX8_move 29 = .ok (.imul, 1) := dk_104 (dk_at dksX8_move_1 5 rfl rfl)
theorem dX8_move_30 : decode cX8_move 30 = .ok (.iload 4, 2) := dk_21 4 (dk_at dksX8_move_1 6 rfl rfl)
theorem dX8_move_32 : decode cX8_move 32 = .ok (.iadd, 1) := dk_96 (dk_at dksX8_move_1 8 rfl rfl)
theorem dX8_move_33 : decode cX8_move 33 = .ok (.istore 6, 2) := dk_54 6 (dk_at dksX8_move_1 9 rfl rfl)
theorem dX8_move_35 : decode cX8_move 35 = .ok (.iload 4, 2) := dk_21 4 (dk_at dksX8_move_1 11 rfl rfl)
theorem dX8_move_37 : decode cX8_move 37 = .ok (.ifCond .le 29, 3) := dk_158 0 29 (dk_at dksX8_move_1 13 rfl rfl)
theorem dX8_move_40 : decode cX8_move 40 = .ok (.iload 4, 2) := dk_21 4 (dk_at dksX8_move_1 16 rfl rfl)
theorem dX8_move_42 : decode cX8_move 42 = .ok (.iload_n 2, 1) := dk_28 (dk_at dksX8_move_1 18 rfl rfl)
theorem dX8_move_43 : decode cX8_move 43 = .ok (.if_icmp .eq 23, 3) := dk_159 0 23 (dk_at dksX8_move_1 19 rfl rfl)
theorem dX8_move_46 : decode cX8_move 46 = .ok (.aload_n 0, 1) := dk_42 (dk_at dksX8_move_1 22 rfl rfl)
theorem dX8_move_47 : decode cX8_move 47 = .ok (.getfield 83, 3) := dk_180 0 83 (dk_at dksX8_move_2 0 rfl rfl)
theorem dX8_move_50 : decode cX8_move 50 = .ok (.iload 6, 2) := dk_21 6 (dk_at dksX8_move_2 3 rfl rfl)
theorem dX8_move_52 : decode cX8_move 52 = .ok (.iaload, 1) := dk_46 (dk_at dksX8_move_2 5 rfl rfl)
theorem dX8_move_53 : decode cX8_move 53 = .ok (.aload_n 0, 1) := dk_42 (dk_at dksX8_move_2 6 rfl rfl)
theorem dX8_move_54 : decode cX8_move 54 = .ok (.getfield 28, 3) := dk_180 0 28 (dk_at dksX8_move_2 7 rfl rfl)
theorem dX8_move_57 : decode cX8_move 57 = .ok (.iload 6, 2) := dk_21 6 (dk_at dksX8_move_2 10 rfl rfl)
theorem dX8_move_59 : decode cX8_move 59 = .ok (.iaload, 1) := dk_46 (dk_at dksX8_move_2 12 rfl rfl)
theorem dX8_move_60 : decode cX8_move 60 = .ok (.if_icmp .lt 6, 3) := dk_161 0 6 (dk_at dksX8_move_2 13 rfl rfl)
theorem dX8_move_63 : decode cX8_move 63 = .ok (.bipush (-3), 2) := dk_16 253 (dk_at dksX8_move_2 16 rfl rfl)
theorem dX8_move_65 : decode cX8_move 65 = .ok (.ireturn, 1) := dk_172 (dk_at dksX8_move_2 18 rfl rfl)
theorem dX8_move_66 : decode cX8_move 66 = .ok (.aload_n 0, 1) := dk_42 (dk_at dksX8_move_2 19 rfl rfl)
theorem dX8_move_67 : decode cX8_move 67 = .ok (.getfield 86, 3) := dk_180 0 86 (dk_at dksX8_move_2 20 rfl rfl)
theorem dX8_move_70 : decode cX8_move 70 = .ok (.sipush 300, 3) := dk_17 1 44 (dk_at dksX8_move_3 0 rfl rfl)
theorem dX8_move_73 : decode cX8_move 73 = .ok (.iload 5, 2) := dk_21 5 (dk_at dksX8_move_3 3 rfl rfl)
theorem dX8_move_75 : decode cX8_move 75 = .ok (.imul, 1) := dk_104 (dk_at dksX8_move_3 5 rfl rfl)
theorem dX8_move_76 : decode cX8_move 76 = .ok (.iload_n 3, 1) := dk_29 (dk_at dksX8_move_3 6 rfl rfl)
theorem dX8_move_77 : decode cX8_move 77 = .ok (.iadd, 1) := dk_96 (dk_at dksX8_move_3 7 rfl rfl)
theorem dX8_move_78 : decode cX8_move 78 = .ok (.iaload, 1) := dk_46 (dk_at dksX8_move_3 8 rfl rfl)
theorem dX8_move_79 : decode cX8_move 79 = .ok (.istore 7, 2) := dk_54 7 (dk_at dksX8_move_3 9 rfl rfl)
theorem dX8_move_81 : decode cX8_move 81 = .ok (.aload_n 0, 1) := dk_42 (dk_at dksX8_move_3 11 rfl rfl)
theorem dX8_move_82 : decode cX8_move 82 = .ok (.getfield 89, 3) := dk_180 0 89 (dk_at dksX8_move_3 12 rfl rfl)
theorem dX8_move_85 : decode cX8_move 85 = .ok (.sipush 300, 3) := dk_17 1 44 (dk_at dksX8_move_3 15 rfl rfl)
theorem dX8_move_88 : decode cX8_move 88 = .ok (.iload 5, 2) := dk_21 5 (dk_at dksX8_move_3 18 rfl rfl)
theorem dX8_move_90 : decode cX8_move 90 = .ok (.imul, 1) := dk_104 (dk_at dksX8_move_3 20 rfl rfl)
theorem dX8_move_91 : decode cX8_move 91 = .ok (.iload_n 3, 1) := dk_29 (dk_at dksX8_move_3 21 rfl rfl)
theorem dX8_move_92 : decode cX8_move 92 = .ok (.iadd, 1) := dk_96 (dk_at dksX8_move_3 22 rfl rfl)
theorem dX8_move_93 : decode cX8_move 93 = .ok (.baload, 1) := dk_51 (dk_at dksX8_move_3 23 rfl rfl)
theorem dX8_move_94 : decode cX8_move 94 = .ok (.istore 8, 2) := dk_54 8 (dk_at dksX8_move_4 0 rfl rfl)
theorem dX8_move_96 : decode cX8_move 96 = .ok (.aload_n 0, 1) := dk_42 (dk_at dksX8_move_4 2 rfl rfl)
theorem dX8_move_97 : decode cX8_move 97 = .ok (.getfield 92, 3) := dk_180 0 92 (dk_at dksX8_move_4 3 rfl rfl)
theorem dX8_move_100 : decode cX8_move 100 = .ok (.sipush 300, 3) := dk_17 1 44 (dk_at dksX8_move_4 6 rfl rfl)
theorem dX8_move_103 : decode cX8_move 103 = .ok (.iload 5, 2) := dk_21 5 (dk_at dksX8_move_4 9 rfl rfl)
theorem dX8_move_105 : decode cX8_move 105 = .ok (.imul, 1) := dk_104 (dk_at dksX8_move_4 11 rfl rfl)
theorem dX8_move_106 : decode cX8_move 106 = .ok (.iload_n 3, 1) := dk_29 (dk_at dksX8_move_4 12 rfl rfl)
theorem dX8_move_107 : decode cX8_move 107 = .ok (.iadd, 1) := dk_96 (dk_at dksX8_move_4 13 rfl rfl)
theorem dX8_move_108 : decode cX8_move 108 = .ok (.iaload, 1) := dk_46 (dk_at dksX8_move_4 14 rfl rfl)
theorem dX8_move_109 : decode cX8_move 109 = .ok (.istore 9, 2) := dk_54 9 (dk_at dksX8_move_4 15 rfl rfl)
theorem dX8_move_111 : decode cX8_move 111 = .ok (.aload_n 0, 1) := dk_42 (dk_at dksX8_move_4 17 rfl rfl)
theorem dX8_move_112 : decode cX8_move 112 = .ok (.getfield 83, 3) := dk_180 0 83 (dk_at dksX8_move_4 18 rfl rfl)
theorem dX8_move_115 : decode cX8_move 115 = .ok (.iload 5, 2) := dk_21 5 (dk_at dksX8_move_4 21 rfl rfl)
theorem dX8_move_117 : decode cX8_move 117 = .ok (.dup2, 1) := dk_92 (dk_at dksX8_move_4 23 rfl rfl)
theorem dX8_move_118 : decode cX8_move 118 = .ok (.iaload, 1) := dk_46 (dk_at dksX8_move_5 0 rfl rfl)
theorem dX8_move_119 : decode cX8_move 119 = .ok (.iconst 1, 1) := dk_4 (dk_at dksX8_move_5 1 rfl rfl)
theorem dX8_move_120 : decode cX8_move 120 = .ok (.isub, 1) := dk_100 (dk_at dksX8_move_5 2 rfl rfl)
theorem dX8_move_121 : decode cX8_move 121 = .ok (.iastore, 1) := dk_79 (dk_at dksX8_move_5 3 rfl rfl)
theorem dX8_move_122 : decode cX8_move 122 = .ok (.sipush 300, 3) := dk_17 1 44 (dk_at dksX8_move_5 4 rfl rfl)
theorem dX8_move_125 : decode cX8_move 125 = .ok (.iload 5, 2) := dk_21 5 (dk_at dksX8_move_5 7 rfl rfl)
theorem dX8_move_127 : decode cX8_move 127 = .ok (.imul, 1) := dk_104 (dk_at dksX8_move_5 9 rfl rfl)
theorem dX8_move_128 : decode cX8_move 128 = .ok (.iload_n 3, 1) := dk_29 (dk_at dksX8_move_5 10 rfl rfl)
theorem dX8_move_129 : decode cX8_move 129 = .ok (.iadd, 1) := dk_96 (dk_at dksX8_move_5 11 rfl rfl)
theorem dX8_move_130 : decode cX8_move 130 = .ok (.istore 10, 2) := dk_54 10 (dk_at dksX8_move_5 12 rfl rfl)
theorem dX8_move_132 : decode cX8_move 132 = .ok (.iload 10, 2) := dk_21 10 (dk_at dksX8_move_5 14 rfl rfl)
theorem dX8_move_134 : decode cX8_move 134 = .ok (.sipush 300, 3) := dk_17 1 44 (dk_at dksX8_move_5 16 rfl rfl)
theorem dX8_move_137 : decode cX8_move 137 = .ok (.iload 5, 2) := dk_21 5 (dk_at dksX8_move_5 19 rfl rfl)
theorem dX8_move_139 : decode cX8_move 139 = .ok (.imul, 1) := dk_104 (dk_at dksX8_move_5 21 rfl rfl)
theorem dX8_move_140 : decode cX8_move 140 = .ok (.aload_n 0, 1) := dk_42 (dk_at dksX8_move_5 22 rfl rfl)
theorem dX8_move_141 : decode cX8_move 141 = .ok (.getfield 83, 3) := dk_180 0 83 (dk_at dksX8_move_6 0 rfl rfl)
theorem dX8_move_144 : decode cX8_move 144 = .ok (.iload 5, 2) := dk_21 5 (dk_at dksX8_move_6 3 rfl rfl)
theorem dX8_move_146 : decode cX8_move 146 = .ok (.iaload, 1) := dk_46 (dk_at dksX8_move_6 5 rfl rfl)
theorem dX8_move_147 : decode cX8_move 147 = .ok (.iadd, 1) := dk_96 (dk_at dksX8_move_6 6 rfl rfl)
theorem dX8_move_148 : decode cX8_move 148 = .ok (.if_icmp .ge 57, 3) := dk_162 0 57 (dk_at dksX8_move_6 7 rfl rfl)
theorem dX8_move_151 : decode cX8_move 151 = .ok (.aload_n 0, 1) := dk_42 (dk_at dksX8_move_6 10 rfl rfl)
theorem dX8_move_152 : decode cX8_move 152 = .ok (.getfield 86, 3) := dk_180 0 86 (dk_at dksX8_move_6 11 rfl rfl)
theorem dX8_move_155 : decode cX8_move 155 = .ok (.iload 10, 2) := dk_21 10 (dk_at dksX8_move_6 14 rfl rfl)
theorem dX8_move_157 : decode cX8_move 157 = .ok (.aload_n 0, 1) := dk_42 (dk_at dksX8_move_6 16 rfl rfl)
theorem dX8_move_158 : decode cX8_move 158 = .ok (.getfield 86, 3) := dk_180 0 86 (dk_at dksX8_move_6 17 rfl rfl)
theorem dX8_move_161 : decode cX8_move 161 = .ok (.iload 10, 2) := dk_21 10 (dk_at dksX8_move_6 20 rfl rfl)
theorem dX8_move_163 : decode cX8_move 163 = .ok (.iconst 1, 1) := dk_4 (dk_at dksX8_move_6 22 rfl rfl)
theorem dX8_move_164 : decode cX8_move 164 = .ok (.iadd, 1) := dk_96 (dk_at dksX8_move_6 23 rfl rfl)
theorem dX8_move_165 : decode cX8_move 165 = .ok (.iaload, 1) := dk_46 (dk_at dksX8_move_7 0 rfl rfl)
theorem dX8_move_166 : decode cX8_move 166 = .ok (.iastore, 1) := dk_79 (dk_at dksX8_move_7 1 rfl rfl)
theorem dX8_move_167 : decode cX8_move 167 = .ok (.aload_n 0, 1) := dk_42 (dk_at dksX8_move_7 2 rfl rfl)
theorem dX8_move_168 : decode cX8_move 168 = .ok (.getfield 89, 3) := dk_180 0 89 (dk_at dksX8_move_7 3 rfl rfl)
theorem dX8_move_171 : decode cX8_move 171 = .ok (.iload 10, 2) := dk_21 10 (dk_at dksX8_move_7 6 rfl rfl)
theorem dX8_move_173 : decode cX8_move 173 = .ok (.aload_n 0, 1) := dk_42 (dk_at dksX8_move_7 8 rfl rfl)
theorem dX8_move_174 : decode cX8_move 174 = .ok (.getfield 89, 3) := dk_180 0 89 (dk_at dksX8_move_7 9 rfl rfl)
theorem dX8_move_177 : decode cX8_move 177 = .ok (.iload 10, 2) := dk_21 10 (dk_at dksX8_move_7 12 rfl rfl)
theorem dX8_move_179 : decode cX8_move 179 = .ok (.iconst 1, 1) := dk_4 (dk_at dksX8_move_7 14 rfl rfl)
theorem dX8_move_180 : decode cX8_move 180 = .ok (.iadd, 1) := dk_96 (dk_at dksX8_move_7 15 rfl rfl)
theorem dX8_move_181 : decode cX8_move 181 = .ok (.baload, 1) := dk_51 (dk_at dksX8_move_7 16 rfl rfl)
theorem dX8_move_182 : decode cX8_move 182 = .ok (.bastore, 1) := dk_84 (dk_at dksX8_move_7 17 rfl rfl)
theorem dX8_move_183 : decode cX8_move 183 = .ok (.aload_n 0, 1) := dk_42 (dk_at dksX8_move_7 18 rfl rfl)
theorem dX8_move_184 : decode cX8_move 184 = .ok (.getfield 92, 3) := dk_180 0 92 (dk_at dksX8_move_7 19 rfl rfl)
theorem dX8_move_187 : decode cX8_move 187 = .ok (.iload 10, 2) := dk_21 10 (dk_at dksX8_move_7 22 rfl rfl)
theorem dX8_move_189 : decode cX8_move 189 = .ok (.aload_n 0, 1) := dk_42 (dk_at dksX8_move_8 0 rfl rfl)
theorem dX8_move_190 : decode cX8_move 190 = .ok (.getfield 92, 3) := dk_180 0 92 (dk_at dksX8_move_8 1 rfl rfl)
theorem dX8_move_193 : decode cX8_move 193 = .ok (.iload 10, 2) := dk_21 10 (dk_at dksX8_move_8 4 rfl rfl)
theorem dX8_move_195 : decode cX8_move 195 = .ok (.iconst 1, 1) := dk_4 (dk_at dksX8_move_8 6 rfl rfl)
theorem dX8_move_196 : decode cX8_move 196 = .ok (.iadd, 1) := dk_96 (dk_at dksX8_move_8 7 rfl rfl)
theorem dX8_move_197 : decode cX8_move 197 = .ok (.iaload, 1) := dk_46 (dk_at dksX8_move_8 8 rfl rfl)
theorem dX8_move_198 : decode cX8_move 198 = .ok (.iastore, 1) := dk_79 (dk_at dksX8_move_8 9 rfl rfl)
theorem dX8_move_199 : decode cX8_move 199 = .ok (.iinc 10 1, 3) := dk_132 10 1 (dk_at dksX8_move_8 10 rfl rfl)
theorem dX8_move_202 : decode cX8_move 202 = .ok (.goto (-70), 3) := dk_167 255 186 (dk_at dksX8_move_8 13 rfl rfl)
theorem dX8_move_205 : decode cX8_move 205 = .ok (.aload_n 0, 1) := dk_42 (dk_at dksX8_move_8 16 rfl rfl)
theorem dX8_move_206 : decode cX8_move 206 = .ok (.iload 6, 2) := dk_21 6 (dk_at dksX8_move_8 17 rfl rfl)
theorem dX8_move_208 : decode cX8_move 208 = .ok (.iload 7, 2) := dk_21 7 (dk_at dksX8_move_8 19 rfl rfl)
theorem dX8_move_210 : decode cX8_move 210 = .ok (.iload 8, 2) := dk_21 8 (dk_at dksX8_move_8 21 rfl rfl)
theorem dX8_move_212 : decode cX8_move 212 = .ok (.iload 9, 2) := dk_21 9 (dk_at dksX8_move_9 0 rfl rfl)
theorem dX8_move_214 : decode cX8_move 214 = .ok (.invokevirtual 275, 3) := dk_182 1 19 (dk_at dksX8_move_9 2 rfl rfl)
theorem dX8_move_217 : decode cX8_move 217 = .ok (.aload_n 0, 1) := dk_42 (dk_at dksX8_move_9 5 rfl rfl)
theorem dX8_move_218 : decode cX8_move 218 = .ok (.getfield 83, 3) := dk_180 0 83 (dk_at dksX8_move_9 6 rfl rfl)
theorem dX8_move_221 : decode cX8_move 221 = .ok (.iload 6, 2) := dk_21 6 (dk_at dksX8_move_9 9 rfl rfl)
theorem dX8_move_223 : decode cX8_move 223 = .ok (.iaload, 1) := dk_46 (dk_at dksX8_move_9 11 rfl rfl)
theorem dX8_move_224 : decode cX8_move 224 = .ok (.ireturn, 1) := dk_172 (dk_at dksX8_move_9 12 rfl rfl)
abbrev cX8_clear : ByteArray := prog_21_method_48_code
def yX8_clear : MethodName := ⟨RX8, "clear", "(II)I"⟩
def dkwX8_clear_1 : List UInt8 := [180, 0, 83, 7, 27, 104, 28, 96, 3, 79, 29, 172]
abbrev dktX8_clear_1 : List UInt8 := dkwX8_clear_1 ++ []
def dkwX8_clear_0 : List UInt8 := [27, 28, 184, 1, 52, 154, 0, 5, 2, 172, 42, 180, 0, 83, 7, 27, 104, 28, 96, 46, 62, 42]
abbrev dktX8_clear_0 : List UInt8 := dkwX8_clear_0 ++ dktX8_clear_1
theorem dksX8_clear_0 : cX8_clear.data.toList.drop 0 = dktX8_clear_0 := by decide +kernel
theorem dksX8_clear_1 : cX8_clear.data.toList.drop 22 = dktX8_clear_1 := dk_seg dksX8_clear_0 22 rfl rfl
theorem dX8_clear_0 : decode cX8_clear 0 = .ok (.iload_n 1, 1) := dk_27 (dk_at dksX8_clear_0 0 rfl rfl)
theorem dX8_clear_1 : decode cX8_clear 1 = .ok (.iload_n 2, 1) := dk_28 (dk_at dksX8_clear_0 1 rfl rfl)
theorem dX8_clear_2 : decode cX8_clear 2 = .ok (.invokestatic 308, 3) := dk_184 1 52 (dk_at dksX8_clear_0 2 rfl rfl)
theorem dX8_clear_5 : decode cX8_clear 5 = .ok (.ifCond .ne 5, 3) := dk_154 0 5 (dk_at dksX8_clear_0 5 rfl rfl)
theorem dX8_clear_8 : decode cX8_clear 8 = .ok (.iconst (-1), 1) := dk_2 (dk_at dksX8_clear_0 8 rfl rfl)
theorem dX8_clear_9 : decode cX8_clear 9 = .ok (.ireturn, 1) := dk_172 (dk_at dksX8_clear_0 9 rfl rfl)
theorem dX8_clear_10 : decode cX8_clear 10 = .ok (.aload_n 0, 1) := dk_42 (dk_at dksX8_clear_0 10 rfl rfl)
theorem dX8_clear_11 : decode cX8_clear 11 = .ok (.getfield 83, 3) := dk_180 0 83 (dk_at dksX8_clear_0 11 rfl rfl)
theorem dX8_clear_14 : decode cX8_clear 14 = .ok (.iconst 4, 1) := dk_7 (dk_at dksX8_clear_0 14 rfl rfl)
theorem dX8_clear_15 : decode cX8_clear 15 = .ok (.iload_n 1, 1) := dk_27 (dk_at dksX8_clear_0 15 rfl rfl)
theorem dX8_clear_16 : decode cX8_clear 16 = .ok (.imul, 1) := dk_104 (dk_at dksX8_clear_0 16 rfl rfl)
theorem dX8_clear_17 : decode cX8_clear 17 = .ok (.iload_n 2, 1) := dk_28 (dk_at dksX8_clear_0 17 rfl rfl)
theorem dX8_clear_18 : decode cX8_clear 18 = .ok (.iadd, 1) := dk_96 (dk_at dksX8_clear_0 18 rfl rfl)
theorem dX8_clear_19 : decode cX8_clear 19 = .ok (.iaload, 1) := dk_46 (dk_at dksX8_clear_0 19 rfl rfl)
theorem dX8_clear_20 : decode cX8_clear 20 = .ok (.istore_n 3, 1) := dk_62 (dk_at dksX8_clear_0 20 rfl rfl)
theorem dX8_clear_21 : decode cX8_clear 21 = .ok (.aload_n 0, 1) := dk_42 (dk_at dksX8_clear_0 21 rfl rfl)
theorem dX8_clear_22 : decode cX8_clear 22 = .ok (.getfield 83, 3) := dk_180 0 83 (dk_at dksX8_clear_1 0 rfl rfl)
theorem dX8_clear_25 : decode cX8_clear 25 = .ok (.iconst 4, 1) := dk_7 (dk_at dksX8_clear_1 3 rfl rfl)
theorem dX8_clear_26 : decode cX8_clear 26 = .ok (.iload_n 1, 1) := dk_27 (dk_at dksX8_clear_1 4 rfl rfl)
theorem dX8_clear_27 : decode cX8_clear 27 = .ok (.imul, 1) := dk_104 (dk_at dksX8_clear_1 5 rfl rfl)
theorem dX8_clear_28 : decode cX8_clear 28 = .ok (.iload_n 2, 1) := dk_28 (dk_at dksX8_clear_1 6 rfl rfl)
theorem dX8_clear_29 : decode cX8_clear 29 = .ok (.iadd, 1) := dk_96 (dk_at dksX8_clear_1 7 rfl rfl)
theorem dX8_clear_30 : decode cX8_clear 30 = .ok (.iconst 0, 1) := dk_3 (dk_at dksX8_clear_1 8 rfl rfl)
theorem dX8_clear_31 : decode cX8_clear 31 = .ok (.iastore, 1) := dk_79 (dk_at dksX8_clear_1 9 rfl rfl)
theorem dX8_clear_32 : decode cX8_clear 32 = .ok (.iload_n 3, 1) := dk_29 (dk_at dksX8_clear_1 10 rfl rfl)
theorem dX8_clear_33 : decode cX8_clear 33 = .ok (.ireturn, 1) := dk_172 (dk_at dksX8_clear_1 11 rfl rfl)
abbrev cX8_count : ByteArray := prog_21_method_49_code
def yX8_count : MethodName := ⟨RX8, "count", "(I)I"⟩
def dkwX8_count_3 : List UInt8 := [172, 42, 180, 1, 16, 172, 42, 180, 0, 113, 3, 46, 172, 42, 180, 0, 113, 4, 46, 172, 2, 172]
abbrev dktX8_count_3 : List UInt8 := dkwX8_count_3 ++ []
def dkwX8_count_2 : List UInt8 := [42, 180, 0, 224, 172, 42, 182, 1, 29, 172, 42, 180, 0, 240, 172, 42, 180, 1, 10, 172, 42, 180, 0, 221]
abbrev dktX8_count_2 : List UInt8 := dkwX8_count_2 ++ dktX8_count_3
def dkwX8_count_1 : List UInt8 := [170, 0, 0, 0, 0, 0, 91, 0, 0, 0, 0, 0, 0, 0, 7, 0, 0, 0, 47, 0, 0, 0, 52, 0, 0, 0, 57, 0, 0, 0, 62, 0, 0, 0, 67, 0, 0, 0, 72, 0, 0, 0, 77, 0, 0, 0, 84]
abbrev dktX8_count_1 : List UInt8 := dkwX8_count_1 ++ dktX8_count_2
def dkwX8_count_0 : List UInt8 := [27]
abbrev dktX8_count_0 : List UInt8 := dkwX8_count_0 ++ dktX8_count_1
theorem dksX8_count_0 : cX8_count.data.toList.drop 0 = dktX8_count_0 := by decide +kernel
theorem dksX8_count_1 : cX8_count.data.toList.drop 1 = dktX8_count_1 := dk_seg dksX8_count_0 1 rfl rfl
theorem dksX8_count_2 : cX8_count.data.toList.drop 48 = dktX8_count_2 := dk_seg dksX8_count_1 47 rfl rfl
theorem dksX8_count_3 : cX8_count.data.toList.drop 72 = dktX8_count_3 := dk_seg dksX8_count_2 24 rfl rfl
theorem dX8_count_0 : decode cX8_count 0 = .ok (.iload_n 1, 1) := dk_27 (dk_at dksX8_count_0 0 rfl rfl)
theorem dX8_count_1 : decode cX8_count 1 = .ok (.tableswitch 91 0 7 #[47, 52, 57, 62, 67, 72, 77, 84], 47) := by decide +kernel
theorem dX8_count_48 : decode cX8_count 48 = .ok (.aload_n 0, 1) := dk_42 (dk_at dksX8_count_2 0 rfl rfl)
theorem dX8_count_49 : decode cX8_count 49 = .ok (.getfield 224, 3) := dk_180 0 224 (dk_at dksX8_count_2 1 rfl rfl)
theorem dX8_count_52 : decode cX8_count 52 = .ok (.ireturn, 1) := dk_172 (dk_at dksX8_count_2 4 rfl rfl)
theorem dX8_count_53 : decode cX8_count 53 = .ok (.aload_n 0, 1) := dk_42 (dk_at dksX8_count_2 5 rfl rfl)
theorem dX8_count_54 : decode cX8_count 54 = .ok (.invokevirtual 285, 3) := dk_182 1 29 (dk_at dksX8_count_2 6 rfl rfl)
theorem dX8_count_57 : decode cX8_count 57 = .ok (.ireturn, 1) := dk_172 (dk_at dksX8_count_2 9 rfl rfl)
theorem dX8_count_58 : decode cX8_count 58 = .ok (.aload_n 0, 1) := dk_42 (dk_at dksX8_count_2 10 rfl rfl)
theorem dX8_count_59 : decode cX8_count 59 = .ok (.getfield 240, 3) := dk_180 0 240 (dk_at dksX8_count_2 11 rfl rfl)
theorem dX8_count_62 : decode cX8_count 62 = .ok (.ireturn, 1) := dk_172 (dk_at dksX8_count_2 14 rfl rfl)
theorem dX8_count_63 : decode cX8_count 63 = .ok (.aload_n 0, 1) := dk_42 (dk_at dksX8_count_2 15 rfl rfl)
theorem dX8_count_64 : decode cX8_count 64 = .ok (.getfield 266, 3) := dk_180 1 10 (dk_at dksX8_count_2 16 rfl rfl)
theorem dX8_count_67 : decode cX8_count 67 = .ok (.ireturn, 1) := dk_172 (dk_at dksX8_count_2 19 rfl rfl)
theorem dX8_count_68 : decode cX8_count 68 = .ok (.aload_n 0, 1) := dk_42 (dk_at dksX8_count_2 20 rfl rfl)
theorem dX8_count_69 : decode cX8_count 69 = .ok (.getfield 221, 3) := dk_180 0 221 (dk_at dksX8_count_2 21 rfl rfl)
theorem dX8_count_72 : decode cX8_count 72 = .ok (.ireturn, 1) := dk_172 (dk_at dksX8_count_3 0 rfl rfl)
theorem dX8_count_73 : decode cX8_count 73 = .ok (.aload_n 0, 1) := dk_42 (dk_at dksX8_count_3 1 rfl rfl)
theorem dX8_count_74 : decode cX8_count 74 = .ok (.getfield 272, 3) := dk_180 1 16 (dk_at dksX8_count_3 2 rfl rfl)
theorem dX8_count_77 : decode cX8_count 77 = .ok (.ireturn, 1) := dk_172 (dk_at dksX8_count_3 5 rfl rfl)
theorem dX8_count_78 : decode cX8_count 78 = .ok (.aload_n 0, 1) := dk_42 (dk_at dksX8_count_3 6 rfl rfl)
theorem dX8_count_79 : decode cX8_count 79 = .ok (.getfield 113, 3) := dk_180 0 113 (dk_at dksX8_count_3 7 rfl rfl)
theorem dX8_count_82 : decode cX8_count 82 = .ok (.iconst 0, 1) := dk_3 (dk_at dksX8_count_3 10 rfl rfl)
theorem dX8_count_83 : decode cX8_count 83 = .ok (.iaload, 1) := dk_46 (dk_at dksX8_count_3 11 rfl rfl)
theorem dX8_count_84 : decode cX8_count 84 = .ok (.ireturn, 1) := dk_172 (dk_at dksX8_count_3 12 rfl rfl)
theorem dX8_count_85 : decode cX8_count 85 = .ok (.aload_n 0, 1) := dk_42 (dk_at dksX8_count_3 13 rfl rfl)
theorem dX8_count_86 : decode cX8_count 86 = .ok (.getfield 113, 3) := dk_180 0 113 (dk_at dksX8_count_3 14 rfl rfl)
theorem dX8_count_89 : decode cX8_count 89 = .ok (.iconst 1, 1) := dk_4 (dk_at dksX8_count_3 17 rfl rfl)
theorem dX8_count_90 : decode cX8_count 90 = .ok (.iaload, 1) := dk_46 (dk_at dksX8_count_3 18 rfl rfl)
theorem dX8_count_91 : decode cX8_count 91 = .ok (.ireturn, 1) := dk_172 (dk_at dksX8_count_3 19 rfl rfl)
theorem dX8_count_92 : decode cX8_count 92 = .ok (.iconst (-1), 1) := dk_2 (dk_at dksX8_count_3 20 rfl rfl)
theorem dX8_count_93 : decode cX8_count 93 = .ok (.ireturn, 1) := dk_172 (dk_at dksX8_count_3 21 rfl rfl)
abbrev cX8_thread : ByteArray := prog_21_method_51_code
def yX8_thread : MethodName := ⟨RX8, "thread", "(I)I"⟩
def dkwX8_thread_2 : List UInt8 := [167, 0, 4, 3, 96, 62, 132, 4, 1, 167, 255, 226, 29, 172]
abbrev dktX8_thread_2 : List UInt8 := dkwX8_thread_2 ++ []
def dkwX8_thread_1 : List UInt8 := [3, 54, 4, 21, 4, 42, 180, 0, 224, 162, 0, 27, 29, 42, 21, 4, 182, 1, 58, 28, 160, 0, 7, 4]
abbrev dktX8_thread_1 : List UInt8 := dkwX8_thread_1 ++ dktX8_thread_2
def dkwX8_thread_0 : List UInt8 := [27, 3, 42, 180, 0, 224, 4, 100, 184, 0, 122, 154, 0, 5, 2, 172, 42, 27, 182, 1, 58, 61, 3, 62]
abbrev dktX8_thread_0 : List UInt8 := dkwX8_thread_0 ++ dktX8_thread_1
theorem dksX8_thread_0 : cX8_thread.data.toList.drop 0 = dktX8_thread_0 := by decide +kernel
theorem dksX8_thread_1 : cX8_thread.data.toList.drop 24 = dktX8_thread_1 := dk_seg dksX8_thread_0 24 rfl rfl
theorem dksX8_thread_2 : cX8_thread.data.toList.drop 48 = dktX8_thread_2 := dk_seg dksX8_thread_1 24 rfl rfl
theorem dX8_thread_0 : decode cX8_thread 0 = .ok (.iload_n 1, 1) := dk_27 (dk_at dksX8_thread_0 0 rfl rfl)
theorem dX8_thread_1 : decode cX8_thread 1 = .ok (.iconst 0, 1) := dk_3 (dk_at dksX8_thread_0 1 rfl rfl)
theorem dX8_thread_2 : decode cX8_thread 2 = .ok (.aload_n 0, 1) := dk_42 (dk_at dksX8_thread_0 2 rfl rfl)
theorem dX8_thread_3 : decode cX8_thread 3 = .ok (.getfield 224, 3) := dk_180 0 224 (dk_at dksX8_thread_0 3 rfl rfl)
theorem dX8_thread_6 : decode cX8_thread 6 = .ok (.iconst 1, 1) := dk_4 (dk_at dksX8_thread_0 6 rfl rfl)
theorem dX8_thread_7 : decode cX8_thread 7 = .ok (.isub, 1) := dk_100 (dk_at dksX8_thread_0 7 rfl rfl)
theorem dX8_thread_8 : decode cX8_thread 8 = .ok (.invokestatic 122, 3) := dk_184 0 122 (dk_at dksX8_thread_0 8 rfl rfl)
theorem dX8_thread_11 : decode cX8_thread 11 = .ok (.ifCond .ne 5, 3) := dk_154 0 5 (dk_at dksX8_thread_0 11 rfl rfl)
theorem dX8_thread_14 : decode cX8_thread 14 = .ok (.iconst (-1), 1) := dk_2 (dk_at dksX8_thread_0 14 rfl rfl)
theorem dX8_thread_15 : decode cX8_thread 15 = .ok (.ireturn, 1) := dk_172 (dk_at dksX8_thread_0 15 rfl rfl)
theorem dX8_thread_16 : decode cX8_thread 16 = .ok (.aload_n 0, 1) := dk_42 (dk_at dksX8_thread_0 16 rfl rfl)
theorem dX8_thread_17 : decode cX8_thread 17 = .ok (.iload_n 1, 1) := dk_27 (dk_at dksX8_thread_0 17 rfl rfl)
theorem dX8_thread_18 : decode cX8_thread 18 = .ok (.invokevirtual 314, 3) := dk_182 1 58 (dk_at dksX8_thread_0 18 rfl rfl)
theorem dX8_thread_21 : decode cX8_thread 21 = .ok (.istore_n 2, 1) := dk_61 (dk_at dksX8_thread_0 21 rfl rfl)
theorem dX8_thread_22 : decode cX8_thread 22 = .ok (.iconst 0, 1) := dk_3 (dk_at dksX8_thread_0 22 rfl rfl)
theorem dX8_thread_23 : decode cX8_thread 23 = .ok (.istore_n 3, 1) := dk_62 (dk_at dksX8_thread_0 23 rfl rfl)
theorem dX8_thread_24 : decode cX8_thread 24 = .ok (.iconst 0, 1) := dk_3 (dk_at dksX8_thread_1 0 rfl rfl)
theorem dX8_thread_25 : decode cX8_thread 25 = .ok (.istore 4, 2) := dk_54 4 (dk_at dksX8_thread_1 1 rfl rfl)
theorem dX8_thread_27 : decode cX8_thread 27 = .ok (.iload 4, 2) := dk_21 4 (dk_at dksX8_thread_1 3 rfl rfl)
theorem dX8_thread_29 : decode cX8_thread 29 = .ok (.aload_n 0, 1) := dk_42 (dk_at dksX8_thread_1 5 rfl rfl)
theorem dX8_thread_30 : decode cX8_thread 30 = .ok (.getfield 224, 3) := dk_180 0 224 (dk_at dksX8_thread_1 6 rfl rfl)
theorem dX8_thread_33 : decode cX8_thread 33 = .ok (.if_icmp .ge 27, 3) := dk_162 0 27 (dk_at dksX8_thread_1 9 rfl rfl)
theorem dX8_thread_36 : decode cX8_thread 36 = .ok (.iload_n 3, 1) := dk_29 (dk_at dksX8_thread_1 12 rfl rfl)
theorem dX8_thread_37 : decode cX8_thread 37 = .ok (.aload_n 0, 1) := dk_42 (dk_at dksX8_thread_1 13 rfl rfl)
theorem dX8_thread_38 : decode cX8_thread 38 = .ok (.iload 4, 2) := dk_21 4 (dk_at dksX8_thread_1 14 rfl rfl)
theorem dX8_thread_40 : decode cX8_thread 40 = .ok (.invokevirtual 314, 3) := dk_182 1 58 (dk_at dksX8_thread_1 16 rfl rfl)
theorem dX8_thread_43 : decode cX8_thread 43 = .ok (.iload_n 2, 1) := dk_28 (dk_at dksX8_thread_1 19 rfl rfl)
theorem dX8_thread_44 : decode cX8_thread 44 = .ok (.if_icmp .ne 7, 3) := dk_160 0 7 (dk_at dksX8_thread_1 20 rfl rfl)
theorem dX8_thread_47 : decode cX8_thread 47 = .ok (.iconst 1, 1) := dk_4 (dk_at dksX8_thread_1 23 rfl rfl)
theorem dX8_thread_48 : decode cX8_thread 48 = .ok (.goto 4, 3) := dk_167 0 4 (dk_at dksX8_thread_2 0 rfl rfl)
theorem dX8_thread_51 : decode cX8_thread 51 = .ok (.iconst 0, 1) := dk_3 (dk_at dksX8_thread_2 3 rfl rfl)
theorem dX8_thread_52 : decode cX8_thread 52 = .ok (.iadd, 1) := dk_96 (dk_at dksX8_thread_2 4 rfl rfl)
theorem dX8_thread_53 : decode cX8_thread 53 = .ok (.istore_n 3, 1) := dk_62 (dk_at dksX8_thread_2 5 rfl rfl)
theorem dX8_thread_54 : decode cX8_thread 54 = .ok (.iinc 4 1, 3) := dk_132 4 1 (dk_at dksX8_thread_2 6 rfl rfl)
theorem dX8_thread_57 : decode cX8_thread 57 = .ok (.goto (-30), 3) := dk_167 255 226 (dk_at dksX8_thread_2 9 rfl rfl)
theorem dX8_thread_60 : decode cX8_thread 60 = .ok (.iload_n 3, 1) := dk_29 (dk_at dksX8_thread_2 12 rfl rfl)
theorem dX8_thread_61 : decode cX8_thread 61 = .ok (.ireturn, 1) := dk_172 (dk_at dksX8_thread_2 13 rfl rfl)
abbrev cX8_rootOf : ByteArray := prog_21_method_50_code
def yX8_rootOf : MethodName := ⟨RX8, "rootOf", "(I)I"⟩
def dkwX8_rootOf_2 : List UInt8 := [167, 0, 4, 3, 62, 21, 4, 61, 167, 255, 206, 28, 172]
abbrev dktX8_rootOf_2 : List UInt8 := dkwX8_rootOf_2 ++ []
def dkwX8_rootOf_1 : List UInt8 := [42, 180, 0, 71, 28, 46, 159, 0, 9, 132, 4, 1, 167, 255, 231, 21, 4, 28, 162, 0, 7, 4]
abbrev dktX8_rootOf_1 : List UInt8 := dkwX8_rootOf_1 ++ dktX8_rootOf_2
def dkwX8_rootOf_0 : List UInt8 := [27, 61, 4, 62, 29, 153, 0, 52, 3, 54, 4, 21, 4, 28, 162, 0, 25, 42, 180, 0, 68, 21, 4, 46]
abbrev dktX8_rootOf_0 : List UInt8 := dkwX8_rootOf_0 ++ dktX8_rootOf_1
theorem dksX8_rootOf_0 : cX8_rootOf.data.toList.drop 0 = dktX8_rootOf_0 := by decide +kernel
theorem dksX8_rootOf_1 : cX8_rootOf.data.toList.drop 24 = dktX8_rootOf_1 := dk_seg dksX8_rootOf_0 24 rfl rfl
theorem dksX8_rootOf_2 : cX8_rootOf.data.toList.drop 46 = dktX8_rootOf_2 := dk_seg dksX8_rootOf_1 22 rfl rfl
theorem dX8_rootOf_0 : decode cX8_rootOf 0 = .ok (.iload_n 1, 1) := dk_27 (dk_at dksX8_rootOf_0 0 rfl rfl)
theorem dX8_rootOf_1 : decode cX8_rootOf 1 = .ok (.istore_n 2, 1) := dk_61 (dk_at dksX8_rootOf_0 1 rfl rfl)
theorem dX8_rootOf_2 : decode cX8_rootOf 2 = .ok (.iconst 1, 1) := dk_4 (dk_at dksX8_rootOf_0 2 rfl rfl)
theorem dX8_rootOf_3 : decode cX8_rootOf 3 = .ok (.istore_n 3, 1) := dk_62 (dk_at dksX8_rootOf_0 3 rfl rfl)
theorem dX8_rootOf_4 : decode cX8_rootOf 4 = .ok (.iload_n 3, 1) := dk_29 (dk_at dksX8_rootOf_0 4 rfl rfl)
theorem dX8_rootOf_5 : decode cX8_rootOf 5 = .ok (.ifCond .eq 52, 3) := dk_153 0 52 (dk_at dksX8_rootOf_0 5 rfl rfl)
theorem dX8_rootOf_8 : decode cX8_rootOf 8 = .ok (.iconst 0, 1) := dk_3 (dk_at dksX8_rootOf_0 8 rfl rfl)
theorem dX8_rootOf_9 : decode cX8_rootOf 9 = .ok (.istore 4, 2) := dk_54 4 (dk_at dksX8_rootOf_0 9 rfl rfl)
theorem dX8_rootOf_11 : decode cX8_rootOf 11 = .ok (.iload 4, 2) := dk_21 4 (dk_at dksX8_rootOf_0 11 rfl rfl)
theorem dX8_rootOf_13 : decode cX8_rootOf 13 = .ok (.iload_n 2, 1) := dk_28 (dk_at dksX8_rootOf_0 13 rfl rfl)
theorem dX8_rootOf_14 : decode cX8_rootOf 14 = .ok (.if_icmp .ge 25, 3) := dk_162 0 25 (dk_at dksX8_rootOf_0 14 rfl rfl)
theorem dX8_rootOf_17 : decode cX8_rootOf 17 = .ok (.aload_n 0, 1) := dk_42 (dk_at dksX8_rootOf_0 17 rfl rfl)
theorem dX8_rootOf_18 : decode cX8_rootOf 18 = .ok (.getfield 68, 3) := dk_180 0 68 (dk_at dksX8_rootOf_0 18 rfl rfl)
theorem dX8_rootOf_21 : decode cX8_rootOf 21 = .ok (.iload 4, 2) := dk_21 4 (dk_at dksX8_rootOf_0 21 rfl rfl)
theorem dX8_rootOf_23 : decode cX8_rootOf 23 = .ok (.iaload, 1) := dk_46 (dk_at dksX8_rootOf_0 23 rfl rfl)
theorem dX8_rootOf_24 : decode cX8_rootOf 24 = .ok (.aload_n 0, 1) := dk_42 (dk_at dksX8_rootOf_1 0 rfl rfl)
theorem dX8_rootOf_25 : decode cX8_rootOf 25 = .ok (.getfield 71, 3) := dk_180 0 71 (dk_at dksX8_rootOf_1 1 rfl rfl)
theorem dX8_rootOf_28 : decode cX8_rootOf 28 = .ok (.iload_n 2, 1) := dk_28 (dk_at dksX8_rootOf_1 4 rfl rfl)
theorem dX8_rootOf_29 : decode cX8_rootOf 29 = .ok (.iaload, 1) := dk_46 (dk_at dksX8_rootOf_1 5 rfl rfl)
theorem dX8_rootOf_30 : decode cX8_rootOf 30 = .ok (.if_icmp .eq 9, 3) := dk_159 0 9 (dk_at dksX8_rootOf_1 6 rfl rfl)
theorem dX8_rootOf_33 : decode cX8_rootOf 33 = .ok (.iinc 4 1, 3) := dk_132 4 1 (dk_at dksX8_rootOf_1 9 rfl rfl)
theorem dX8_rootOf_36 : decode cX8_rootOf 36 = .ok (.goto (-25), 3) := dk_167 255 231 (dk_at dksX8_rootOf_1 12 rfl rfl)
theorem dX8_rootOf_39 : decode cX8_rootOf 39 = .ok (.iload 4, 2) := dk_21 4 (dk_at dksX8_rootOf_1 15 rfl rfl)
theorem dX8_rootOf_41 : decode cX8_rootOf 41 = .ok (.iload_n 2, 1) := dk_28 (dk_at dksX8_rootOf_1 17 rfl rfl)
theorem dX8_rootOf_42 : decode cX8_rootOf 42 = .ok (.if_icmp .ge 7, 3) := dk_162 0 7 (dk_at dksX8_rootOf_1 18 rfl rfl)
theorem dX8_rootOf_45 : decode cX8_rootOf 45 = .ok (.iconst 1, 1) := dk_4 (dk_at dksX8_rootOf_1 21 rfl rfl)
theorem dX8_rootOf_46 : decode cX8_rootOf 46 = .ok (.goto 4, 3) := dk_167 0 4 (dk_at dksX8_rootOf_2 0 rfl rfl)
theorem dX8_rootOf_49 : decode cX8_rootOf 49 = .ok (.iconst 0, 1) := dk_3 (dk_at dksX8_rootOf_2 3 rfl rfl)
theorem dX8_rootOf_50 : decode cX8_rootOf 50 = .ok (.istore_n 3, 1) := dk_62 (dk_at dksX8_rootOf_2 4 rfl rfl)
theorem dX8_rootOf_51 : decode cX8_rootOf 51 = .ok (.iload 4, 2) := dk_21 4 (dk_at dksX8_rootOf_2 5 rfl rfl)
theorem dX8_rootOf_53 : decode cX8_rootOf 53 = .ok (.istore_n 2, 1) := dk_61 (dk_at dksX8_rootOf_2 7 rfl rfl)
theorem dX8_rootOf_54 : decode cX8_rootOf 54 = .ok (.goto (-50), 3) := dk_167 255 206 (dk_at dksX8_rootOf_2 8 rfl rfl)
theorem dX8_rootOf_57 : decode cX8_rootOf 57 = .ok (.iload_n 2, 1) := dk_28 (dk_at dksX8_rootOf_2 11 rfl rfl)
theorem dX8_rootOf_58 : decode cX8_rootOf 58 = .ok (.ireturn, 1) := dk_172 (dk_at dksX8_rootOf_2 12 rfl rfl)
abbrev cX8_learn : ByteArray := prog_21_method_54_code
def yX8_learn : MethodName := ⟨RX8, "learn", "(IIIZ)I"⟩
def dkwX8_learn_4 : List UInt8 := [21, 6, 46, 172]
abbrev dktX8_learn_4 : List UInt8 := dkwX8_learn_4 ++ []
def dkwX8_learn_3 : List UInt8 := [21, 6, 4, 96, 79, 42, 42, 180, 0, 86, 21, 5, 46, 21, 6, 4, 182, 1, 63, 42, 180, 0, 113]
abbrev dktX8_learn_3 : List UInt8 := dkwX8_learn_3 ++ dktX8_learn_4
def dkwX8_learn_2 : List UInt8 := [4, 54, 6, 42, 180, 0, 113, 21, 6, 46, 16, 60, 160, 0, 6, 16, 253, 172, 42, 180, 0, 92, 21, 5]
abbrev dktX8_learn_2 : List UInt8 := dkwX8_learn_2 ++ dktX8_learn_3
def dkwX8_learn_1 : List UInt8 := [54, 5, 42, 180, 0, 92, 21, 5, 46, 153, 0, 6, 16, 254, 172, 21, 4, 153, 0, 7, 3, 167, 0, 4]
abbrev dktX8_learn_1 : List UInt8 := dkwX8_learn_1 ++ dktX8_learn_2
def dkwX8_learn_0 : List UInt8 := [42, 27, 28, 29, 182, 1, 55, 154, 0, 5, 2, 172, 17, 1, 44, 7, 27, 104, 28, 96, 104, 29, 96]
abbrev dktX8_learn_0 : List UInt8 := dkwX8_learn_0 ++ dktX8_learn_1
theorem dksX8_learn_0 : cX8_learn.data.toList.drop 0 = dktX8_learn_0 := by decide +kernel
theorem dksX8_learn_1 : cX8_learn.data.toList.drop 23 = dktX8_learn_1 := dk_seg dksX8_learn_0 23 rfl rfl
theorem dksX8_learn_2 : cX8_learn.data.toList.drop 47 = dktX8_learn_2 := dk_seg dksX8_learn_1 24 rfl rfl
theorem dksX8_learn_3 : cX8_learn.data.toList.drop 71 = dktX8_learn_3 := dk_seg dksX8_learn_2 24 rfl rfl
theorem dksX8_learn_4 : cX8_learn.data.toList.drop 94 = dktX8_learn_4 := dk_seg dksX8_learn_3 23 rfl rfl
theorem dX8_learn_0 : decode cX8_learn 0 = .ok (.aload_n 0, 1) := dk_42 (dk_at dksX8_learn_0 0 rfl rfl)
theorem dX8_learn_1 : decode cX8_learn 1 = .ok (.iload_n 1, 1) := dk_27 (dk_at dksX8_learn_0 1 rfl rfl)
theorem dX8_learn_2 : decode cX8_learn 2 = .ok (.iload_n 2, 1) := dk_28 (dk_at dksX8_learn_0 2 rfl rfl)
theorem dX8_learn_3 : decode cX8_learn 3 = .ok (.iload_n 3, 1) := dk_29 (dk_at dksX8_learn_0 3 rfl rfl)
theorem dX8_learn_4 : decode cX8_learn 4 = .ok (.invokevirtual 311, 3) := dk_182 1 55 (dk_at dksX8_learn_0 4 rfl rfl)
theorem dX8_learn_7 : decode cX8_learn 7 = .ok (.ifCond .ne 5, 3) := dk_154 0 5 (dk_at dksX8_learn_0 7 rfl rfl)
theorem dX8_learn_10 : decode cX8_learn 10 = .ok (.iconst (-1), 1) := dk_2 (dk_at dksX8_learn_0 10 rfl rfl)
theorem dX8_learn_11 : decode cX8_learn 11 = .ok (.ireturn, 1) := dk_172 (dk_at dksX8_learn_0 11 rfl rfl)
theorem dX8_learn_12 : decode cX8_learn 12 = .ok (.sipush 300, 3) := dk_17 1 44 (dk_at dksX8_learn_0 12 rfl rfl)
theorem dX8_learn_15 : decode cX8_learn 15 = .ok (.iconst 4, 1) := dk_7 (dk_at dksX8_learn_0 15 rfl rfl)
theorem dX8_learn_16 : decode cX8_learn 16 = .ok (.iload_n 1, 1) := dk_27 (dk_at dksX8_learn_0 16 rfl rfl)
theorem dX8_learn_17 : decode cX8_learn 17 = .ok (.imul, 1) := dk_104 (dk_at dksX8_learn_0 17 rfl rfl)
theorem dX8_learn_18 : decode cX8_learn 18 = .ok (.iload_n 2, 1) := dk_28 (dk_at dksX8_learn_0 18 rfl rfl)
theorem dX8_learn_19 : decode cX8_learn 19 = .ok (.iadd, 1) := dk_96 (dk_at dksX8_learn_0 19 rfl rfl)
theorem dX8_learn_20 : decode cX8_learn 20 = .ok (.imul, 1) := dk_104 (dk_at dksX8_learn_0 20 rfl rfl)
theorem dX8_learn_21 : decode cX8_learn 21 = .ok (.iload_n 3, 1) := dk_29 (dk_at dksX8_learn_0 21 rfl rfl)
theorem dX8_learn_22 : decode cX8_learn 22 = .ok (.iadd, 1) := dk_96 (dk_at dksX8_learn_0 22 rfl rfl)
theorem dX8_learn_23 : decode cX8_learn 23 = .ok (.istore 5, 2) := dk_54 5 (dk_at dksX8_learn_1 0 rfl rfl)
theorem dX8_learn_25 : decode cX8_learn 25 = .ok (.aload_n 0, 1) := dk_42 (dk_at dksX8_learn_1 2 rfl rfl)
theorem dX8_learn_26 : decode cX8_learn 26 = .ok (.getfield 92, 3) := dk_180 0 92 (dk_at dksX8_learn_1 3 rfl rfl)
theorem dX8_learn_29 : decode cX8_learn 29 = .ok (.iload 5, 2) := dk_21 5 (dk_at dksX8_learn_1 6 rfl rfl)
theorem dX8_learn_31 : decode cX8_learn 31 = .ok (.iaload, 1) := dk_46 (dk_at dksX8_learn_1 8 rfl rfl)
theorem dX8_learn_32 : decode cX8_learn 32 = .ok (.ifCond .eq 6, 3) := dk_153 0 6 (dk_at dksX8_learn_1 9 rfl rfl)
theorem dX8_learn_35 : decode cX8_learn 35 = .ok (.bipush (-2), 2) := dk_16 254 (dk_at dksX8_learn_1 12 rfl rfl)
theorem dX8_learn_37 : decode cX8_learn 37 = .ok (.ireturn, 1) := dk_172 (dk_at dksX8_learn_1 14 rfl rfl)
theorem dX8_learn_38 : decode cX8_learn 38 = .ok (.iload 4, 2) := dk_21 4 (dk_at dksX8_learn_1 15 rfl rfl)
theorem dX8_learn_40 : decode cX8_learn 40 = .ok (.ifCond .eq 7, 3) := dk_153 0 7 (dk_at dksX8_learn_1 17 rfl rfl)
theorem dX8_learn_43 : decode cX8_learn 43 = .ok (.iconst 0, 1) := dk_3 (dk_at dksX8_learn_1 20 rfl rfl)
theorem dX8_learn_44 : decode cX8_learn 44 = .ok (.goto 4, 3) := dk_167 0 4 (dk_at dksX8_learn_1 21 rfl rfl)
theorem dX8_learn_47 : decode cX8_learn 47 = .ok (.iconst 1, 1) := dk_4 (dk_at dksX8_learn_2 0 rfl rfl)
theorem dX8_learn_48 : decode cX8_learn 48 = .ok (.istore 6, 2) := dk_54 6 (dk_at dksX8_learn_2 1 rfl rfl)
theorem dX8_learn_50 : decode cX8_learn 50 = .ok (.aload_n 0, 1) := dk_42 (dk_at dksX8_learn_2 3 rfl rfl)
theorem dX8_learn_51 : decode cX8_learn 51 = .ok (.getfield 113, 3) := dk_180 0 113 (dk_at dksX8_learn_2 4 rfl rfl)
theorem dX8_learn_54 : decode cX8_learn 54 = .ok (.iload 6, 2) := dk_21 6 (dk_at dksX8_learn_2 7 rfl rfl)
theorem dX8_learn_56 : decode cX8_learn 56 = .ok (.iaload, 1) := dk_46 (dk_at dksX8_learn_2 9 rfl rfl)
theorem dX8_learn_57 : decode cX8_learn 57 = .ok (.bipush 60, 2) := dk_16 60 (dk_at dksX8_learn_2 10 rfl rfl)
theorem dX8_learn_59 : decode cX8_learn 59 = .ok (.if_icmp .ne 6, 3) := dk_160 0 6 (dk_at dksX8_learn_2 12 rfl rfl)
theorem dX8_learn_62 : decode cX8_learn 62 = .ok (.bipush (-3), 2) := dk_16 253 (dk_at dksX8_learn_2 15 rfl rfl)
theorem dX8_learn_64 : decode cX8_learn 64 = .ok (.ireturn, 1) := dk_172 (dk_at dksX8_learn_2 17 rfl rfl)
theorem dX8_learn_65 : decode cX8_learn 65 = .ok (.aload_n 0, 1) := dk_42 (dk_at dksX8_learn_2 18 rfl rfl)
theorem dX8_learn_66 : decode cX8_learn 66 = .ok (.getfield 92, 3) := dk_180 0 92 (dk_at dksX8_learn_2 19 rfl rfl)
theorem dX8_learn_69 : decode cX8_learn 69 = .ok (.iload 5, 2) := dk_21 5 (dk_at dksX8_learn_2 22 rfl rfl)
theorem dX8_learn_71 : decode cX8_learn 71 = .ok (.iload 6, 2) := dk_21 6 (dk_at dksX8_learn_3 0 rfl rfl)
theorem dX8_learn_73 : decode cX8_learn 73 = .ok (.iconst 1, 1) := dk_4 (dk_at dksX8_learn_3 2 rfl rfl)
theorem dX8_learn_74 : decode cX8_learn 74 = .ok (.iadd, 1) := dk_96 (dk_at dksX8_learn_3 3 rfl rfl)
theorem dX8_learn_75 : decode cX8_learn 75 = .ok (.iastore, 1) := dk_79 (dk_at dksX8_learn_3 4 rfl rfl)
theorem dX8_learn_76 : decode cX8_learn 76 = .ok (.aload_n 0, 1) := dk_42 (dk_at dksX8_learn_3 5 rfl rfl)
theorem dX8_learn_77 : decode cX8_learn 77 = .ok (.aload_n 0, 1) := dk_42 (dk_at dksX8_learn_3 6 rfl rfl)
theorem dX8_learn_78 : decode cX8_learn 78 = .ok (.getfield 86, 3) := dk_180 0 86 (dk_at dksX8_learn_3 7 rfl rfl)
theorem dX8_learn_81 : decode cX8_learn 81 = .ok (.iload 5, 2) := dk_21 5 (dk_at dksX8_learn_3 10 rfl rfl)
theorem dX8_learn_83 : decode cX8_learn 83 = .ok (.iaload, 1) := dk_46 (dk_at dksX8_learn_3 12 rfl rfl)
theorem dX8_learn_84 : decode cX8_learn 84 = .ok (.iload 6, 2) := dk_21 6 (dk_at dksX8_learn_3 13 rfl rfl)
theorem dX8_learn_86 : decode cX8_learn 86 = .ok (.iconst 1, 1) := dk_4 (dk_at dksX8_learn_3 15 rfl rfl)
theorem dX8_learn_87 : decode cX8_learn 87 = .ok (.invokevirtual 319, 3) := dk_182 1 63 (dk_at dksX8_learn_3 16 rfl rfl)
theorem dX8_learn_90 : decode cX8_learn 90 = .ok (.aload_n 0, 1) := dk_42 (dk_at dksX8_learn_3 19 rfl rfl)
theorem dX8_learn_91 : decode cX8_learn 91 = .ok (.getfield 113, 3) := dk_180 0 113 (dk_at dksX8_learn_3 20 rfl rfl)
theorem dX8_learn_94 : decode cX8_learn 94 = .ok (.iload 6, 2) := dk_21 6 (dk_at dksX8_learn_4 0 rfl rfl)
theorem dX8_learn_96 : decode cX8_learn 96 = .ok (.iaload, 1) := dk_46 (dk_at dksX8_learn_4 2 rfl rfl)
theorem dX8_learn_97 : decode cX8_learn 97 = .ok (.ireturn, 1) := dk_172 (dk_at dksX8_learn_4 3 rfl rfl)
abbrev cX8_learns : ByteArray := prog_21_method_53_code
def yX8_learns : MethodName := ⟨RX8, "learns", "(III)V"⟩
def dkwX8_learns_2 : List UInt8 := [29, 167, 0, 4, 3, 96, 79, 132, 4, 1, 167, 255, 211, 177]
abbrev dktX8_learns_2 : List UInt8 := dkwX8_learns_2 ++ []
def dkwX8_learns_1 : List UInt8 := [16, 12, 28, 104, 21, 4, 96, 92, 46, 42, 180, 0, 59, 27, 46, 21, 4, 122, 4, 126, 4, 160, 0, 7]
abbrev dktX8_learns_1 : List UInt8 := dkwX8_learns_1 ++ dktX8_learns_2
def dkwX8_learns_0 : List UInt8 := [42, 180, 0, 113, 28, 92, 46, 29, 96, 79, 3, 54, 4, 21, 4, 16, 12, 162, 0, 44, 42, 180, 0, 116]
abbrev dktX8_learns_0 : List UInt8 := dkwX8_learns_0 ++ dktX8_learns_1
theorem dksX8_learns_0 : cX8_learns.data.toList.drop 0 = dktX8_learns_0 := by decide +kernel
theorem dksX8_learns_1 : cX8_learns.data.toList.drop 24 = dktX8_learns_1 := dk_seg dksX8_learns_0 24 rfl rfl
theorem dksX8_learns_2 : cX8_learns.data.toList.drop 48 = dktX8_learns_2 := dk_seg dksX8_learns_1 24 rfl rfl
theorem dX8_learns_0 : decode cX8_learns 0 = .ok (.aload_n 0, 1) := dk_42 (dk_at dksX8_learns_0 0 rfl rfl)
theorem dX8_learns_1 : decode cX8_learns 1 = .ok (.getfield 113, 3) := dk_180 0 113 (dk_at dksX8_learns_0 1 rfl rfl)
theorem dX8_learns_4 : decode cX8_learns 4 = .ok (.iload_n 2, 1) := dk_28 (dk_at dksX8_learns_0 4 rfl rfl)
theorem dX8_learns_5 : decode cX8_learns 5 = .ok (.dup2, 1) := dk_92 (dk_at dksX8_learns_0 5 rfl rfl)
theorem dX8_learns_6 : decode cX8_learns 6 = .ok (.iaload, 1) := dk_46 (dk_at dksX8_learns_0 6 rfl rfl)
theorem dX8_learns_7 : decode cX8_learns 7 = .ok (.iload_n 3, 1) := dk_29 (dk_at dksX8_learns_0 7 rfl rfl)
theorem dX8_learns_8 : decode cX8_learns 8 = .ok (.iadd, 1) := dk_96 (dk_at dksX8_learns_0 8 rfl rfl)
theorem dX8_learns_9 : decode cX8_learns 9 = .ok (.iastore, 1) := dk_79 (dk_at dksX8_learns_0 9 rfl rfl)
theorem dX8_learns_10 : decode cX8_learns 10 = .ok (.iconst 0, 1) := dk_3 (dk_at dksX8_learns_0 10 rfl rfl)
theorem dX8_learns_11 : decode cX8_learns 11 = .ok (.istore 4, 2) := dk_54 4 (dk_at dksX8_learns_0 11 rfl rfl)
theorem dX8_learns_13 : decode cX8_learns 13 = .ok (.iload 4, 2) := dk_21 4 (dk_at dksX8_learns_0 13 rfl rfl)
theorem dX8_learns_15 : decode cX8_learns 15 = .ok (.bipush 12, 2) := dk_16 12 (dk_at dksX8_learns_0 15 rfl rfl)
theorem dX8_learns_17 : decode cX8_learns 17 = .ok (.if_icmp .ge 44, 3) := dk_162 0 44 (dk_at dksX8_learns_0 17 rfl rfl)
theorem dX8_learns_20 : decode cX8_learns 20 = .ok (.aload_n 0, 1) := dk_42 (dk_at dksX8_learns_0 20 rfl rfl)
theorem dX8_learns_21 : decode cX8_learns 21 = .ok (.getfield 116, 3) := dk_180 0 116 (dk_at dksX8_learns_0 21 rfl rfl)
theorem dX8_learns_24 : decode cX8_learns 24 = .ok (.bipush 12, 2) := dk_16 12 (dk_at dksX8_learns_1 0 rfl rfl)
theorem dX8_learns_26 : decode cX8_learns 26 = .ok (.iload_n 2, 1) := dk_28 (dk_at dksX8_learns_1 2 rfl rfl)
theorem dX8_learns_27 : decode cX8_learns 27 = .ok (.imul, 1) := dk_104 (dk_at dksX8_learns_1 3 rfl rfl)
theorem dX8_learns_28 : decode cX8_learns 28 = .ok (.iload 4, 2) := dk_21 4 (dk_at dksX8_learns_1 4 rfl rfl)
theorem dX8_learns_30 : decode cX8_learns 30 = .ok (.iadd, 1) := dk_96 (dk_at dksX8_learns_1 6 rfl rfl)
theorem dX8_learns_31 : decode cX8_learns 31 = .ok (.dup2, 1) := dk_92 (dk_at dksX8_learns_1 7 rfl rfl)
theorem dX8_learns_32 : decode cX8_learns 32 = .ok (.iaload, 1) := dk_46 (dk_at dksX8_learns_1 8 rfl rfl)
theorem dX8_learns_33 : decode cX8_learns 33 = .ok (.aload_n 0, 1) := dk_42 (dk_at dksX8_learns_1 9 rfl rfl)
theorem dX8_learns_34 : decode cX8_learns 34 = .ok (.getfield 59, 3) := dk_180 0 59 (dk_at dksX8_learns_1 10 rfl rfl)
theorem dX8_learns_37 : decode cX8_learns 37 = .ok (.iload_n 1, 1) := dk_27 (dk_at dksX8_learns_1 13 rfl rfl)
theorem dX8_learns_38 : decode cX8_learns 38 = .ok (.iaload, 1) := dk_46 (dk_at dksX8_learns_1 14 rfl rfl)
theorem dX8_learns_39 : decode cX8_learns 39 = .ok (.iload 4, 2) := dk_21 4 (dk_at dksX8_learns_1 15 rfl rfl)
theorem dX8_learns_41 : decode cX8_learns 41 = .ok (.ishr, 1) := dk_122 (dk_at dksX8_learns_1 17 rfl rfl)
theorem dX8_learns_42 : decode cX8_learns 42 = .ok (.iconst 1, 1) := dk_4 (dk_at dksX8_learns_1 18 rfl rfl)
theorem dX8_learns_43 : decode cX8_learns 43 = .ok (.iand, 1) := dk_126 (dk_at dksX8_learns_1 19 rfl rfl)
theorem dX8_learns_44 : decode cX8_learns 44 = .ok (.iconst 1, 1) := dk_4 (dk_at dksX8_learns_1 20 rfl rfl)
theorem dX8_learns_45 : decode cX8_learns 45 = .ok (.if_icmp .ne 7, 3) := dk_160 0 7 (dk_at dksX8_learns_1 21 rfl rfl)
theorem dX8_learns_48 : decode cX8_learns 48 = .ok (.iload_n 3, 1) := dk_29 (dk_at dksX8_learns_2 0 rfl rfl)
theorem dX8_learns_49 : decode cX8_learns 49 = .ok (.goto 4, 3) := dk_167 0 4 (dk_at dksX8_learns_2 1 rfl rfl)
theorem dX8_learns_52 : decode cX8_learns 52 = .ok (.iconst 0, 1) := dk_3 (dk_at dksX8_learns_2 4 rfl rfl)
theorem dX8_learns_53 : decode cX8_learns 53 = .ok (.iadd, 1) := dk_96 (dk_at dksX8_learns_2 5 rfl rfl)
theorem dX8_learns_54 : decode cX8_learns 54 = .ok (.iastore, 1) := dk_79 (dk_at dksX8_learns_2 6 rfl rfl)
theorem dX8_learns_55 : decode cX8_learns 55 = .ok (.iinc 4 1, 3) := dk_132 4 1 (dk_at dksX8_learns_2 7 rfl rfl)
theorem dX8_learns_58 : decode cX8_learns 58 = .ok (.goto (-45), 3) := dk_167 255 211 (dk_at dksX8_learns_2 10 rfl rfl)
theorem dX8_learns_61 : decode cX8_learns 61 = .ok (.return_, 1) := dk_177 (dk_at dksX8_learns_2 13 rfl rfl)
abbrev cX8_unlearn : ByteArray := prog_21_method_55_code
def yX8_unlearn : MethodName := ⟨RX8, "unlearn", "(III)I"⟩
def dkwX8_unlearn_3 : List UInt8 := [42, 180, 0, 113, 21, 5, 46, 172]
abbrev dktX8_unlearn_3 : List UInt8 := dkwX8_unlearn_3 ++ []
def dkwX8_unlearn_2 : List UInt8 := [54, 5, 42, 180, 0, 92, 21, 4, 3, 79, 42, 42, 180, 0, 86, 21, 4, 46, 21, 5, 2, 182, 1, 63]
abbrev dktX8_unlearn_2 : List UInt8 := dkwX8_unlearn_2 ++ dktX8_unlearn_3
def dkwX8_unlearn_1 : List UInt8 := [54, 4, 42, 180, 0, 92, 21, 4, 46, 154, 0, 6, 16, 254, 172, 42, 180, 0, 92, 21, 4, 46, 4, 100]
abbrev dktX8_unlearn_1 : List UInt8 := dkwX8_unlearn_1 ++ dktX8_unlearn_2
def dkwX8_unlearn_0 : List UInt8 := [42, 27, 28, 29, 182, 1, 55, 154, 0, 5, 2, 172, 17, 1, 44, 7, 27, 104, 28, 96, 104, 29, 96]
abbrev dktX8_unlearn_0 : List UInt8 := dkwX8_unlearn_0 ++ dktX8_unlearn_1
theorem dksX8_unlearn_0 : cX8_unlearn.data.toList.drop 0 = dktX8_unlearn_0 := by decide +kernel
theorem dksX8_unlearn_1 : cX8_unlearn.data.toList.drop 23 = dktX8_unlearn_1 := dk_seg dksX8_unlearn_0 23 rfl rfl
theorem dksX8_unlearn_2 : cX8_unlearn.data.toList.drop 47 = dktX8_unlearn_2 := dk_seg dksX8_unlearn_1 24 rfl rfl
theorem dksX8_unlearn_3 : cX8_unlearn.data.toList.drop 71 = dktX8_unlearn_3 := dk_seg dksX8_unlearn_2 24 rfl rfl
theorem dX8_unlearn_0 : decode cX8_unlearn 0 = .ok (.aload_n 0, 1) := dk_42 (dk_at dksX8_unlearn_0 0 rfl rfl)
theorem dX8_unlearn_1 : decode cX8_unlearn 1 = .ok (.iload_n 1, 1) := dk_27 (dk_at dksX8_unlearn_0 1 rfl rfl)
theorem dX8_unlearn_2 : decode cX8_unlearn 2 = .ok (.iload_n 2, 1) := dk_28 (dk_at dksX8_unlearn_0 2 rfl rfl)
theorem dX8_unlearn_3 : decode cX8_unlearn 3 = .ok (.iload_n 3, 1) := dk_29 (dk_at dksX8_unlearn_0 3 rfl rfl)
theorem dX8_unlearn_4 : decode cX8_unlearn 4 = .ok (.invokevirtual 311, 3) := dk_182 1 55 (dk_at dksX8_unlearn_0 4 rfl rfl)
theorem dX8_unlearn_7 : decode cX8_unlearn 7 = .ok (.ifCond .ne 5, 3) := dk_154 0 5 (dk_at dksX8_unlearn_0 7 rfl rfl)
theorem dX8_unlearn_10 : decode cX8_unlearn 10 = .ok (.iconst (-1), 1) := dk_2 (dk_at dksX8_unlearn_0 10 rfl rfl)
theorem dX8_unlearn_11 : decode cX8_unlearn 11 = .ok (.ireturn, 1) := dk_172 (dk_at dksX8_unlearn_0 11 rfl rfl)
theorem dX8_unlearn_12 : decode cX8_unlearn 12 = .ok (.sipush 300, 3) := dk_17 1 44 (dk_at dksX8_unlearn_0 12 rfl rfl)
theorem dX8_unlearn_15 : decode cX8_unlearn 15 = .ok (.iconst 4, 1) := dk_7 (dk_at dksX8_unlearn_0 15 rfl rfl)
theorem dX8_unlearn_16 : decode cX8_unlearn 16 = .ok (.iload_n 1, 1) := dk_27 (dk_at dksX8_unlearn_0 16 rfl rfl)
theorem dX8_unlearn_17 : decode cX8_unlearn 17 = .ok (.imul, 1) := dk_104 (dk_at dksX8_unlearn_0 17 rfl rfl)
theorem dX8_unlearn_18 : decode cX8_unlearn 18 = .ok (.iload_n 2, 1) := dk_28 (dk_at dksX8_unlearn_0 18 rfl rfl)
theorem dX8_unlearn_19 : decode cX8_unlearn 19 = .ok (.iadd, 1) := dk_96 (dk_at dksX8_unlearn_0 19 rfl rfl)
theorem dX8_unlearn_20 : decode cX8_unlearn 20 = .ok (.imul, 1) := dk_104 (dk_at dksX8_unlearn_0 20 rfl rfl)
theorem dX8_unlearn_21 : decode cX8_unlearn 21 = .ok (.iload_n 3, 1) := dk_29 (dk_at dksX8_unlearn_0 21 rfl rfl)
theorem dX8_unlearn_22 : decode cX8_unlearn 22 = .ok (.iadd, 1) := dk_96 (dk_at dksX8_unlearn_0 22 rfl rfl)
theorem dX8_unlearn_23 : decode cX8_unlearn 23 = .ok (.istore 4, 2) := dk_54 4 (dk_at dksX8_unlearn_1 0 rfl rfl)
theorem dX8_unlearn_25 : decode cX8_unlearn 25 = .ok (.aload_n 0, 1) := dk_42 (dk_at dksX8_unlearn_1 2 rfl rfl)
theorem dX8_unlearn_26 : decode cX8_unlearn 26 = .ok (.getfield 92, 3) := dk_180 0 92 (dk_at dksX8_unlearn_1 3 rfl rfl)
theorem dX8_unlearn_29 : decode cX8_unlearn 29 = .ok (.iload 4, 2) := dk_21 4 (dk_at dksX8_unlearn_1 6 rfl rfl)
theorem dX8_unlearn_31 : decode cX8_unlearn 31 = .ok (.iaload, 1) := dk_46 (dk_at dksX8_unlearn_1 8 rfl rfl)
theorem dX8_unlearn_32 : decode cX8_unlearn 32 = .ok (.ifCond .ne 6, 3) := dk_154 0 6 (dk_at dksX8_unlearn_1 9 rfl rfl)
theorem dX8_unlearn_35 : decode cX8_unlearn 35 = .ok (.bipush (-2), 2) := dk_16 254 (dk_at dksX8_unlearn_1 12 rfl rfl)
theorem dX8_unlearn_37 : decode cX8_unlearn 37 = .ok (.ireturn, 1) := dk_172 (dk_at dksX8_unlearn_1 14 rfl rfl)
theorem dX8_unlearn_38 : decode cX8_unlearn 38 = .ok (.aload_n 0, 1) := dk_42 (dk_at dksX8_unlearn_1 15 rfl rfl)
theorem dX8_unlearn_39 : decode cX8_unlearn 39 = .ok (.getfield 92, 3) := dk_180 0 92 (dk_at dksX8_unlearn_1 16 rfl rfl)
theorem dX8_unlearn_42 : decode cX8_unlearn 42 = .ok (.iload 4, 2) := dk_21 4 (dk_at dksX8_unlearn_1 19 rfl rfl)
theorem dX8_unlearn_44 : decode cX8_unlearn 44 = .ok (.iaload, 1) := dk_46 (dk_at dksX8_unlearn_1 21 rfl rfl)
theorem dX8_unlearn_45 : decode cX8_unlearn 45 = .ok (.iconst 1, 1) := dk_4 (dk_at dksX8_unlearn_1 22 rfl rfl)
theorem dX8_unlearn_46 : decode cX8_unlearn 46 = .ok (.isub, 1) := dk_100 (dk_at dksX8_unlearn_1 23 rfl rfl)
theorem dX8_unlearn_47 : decode cX8_unlearn 47 = .ok (.istore 5, 2) := dk_54 5 (dk_at dksX8_unlearn_2 0 rfl rfl)
theorem dX8_unlearn_49 : decode cX8_unlearn 49 = .ok (.aload_n 0, 1) := dk_42 (dk_at dksX8_unlearn_2 2 rfl rfl)
theorem dX8_unlearn_50 : decode cX8_unlearn 50 = .ok (.getfield 92, 3) := dk_180 0 92 (dk_at dksX8_unlearn_2 3 rfl rfl)
theorem dX8_unlearn_53 : decode cX8_unlearn 53 = .ok (.iload 4, 2) := dk_21 4 (dk_at dksX8_unlearn_2 6 rfl rfl)
theorem dX8_unlearn_55 : decode cX8_unlearn 55 = .ok (.iconst 0, 1) := dk_3 (dk_at dksX8_unlearn_2 8 rfl rfl)
theorem dX8_unlearn_56 : decode cX8_unlearn 56 = .ok (.iastore, 1) := dk_79 (dk_at dksX8_unlearn_2 9 rfl rfl)
theorem dX8_unlearn_57 : decode cX8_unlearn 57 = .ok (.aload_n 0, 1) := dk_42 (dk_at dksX8_unlearn_2 10 rfl rfl)
theorem dX8_unlearn_58 : decode cX8_unlearn 58 = .ok (.aload_n 0, 1) := dk_42 (dk_at dksX8_unlearn_2 11 rfl rfl)
theorem dX8_unlearn_59 : decode cX8_unlearn 59 = .ok (.getfield 86, 3) := dk_180 0 86 (dk_at dksX8_unlearn_2 12 rfl rfl)
theorem dX8_unlearn_62 : decode cX8_unlearn 62 = .ok (.iload 4, 2) := dk_21 4 (dk_at dksX8_unlearn_2 15 rfl rfl)
theorem dX8_unlearn_64 : decode cX8_unlearn 64 = .ok (.iaload, 1) := dk_46 (dk_at dksX8_unlearn_2 17 rfl rfl)
theorem dX8_unlearn_65 : decode cX8_unlearn 65 = .ok (.iload 5, 2) := dk_21 5 (dk_at dksX8_unlearn_2 18 rfl rfl)
theorem dX8_unlearn_67 : decode cX8_unlearn 67 = .ok (.iconst (-1), 1) := dk_2 (dk_at dksX8_unlearn_2 20 rfl rfl)
theorem dX8_unlearn_68 : decode cX8_unlearn 68 = .ok (.invokevirtual 319, 3) := dk_182 1 63 (dk_at dksX8_unlearn_2 21 rfl rfl)
theorem dX8_unlearn_71 : decode cX8_unlearn 71 = .ok (.aload_n 0, 1) := dk_42 (dk_at dksX8_unlearn_3 0 rfl rfl)
theorem dX8_unlearn_72 : decode cX8_unlearn 72 = .ok (.getfield 113, 3) := dk_180 0 113 (dk_at dksX8_unlearn_3 1 rfl rfl)
theorem dX8_unlearn_75 : decode cX8_unlearn 75 = .ok (.iload 5, 2) := dk_21 5 (dk_at dksX8_unlearn_3 4 rfl rfl)
theorem dX8_unlearn_77 : decode cX8_unlearn 77 = .ok (.iaload, 1) := dk_46 (dk_at dksX8_unlearn_3 6 rfl rfl)
theorem dX8_unlearn_78 : decode cX8_unlearn 78 = .ok (.ireturn, 1) := dk_172 (dk_at dksX8_unlearn_3 7 rfl rfl)
abbrev cX8_known : ByteArray := prog_21_method_56_code
def yX8_known : MethodName := ⟨RX8, "known", "(IZ)I"⟩
def dkwX8_known_1 : List UInt8 := [27, 96, 46, 167, 0, 4, 2, 172]
abbrev dktX8_known_1 : List UInt8 := dkwX8_known_1 ++ []
def dkwX8_known_0 : List UInt8 := [27, 3, 16, 11, 184, 0, 122, 153, 0, 23, 42, 180, 0, 116, 28, 153, 0, 7, 27, 167, 0, 7, 16, 12]
abbrev dktX8_known_0 : List UInt8 := dkwX8_known_0 ++ dktX8_known_1
theorem dksX8_known_0 : cX8_known.data.toList.drop 0 = dktX8_known_0 := by decide +kernel
theorem dksX8_known_1 : cX8_known.data.toList.drop 24 = dktX8_known_1 := dk_seg dksX8_known_0 24 rfl rfl
theorem dX8_known_0 : decode cX8_known 0 = .ok (.iload_n 1, 1) := dk_27 (dk_at dksX8_known_0 0 rfl rfl)
theorem dX8_known_1 : decode cX8_known 1 = .ok (.iconst 0, 1) := dk_3 (dk_at dksX8_known_0 1 rfl rfl)
theorem dX8_known_2 : decode cX8_known 2 = .ok (.bipush 11, 2) := dk_16 11 (dk_at dksX8_known_0 2 rfl rfl)
theorem dX8_known_4 : decode cX8_known 4 = .ok (.invokestatic 122, 3) := dk_184 0 122 (dk_at dksX8_known_0 4 rfl rfl)
theorem dX8_known_7 : decode cX8_known 7 = .ok (.ifCond .eq 23, 3) := dk_153 0 23 (dk_at dksX8_known_0 7 rfl rfl)
theorem dX8_known_10 : decode cX8_known 10 = .ok (.aload_n 0, 1) := dk_42 (dk_at dksX8_known_0 10 rfl rfl)
theorem dX8_known_11 : decode cX8_known 11 = .ok (.getfield 116, 3) := dk_180 0 116 (dk_at dksX8_known_0 11 rfl rfl)
theorem dX8_known_14 : decode cX8_known 14 = .ok (.iload_n 2, 1) := dk_28 (dk_at dksX8_known_0 14 rfl rfl)
theorem dX8_known_15 : decode cX8_known 15 = .ok (.ifCond .eq 7, 3) := dk_153 0 7 (dk_at dksX8_known_0 15 rfl rfl)
theorem dX8_known_18 : decode cX8_known 18 = .ok (.iload_n 1, 1) := dk_27 (dk_at dksX8_known_0 18 rfl rfl)
theorem dX8_known_19 : decode cX8_known 19 = .ok (.goto 7, 3) := dk_167 0 7 (dk_at dksX8_known_0 19 rfl rfl)
theorem dX8_known_22 : decode cX8_known 22 = .ok (.bipush 12, 2) := dk_16 12 (dk_at dksX8_known_0 22 rfl rfl)
theorem dX8_known_24 : decode cX8_known 24 = .ok (.iload_n 1, 1) := dk_27 (dk_at dksX8_known_1 0 rfl rfl)
theorem dX8_known_25 : decode cX8_known 25 = .ok (.iadd, 1) := dk_96 (dk_at dksX8_known_1 1 rfl rfl)
theorem dX8_known_26 : decode cX8_known 26 = .ok (.iaload, 1) := dk_46 (dk_at dksX8_known_1 2 rfl rfl)
theorem dX8_known_27 : decode cX8_known 27 = .ok (.goto 4, 3) := dk_167 0 4 (dk_at dksX8_known_1 3 rfl rfl)
theorem dX8_known_30 : decode cX8_known 30 = .ok (.iconst (-1), 1) := dk_2 (dk_at dksX8_known_1 6 rfl rfl)
theorem dX8_known_31 : decode cX8_known 31 = .ok (.ireturn, 1) := dk_172 (dk_at dksX8_known_1 7 rfl rfl)
abbrev cX8_atoms : ByteArray := prog_21_method_59_code
def yX8_atoms : MethodName := ⟨RX8, "atoms", "(I)I"⟩
def dkwX8_atoms_1 : List UInt8 := [182, 1, 69, 42, 180, 1, 66, 172]
abbrev dktX8_atoms_1 : List UInt8 := dkwX8_atoms_1 ++ []
def dkwX8_atoms_0 : List UInt8 := [27, 184, 0, 186, 154, 0, 5, 2, 172, 42, 180, 0, 13, 27, 46, 154, 0, 6, 16, 252, 172, 42, 27]
abbrev dktX8_atoms_0 : List UInt8 := dkwX8_atoms_0 ++ dktX8_atoms_1
theorem dksX8_atoms_0 : cX8_atoms.data.toList.drop 0 = dktX8_atoms_0 := by decide +kernel
theorem dksX8_atoms_1 : cX8_atoms.data.toList.drop 23 = dktX8_atoms_1 := dk_seg dksX8_atoms_0 23 rfl rfl
theorem dX8_atoms_0 : decode cX8_atoms 0 = .ok (.iload_n 1, 1) := dk_27 (dk_at dksX8_atoms_0 0 rfl rfl)
theorem dX8_atoms_1 : decode cX8_atoms 1 = .ok (.invokestatic 186, 3) := dk_184 0 186 (dk_at dksX8_atoms_0 1 rfl rfl)
theorem dX8_atoms_4 : decode cX8_atoms 4 = .ok (.ifCond .ne 5, 3) := dk_154 0 5 (dk_at dksX8_atoms_0 4 rfl rfl)
theorem dX8_atoms_7 : decode cX8_atoms 7 = .ok (.iconst (-1), 1) := dk_2 (dk_at dksX8_atoms_0 7 rfl rfl)
theorem dX8_atoms_8 : decode cX8_atoms 8 = .ok (.ireturn, 1) := dk_172 (dk_at dksX8_atoms_0 8 rfl rfl)
theorem dX8_atoms_9 : decode cX8_atoms 9 = .ok (.aload_n 0, 1) := dk_42 (dk_at dksX8_atoms_0 9 rfl rfl)
theorem dX8_atoms_10 : decode cX8_atoms 10 = .ok (.getfield 13, 3) := dk_180 0 13 (dk_at dksX8_atoms_0 10 rfl rfl)
theorem dX8_atoms_13 : decode cX8_atoms 13 = .ok (.iload_n 1, 1) := dk_27 (dk_at dksX8_atoms_0 13 rfl rfl)
theorem dX8_atoms_14 : decode cX8_atoms 14 = .ok (.iaload, 1) := dk_46 (dk_at dksX8_atoms_0 14 rfl rfl)
theorem dX8_atoms_15 : decode cX8_atoms 15 = .ok (.ifCond .ne 6, 3) := dk_154 0 6 (dk_at dksX8_atoms_0 15 rfl rfl)
theorem dX8_atoms_18 : decode cX8_atoms 18 = .ok (.bipush (-4), 2) := dk_16 252 (dk_at dksX8_atoms_0 18 rfl rfl)
theorem dX8_atoms_20 : decode cX8_atoms 20 = .ok (.ireturn, 1) := dk_172 (dk_at dksX8_atoms_0 20 rfl rfl)
theorem dX8_atoms_21 : decode cX8_atoms 21 = .ok (.aload_n 0, 1) := dk_42 (dk_at dksX8_atoms_0 21 rfl rfl)
theorem dX8_atoms_22 : decode cX8_atoms 22 = .ok (.iload_n 1, 1) := dk_27 (dk_at dksX8_atoms_0 22 rfl rfl)
theorem dX8_atoms_23 : decode cX8_atoms 23 = .ok (.invokevirtual 325, 3) := dk_182 1 69 (dk_at dksX8_atoms_1 0 rfl rfl)
theorem dX8_atoms_26 : decode cX8_atoms 26 = .ok (.aload_n 0, 1) := dk_42 (dk_at dksX8_atoms_1 3 rfl rfl)
theorem dX8_atoms_27 : decode cX8_atoms 27 = .ok (.getfield 322, 3) := dk_180 1 66 (dk_at dksX8_atoms_1 4 rfl rfl)
theorem dX8_atoms_30 : decode cX8_atoms 30 = .ok (.ireturn, 1) := dk_172 (dk_at dksX8_atoms_1 7 rfl rfl)
abbrev cX8_gather : ByteArray := prog_21_method_58_code
def yX8_gather : MethodName := ⟨RX8, "gather", "(I)V"⟩
def dkwX8_gather_3 : List UInt8 := [180, 1, 66, 29, 79, 42, 89, 180, 1, 66, 4, 96, 181, 1, 66, 132, 2, 1, 167, 255, 182, 177]
abbrev dktX8_gather_3 : List UInt8 := dkwX8_gather_3 ++ []
def dkwX8_gather_2 : List UInt8 := [29, 18, 195, 162, 0, 35, 42, 29, 182, 0, 203, 42, 180, 1, 66, 160, 0, 23, 42, 180, 0, 119, 42]
abbrev dktX8_gather_2 : List UInt8 := dkwX8_gather_2 ++ dktX8_gather_3
def dkwX8_gather_1 : List UInt8 := [42, 180, 0, 13, 27, 46, 96, 46, 162, 0, 60, 42, 180, 0, 16, 17, 0, 180, 27, 104, 28, 96, 46, 62]
abbrev dktX8_gather_1 : List UInt8 := dkwX8_gather_1 ++ dktX8_gather_2
def dkwX8_gather_0 : List UInt8 := [42, 3, 181, 1, 66, 42, 180, 0, 19, 16, 7, 27, 104, 46, 61, 28, 42, 180, 0, 19, 16, 7, 27, 104]
abbrev dktX8_gather_0 : List UInt8 := dkwX8_gather_0 ++ dktX8_gather_1
theorem dksX8_gather_0 : cX8_gather.data.toList.drop 0 = dktX8_gather_0 := by decide +kernel
theorem dksX8_gather_1 : cX8_gather.data.toList.drop 24 = dktX8_gather_1 := dk_seg dksX8_gather_0 24 rfl rfl
theorem dksX8_gather_2 : cX8_gather.data.toList.drop 48 = dktX8_gather_2 := dk_seg dksX8_gather_1 24 rfl rfl
theorem dksX8_gather_3 : cX8_gather.data.toList.drop 71 = dktX8_gather_3 := dk_seg dksX8_gather_2 23 rfl rfl
theorem dX8_gather_0 : decode cX8_gather 0 = .ok (.aload_n 0, 1) := dk_42 (dk_at dksX8_gather_0 0 rfl rfl)
theorem dX8_gather_1 : decode cX8_gather 1 = .ok (.iconst 0, 1) := dk_3 (dk_at dksX8_gather_0 1 rfl rfl)
theorem dX8_gather_2 : decode cX8_gather 2 = .ok (.putfield 322, 3) := dk_181 1 66 (dk_at dksX8_gather_0 2 rfl rfl)
theorem dX8_gather_5 : decode cX8_gather 5 = .ok (.aload_n 0, 1) := dk_42 (dk_at dksX8_gather_0 5 rfl rfl)
theorem dX8_gather_6 : decode cX8_gather 6 = .ok (.getfield 19, 3) := dk_180 0 19 (dk_at dksX8_gather_0 6 rfl rfl)
theorem dX8_gather_9 : decode cX8_gather 9 = .ok (.bipush 7, 2) := dk_16 7 (dk_at dksX8_gather_0 9 rfl rfl)
theorem dX8_gather_11 : decode cX8_gather 11 = .ok (.iload_n 1, 1) := dk_27 (dk_at dksX8_gather_0 11 rfl rfl)
theorem dX8_gather_12 : decode cX8_gather 12 = .ok (.imul, 1) := dk_104 (dk_at dksX8_gather_0 12 rfl rfl)
theorem dX8_gather_13 : decode cX8_gather 13 = .ok (.iaload, 1) := dk_46 (dk_at dksX8_gather_0 13 rfl rfl)
theorem dX8_gather_14 : decode cX8_gather 14 = .ok (.istore_n 2, 1) := dk_61 (dk_at dksX8_gather_0 14 rfl rfl)
theorem dX8_gather_15 : decode cX8_gather 15 = .ok (.iload_n 2, 1) := dk_28 (dk_at dksX8_gather_0 15 rfl rfl)
theorem dX8_gather_16 : decode cX8_gather 16 = .ok (.aload_n 0, 1) := dk_42 (dk_at dksX8_gather_0 16 rfl rfl)
theorem dX8_gather_17 : decode cX8_gather 17 = .ok (.getfield 19, 3) := dk_180 0 19 (dk_at dksX8_gather_0 17 rfl rfl)
theorem dX8_gather_20 : decode cX8_gather 20 = .ok (.bipush 7, 2) := dk_16 7 (dk_at dksX8_gather_0 20 rfl rfl)
theorem dX8_gather_22 : decode cX8_gather 22 = .ok (.iload_n 1, 1) := dk_27 (dk_at dksX8_gather_0 22 rfl rfl)
theorem dX8_gather_23 : decode cX8_gather 23 = .ok (.imul, 1) := dk_104 (dk_at dksX8_gather_0 23 rfl rfl)
theorem dX8_gather_24 : decode cX8_gather 24 = .ok (.aload_n 0, 1) := dk_42 (dk_at dksX8_gather_1 0 rfl rfl)
theorem dX8_gather_25 : decode cX8_gather 25 = .ok (.getfield 13, 3) := dk_180 0 13 (dk_at dksX8_gather_1 1 rfl rfl)
theorem dX8_gather_28 : decode cX8_gather 28 = .ok (.iload_n 1, 1) := dk_27 (dk_at dksX8_gather_1 4 rfl rfl)
theorem dX8_gather_29 : decode cX8_gather 29 = .ok (.iaload, 1) := dk_46 (dk_at dksX8_gather_1 5 rfl rfl)
theorem dX8_gather_30 : decode cX8_gather 30 = .ok (.iadd, 1) := dk_96 (dk_at dksX8_gather_1 6 rfl rfl)
theorem dX8_gather_31 : decode cX8_gather 31 = .ok (.iaload, 1) := dk_46 (dk_at dksX8_gather_1 7 rfl rfl)
theorem dX8_gather_32 : decode cX8_gather 32 = .ok (.if_icmp .ge 60, 3) := dk_162 0 60 (dk_at dksX8_gather_1 8 rfl rfl)
theorem dX8_gather_35 : decode cX8_gather 35 = .ok (.aload_n 0, 1) := dk_42 (dk_at dksX8_gather_1 11 rfl rfl)
theorem dX8_gather_36 : decode cX8_gather 36 = .ok (.getfield 16, 3) := dk_180 0 16 (dk_at dksX8_gather_1 12 rfl rfl)
theorem dX8_gather_39 : decode cX8_gather 39 = .ok (.sipush 180, 3) := dk_17 0 180 (dk_at dksX8_gather_1 15 rfl rfl)
theorem dX8_gather_42 : decode cX8_gather 42 = .ok (.iload_n 1, 1) := dk_27 (dk_at dksX8_gather_1 18 rfl rfl)
theorem dX8_gather_43 : decode cX8_gather 43 = .ok (.imul, 1) := dk_104 (dk_at dksX8_gather_1 19 rfl rfl)
theorem dX8_gather_44 : decode cX8_gather 44 = .ok (.iload_n 2, 1) := dk_28 (dk_at dksX8_gather_1 20 rfl rfl)
theorem dX8_gather_45 : decode cX8_gather 45 = .ok (.iadd, 1) := dk_96 (dk_at dksX8_gather_1 21 rfl rfl)
theorem dX8_gather_46 : decode cX8_gather 46 = .ok (.iaload, 1) := dk_46 (dk_at dksX8_gather_1 22 rfl rfl)
theorem dX8_gather_47 : decode cX8_gather 47 = .ok (.istore_n 3, 1) := dk_62 (dk_at dksX8_gather_1 23 rfl rfl)
theorem dX8_gather_48 : decode cX8_gather 48 = .ok (.iload_n 3, 1) := dk_29 (dk_at dksX8_gather_2 0 rfl rfl)
theorem dX8_gather_49 : decode cX8_gather 49 = .ok (.ldc 195, 2) := dk_18 195 (dk_at dksX8_gather_2 1 rfl rfl)
theorem dX8_gather_51 : decode cX8_gather 51 = .ok (.if_icmp .ge 35, 3) := dk_162 0 35 (dk_at dksX8_gather_2 3 rfl rfl)
theorem dX8_gather_54 : decode cX8_gather 54 = .ok (.aload_n 0, 1) := dk_42 (dk_at dksX8_gather_2 6 rfl rfl)
theorem dX8_gather_55 : decode cX8_gather 55 = .ok (.iload_n 3, 1) := dk_29 (dk_at dksX8_gather_2 7 rfl rfl)
theorem dX8_gather_56 : decode cX8_gather 56 = .ok (.invokevirtual 203, 3) := dk_182 0 203 (dk_at dksX8_gather_2 8 rfl rfl)
theorem dX8_gather_59 : decode cX8_gather 59 = .ok (.aload_n 0, 1) := dk_42 (dk_at dksX8_gather_2 11 rfl rfl)
theorem dX8_gather_60 : decode cX8_gather 60 = .ok (.getfield 322, 3) := dk_180 1 66 (dk_at dksX8_gather_2 12 rfl rfl)
theorem dX8_gather_63 : decode cX8_gather 63 = .ok (.if_icmp .ne 23, 3) := dk_160 0 23 (dk_at dksX8_gather_2 15 rfl rfl)
theorem dX8_gather_66 : decode cX8_gather 66 = .ok (.aload_n 0, 1) := dk_42 (dk_at dksX8_gather_2 18 rfl rfl)
theorem dX8_gather_67 : decode cX8_gather 67 = .ok (.getfield 119, 3) := dk_180 0 119 (dk_at dksX8_gather_2 19 rfl rfl)
theorem dX8_gather_70 : decode cX8_gather 70 = .ok (.aload_n 0, 1) := dk_42 (dk_at dksX8_gather_2 22 rfl rfl)
theorem dX8_gather_71 : decode cX8_gather 71 = .ok (.getfield 322, 3) := dk_180 1 66 (dk_at dksX8_gather_3 0 rfl rfl)
theorem dX8_gather_74 : decode cX8_gather 74 = .ok (.iload_n 3, 1) := dk_29 (dk_at dksX8_gather_3 3 rfl rfl)
theorem dX8_gather_75 : decode cX8_gather 75 = .ok (.iastore, 1) := dk_79 (dk_at dksX8_gather_3 4 rfl rfl)
theorem dX8_gather_76 : decode cX8_gather 76 = .ok (.aload_n 0, 1) := dk_42 (dk_at dksX8_gather_3 5 rfl rfl)
theorem dX8_gather_77 : decode cX8_gather 77 = .ok (.dup, 1) := dk_89 (dk_at dksX8_gather_3 6 rfl rfl)
theorem dX8_gather_78 : decode cX8_gather 78 = .ok (.getfield 322, 3) := dk_180 1 66 (dk_at dksX8_gather_3 7 rfl rfl)
theorem dX8_gather_81 : decode cX8_gather 81 = .ok (.iconst 1, 1) := dk_4 (dk_at dksX8_gather_3 10 rfl rfl)
theorem dX8_gather_82 : decode cX8_gather 82 = .ok (.iadd, 1) := dk_96 (dk_at dksX8_gather_3 11 rfl rfl)
theorem dX8_gather_83 : decode cX8_gather 83 = .ok (.putfield 322, 3) := dk_181 1 66 (dk_at dksX8_gather_3 12 rfl rfl)
theorem dX8_gather_86 : decode cX8_gather 86 = .ok (.iinc 2 1, 3) := dk_132 2 1 (dk_at dksX8_gather_3 15 rfl rfl)
theorem dX8_gather_89 : decode cX8_gather 89 = .ok (.goto (-74), 3) := dk_167 255 182 (dk_at dksX8_gather_3 18 rfl rfl)
theorem dX8_gather_92 : decode cX8_gather 92 = .ok (.return_, 1) := dk_177 (dk_at dksX8_gather_3 21 rfl rfl)
abbrev cX8_shown : ByteArray := prog_21_method_64_code
def yX8_shown : MethodName := ⟨RX8, "shown", "(II)I"⟩
def dkwX8_shown_1 : List UInt8 := [27, 4, 28, 120, 182, 1, 82, 167, 0, 4, 2, 172]
abbrev dktX8_shown_1 : List UInt8 := dkwX8_shown_1 ++ []
def dkwX8_shown_0 : List UInt8 := [27, 184, 0, 186, 153, 0, 30, 28, 3, 42, 180, 0, 13, 27, 46, 4, 100, 184, 0, 122, 153, 0, 14, 42]
abbrev dktX8_shown_0 : List UInt8 := dkwX8_shown_0 ++ dktX8_shown_1
theorem dksX8_shown_0 : cX8_shown.data.toList.drop 0 = dktX8_shown_0 := by decide +kernel
theorem dksX8_shown_1 : cX8_shown.data.toList.drop 24 = dktX8_shown_1 := dk_seg dksX8_shown_0 24 rfl rfl
theorem dX8_shown_0 : decode cX8_shown 0 = .ok (.iload_n 1, 1) := dk_27 (dk_at dksX8_shown_0 0 rfl rfl)
theorem dX8_shown_1 : decode cX8_shown 1 = .ok (.invokestatic 186, 3) := dk_184 0 186 (dk_at dksX8_shown_0 1 rfl rfl)
theorem dX8_shown_4 : decode cX8_shown 4 = .ok (.ifCond .eq 30, 3) := dk_153 0 30 (dk_at dksX8_shown_0 4 rfl rfl)
theorem dX8_shown_7 : decode cX8_shown 7 = .ok (.iload_n 2, 1) := dk_28 (dk_at dksX8_shown_0 7 rfl rfl)
theorem dX8_shown_8 : decode cX8_shown 8 = .ok (.iconst 0, 1) := dk_3 (dk_at dksX8_shown_0 8 rfl rfl)
theorem dX8_shown_9 : decode cX8_shown 9 = .ok (.aload_n 0, 1) := dk_42 (dk_at dksX8_shown_0 9 rfl rfl)
theorem dX8_shown_10 : decode cX8_shown 10 = .ok (.getfield 13, 3) := dk_180 0 13 (dk_at dksX8_shown_0 10 rfl rfl)
theorem dX8_shown_13 : decode cX8_shown 13 = .ok (.iload_n 1, 1) := dk_27 (dk_at dksX8_shown_0 13 rfl rfl)
theorem dX8_shown_14 : decode cX8_shown 14 = .ok (.iaload, 1) := dk_46 (dk_at dksX8_shown_0 14 rfl rfl)
theorem dX8_shown_15 : decode cX8_shown 15 = .ok (.iconst 1, 1) := dk_4 (dk_at dksX8_shown_0 15 rfl rfl)
theorem dX8_shown_16 : decode cX8_shown 16 = .ok (.isub, 1) := dk_100 (dk_at dksX8_shown_0 16 rfl rfl)
theorem dX8_shown_17 : decode cX8_shown 17 = .ok (.invokestatic 122, 3) := dk_184 0 122 (dk_at dksX8_shown_0 17 rfl rfl)
theorem dX8_shown_20 : decode cX8_shown 20 = .ok (.ifCond .eq 14, 3) := dk_153 0 14 (dk_at dksX8_shown_0 20 rfl rfl)
theorem dX8_shown_23 : decode cX8_shown 23 = .ok (.aload_n 0, 1) := dk_42 (dk_at dksX8_shown_0 23 rfl rfl)
theorem dX8_shown_24 : decode cX8_shown 24 = .ok (.iload_n 1, 1) := dk_27 (dk_at dksX8_shown_1 0 rfl rfl)
theorem dX8_shown_25 : decode cX8_shown 25 = .ok (.iconst 1, 1) := dk_4 (dk_at dksX8_shown_1 1 rfl rfl)
theorem dX8_shown_26 : decode cX8_shown 26 = .ok (.iload_n 2, 1) := dk_28 (dk_at dksX8_shown_1 2 rfl rfl)
theorem dX8_shown_27 : decode cX8_shown 27 = .ok (.ishl, 1) := dk_120 (dk_at dksX8_shown_1 3 rfl rfl)
theorem dX8_shown_28 : decode cX8_shown 28 = .ok (.invokevirtual 338, 3) := dk_182 1 82 (dk_at dksX8_shown_1 4 rfl rfl)
theorem dX8_shown_31 : decode cX8_shown 31 = .ok (.goto 4, 3) := dk_167 0 4 (dk_at dksX8_shown_1 7 rfl rfl)
theorem dX8_shown_34 : decode cX8_shown 34 = .ok (.iconst (-1), 1) := dk_2 (dk_at dksX8_shown_1 10 rfl rfl)
theorem dX8_shown_35 : decode cX8_shown 35 = .ok (.ireturn, 1) := dk_172 (dk_at dksX8_shown_1 11 rfl rfl)
abbrev cX8_least : ByteArray := prog_21_method_63_code
def yX8_least : MethodName := ⟨RX8, "least", "(II)I"⟩
def dkwX8_least_3 : List UInt8 := [167, 255, 205, 16, 252, 172]
abbrev dktX8_least_3 : List UInt8 := dkwX8_least_3 ++ []
def dkwX8_least_2 : List UInt8 := [154, 0, 11, 21, 4, 154, 0, 16, 167, 0, 11, 21, 4, 28, 126, 28, 160, 0, 5, 29, 172, 132, 3, 1]
abbrev dktX8_least_2 : List UInt8 := dkwX8_least_2 ++ dktX8_least_3
def dkwX8_least_1 : List UInt8 := [180, 1, 66, 120, 162, 0, 47, 42, 29, 182, 1, 75, 153, 0, 33, 42, 27, 29, 182, 1, 78, 54, 4, 28]
abbrev dktX8_least_1 : List UInt8 := dkwX8_least_1 ++ dktX8_least_2
def dkwX8_least_0 : List UInt8 := [42, 27, 182, 1, 69, 42, 180, 1, 66, 16, 10, 164, 0, 6, 16, 253, 172, 3, 62, 29, 4, 42]
abbrev dktX8_least_0 : List UInt8 := dkwX8_least_0 ++ dktX8_least_1
theorem dksX8_least_0 : cX8_least.data.toList.drop 0 = dktX8_least_0 := by decide +kernel
theorem dksX8_least_1 : cX8_least.data.toList.drop 22 = dktX8_least_1 := dk_seg dksX8_least_0 22 rfl rfl
theorem dksX8_least_2 : cX8_least.data.toList.drop 46 = dktX8_least_2 := dk_seg dksX8_least_1 24 rfl rfl
theorem dksX8_least_3 : cX8_least.data.toList.drop 70 = dktX8_least_3 := dk_seg dksX8_least_2 24 rfl rfl
theorem dX8_least_0 : decode cX8_least 0 = .ok (.aload_n 0, 1) := dk_42 (dk_at dksX8_least_0 0 rfl rfl)
theorem dX8_least_1 : decode cX8_least 1 = .ok (.iload_n 1, 1) := dk_27 (dk_at dksX8_least_0 1 rfl rfl)
theorem dX8_least_2 : decode cX8_least 2 = .ok (.invokevirtual 325, 3) := dk_182 1 69 (dk_at dksX8_least_0 2 rfl rfl)
theorem dX8_least_5 : decode cX8_least 5 = .ok (.aload_n 0, 1) := dk_42 (dk_at dksX8_least_0 5 rfl rfl)
theorem dX8_least_6 : decode cX8_least 6 = .ok (.getfield 322, 3) := dk_180 1 66 (dk_at dksX8_least_0 6 rfl rfl)
theorem dX8_least_9 : decode cX8_least 9 = .ok (.bipush 10, 2) := dk_16 10 (dk_at dksX8_least_0 9 rfl rfl)
theorem dX8_least_11 : decode cX8_least 11 = .ok (.if_icmp .le 6, 3) := dk_164 0 6 (dk_at dksX8_least_0 11 rfl rfl)
theorem dX8_least_14 : decode cX8_least 14 = .ok (.bipush (-3), 2) := dk_16 253 (dk_at dksX8_least_0 14 rfl rfl)
theorem dX8_least_16 : decode cX8_least 16 = .ok (.ireturn, 1) := dk_172 (dk_at dksX8_least_0 16 rfl rfl)
theorem dX8_least_17 : decode cX8_least 17 = .ok (.iconst 0, 1) := dk_3 (dk_at dksX8_least_0 17 rfl rfl)
theorem dX8_least_18 : decode cX8_least 18 = .ok (.istore_n 3, 1) := dk_62 (dk_at dksX8_least_0 18 rfl rfl)
theorem dX8_least_19 : decode cX8_least 19 = .ok (.iload_n 3, 1) := dk_29 (dk_at dksX8_least_0 19 rfl rfl)
theorem dX8_least_20 : decode cX8_least 20 = .ok (.iconst 1, 1) := dk_4 (dk_at dksX8_least_0 20 rfl rfl)
theorem dX8_least_21 : decode cX8_least 21 = .ok (.aload_n 0, 1) := dk_42 (dk_at dksX8_least_0 21 rfl rfl)
theorem dX8_least_22 : decode cX8_least 22 = .ok (.getfield 322, 3) := dk_180 1 66 (dk_at dksX8_least_1 0 rfl rfl)
theorem dX8_least_25 : decode cX8_least 25 = .ok (.ishl, 1) := dk_120 (dk_at dksX8_least_1 3 rfl rfl)
theorem dX8_least_26 : decode cX8_least 26 = .ok (.if_icmp .ge 47, 3) := dk_162 0 47 (dk_at dksX8_least_1 4 rfl rfl)
theorem dX8_least_29 : decode cX8_least 29 = .ok (.aload_n 0, 1) := dk_42 (dk_at dksX8_least_1 7 rfl rfl)
theorem dX8_least_30 : decode cX8_least 30 = .ok (.iload_n 3, 1) := dk_29 (dk_at dksX8_least_1 8 rfl rfl)
theorem dX8_least_31 : decode cX8_least 31 = .ok (.invokevirtual 331, 3) := dk_182 1 75 (dk_at dksX8_least_1 9 rfl rfl)
theorem dX8_least_34 : decode cX8_least 34 = .ok (.ifCond .eq 33, 3) := dk_153 0 33 (dk_at dksX8_least_1 12 rfl rfl)
theorem dX8_least_37 : decode cX8_least 37 = .ok (.aload_n 0, 1) := dk_42 (dk_at dksX8_least_1 15 rfl rfl)
theorem dX8_least_38 : decode cX8_least 38 = .ok (.iload_n 1, 1) := dk_27 (dk_at dksX8_least_1 16 rfl rfl)
theorem dX8_least_39 : decode cX8_least 39 = .ok (.iload_n 3, 1) := dk_29 (dk_at dksX8_least_1 17 rfl rfl)
theorem dX8_least_40 : decode cX8_least 40 = .ok (.invokevirtual 334, 3) := dk_182 1 78 (dk_at dksX8_least_1 18 rfl rfl)
theorem dX8_least_43 : decode cX8_least 43 = .ok (.istore 4, 2) := dk_54 4 (dk_at dksX8_least_1 21 rfl rfl)
theorem dX8_least_45 : decode cX8_least 45 = .ok (.iload_n 2, 1) := dk_28 (dk_at dksX8_least_1 23 rfl rfl)
theorem dX8_least_46 : decode cX8_least 46 = .ok (.ifCond .ne 11, 3) := dk_154 0 11 (dk_at dksX8_least_2 0 rfl rfl)
theorem dX8_least_49 : decode cX8_least 49 = .ok (.iload 4, 2) := dk_21 4 (dk_at dksX8_least_2 3 rfl rfl)
theorem dX8_least_51 : decode cX8_least 51 = .ok (.ifCond .ne 16, 3) := dk_154 0 16 (dk_at dksX8_least_2 5 rfl rfl)
theorem dX8_least_54 : decode cX8_least 54 = .ok (.goto 11, 3) := dk_167 0 11 (dk_at dksX8_least_2 8 rfl rfl)
theorem dX8_least_57 : decode cX8_least 57 = .ok (.iload 4, 2) := dk_21 4 (dk_at dksX8_least_2 11 rfl rfl)
theorem dX8_least_59 : decode cX8_least 59 = .ok (.iload_n 2, 1) := dk_28 (dk_at dksX8_least_2 13 rfl rfl)
theorem dX8_least_60 : decode cX8_least 60 = .ok (.iand, 1) := dk_126 (dk_at dksX8_least_2 14 rfl rfl)
theorem dX8_least_61 : decode cX8_least 61 = .ok (.iload_n 2, 1) := dk_28 (dk_at dksX8_least_2 15 rfl rfl)
theorem dX8_least_62 : decode cX8_least 62 = .ok (.if_icmp .ne 5, 3) := dk_160 0 5 (dk_at dksX8_least_2 16 rfl rfl)
theorem dX8_least_65 : decode cX8_least 65 = .ok (.iload_n 3, 1) := dk_29 (dk_at dksX8_least_2 19 rfl rfl)
theorem dX8_least_66 : decode cX8_least 66 = .ok (.ireturn, 1) := dk_172 (dk_at dksX8_least_2 20 rfl rfl)
theorem dX8_least_67 : decode cX8_least 67 = .ok (.iinc 3 1, 3) := dk_132 3 1 (dk_at dksX8_least_2 21 rfl rfl)
theorem dX8_least_70 : decode cX8_least 70 = .ok (.goto (-51), 3) := dk_167 255 205 (dk_at dksX8_least_3 0 rfl rfl)
theorem dX8_least_73 : decode cX8_least 73 = .ok (.bipush (-4), 2) := dk_16 252 (dk_at dksX8_least_3 3 rfl rfl)
theorem dX8_least_75 : decode cX8_least 75 = .ok (.ireturn, 1) := dk_172 (dk_at dksX8_least_3 5 rfl rfl)
abbrev cX8_isCase : ByteArray := prog_21_method_60_code
def yX8_isCase : MethodName := ⟨RX8, "isCase", "(I)Z"⟩
def dkwX8_isCase_7 : List UInt8 := [154, 0, 5, 3, 172, 132, 3, 1, 167, 255, 97, 132, 2, 1, 167, 255, 81, 4, 172]
abbrev dktX8_isCase_7 : List UInt8 := dkwX8_isCase_7 ++ []
def dkwX8_isCase_6 : List UInt8 := [21, 4, 153, 0, 8, 21, 5, 154, 0, 18, 21, 7, 153, 0, 15, 21, 5, 153, 0, 10, 21, 4]
abbrev dktX8_isCase_6 : List UInt8 := dkwX8_isCase_6 ++ dktX8_isCase_7
def dkwX8_isCase_5 : List UInt8 := [28, 46, 42, 180, 0, 119, 29, 46, 162, 0, 7, 4, 167, 0, 4, 3, 54, 7, 21, 6, 153, 0, 13]
abbrev dktX8_isCase_5 : List UInt8 := dkwX8_isCase_5 ++ dktX8_isCase_6
def dkwX8_isCase_4 : List UInt8 := [18, 154, 108, 6, 160, 0, 35, 42, 180, 0, 119, 29, 46, 18, 154, 108, 6, 160, 0, 22, 42, 180, 0, 119]
abbrev dktX8_isCase_4 : List UInt8 := dkwX8_isCase_4 ++ dktX8_isCase_5
def dkwX8_isCase_3 : List UInt8 := [180, 0, 119, 29, 46, 18, 154, 108, 154, 0, 7, 4, 167, 0, 4, 3, 54, 6, 42, 180, 0, 119, 28, 46]
abbrev dktX8_isCase_3 : List UInt8 := dkwX8_isCase_3 ++ dktX8_isCase_4
def dkwX8_isCase_2 : List UInt8 := [167, 0, 4, 3, 54, 5, 28, 29, 159, 0, 31, 42, 180, 0, 119, 28, 46, 18, 154, 108, 154, 0, 19, 42]
abbrev dktX8_isCase_2 : List UInt8 := dkwX8_isCase_2 ++ dktX8_isCase_3
def dkwX8_isCase_1 : List UInt8 := [126, 4, 160, 0, 7, 4, 167, 0, 4, 3, 54, 4, 27, 29, 122, 4, 126, 4, 160, 0, 7, 4]
abbrev dktX8_isCase_1 : List UInt8 := dkwX8_isCase_1 ++ dktX8_isCase_2
def dkwX8_isCase_0 : List UInt8 := [3, 61, 28, 42, 180, 1, 66, 162, 0, 173, 3, 62, 29, 42, 180, 1, 66, 162, 0, 157, 27, 28, 122, 4]
abbrev dktX8_isCase_0 : List UInt8 := dkwX8_isCase_0 ++ dktX8_isCase_1
theorem dksX8_isCase_0 : cX8_isCase.data.toList.drop 0 = dktX8_isCase_0 := by decide +kernel
theorem dksX8_isCase_1 : cX8_isCase.data.toList.drop 24 = dktX8_isCase_1 := dk_seg dksX8_isCase_0 24 rfl rfl
theorem dksX8_isCase_2 : cX8_isCase.data.toList.drop 46 = dktX8_isCase_2 := dk_seg dksX8_isCase_1 22 rfl rfl
theorem dksX8_isCase_3 : cX8_isCase.data.toList.drop 70 = dktX8_isCase_3 := dk_seg dksX8_isCase_2 24 rfl rfl
theorem dksX8_isCase_4 : cX8_isCase.data.toList.drop 94 = dktX8_isCase_4 := dk_seg dksX8_isCase_3 24 rfl rfl
theorem dksX8_isCase_5 : cX8_isCase.data.toList.drop 118 = dktX8_isCase_5 := dk_seg dksX8_isCase_4 24 rfl rfl
theorem dksX8_isCase_6 : cX8_isCase.data.toList.drop 141 = dktX8_isCase_6 := dk_seg dksX8_isCase_5 23 rfl rfl
theorem dksX8_isCase_7 : cX8_isCase.data.toList.drop 163 = dktX8_isCase_7 := dk_seg dksX8_isCase_6 22 rfl rfl
theorem dX8_isCase_0 : decode cX8_isCase 0 = .ok (.iconst 0, 1) := dk_3 (dk_at dksX8_isCase_0 0 rfl rfl)
theorem dX8_isCase_1 : decode cX8_isCase 1 = .ok (.istore_n 2, 1) := dk_61 (dk_at dksX8_isCase_0 1 rfl rfl)
theorem dX8_isCase_2 : decode cX8_isCase 2 = .ok (.iload_n 2, 1) := dk_28 (dk_at dksX8_isCase_0 2 rfl rfl)
theorem dX8_isCase_3 : decode cX8_isCase 3 = .ok (.aload_n 0, 1) := dk_42 (dk_at dksX8_isCase_0 3 rfl rfl)
theorem dX8_isCase_4 : decode cX8_isCase 4 = .ok (.getfield 322, 3) := dk_180 1 66 (dk_at dksX8_isCase_0 4 rfl rfl)
theorem dX8_isCase_7 : decode cX8_isCase 7 = .ok (.if_icmp .ge 173, 3) := dk_162 0 173 (dk_at dksX8_isCase_0 7 rfl rfl)
theorem dX8_isCase_10 : decode cX8_isCase 10 = .ok (.iconst 0, 1) := dk_3 (dk_at dksX8_isCase_0 10 rfl rfl)
theorem dX8_isCase_11 : decode cX8_isCase 11 = .ok (.istore_n 3, 1) := dk_62 (dk_at dksX8_isCase_0 11 rfl rfl)
theorem dX8_isCase_12 : decode cX8_isCase 12 = .ok (.iload_n 3, 1) := dk_29 (dk_at dksX8_isCase_0 12 rfl rfl)
theorem dX8_isCase_13 : decode cX8_isCase 13 = .ok (.aload_n 0, 1) := dk_42 (dk_at dksX8_isCase_0 13 rfl rfl)
theorem dX8_isCase_14 : decode cX8_isCase 14 = .ok (.getfield 322, 3) := dk_180 1 66 (dk_at dksX8_isCase_0 14 rfl rfl)
theorem dX8_isCase_17 : decode cX8_isCase 17 = .ok (.if_icmp .ge 157, 3) := dk_162 0 157 (dk_at dksX8_isCase_0 17 rfl rfl)
theorem dX8_isCase_20 : decode cX8_isCase 20 = .ok (.iload_n 1, 1) := dk_27 (dk_at dksX8_isCase_0 20 rfl rfl)
theorem dX8_isCase_21 : decode cX8_isCase 21 = .ok (.iload_n 2, 1) := dk_28 (dk_at dksX8_isCase_0 21 rfl rfl)
theorem dX8_isCase_22 : decode cX8_isCase 22 = .ok (.ishr, 1) := dk_122 (dk_at dksX8_isCase_0 22 rfl rfl)
theorem dX8_isCase_23 : decode cX8_isCase 23 = .ok (.iconst 1, 1) := dk_4 (dk_at dksX8_isCase_0 23 rfl rfl)
theorem dX8_isCase_24 : decode cX8_isCase 24 = .ok (.iand, 1) := dk_126 (dk_at dksX8_isCase_1 0 rfl rfl)
theorem dX8_isCase_25 : decode cX8_isCase 25 = .ok (.iconst 1, 1) := dk_4 (dk_at dksX8_isCase_1 1 rfl rfl)
theorem dX8_isCase_26 : decode cX8_isCase 26 = .ok (.if_icmp .ne 7, 3) := dk_160 0 7 (dk_at dksX8_isCase_1 2 rfl rfl)
theorem dX8_isCase_29 : decode cX8_isCase 29 = .ok (.iconst 1, 1) := dk_4 (dk_at dksX8_isCase_1 5 rfl rfl)
theorem dX8_isCase_30 : decode cX8_isCase 30 = .ok (.goto 4, 3) := dk_167 0 4 (dk_at dksX8_isCase_1 6 rfl rfl)
theorem dX8_isCase_33 : decode cX8_isCase 33 = .ok (.iconst 0, 1) := dk_3 (dk_at dksX8_isCase_1 9 rfl rfl)
theorem dX8_isCase_34 : decode cX8_isCase 34 = .ok (.istore 4, 2) := dk_54 4 (dk_at dksX8_isCase_1 10 rfl rfl)
theorem dX8_isCase_36 : decode cX8_isCase 36 = .ok (.iload_n 1, 1) := dk_27 (dk_at dksX8_isCase_1 12 rfl rfl)
theorem dX8_isCase_37 : decode cX8_isCase 37 = .ok (.iload_n 3, 1) := dk_29 (dk_at dksX8_isCase_1 13 rfl rfl)
theorem dX8_isCase_38 : decode cX8_isCase 38 = .ok (.ishr, 1) := dk_122 (dk_at dksX8_isCase_1 14 rfl rfl)
theorem dX8_isCase_39 : decode cX8_isCase 39 = .ok (.iconst 1, 1) := dk_4 (dk_at dksX8_isCase_1 15 rfl rfl)
theorem dX8_isCase_40 : decode cX8_isCase 40 = .ok (.iand, 1) := dk_126 (dk_at dksX8_isCase_1 16 rfl rfl)
theorem dX8_isCase_41 : decode cX8_isCase 41 = .ok (.iconst 1, 1) := dk_4 (dk_at dksX8_isCase_1 17 rfl rfl)
theorem dX8_isCase_42 : decode cX8_isCase 42 = .ok (.if_icmp .ne 7, 3) := dk_160 0 7 (dk_at dksX8_isCase_1 18 rfl rfl)
theorem dX8_isCase_45 : decode cX8_isCase 45 = .ok (.iconst 1, 1) := dk_4 (dk_at dksX8_isCase_1 21 rfl rfl)
theorem dX8_isCase_46 : decode cX8_isCase 46 = .ok (.goto 4, 3) := dk_167 0 4 (dk_at dksX8_isCase_2 0 rfl rfl)
theorem dX8_isCase_49 : decode cX8_isCase 49 = .ok (.iconst 0, 1) := dk_3 (dk_at dksX8_isCase_2 3 rfl rfl)
theorem dX8_isCase_50 : decode cX8_isCase 50 = .ok (.istore 5, 2) := dk_54 5 (dk_at dksX8_isCase_2 4 rfl rfl)
theorem dX8_isCase_52 : decode cX8_isCase 52 = .ok (.iload_n 2, 1) := dk_28 (dk_at dksX8_isCase_2 6 rfl rfl)
theorem dX8_isCase_53 : decode cX8_isCase 53 = .ok (.iload_n 3, 1) := dk_29 (dk_at dksX8_isCase_2 7 rfl rfl)
theorem dX8_isCase_54 : decode cX8_isCase 54 = .ok (.if_icmp .eq 31, 3) := dk_159 0 31 (dk_at dksX8_isCase_2 8 rfl rfl)
theorem dX8_isCase_57 : decode cX8_isCase 57 = .ok (.aload_n 0, 1) := dk_42 (dk_at dksX8_isCase_2 11 rfl rfl)
theorem dX8_isCase_58 : decode cX8_isCase 58 = .ok (.getfield 119, 3) := dk_180 0 119 (dk_at dksX8_isCase_2 12 rfl rfl)
theorem dX8_isCase_61 : decode cX8_isCase 61 = .ok (.iload_n 2, 1) := dk_28 (dk_at dksX8_isCase_2 15 rfl rfl)
theorem dX8_isCase_62 : decode cX8_isCase 62 = .ok (.iaload, 1) := dk_46 (dk_at dksX8_isCase_2 16 rfl rfl)
theorem dX8_isCase_63 : decode cX8_isCase 63 = .ok (.ldc 154, 2) := dk_18 154 (dk_at dksX8_isCase_2 17 rfl rfl)
theorem dX8_isCase_65 : decode cX8_isCase 65 = .ok (.idiv, 1) := dk_108 (dk_at dksX8_isCase_2 19 rfl rfl)
theorem dX8_isCase_66 : decode cX8_isCase 66 = .ok (.ifCond .ne 19, 3) := dk_154 0 19 (dk_at dksX8_isCase_2 20 rfl rfl)
theorem dX8_isCase_69 : decode cX8_isCase 69 = .ok (.aload_n 0, 1) := dk_42 (dk_at dksX8_isCase_2 23 rfl rfl)
theorem dX8_isCase_70 : decode cX8_isCase 70 = .ok (.getfield 119, 3) := dk_180 0 119 (dk_at dksX8_isCase_3 0 rfl rfl)
theorem dX8_isCase_73 : decode cX8_isCase 73 = .ok (.iload_n 3, 1) := dk_29 (dk_at dksX8_isCase_3 3 rfl rfl)
theorem dX8_isCase_74 : decode cX8_isCase 74 = .ok (.iaload, 1) := dk_46 (dk_at dksX8_isCase_3 4 rfl rfl)
theorem dX8_isCase_75 : decode cX8_isCase 75 = .ok (.ldc 154, 2) := dk_18 154 (dk_at dksX8_isCase_3 5 rfl rfl)
theorem dX8_isCase_77 : decode cX8_isCase 77 = .ok (.idiv, 1) := dk_108 (dk_at dksX8_isCase_3 7 rfl rfl)
theorem dX8_isCase_78 : decode cX8_isCase 78 = .ok (.ifCond .ne 7, 3) := dk_154 0 7 (dk_at dksX8_isCase_3 8 rfl rfl)
theorem dX8_isCase_81 : decode cX8_isCase 81 = .ok (.iconst 1, 1) := dk_4 (dk_at dksX8_isCase_3 11 rfl rfl)
theorem dX8_isCase_82 : decode cX8_isCase 82 = .ok (.goto 4, 3) := dk_167 0 4 (dk_at dksX8_isCase_3 12 rfl rfl)
theorem dX8_isCase_85 : decode cX8_isCase 85 = .ok (.iconst 0, 1) := dk_3 (dk_at dksX8_isCase_3 15 rfl rfl)
theorem dX8_isCase_86 : decode cX8_isCase 86 = .ok (.istore 6, 2) := dk_54 6 (dk_at dksX8_isCase_3 16 rfl rfl)
theorem dX8_isCase_88 : decode cX8_isCase 88 = .ok (.aload_n 0, 1) := dk_42 (dk_at dksX8_isCase_3 18 rfl rfl)
theorem dX8_isCase_89 : decode cX8_isCase 89 = .ok (.getfield 119, 3) := dk_180 0 119 (dk_at dksX8_isCase_3 19 rfl rfl)
theorem dX8_isCase_92 : decode cX8_isCase 92 = .ok (.iload_n 2, 1) := dk_28 (dk_at dksX8_isCase_3 22 rfl rfl)
theorem dX8_isCase_93 : decode cX8_isCase 93 = .ok (.iaload, 1) := dk_46 (dk_at dksX8_isCase_3 23 rfl rfl)
theorem dX8_isCase_94 : decode cX8_isCase 94 = .ok (.ldc 154, 2) := dk_18 154 (dk_at dksX8_isCase_4 0 rfl rfl)
theorem dX8_isCase_96 : decode cX8_isCase 96 = .ok (.idiv, 1) := dk_108 (dk_at dksX8_isCase_4 2 rfl rfl)
theorem dX8_isCase_97 : decode cX8_isCase 97 = .ok (.iconst 3, 1) := dk_6 (dk_at dksX8_isCase_4 3 rfl rfl)
theorem dX8_isCase_98 : decode cX8_isCase 98 = .ok (.if_icmp .ne 35, 3) := dk_160 0 35 (dk_at dksX8_isCase_4 4 rfl rfl)
theorem dX8_isCase_101 : decode cX8_isCase 101 = .ok (.aload_n 0, 1) := dk_42 (dk_at dksX8_isCase_4 7 rfl rfl)
theorem dX8_isCase_102 : decode cX8_isCase 102 = .ok (.getfield 119, 3) := dk_180 0 119 (dk_at dksX8_isCase_4 8 rfl rfl)
theorem dX8_isCase_105 : decode cX8_isCase 105 = .ok (.iload_n 3, 1) := dk_29 (dk_at dksX8_isCase_4 11 rfl rfl)
theorem dX8_isCase_106 : decode cX8_isCase 106 = .ok (.iaload, 1) := dk_46 (dk_at dksX8_isCase_4 12 rfl rfl)
theorem dX8_isCase_107 : decode cX8_isCase 107 = .ok (.ldc 154, 2) := dk_18 154 (dk_at dksX8_isCase_4 13 rfl rfl)
theorem dX8_isCase_109 : decode cX8_isCase 109 = .ok (.idiv, 1) := dk_108 (dk_at dksX8_isCase_4 15 rfl rfl)
theorem dX8_isCase_110 : decode cX8_isCase 110 = .ok (.iconst 3, 1) := dk_6 (dk_at dksX8_isCase_4 16 rfl rfl)
theorem dX8_isCase_111 : decode cX8_isCase 111 = .ok (.if_icmp .ne 22, 3) := dk_160 0 22 (dk_at dksX8_isCase_4 17 rfl rfl)
theorem dX8_isCase_114 : decode cX8_isCase 114 = .ok (.aload_n 0, 1) := dk_42 (dk_at dksX8_isCase_4 20 rfl rfl)
theorem dX8_isCase_115 : decode cX8_isCase 115 = .ok (.getfield 119, 3) := dk_180 0 119 (dk_at dksX8_isCase_4 21 rfl rfl)
theorem dX8_isCase_118 : decode cX8_isCase 118 = .ok (.iload_n 2, 1) := dk_28 (dk_at dksX8_isCase_5 0 rfl rfl)
theorem dX8_isCase_119 : decode cX8_isCase 119 = .ok (.iaload, 1) := dk_46 (dk_at dksX8_isCase_5 1 rfl rfl)
theorem dX8_isCase_120 : decode cX8_isCase 120 = .ok (.aload_n 0, 1) := dk_42 (dk_at dksX8_isCase_5 2 rfl rfl)
theorem dX8_isCase_121 : decode cX8_isCase 121 = .ok (.getfield 119, 3) := dk_180 0 119 (dk_at dksX8_isCase_5 3 rfl rfl)
theorem dX8_isCase_124 : decode cX8_isCase 124 = .ok (.iload_n 3, 1) := dk_29 (dk_at dksX8_isCase_5 6 rfl rfl)
theorem dX8_isCase_125 : decode cX8_isCase 125 = .ok (.iaload, 1) := dk_46 (dk_at dksX8_isCase_5 7 rfl rfl)
theorem dX8_isCase_126 : decode cX8_isCase 126 = .ok (.if_icmp .ge 7, 3) := dk_162 0 7 (dk_at dksX8_isCase_5 8 rfl rfl)
theorem dX8_isCase_129 : decode cX8_isCase 129 = .ok (.iconst 1, 1) := dk_4 (dk_at dksX8_isCase_5 11 rfl rfl)
theorem dX8_isCase_130 : decode cX8_isCase 130 = .ok (.goto 4, 3) := dk_167 0 4 (dk_at dksX8_isCase_5 12 rfl rfl)
theorem dX8_isCase_133 : decode cX8_isCase 133 = .ok (.iconst 0, 1) := dk_3 (dk_at dksX8_isCase_5 15 rfl rfl)
theorem dX8_isCase_134 : decode cX8_isCase 134 = .ok (.istore 7, 2) := dk_54 7 (dk_at dksX8_isCase_5 16 rfl rfl)
theorem dX8_isCase_136 : decode cX8_isCase 136 = .ok (.iload 6, 2) := dk_21 6 (dk_at dksX8_isCase_5 18 rfl rfl)
theorem dX8_isCase_138 : decode cX8_isCase 138 = .ok (.ifCond .eq 13, 3) := dk_153 0 13 (dk_at dksX8_isCase_5 20 rfl rfl)
theorem dX8_isCase_141 : decode cX8_isCase 141 = .ok (.iload 4, 2) := dk_21 4 (dk_at dksX8_isCase_6 0 rfl rfl)
theorem dX8_isCase_143 : decode cX8_isCase 143 = .ok (.ifCond .eq 8, 3) := dk_153 0 8 (dk_at dksX8_isCase_6 2 rfl rfl)
theorem dX8_isCase_146 : decode cX8_isCase 146 = .ok (.iload 5, 2) := dk_21 5 (dk_at dksX8_isCase_6 5 rfl rfl)
theorem dX8_isCase_148 : decode cX8_isCase 148 = .ok (.ifCond .ne 18, 3) := dk_154 0 18 (dk_at dksX8_isCase_6 7 rfl rfl)
theorem dX8_isCase_151 : decode cX8_isCase 151 = .ok (.iload 7, 2) := dk_21 7 (dk_at dksX8_isCase_6 10 rfl rfl)
theorem dX8_isCase_153 : decode cX8_isCase 153 = .ok (.ifCond .eq 15, 3) := dk_153 0 15 (dk_at dksX8_isCase_6 12 rfl rfl)
theorem dX8_isCase_156 : decode cX8_isCase 156 = .ok (.iload 5, 2) := dk_21 5 (dk_at dksX8_isCase_6 15 rfl rfl)
theorem dX8_isCase_158 : decode cX8_isCase 158 = .ok (.ifCond .eq 10, 3) := dk_153 0 10 (dk_at dksX8_isCase_6 17 rfl rfl)
theorem dX8_isCase_161 : decode cX8_isCase 161 = .ok (.iload 4, 2) := dk_21 4 (dk_at dksX8_isCase_6 20 rfl rfl)
theorem dX8_isCase_163 : decode cX8_isCase 163 = .ok (.ifCond .ne 5, 3) := dk_154 0 5 (dk_at dksX8_isCase_7 0 rfl rfl)
theorem dX8_isCase_166 : decode cX8_isCase 166 = .ok (.iconst 0, 1) := dk_3 (dk_at dksX8_isCase_7 3 rfl rfl)
theorem dX8_isCase_167 : decode cX8_isCase 167 = .ok (.ireturn, 1) := dk_172 (dk_at dksX8_isCase_7 4 rfl rfl)
theorem dX8_isCase_168 : decode cX8_isCase 168 = .ok (.iinc 3 1, 3) := dk_132 3 1 (dk_at dksX8_isCase_7 5 rfl rfl)
theorem dX8_isCase_171 : decode cX8_isCase 171 = .ok (.goto (-159), 3) := dk_167 255 97 (dk_at dksX8_isCase_7 8 rfl rfl)
theorem dX8_isCase_174 : decode cX8_isCase 174 = .ok (.iinc 2 1, 3) := dk_132 2 1 (dk_at dksX8_isCase_7 11 rfl rfl)
theorem dX8_isCase_177 : decode cX8_isCase 177 = .ok (.goto (-175), 3) := dk_167 255 81 (dk_at dksX8_isCase_7 14 rfl rfl)
theorem dX8_isCase_180 : decode cX8_isCase 180 = .ok (.iconst 1, 1) := dk_4 (dk_at dksX8_isCase_7 17 rfl rfl)
theorem dX8_isCase_181 : decode cX8_isCase 181 = .ok (.ireturn, 1) := dk_172 (dk_at dksX8_isCase_7 18 rfl rfl)
abbrev cX8_actIn : ByteArray := prog_21_method_62_code
def yX8_actIn : MethodName := ⟨RX8, "actIn", "(II)I"⟩
def dkwX8_actIn_2 : List UInt8 := [120, 128, 62, 42, 27, 21, 5, 182, 1, 72, 54, 4, 132, 5, 1, 167, 255, 211, 29, 172]
abbrev dktX8_actIn_2 : List UInt8 := dkwX8_actIn_2 ++ []
def dkwX8_actIn_1 : List UInt8 := [27, 46, 162, 0, 40, 21, 4, 154, 0, 35, 42, 27, 21, 5, 182, 1, 4, 153, 0, 19, 29, 4, 21, 5]
abbrev dktX8_actIn_1 : List UInt8 := dkwX8_actIn_1 ++ dktX8_actIn_2
def dkwX8_actIn_0 : List UInt8 := [3, 62, 3, 54, 4, 42, 4, 181, 0, 196, 42, 28, 181, 0, 200, 3, 54, 5, 21, 5, 42, 180, 0, 13]
abbrev dktX8_actIn_0 : List UInt8 := dkwX8_actIn_0 ++ dktX8_actIn_1
theorem dksX8_actIn_0 : cX8_actIn.data.toList.drop 0 = dktX8_actIn_0 := by decide +kernel
theorem dksX8_actIn_1 : cX8_actIn.data.toList.drop 24 = dktX8_actIn_1 := dk_seg dksX8_actIn_0 24 rfl rfl
theorem dksX8_actIn_2 : cX8_actIn.data.toList.drop 48 = dktX8_actIn_2 := dk_seg dksX8_actIn_1 24 rfl rfl
theorem dX8_actIn_0 : decode cX8_actIn 0 = .ok (.iconst 0, 1) := dk_3 (dk_at dksX8_actIn_0 0 rfl rfl)
theorem dX8_actIn_1 : decode cX8_actIn 1 = .ok (.istore_n 3, 1) := dk_62 (dk_at dksX8_actIn_0 1 rfl rfl)
theorem dX8_actIn_2 : decode cX8_actIn 2 = .ok (.iconst 0, 1) := dk_3 (dk_at dksX8_actIn_0 2 rfl rfl)
theorem dX8_actIn_3 : decode cX8_actIn 3 = .ok (.istore 4, 2) := dk_54 4 (dk_at dksX8_actIn_0 3 rfl rfl)
theorem dX8_actIn_5 : decode cX8_actIn 5 = .ok (.aload_n 0, 1) := dk_42 (dk_at dksX8_actIn_0 5 rfl rfl)
theorem dX8_actIn_6 : decode cX8_actIn 6 = .ok (.iconst 1, 1) := dk_4 (dk_at dksX8_actIn_0 6 rfl rfl)
theorem dX8_actIn_7 : decode cX8_actIn 7 = .ok (.putfield 196, 3) := dk_181 0 196 (dk_at dksX8_actIn_0 7 rfl rfl)
theorem dX8_actIn_10 : decode cX8_actIn 10 = .ok (.aload_n 0, 1) := dk_42 (dk_at dksX8_actIn_0 10 rfl rfl)
theorem dX8_actIn_11 : decode cX8_actIn 11 = .ok (.iload_n 2, 1) := dk_28 (dk_at dksX8_actIn_0 11 rfl rfl)
theorem dX8_actIn_12 : decode cX8_actIn 12 = .ok (.putfield 200, 3) := dk_181 0 200 (dk_at dksX8_actIn_0 12 rfl rfl)
theorem dX8_actIn_15 : decode cX8_actIn 15 = .ok (.iconst 0, 1) := dk_3 (dk_at dksX8_actIn_0 15 rfl rfl)
theorem dX8_actIn_16 : decode cX8_actIn 16 = .ok (.istore 5, 2) := dk_54 5 (dk_at dksX8_actIn_0 16 rfl rfl)
theorem dX8_actIn_18 : decode cX8_actIn 18 = .ok (.iload 5, 2) := dk_21 5 (dk_at dksX8_actIn_0 18 rfl rfl)
theorem dX8_actIn_20 : decode cX8_actIn 20 = .ok (.aload_n 0, 1) := dk_42 (dk_at dksX8_actIn_0 20 rfl rfl)
theorem dX8_actIn_21 : decode cX8_actIn 21 = .ok (.getfield 13, 3) := dk_180 0 13 (dk_at dksX8_actIn_0 21 rfl rfl)
theorem dX8_actIn_24 : decode cX8_actIn 24 = .ok (.iload_n 1, 1) := dk_27 (dk_at dksX8_actIn_1 0 rfl rfl)
theorem dX8_actIn_25 : decode cX8_actIn 25 = .ok (.iaload, 1) := dk_46 (dk_at dksX8_actIn_1 1 rfl rfl)
theorem dX8_actIn_26 : decode cX8_actIn 26 = .ok (.if_icmp .ge 40, 3) := dk_162 0 40 (dk_at dksX8_actIn_1 2 rfl rfl)
theorem dX8_actIn_29 : decode cX8_actIn 29 = .ok (.iload 4, 2) := dk_21 4 (dk_at dksX8_actIn_1 5 rfl rfl)
theorem dX8_actIn_31 : decode cX8_actIn 31 = .ok (.ifCond .ne 35, 3) := dk_154 0 35 (dk_at dksX8_actIn_1 7 rfl rfl)
theorem dX8_actIn_34 : decode cX8_actIn 34 = .ok (.aload_n 0, 1) := dk_42 (dk_at dksX8_actIn_1 10 rfl rfl)
theorem dX8_actIn_35 : decode cX8_actIn 35 = .ok (.iload_n 1, 1) := dk_27 (dk_at dksX8_actIn_1 11 rfl rfl)
theorem dX8_actIn_36 : decode cX8_actIn 36 = .ok (.iload 5, 2) := dk_21 5 (dk_at dksX8_actIn_1 12 rfl rfl)
theorem dX8_actIn_38 : decode cX8_actIn 38 = .ok (.invokevirtual 260, 3) := dk_182 1 4 (dk_at dksX8_actIn_1 14 rfl rfl)
theorem dX8_actIn_41 : decode cX8_actIn 41 = .ok (.ifCond .eq 19, 3) := dk_153 0 19 (dk_at dksX8_actIn_1 17 rfl rfl)
theorem dX8_actIn_44 : decode cX8_actIn 44 = .ok (.iload_n 3, 1) := dk_29 (dk_at dksX8_actIn_1 20 rfl rfl)
theorem dX8_actIn_45 : decode cX8_actIn 45 = .ok (.iconst 1, 1) := dk_4 (dk_at dksX8_actIn_1 21 rfl rfl)
theorem dX8_actIn_46 : decode cX8_actIn 46 = .ok (.iload 5, 2) := dk_21 5 (dk_at dksX8_actIn_1 22 rfl rfl)
theorem dX8_actIn_48 : decode cX8_actIn 48 = .ok (.ishl, 1) := dk_120 (dk_at dksX8_actIn_2 0 rfl rfl)
theorem dX8_actIn_49 : decode cX8_actIn 49 = .ok (.ior, 1) := dk_128 (dk_at dksX8_actIn_2 1 rfl rfl)
theorem dX8_actIn_50 : decode cX8_actIn 50 = .ok (.istore_n 3, 1) := dk_62 (dk_at dksX8_actIn_2 2 rfl rfl)
theorem dX8_actIn_51 : decode cX8_actIn 51 = .ok (.aload_n 0, 1) := dk_42 (dk_at dksX8_actIn_2 3 rfl rfl)
theorem dX8_actIn_52 : decode cX8_actIn 52 = .ok (.iload_n 1, 1) := dk_27 (dk_at dksX8_actIn_2 4 rfl rfl)
theorem dX8_actIn_53 : decode cX8_actIn 53 = .ok (.iload 5, 2) := dk_21 5 (dk_at dksX8_actIn_2 5 rfl rfl)
theorem dX8_actIn_55 : decode cX8_actIn 55 = .ok (.invokevirtual 328, 3) := dk_182 1 72 (dk_at dksX8_actIn_2 7 rfl rfl)
theorem dX8_actIn_58 : decode cX8_actIn 58 = .ok (.istore 4, 2) := dk_54 4 (dk_at dksX8_actIn_2 10 rfl rfl)
theorem dX8_actIn_60 : decode cX8_actIn 60 = .ok (.iinc 5 1, 3) := dk_132 5 1 (dk_at dksX8_actIn_2 12 rfl rfl)
theorem dX8_actIn_63 : decode cX8_actIn 63 = .ok (.goto (-45), 3) := dk_167 255 211 (dk_at dksX8_actIn_2 15 rfl rfl)
theorem dX8_actIn_66 : decode cX8_actIn 66 = .ok (.iload_n 3, 1) := dk_29 (dk_at dksX8_actIn_2 18 rfl rfl)
theorem dX8_actIn_67 : decode cX8_actIn 67 = .ok (.ireturn, 1) := dk_172 (dk_at dksX8_actIn_2 19 rfl rfl)
abbrev cX8_hasStop : ByteArray := prog_21_method_61_code
def yX8_hasStop : MethodName := ⟨RX8, "hasStop", "(II)Z"⟩
def dkwX8_hasStop_2 : List UInt8 := [4, 167, 0, 4, 3, 62, 132, 4, 1, 167, 255, 206, 29, 172]
abbrev dktX8_hasStop_2 : List UInt8 := dkwX8_hasStop_2 ++ []
def dkwX8_hasStop_1 : List UInt8 := [154, 0, 24, 42, 180, 0, 22, 16, 24, 27, 104, 7, 28, 104, 96, 21, 4, 96, 46, 16, 10, 160, 0, 7]
abbrev dktX8_hasStop_1 : List UInt8 := dkwX8_hasStop_1 ++ dktX8_hasStop_2
def dkwX8_hasStop_0 : List UInt8 := [3, 62, 3, 54, 4, 21, 4, 42, 180, 0, 25, 16, 6, 27, 104, 28, 96, 46, 162, 0, 40, 29]
abbrev dktX8_hasStop_0 : List UInt8 := dkwX8_hasStop_0 ++ dktX8_hasStop_1
theorem dksX8_hasStop_0 : cX8_hasStop.data.toList.drop 0 = dktX8_hasStop_0 := by decide +kernel
theorem dksX8_hasStop_1 : cX8_hasStop.data.toList.drop 22 = dktX8_hasStop_1 := dk_seg dksX8_hasStop_0 22 rfl rfl
theorem dksX8_hasStop_2 : cX8_hasStop.data.toList.drop 46 = dktX8_hasStop_2 := dk_seg dksX8_hasStop_1 24 rfl rfl
theorem dX8_hasStop_0 : decode cX8_hasStop 0 = .ok (.iconst 0, 1) := dk_3 (dk_at dksX8_hasStop_0 0 rfl rfl)
theorem dX8_hasStop_1 : decode cX8_hasStop 1 = .ok (.istore_n 3, 1) := dk_62 (dk_at dksX8_hasStop_0 1 rfl rfl)
theorem dX8_hasStop_2 : decode cX8_hasStop 2 = .ok (.iconst 0, 1) := dk_3 (dk_at dksX8_hasStop_0 2 rfl rfl)
theorem dX8_hasStop_3 : decode cX8_hasStop 3 = .ok (.istore 4, 2) := dk_54 4 (dk_at dksX8_hasStop_0 3 rfl rfl)
theorem dX8_hasStop_5 : decode cX8_hasStop 5 = .ok (.iload 4, 2) := dk_21 4 (dk_at dksX8_hasStop_0 5 rfl rfl)
theorem dX8_hasStop_7 : decode cX8_hasStop 7 = .ok (.aload_n 0, 1) := dk_42 (dk_at dksX8_hasStop_0 7 rfl rfl)
theorem dX8_hasStop_8 : decode cX8_hasStop 8 = .ok (.getfield 25, 3) := dk_180 0 25 (dk_at dksX8_hasStop_0 8 rfl rfl)
theorem dX8_hasStop_11 : decode cX8_hasStop 11 = .ok (.bipush 6, 2) := dk_16 6 (dk_at dksX8_hasStop_0 11 rfl rfl)
theorem dX8_hasStop_13 : decode cX8_hasStop 13 = .ok (.iload_n 1, 1) := dk_27 (dk_at dksX8_hasStop_0 13 rfl rfl)
theorem dX8_hasStop_14 : decode cX8_hasStop 14 = .ok (.imul, 1) := dk_104 (dk_at dksX8_hasStop_0 14 rfl rfl)
theorem dX8_hasStop_15 : decode cX8_hasStop 15 = .ok (.iload_n 2, 1) := dk_28 (dk_at dksX8_hasStop_0 15 rfl rfl)
theorem dX8_hasStop_16 : decode cX8_hasStop 16 = .ok (.iadd, 1) := dk_96 (dk_at dksX8_hasStop_0 16 rfl rfl)
theorem dX8_hasStop_17 : decode cX8_hasStop 17 = .ok (.iaload, 1) := dk_46 (dk_at dksX8_hasStop_0 17 rfl rfl)
theorem dX8_hasStop_18 : decode cX8_hasStop 18 = .ok (.if_icmp .ge 40, 3) := dk_162 0 40 (dk_at dksX8_hasStop_0 18 rfl rfl)
theorem dX8_hasStop_21 : decode cX8_hasStop 21 = .ok (.iload_n 3, 1) := dk_29 (dk_at dksX8_hasStop_0 21 rfl rfl)
theorem dX8_hasStop_22 : decode cX8_hasStop 22 = .ok (.ifCond .ne 24, 3) := dk_154 0 24 (dk_at dksX8_hasStop_1 0 rfl rfl)
theorem dX8_hasStop_25 : decode cX8_hasStop 25 = .ok (.aload_n 0, 1) := dk_42 (dk_at dksX8_hasStop_1 3 rfl rfl)
theorem dX8_hasStop_26 : decode cX8_hasStop 26 = .ok (.getfield 22, 3) := dk_180 0 22 (dk_at dksX8_hasStop_1 4 rfl rfl)
theorem dX8_hasStop_29 : decode cX8_hasStop 29 = .ok (.bipush 24, 2) := dk_16 24 (dk_at dksX8_hasStop_1 7 rfl rfl)
theorem dX8_hasStop_31 : decode cX8_hasStop 31 = .ok (.iload_n 1, 1) := dk_27 (dk_at dksX8_hasStop_1 9 rfl rfl)
theorem dX8_hasStop_32 : decode cX8_hasStop 32 = .ok (.imul, 1) := dk_104 (dk_at dksX8_hasStop_1 10 rfl rfl)
theorem dX8_hasStop_33 : decode cX8_hasStop 33 = .ok (.iconst 4, 1) := dk_7 (dk_at dksX8_hasStop_1 11 rfl rfl)
theorem dX8_hasStop_34 : decode cX8_hasStop 34 = .ok (.iload_n 2, 1) := dk_28 (dk_at dksX8_hasStop_1 12 rfl rfl)
theorem dX8_hasStop_35 : decode cX8_hasStop 35 = .ok (.imul, 1) := dk_104 (dk_at dksX8_hasStop_1 13 rfl rfl)
theorem dX8_hasStop_36 : decode cX8_hasStop 36 = .ok (.iadd, 1) := dk_96 (dk_at dksX8_hasStop_1 14 rfl rfl)
theorem dX8_hasStop_37 : decode cX8_hasStop 37 = .ok (.iload 4, 2) := dk_21 4 (dk_at dksX8_hasStop_1 15 rfl rfl)
theorem dX8_hasStop_39 : decode cX8_hasStop 39 = .ok (.iadd, 1) := dk_96 (dk_at dksX8_hasStop_1 17 rfl rfl)
theorem dX8_hasStop_40 : decode cX8_hasStop 40 = .ok (.iaload, 1) := dk_46 (dk_at dksX8_hasStop_1 18 rfl rfl)
theorem dX8_hasStop_41 : decode cX8_hasStop 41 = .ok (.bipush 10, 2) := dk_16 10 (dk_at dksX8_hasStop_1 19 rfl rfl)
theorem dX8_hasStop_43 : decode cX8_hasStop 43 = .ok (.if_icmp .ne 7, 3) := dk_160 0 7 (dk_at dksX8_hasStop_1 21 rfl rfl)
theorem dX8_hasStop_46 : decode cX8_hasStop 46 = .ok (.iconst 1, 1) := dk_4 (dk_at dksX8_hasStop_2 0 rfl rfl)
theorem dX8_hasStop_47 : decode cX8_hasStop 47 = .ok (.goto 4, 3) := dk_167 0 4 (dk_at dksX8_hasStop_2 1 rfl rfl)
theorem dX8_hasStop_50 : decode cX8_hasStop 50 = .ok (.iconst 0, 1) := dk_3 (dk_at dksX8_hasStop_2 4 rfl rfl)
theorem dX8_hasStop_51 : decode cX8_hasStop 51 = .ok (.istore_n 3, 1) := dk_62 (dk_at dksX8_hasStop_2 5 rfl rfl)
theorem dX8_hasStop_52 : decode cX8_hasStop 52 = .ok (.iinc 4 1, 3) := dk_132 4 1 (dk_at dksX8_hasStop_2 6 rfl rfl)
theorem dX8_hasStop_55 : decode cX8_hasStop 55 = .ok (.goto (-50), 3) := dk_167 255 206 (dk_at dksX8_hasStop_2 9 rfl rfl)
theorem dX8_hasStop_58 : decode cX8_hasStop 58 = .ok (.iload_n 3, 1) := dk_29 (dk_at dksX8_hasStop_2 12 rfl rfl)
theorem dX8_hasStop_59 : decode cX8_hasStop 59 = .ok (.ireturn, 1) := dk_172 (dk_at dksX8_hasStop_2 13 rfl rfl)
abbrev cX8_bare : ByteArray := prog_21_method_65_code
def yX8_bare : MethodName := ⟨RX8, "bare", "(I)I"⟩
def dkwX8_bare_1 : List UInt8 := [167, 0, 4, 2, 172]
abbrev dktX8_bare_1 : List UInt8 := dkwX8_bare_1 ++ []
def dkwX8_bare_0 : List UInt8 := [27, 184, 0, 186, 153, 0, 21, 42, 180, 0, 13, 27, 46, 158, 0, 12, 42, 27, 3, 182, 1, 82]
abbrev dktX8_bare_0 : List UInt8 := dkwX8_bare_0 ++ dktX8_bare_1
theorem dksX8_bare_0 : cX8_bare.data.toList.drop 0 = dktX8_bare_0 := by decide +kernel
theorem dksX8_bare_1 : cX8_bare.data.toList.drop 22 = dktX8_bare_1 := dk_seg dksX8_bare_0 22 rfl rfl
theorem dX8_bare_0 : decode cX8_bare 0 = .ok (.iload_n 1, 1) := dk_27 (dk_at dksX8_bare_0 0 rfl rfl)
theorem dX8_bare_1 : decode cX8_bare 1 = .ok (.invokestatic 186, 3) := dk_184 0 186 (dk_at dksX8_bare_0 1 rfl rfl)
theorem dX8_bare_4 : decode cX8_bare 4 = .ok (.ifCond .eq 21, 3) := dk_153 0 21 (dk_at dksX8_bare_0 4 rfl rfl)
theorem dX8_bare_7 : decode cX8_bare 7 = .ok (.aload_n 0, 1) := dk_42 (dk_at dksX8_bare_0 7 rfl rfl)
theorem dX8_bare_8 : decode cX8_bare 8 = .ok (.getfield 13, 3) := dk_180 0 13 (dk_at dksX8_bare_0 8 rfl rfl)
theorem dX8_bare_11 : decode cX8_bare 11 = .ok (.iload_n 1, 1) := dk_27 (dk_at dksX8_bare_0 11 rfl rfl)
theorem dX8_bare_12 : decode cX8_bare 12 = .ok (.iaload, 1) := dk_46 (dk_at dksX8_bare_0 12 rfl rfl)
theorem dX8_bare_13 : decode cX8_bare 13 = .ok (.ifCond .le 12, 3) := dk_158 0 12 (dk_at dksX8_bare_0 13 rfl rfl)
theorem dX8_bare_16 : decode cX8_bare 16 = .ok (.aload_n 0, 1) := dk_42 (dk_at dksX8_bare_0 16 rfl rfl)
theorem dX8_bare_17 : decode cX8_bare 17 = .ok (.iload_n 1, 1) := dk_27 (dk_at dksX8_bare_0 17 rfl rfl)
theorem dX8_bare_18 : decode cX8_bare 18 = .ok (.iconst 0, 1) := dk_3 (dk_at dksX8_bare_0 18 rfl rfl)
theorem dX8_bare_19 : decode cX8_bare 19 = .ok (.invokevirtual 338, 3) := dk_182 1 82 (dk_at dksX8_bare_0 19 rfl rfl)
theorem dX8_bare_22 : decode cX8_bare 22 = .ok (.goto 4, 3) := dk_167 0 4 (dk_at dksX8_bare_1 0 rfl rfl)
theorem dX8_bare_25 : decode cX8_bare 25 = .ok (.iconst (-1), 1) := dk_2 (dk_at dksX8_bare_1 3 rfl rfl)
theorem dX8_bare_26 : decode cX8_bare 26 = .ok (.ireturn, 1) := dk_172 (dk_at dksX8_bare_1 4 rfl rfl)
abbrev cX8_quarrel : ByteArray := prog_21_method_67_code
def yX8_quarrel : MethodName := ⟨RX8, "quarrel", "(III)I"⟩
def dkwX8_quarrel_4 : List UInt8 := [167, 0, 5, 21, 4, 172]
abbrev dktX8_quarrel_4 : List UInt8 := dkwX8_quarrel_4 ++ []
def dkwX8_quarrel_3 : List UInt8 := [159, 0, 25, 21, 5, 153, 0, 15, 21, 6, 153, 0, 10, 21, 5, 21, 6, 160, 0, 8, 16, 252]
abbrev dktX8_quarrel_3 : List UInt8 := dkwX8_quarrel_3 ++ dktX8_quarrel_4
def dkwX8_quarrel_2 : List UInt8 := [54, 4, 42, 27, 28, 182, 1, 85, 54, 5, 42, 27, 29, 182, 1, 85, 54, 6, 21, 4, 16, 253]
abbrev dktX8_quarrel_2 : List UInt8 := dkwX8_quarrel_2 ++ dktX8_quarrel_3
def dkwX8_quarrel_1 : List UInt8 := [3, 29, 4, 100, 184, 0, 122, 154, 0, 5, 2, 172, 42, 27, 4, 28, 120, 4, 29, 120, 128, 182, 1, 82]
abbrev dktX8_quarrel_1 : List UInt8 := dkwX8_quarrel_1 ++ dktX8_quarrel_2
def dkwX8_quarrel_0 : List UInt8 := [27, 184, 0, 186, 153, 0, 30, 29, 4, 42, 180, 0, 13, 27, 46, 4, 100, 184, 0, 122, 153, 0, 14, 28]
abbrev dktX8_quarrel_0 : List UInt8 := dkwX8_quarrel_0 ++ dktX8_quarrel_1
theorem dksX8_quarrel_0 : cX8_quarrel.data.toList.drop 0 = dktX8_quarrel_0 := by decide +kernel
theorem dksX8_quarrel_1 : cX8_quarrel.data.toList.drop 24 = dktX8_quarrel_1 := dk_seg dksX8_quarrel_0 24 rfl rfl
theorem dksX8_quarrel_2 : cX8_quarrel.data.toList.drop 48 = dktX8_quarrel_2 := dk_seg dksX8_quarrel_1 24 rfl rfl
theorem dksX8_quarrel_3 : cX8_quarrel.data.toList.drop 70 = dktX8_quarrel_3 := dk_seg dksX8_quarrel_2 22 rfl rfl
theorem dksX8_quarrel_4 : cX8_quarrel.data.toList.drop 92 = dktX8_quarrel_4 := dk_seg dksX8_quarrel_3 22 rfl rfl
theorem dX8_quarrel_0 : decode cX8_quarrel 0 = .ok (.iload_n 1, 1) := dk_27 (dk_at dksX8_quarrel_0 0 rfl rfl)
theorem dX8_quarrel_1 : decode cX8_quarrel 1 = .ok (.invokestatic 186, 3) := dk_184 0 186 (dk_at dksX8_quarrel_0 1 rfl rfl)
theorem dX8_quarrel_4 : decode cX8_quarrel 4 = .ok (.ifCond .eq 30, 3) := dk_153 0 30 (dk_at dksX8_quarrel_0 4 rfl rfl)
theorem dX8_quarrel_7 : decode cX8_quarrel 7 = .ok (.iload_n 3, 1) := dk_29 (dk_at dksX8_quarrel_0 7 rfl rfl)
theorem dX8_quarrel_8 : decode cX8_quarrel 8 = .ok (.iconst 1, 1) := dk_4 (dk_at dksX8_quarrel_0 8 rfl rfl)
theorem dX8_quarrel_9 : decode cX8_quarrel 9 = .ok (.aload_n 0, 1) := dk_42 (dk_at dksX8_quarrel_0 9 rfl rfl)
theorem dX8_quarrel_10 : decode cX8_quarrel 10 = .ok (.getfield 13, 3) := dk_180 0 13 (dk_at dksX8_quarrel_0 10 rfl rfl)
theorem dX8_quarrel_13 : decode cX8_quarrel 13 = .ok (.iload_n 1, 1) := dk_27 (dk_at dksX8_quarrel_0 13 rfl rfl)
theorem dX8_quarrel_14 : decode cX8_quarrel 14 = .ok (.iaload, 1) := dk_46 (dk_at dksX8_quarrel_0 14 rfl rfl)
theorem dX8_quarrel_15 : decode cX8_quarrel 15 = .ok (.iconst 1, 1) := dk_4 (dk_at dksX8_quarrel_0 15 rfl rfl)
theorem dX8_quarrel_16 : decode cX8_quarrel 16 = .ok (.isub, 1) := dk_100 (dk_at dksX8_quarrel_0 16 rfl rfl)
theorem dX8_quarrel_17 : decode cX8_quarrel 17 = .ok (.invokestatic 122, 3) := dk_184 0 122 (dk_at dksX8_quarrel_0 17 rfl rfl)
theorem dX8_quarrel_20 : decode cX8_quarrel 20 = .ok (.ifCond .eq 14, 3) := dk_153 0 14 (dk_at dksX8_quarrel_0 20 rfl rfl)
theorem dX8_quarrel_23 : decode cX8_quarrel 23 = .ok (.iload_n 2, 1) := dk_28 (dk_at dksX8_quarrel_0 23 rfl rfl)
theorem dX8_quarrel_24 : decode cX8_quarrel 24 = .ok (.iconst 0, 1) := dk_3 (dk_at dksX8_quarrel_1 0 rfl rfl)
theorem dX8_quarrel_25 : decode cX8_quarrel 25 = .ok (.iload_n 3, 1) := dk_29 (dk_at dksX8_quarrel_1 1 rfl rfl)
theorem dX8_quarrel_26 : decode cX8_quarrel 26 = .ok (.iconst 1, 1) := dk_4 (dk_at dksX8_quarrel_1 2 rfl rfl)
theorem dX8_quarrel_27 : decode cX8_quarrel 27 = .ok (.isub, 1) := dk_100 (dk_at dksX8_quarrel_1 3 rfl rfl)
theorem dX8_quarrel_28 : decode cX8_quarrel 28 = .ok (.invokestatic 122, 3) := dk_184 0 122 (dk_at dksX8_quarrel_1 4 rfl rfl)
theorem dX8_quarrel_31 : decode cX8_quarrel 31 = .ok (.ifCond .ne 5, 3) := dk_154 0 5 (dk_at dksX8_quarrel_1 7 rfl rfl)
theorem dX8_quarrel_34 : decode cX8_quarrel 34 = .ok (.iconst (-1), 1) := dk_2 (dk_at dksX8_quarrel_1 10 rfl rfl)
theorem dX8_quarrel_35 : decode cX8_quarrel 35 = .ok (.ireturn, 1) := dk_172 (dk_at dksX8_quarrel_1 11 rfl rfl)
theorem dX8_quarrel_36 : decode cX8_quarrel 36 = .ok (.aload_n 0, 1) := dk_42 (dk_at dksX8_quarrel_1 12 rfl rfl)
theorem dX8_quarrel_37 : decode cX8_quarrel 37 = .ok (.iload_n 1, 1) := dk_27 (dk_at dksX8_quarrel_1 13 rfl rfl)
theorem dX8_quarrel_38 : decode cX8_quarrel 38 = .ok (.iconst 1, 1) := dk_4 (dk_at dksX8_quarrel_1 14 rfl rfl)
theorem dX8_quarrel_39 : decode cX8_quarrel 39 = .ok (.iload_n 2, 1) := dk_28 (dk_at dksX8_quarrel_1 15 rfl rfl)
theorem dX8_quarrel_40 : decode cX8_quarrel 40 = .ok (.ishl, 1) := dk_120 (dk_at dksX8_quarrel_1 16 rfl rfl)
theorem dX8_quarrel_41 : decode cX8_quarrel 41 = .ok (.iconst 1, 1) := dk_4 (dk_at dksX8_quarrel_1 17 rfl rfl)
theorem dX8_quarrel_42 : decode cX8_quarrel 42 = .ok (.iload_n 3, 1) := dk_29 (dk_at dksX8_quarrel_1 18 rfl rfl)
theorem dX8_quarrel_43 : decode cX8_quarrel 43 = .ok (.ishl, 1) := dk_120 (dk_at dksX8_quarrel_1 19 rfl rfl)
theorem dX8_quarrel_44 : decode cX8_quarrel 44 = .ok (.ior, 1) := dk_128 (dk_at dksX8_quarrel_1 20 rfl rfl)
theorem dX8_quarrel_45 : decode cX8_quarrel 45 = .ok (.invokevirtual 338, 3) := dk_182 1 82 (dk_at dksX8_quarrel_1 21 rfl rfl)
theorem dX8_quarrel_48 : decode cX8_quarrel 48 = .ok (.istore 4, 2) := dk_54 4 (dk_at dksX8_quarrel_2 0 rfl rfl)
theorem dX8_quarrel_50 : decode cX8_quarrel 50 = .ok (.aload_n 0, 1) := dk_42 (dk_at dksX8_quarrel_2 2 rfl rfl)
theorem dX8_quarrel_51 : decode cX8_quarrel 51 = .ok (.iload_n 1, 1) := dk_27 (dk_at dksX8_quarrel_2 3 rfl rfl)
theorem dX8_quarrel_52 : decode cX8_quarrel 52 = .ok (.iload_n 2, 1) := dk_28 (dk_at dksX8_quarrel_2 4 rfl rfl)
theorem dX8_quarrel_53 : decode cX8_quarrel 53 = .ok (.invokevirtual 341, 3) := dk_182 1 85 (dk_at dksX8_quarrel_2 5 rfl rfl)
theorem dX8_quarrel_56 : decode cX8_quarrel 56 = .ok (.istore 5, 2) := dk_54 5 (dk_at dksX8_quarrel_2 8 rfl rfl)
theorem dX8_quarrel_58 : decode cX8_quarrel 58 = .ok (.aload_n 0, 1) := dk_42 (dk_at dksX8_quarrel_2 10 rfl rfl)
theorem dX8_quarrel_59 : decode cX8_quarrel 59 = .ok (.iload_n 1, 1) := dk_27 (dk_at dksX8_quarrel_2 11 rfl rfl)
theorem dX8_quarrel_60 : decode cX8_quarrel 60 = .ok (.iload_n 3, 1) := dk_29 (dk_at dksX8_quarrel_2 12 rfl rfl)
theorem dX8_quarrel_61 : decode cX8_quarrel 61 = .ok (.invokevirtual 341, 3) := dk_182 1 85 (dk_at dksX8_quarrel_2 13 rfl rfl)
theorem dX8_quarrel_64 : decode cX8_quarrel 64 = .ok (.istore 6, 2) := dk_54 6 (dk_at dksX8_quarrel_2 16 rfl rfl)
theorem dX8_quarrel_66 : decode cX8_quarrel 66 = .ok (.iload 4, 2) := dk_21 4 (dk_at dksX8_quarrel_2 18 rfl rfl)
theorem dX8_quarrel_68 : decode cX8_quarrel 68 = .ok (.bipush (-3), 2) := dk_16 253 (dk_at dksX8_quarrel_2 20 rfl rfl)
theorem dX8_quarrel_70 : decode cX8_quarrel 70 = .ok (.if_icmp .eq 25, 3) := dk_159 0 25 (dk_at dksX8_quarrel_3 0 rfl rfl)
theorem dX8_quarrel_73 : decode cX8_quarrel 73 = .ok (.iload 5, 2) := dk_21 5 (dk_at dksX8_quarrel_3 3 rfl rfl)
theorem dX8_quarrel_75 : decode cX8_quarrel 75 = .ok (.ifCond .eq 15, 3) := dk_153 0 15 (dk_at dksX8_quarrel_3 5 rfl rfl)
theorem dX8_quarrel_78 : decode cX8_quarrel 78 = .ok (.iload 6, 2) := dk_21 6 (dk_at dksX8_quarrel_3 8 rfl rfl)
theorem dX8_quarrel_80 : decode cX8_quarrel 80 = .ok (.ifCond .eq 10, 3) := dk_153 0 10 (dk_at dksX8_quarrel_3 10 rfl rfl)
theorem dX8_quarrel_83 : decode cX8_quarrel 83 = .ok (.iload 5, 2) := dk_21 5 (dk_at dksX8_quarrel_3 13 rfl rfl)
theorem dX8_quarrel_85 : decode cX8_quarrel 85 = .ok (.iload 6, 2) := dk_21 6 (dk_at dksX8_quarrel_3 15 rfl rfl)
theorem dX8_quarrel_87 : decode cX8_quarrel 87 = .ok (.if_icmp .ne 8, 3) := dk_160 0 8 (dk_at dksX8_quarrel_3 17 rfl rfl)
theorem dX8_quarrel_90 : decode cX8_quarrel 90 = .ok (.bipush (-4), 2) := dk_16 252 (dk_at dksX8_quarrel_3 20 rfl rfl)
theorem dX8_quarrel_92 : decode cX8_quarrel 92 = .ok (.goto 5, 3) := dk_167 0 5 (dk_at dksX8_quarrel_4 0 rfl rfl)
theorem dX8_quarrel_95 : decode cX8_quarrel 95 = .ok (.iload 4, 2) := dk_21 4 (dk_at dksX8_quarrel_4 3 rfl rfl)
theorem dX8_quarrel_97 : decode cX8_quarrel 97 = .ok (.ireturn, 1) := dk_172 (dk_at dksX8_quarrel_4 5 rfl rfl)
abbrev cX8_filesOf : ByteArray := prog_21_method_66_code
def yX8_filesOf : MethodName := ⟨RX8, "filesOf", "(II)I"⟩
def dkwX8_filesOf_3 : List UInt8 := [167, 0, 4, 3, 54, 4, 132, 5, 1, 167, 255, 183, 29, 172]
abbrev dktX8_filesOf_3 : List UInt8 := dkwX8_filesOf_3 ++ []
def dkwX8_filesOf_2 : List UInt8 := [21, 6, 7, 162, 0, 10, 4, 21, 6, 120, 167, 0, 4, 3, 128, 62, 21, 6, 16, 10, 160, 0, 7, 4]
abbrev dktX8_filesOf_2 : List UInt8 := dkwX8_filesOf_2 ++ dktX8_filesOf_3
def dkwX8_filesOf_1 : List UInt8 := [21, 4, 154, 0, 58, 42, 180, 0, 22, 16, 24, 27, 104, 7, 28, 104, 96, 21, 5, 96, 46, 54, 6, 29]
abbrev dktX8_filesOf_1 : List UInt8 := dkwX8_filesOf_1 ++ dktX8_filesOf_2
def dkwX8_filesOf_0 : List UInt8 := [3, 62, 3, 54, 4, 3, 54, 5, 21, 5, 42, 180, 0, 25, 16, 6, 27, 104, 28, 96, 46, 162, 0, 63]
abbrev dktX8_filesOf_0 : List UInt8 := dkwX8_filesOf_0 ++ dktX8_filesOf_1
theorem dksX8_filesOf_0 : cX8_filesOf.data.toList.drop 0 = dktX8_filesOf_0 := by decide +kernel
theorem dksX8_filesOf_1 : cX8_filesOf.data.toList.drop 24 = dktX8_filesOf_1 := dk_seg dksX8_filesOf_0 24 rfl rfl
theorem dksX8_filesOf_2 : cX8_filesOf.data.toList.drop 48 = dktX8_filesOf_2 := dk_seg dksX8_filesOf_1 24 rfl rfl
theorem dksX8_filesOf_3 : cX8_filesOf.data.toList.drop 72 = dktX8_filesOf_3 := dk_seg dksX8_filesOf_2 24 rfl rfl
theorem dX8_filesOf_0 : decode cX8_filesOf 0 = .ok (.iconst 0, 1) := dk_3 (dk_at dksX8_filesOf_0 0 rfl rfl)
theorem dX8_filesOf_1 : decode cX8_filesOf 1 = .ok (.istore_n 3, 1) := dk_62 (dk_at dksX8_filesOf_0 1 rfl rfl)
theorem dX8_filesOf_2 : decode cX8_filesOf 2 = .ok (.iconst 0, 1) := dk_3 (dk_at dksX8_filesOf_0 2 rfl rfl)
theorem dX8_filesOf_3 : decode cX8_filesOf 3 = .ok (.istore 4, 2) := dk_54 4 (dk_at dksX8_filesOf_0 3 rfl rfl)
theorem dX8_filesOf_5 : decode cX8_filesOf 5 = .ok (.iconst 0, 1) := dk_3 (dk_at dksX8_filesOf_0 5 rfl rfl)
theorem dX8_filesOf_6 : decode cX8_filesOf 6 = .ok (.istore 5, 2) := dk_54 5 (dk_at dksX8_filesOf_0 6 rfl rfl)
theorem dX8_filesOf_8 : decode cX8_filesOf 8 = .ok (.iload 5, 2) := dk_21 5 (dk_at dksX8_filesOf_0 8 rfl rfl)
theorem dX8_filesOf_10 : decode cX8_filesOf 10 = .ok (.aload_n 0, 1) := dk_42 (dk_at dksX8_filesOf_0 10 rfl rfl)
theorem dX8_filesOf_11 : decode cX8_filesOf 11 = .ok (.getfield 25, 3) := dk_180 0 25 (dk_at dksX8_filesOf_0 11 rfl rfl)
theorem dX8_filesOf_14 : decode cX8_filesOf 14 = .ok (.bipush 6, 2) := dk_16 6 (dk_at dksX8_filesOf_0 14 rfl rfl)
theorem dX8_filesOf_16 : decode cX8_filesOf 16 = .ok (.iload_n 1, 1) := dk_27 (dk_at dksX8_filesOf_0 16 rfl rfl)
theorem dX8_filesOf_17 : decode cX8_filesOf 17 = .ok (.imul, 1) := dk_104 (dk_at dksX8_filesOf_0 17 rfl rfl)
theorem dX8_filesOf_18 : decode cX8_filesOf 18 = .ok (.iload_n 2, 1) := dk_28 (dk_at dksX8_filesOf_0 18 rfl rfl)
theorem dX8_filesOf_19 : decode cX8_filesOf 19 = .ok (.iadd, 1) := dk_96 (dk_at dksX8_filesOf_0 19 rfl rfl)
theorem dX8_filesOf_20 : decode cX8_filesOf 20 = .ok (.iaload, 1) := dk_46 (dk_at dksX8_filesOf_0 20 rfl rfl)
theorem dX8_filesOf_21 : decode cX8_filesOf 21 = .ok (.if_icmp .ge 63, 3) := dk_162 0 63 (dk_at dksX8_filesOf_0 21 rfl rfl)
theorem dX8_filesOf_24 : decode cX8_filesOf 24 = .ok (.iload 4, 2) := dk_21 4 (dk_at dksX8_filesOf_1 0 rfl rfl)
theorem dX8_filesOf_26 : decode cX8_filesOf 26 = .ok (.ifCond .ne 58, 3) := dk_154 0 58 (dk_at dksX8_filesOf_1 2 rfl rfl)
theorem dX8_filesOf_29 : decode cX8_filesOf 29 = .ok (.aload_n 0, 1) := dk_42 (dk_at dksX8_filesOf_1 5 rfl rfl)
theorem dX8_filesOf_30 : decode cX8_filesOf 30 = .ok (.getfield 22, 3) := dk_180 0 22 (dk_at dksX8_filesOf_1 6 rfl rfl)
theorem dX8_filesOf_33 : decode cX8_filesOf 33 = .ok (.bipush 24, 2) := dk_16 24 (dk_at dksX8_filesOf_1 9 rfl rfl)
theorem dX8_filesOf_35 : decode cX8_filesOf 35 = .ok (.iload_n 1, 1) := dk_27 (dk_at dksX8_filesOf_1 11 rfl rfl)
theorem dX8_filesOf_36 : decode cX8_filesOf 36 = .ok (.imul, 1) := dk_104 (dk_at dksX8_filesOf_1 12 rfl rfl)
theorem dX8_filesOf_37 : decode cX8_filesOf 37 = .ok (.iconst 4, 1) := dk_7 (dk_at dksX8_filesOf_1 13 rfl rfl)
theorem dX8_filesOf_38 : decode cX8_filesOf 38 = .ok (.iload_n 2, 1) := dk_28 (dk_at dksX8_filesOf_1 14 rfl rfl)
theorem dX8_filesOf_39 : decode cX8_filesOf 39 = .ok (.imul, 1) := dk_104 (dk_at dksX8_filesOf_1 15 rfl rfl)
theorem dX8_filesOf_40 : decode cX8_filesOf 40 = .ok (.iadd, 1) := dk_96 (dk_at dksX8_filesOf_1 16 rfl rfl)
theorem dX8_filesOf_41 : decode cX8_filesOf 41 = .ok (.iload 5, 2) := dk_21 5 (dk_at dksX8_filesOf_1 17 rfl rfl)
theorem dX8_filesOf_43 : decode cX8_filesOf 43 = .ok (.iadd, 1) := dk_96 (dk_at dksX8_filesOf_1 19 rfl rfl)
theorem dX8_filesOf_44 : decode cX8_filesOf 44 = .ok (.iaload, 1) := dk_46 (dk_at dksX8_filesOf_1 20 rfl rfl)
theorem dX8_filesOf_45 : decode cX8_filesOf 45 = .ok (.istore 6, 2) := dk_54 6 (dk_at dksX8_filesOf_1 21 rfl rfl)
theorem dX8_filesOf_47 : decode cX8_filesOf 47 = .ok (.iload_n 3, 1) := dk_29 (dk_at dksX8_filesOf_1 23 rfl rfl)
theorem dX8_filesOf_48 : decode cX8_filesOf 48 = .ok (.iload 6, 2) := dk_21 6 (dk_at dksX8_filesOf_2 0 rfl rfl)
theorem dX8_filesOf_50 : decode cX8_filesOf 50 = .ok (.iconst 4, 1) := dk_7 (dk_at dksX8_filesOf_2 2 rfl rfl)
theorem dX8_filesOf_51 : decode cX8_filesOf 51 = .ok (.if_icmp .ge 10, 3) := dk_162 0 10 (dk_at dksX8_filesOf_2 3 rfl rfl)
theorem dX8_filesOf_54 : decode cX8_filesOf 54 = .ok (.iconst 1, 1) := dk_4 (dk_at dksX8_filesOf_2 6 rfl rfl)
theorem dX8_filesOf_55 : decode cX8_filesOf 55 = .ok (.iload 6, 2) := dk_21 6 (dk_at dksX8_filesOf_2 7 rfl rfl)
theorem dX8_filesOf_57 : decode cX8_filesOf 57 = .ok (.ishl, 1) := dk_120 (dk_at dksX8_filesOf_2 9 rfl rfl)
theorem dX8_filesOf_58 : decode cX8_filesOf 58 = .ok (.goto 4, 3) := dk_167 0 4 (dk_at dksX8_filesOf_2 10 rfl rfl)
theorem dX8_filesOf_61 : decode cX8_filesOf 61 = .ok (.iconst 0, 1) := dk_3 (dk_at dksX8_filesOf_2 13 rfl rfl)
theorem dX8_filesOf_62 : decode cX8_filesOf 62 = .ok (.ior, 1) := dk_128 (dk_at dksX8_filesOf_2 14 rfl rfl)
theorem dX8_filesOf_63 : decode cX8_filesOf 63 = .ok (.istore_n 3, 1) := dk_62 (dk_at dksX8_filesOf_2 15 rfl rfl)
theorem dX8_filesOf_64 : decode cX8_filesOf 64 = .ok (.iload 6, 2) := dk_21 6 (dk_at dksX8_filesOf_2 16 rfl rfl)
theorem dX8_filesOf_66 : decode cX8_filesOf 66 = .ok (.bipush 10, 2) := dk_16 10 (dk_at dksX8_filesOf_2 18 rfl rfl)
theorem dX8_filesOf_68 : decode cX8_filesOf 68 = .ok (.if_icmp .ne 7, 3) := dk_160 0 7 (dk_at dksX8_filesOf_2 20 rfl rfl)
theorem dX8_filesOf_71 : decode cX8_filesOf 71 = .ok (.iconst 1, 1) := dk_4 (dk_at dksX8_filesOf_2 23 rfl rfl)
theorem dX8_filesOf_72 : decode cX8_filesOf 72 = .ok (.goto 4, 3) := dk_167 0 4 (dk_at dksX8_filesOf_3 0 rfl rfl)
theorem dX8_filesOf_75 : decode cX8_filesOf 75 = .ok (.iconst 0, 1) := dk_3 (dk_at dksX8_filesOf_3 3 rfl rfl)
theorem dX8_filesOf_76 : decode cX8_filesOf 76 = .ok (.istore 4, 2) := dk_54 4 (dk_at dksX8_filesOf_3 4 rfl rfl)
theorem dX8_filesOf_78 : decode cX8_filesOf 78 = .ok (.iinc 5 1, 3) := dk_132 5 1 (dk_at dksX8_filesOf_3 6 rfl rfl)
theorem dX8_filesOf_81 : decode cX8_filesOf 81 = .ok (.goto (-73), 3) := dk_167 255 183 (dk_at dksX8_filesOf_3 9 rfl rfl)
theorem dX8_filesOf_84 : decode cX8_filesOf 84 = .ok (.iload_n 3, 1) := dk_29 (dk_at dksX8_filesOf_3 12 rfl rfl)
theorem dX8_filesOf_85 : decode cX8_filesOf 85 = .ok (.ireturn, 1) := dk_172 (dk_at dksX8_filesOf_3 13 rfl rfl)
theorem q82 : (Jvm.Cond.initialized "SortedPostModel") ∈ lw_all := lw_g (lw_at lw_m1 14 rfl) rfl
theorem q359 : (Jvm.Cond.selects "SortedPostModel" ({ cls := "java/lang/Object", name := "getClass", desc := "()Ljava/lang/Class;" } : Jvm.MethodName) ({ cls := "java/lang/Object", name := "getClass", desc := "()Ljava/lang/Class;" } : Jvm.MethodName)) ∈ lw_all := lw_g (lw_at lw_m2 51 rfl) rfl
theorem q1158 : (Jvm.Cond.instantiable "SortedPostModel" (61 : Nat)) ∈ lw_all := lw_g (lw_at lw_m5 130 rfl) rfl
theorem q1160 : (Jvm.Cond.instanceMethod ({ cls := "SortedPostModel", name := "<init>", desc := "()V" } : Jvm.MethodName)) ∈ lw_all := lw_g (lw_at lw_m5 132 rfl) rfl
theorem q1161 : (Jvm.Cond.code ({ cls := "SortedPostModel", name := "<init>", desc := "()V" } : Jvm.MethodName) prog_21_method_3_code (3 : Nat) (Option.none : Option Jvm.ClassFile.FieldType)) ∈ lw_all := lw_g (lw_at lw_m5 133 rfl) rfl
theorem q1162 : (Jvm.Cond.methodLink "SortedPostModel" (1 : Nat) ({ cls := "java/lang/Object", name := "<init>", desc := "()V" } : Jvm.MethodName)) ∈ lw_all := lw_g (lw_at lw_m5 134 rfl) rfl
theorem q1163 : (Jvm.Cond.fieldLink "SortedPostModel" (7 : Nat) "SortedPostModel" "tape" "[I") ∈ lw_all := lw_g (lw_at lw_m5 135 rfl) rfl
theorem q1164 : (Jvm.Cond.fieldLink "SortedPostModel" (128 : Nat) "SortedPostModel" "taped" "I") ∈ lw_all := lw_g (lw_at lw_m5 136 rfl) rfl
theorem q1165 : (Jvm.Cond.fieldLink "SortedPostModel" (13 : Nat) "SortedPostModel" "ruleMany" "[I") ∈ lw_all := lw_g (lw_at lw_m5 137 rfl) rfl
theorem q1166 : (Jvm.Cond.fieldLink "SortedPostModel" (16 : Nat) "SortedPostModel" "codes" "[I") ∈ lw_all := lw_g (lw_at lw_m5 138 rfl) rfl
theorem q1167 : (Jvm.Cond.fieldLink "SortedPostModel" (19 : Nat) "SortedPostModel" "ruleFrom" "[I") ∈ lw_all := lw_g (lw_at lw_m5 139 rfl) rfl
theorem q1168 : (Jvm.Cond.fieldLink "SortedPostModel" (22 : Nat) "SortedPostModel" "acts" "[I") ∈ lw_all := lw_g (lw_at lw_m5 140 rfl) rfl
theorem q1169 : (Jvm.Cond.fieldLink "SortedPostModel" (25 : Nat) "SortedPostModel" "actMany" "[I") ∈ lw_all := lw_g (lw_at lw_m5 141 rfl) rfl
theorem q1170 : (Jvm.Cond.fieldLink "SortedPostModel" (28 : Nat) "SortedPostModel" "quotas" "[I") ∈ lw_all := lw_g (lw_at lw_m5 142 rfl) rfl
theorem q1171 : (Jvm.Cond.fieldLink "SortedPostModel" (31 : Nat) "SortedPostModel" "days" "[I") ∈ lw_all := lw_g (lw_at lw_m5 143 rfl) rfl
theorem q1172 : (Jvm.Cond.fieldLink "SortedPostModel" (132 : Nat) "SortedPostModel" "at" "I") ∈ lw_all := lw_g (lw_at lw_m5 144 rfl) rfl
theorem q1173 : (Jvm.Cond.fieldLink "SortedPostModel" (135 : Nat) "SortedPostModel" "wrong" "I") ∈ lw_all := lw_g (lw_at lw_m5 145 rfl) rfl
theorem q1174 : (Jvm.Cond.fieldLink "SortedPostModel" (34 : Nat) "SortedPostModel" "waits" "[I") ∈ lw_all := lw_g (lw_at lw_m5 146 rfl) rfl
theorem q1175 : (Jvm.Cond.fieldLink "SortedPostModel" (158 : Nat) "SortedPostModel" "waitMany" "I") ∈ lw_all := lw_g (lw_at lw_m5 147 rfl) rfl
theorem q1176 : (Jvm.Cond.fieldLink "SortedPostModel" (161 : Nat) "SortedPostModel" "openMany" "I") ∈ lw_all := lw_g (lw_at lw_m5 148 rfl) rfl
theorem q1177 : (Jvm.Cond.fieldLink "SortedPostModel" (37 : Nat) "SortedPostModel" "read" "[I") ∈ lw_all := lw_g (lw_at lw_m5 149 rfl) rfl
theorem q1178 : (Jvm.Cond.fieldLink "SortedPostModel" (146 : Nat) "SortedPostModel" "readMany" "I") ∈ lw_all := lw_g (lw_at lw_m5 150 rfl) rfl
theorem q1179 : (Jvm.Cond.fieldLink "SortedPostModel" (40 : Nat) "SortedPostModel" "readFrom" "[I") ∈ lw_all := lw_g (lw_at lw_m5 151 rfl) rfl
theorem q1180 : (Jvm.Cond.fieldLink "SortedPostModel" (43 : Nat) "SortedPostModel" "readActs" "[I") ∈ lw_all := lw_g (lw_at lw_m5 152 rfl) rfl
theorem q1181 : (Jvm.Cond.fieldLink "SortedPostModel" (46 : Nat) "SortedPostModel" "readActMany" "[I") ∈ lw_all := lw_g (lw_at lw_m5 153 rfl) rfl
theorem q1182 : (Jvm.Cond.fieldLink "SortedPostModel" (177 : Nat) "SortedPostModel" "readRules" "I") ∈ lw_all := lw_g (lw_at lw_m5 154 rfl) rfl
theorem q1183 : (Jvm.Cond.fieldLink "SortedPostModel" (49 : Nat) "SortedPostModel" "truths" "[Z") ∈ lw_all := lw_g (lw_at lw_m5 155 rfl) rfl
theorem q1184 : (Jvm.Cond.fieldLink "SortedPostModel" (196 : Nat) "SortedPostModel" "byCase" "Z") ∈ lw_all := lw_g (lw_at lw_m5 156 rfl) rfl
theorem q1185 : (Jvm.Cond.fieldLink "SortedPostModel" (200 : Nat) "SortedPostModel" "caseTold" "I") ∈ lw_all := lw_g (lw_at lw_m5 157 rfl) rfl
theorem q1186 : (Jvm.Cond.fieldLink "SortedPostModel" (209 : Nat) "SortedPostModel" "letterNow" "I") ∈ lw_all := lw_g (lw_at lw_m5 158 rfl) rfl
theorem q1187 : (Jvm.Cond.fieldLink "SortedPostModel" (215 : Nat) "SortedPostModel" "boxNow" "I") ∈ lw_all := lw_g (lw_at lw_m5 159 rfl) rfl
theorem q1188 : (Jvm.Cond.fieldLink "SortedPostModel" (224 : Nat) "SortedPostModel" "letters" "I") ∈ lw_all := lw_g (lw_at lw_m5 160 rfl) rfl
theorem q1189 : (Jvm.Cond.fieldLink "SortedPostModel" (53 : Nat) "SortedPostModel" "from" "[I") ∈ lw_all := lw_g (lw_at lw_m5 161 rfl) rfl
theorem q1190 : (Jvm.Cond.fieldLink "SortedPostModel" (56 : Nat) "SortedPostModel" "to" "[I") ∈ lw_all := lw_g (lw_at lw_m5 162 rfl) rfl
theorem q1191 : (Jvm.Cond.fieldLink "SortedPostModel" (59 : Nat) "SortedPostModel" "words" "[I") ∈ lw_all := lw_g (lw_at lw_m5 163 rfl) rfl
theorem q1192 : (Jvm.Cond.fieldLink "SortedPostModel" (62 : Nat) "SortedPostModel" "sizes" "[I") ∈ lw_all := lw_g (lw_at lw_m5 164 rfl) rfl
theorem q1193 : (Jvm.Cond.fieldLink "SortedPostModel" (65 : Nat) "SortedPostModel" "flags" "[I") ∈ lw_all := lw_g (lw_at lw_m5 165 rfl) rfl
theorem q1194 : (Jvm.Cond.fieldLink "SortedPostModel" (68 : Nat) "SortedPostModel" "ids" "[I") ∈ lw_all := lw_g (lw_at lw_m5 166 rfl) rfl
theorem q1195 : (Jvm.Cond.fieldLink "SortedPostModel" (71 : Nat) "SortedPostModel" "refs" "[I") ∈ lw_all := lw_g (lw_at lw_m5 167 rfl) rfl
theorem q1196 : (Jvm.Cond.fieldLink "SortedPostModel" (74 : Nat) "SortedPostModel" "dates" "[I") ∈ lw_all := lw_g (lw_at lw_m5 168 rfl) rfl
theorem q1197 : (Jvm.Cond.fieldLink "SortedPostModel" (77 : Nat) "SortedPostModel" "had" "[Z") ∈ lw_all := lw_g (lw_at lw_m5 169 rfl) rfl
theorem q1198 : (Jvm.Cond.fieldLink "SortedPostModel" (80 : Nat) "SortedPostModel" "answered" "[I") ∈ lw_all := lw_g (lw_at lw_m5 170 rfl) rfl
theorem q1199 : (Jvm.Cond.fieldLink "SortedPostModel" (240 : Nat) "SortedPostModel" "sentOn" "I") ∈ lw_all := lw_g (lw_at lw_m5 171 rfl) rfl
theorem q1200 : (Jvm.Cond.fieldLink "SortedPostModel" (266 : Nat) "SortedPostModel" "dropped" "I") ∈ lw_all := lw_g (lw_at lw_m5 172 rfl) rfl
theorem q1201 : (Jvm.Cond.fieldLink "SortedPostModel" (221 : Nat) "SortedPostModel" "answers" "I") ∈ lw_all := lw_g (lw_at lw_m5 173 rfl) rfl
theorem q1202 : (Jvm.Cond.fieldLink "SortedPostModel" (272 : Nat) "SortedPostModel" "full" "I") ∈ lw_all := lw_g (lw_at lw_m5 174 rfl) rfl
theorem q1203 : (Jvm.Cond.fieldLink "SortedPostModel" (83 : Nat) "SortedPostModel" "trayMany" "[I") ∈ lw_all := lw_g (lw_at lw_m5 175 rfl) rfl
theorem q1204 : (Jvm.Cond.fieldLink "SortedPostModel" (86 : Nat) "SortedPostModel" "copyOf" "[I") ∈ lw_all := lw_g (lw_at lw_m5 176 rfl) rfl
theorem q1205 : (Jvm.Cond.fieldLink "SortedPostModel" (89 : Nat) "SortedPostModel" "marked" "[Z") ∈ lw_all := lw_g (lw_at lw_m5 177 rfl) rfl
theorem q1206 : (Jvm.Cond.fieldLink "SortedPostModel" (92 : Nat) "SortedPostModel" "learnt" "[I") ∈ lw_all := lw_g (lw_at lw_m5 178 rfl) rfl
theorem q1207 : (Jvm.Cond.fieldLink "SortedPostModel" (278 : Nat) "SortedPostModel" "filed" "I") ∈ lw_all := lw_g (lw_at lw_m5 179 rfl) rfl
theorem q1208 : (Jvm.Cond.fieldLink "SortedPostModel" (95 : Nat) "SortedPostModel" "comingLetter" "[I") ∈ lw_all := lw_g (lw_at lw_m5 180 rfl) rfl
theorem q1209 : (Jvm.Cond.fieldLink "SortedPostModel" (98 : Nat) "SortedPostModel" "comingBox" "[I") ∈ lw_all := lw_g (lw_at lw_m5 181 rfl) rfl
theorem q1210 : (Jvm.Cond.fieldLink "SortedPostModel" (101 : Nat) "SortedPostModel" "comingTrace" "[I") ∈ lw_all := lw_g (lw_at lw_m5 182 rfl) rfl
theorem q1211 : (Jvm.Cond.fieldLink "SortedPostModel" (218 : Nat) "SortedPostModel" "comings" "I") ∈ lw_all := lw_g (lw_at lw_m5 183 rfl) rfl
theorem q1212 : (Jvm.Cond.fieldLink "SortedPostModel" (234 : Nat) "SortedPostModel" "toFile" "I") ∈ lw_all := lw_g (lw_at lw_m5 184 rfl) rfl
theorem q1213 : (Jvm.Cond.fieldLink "SortedPostModel" (237 : Nat) "SortedPostModel" "sentNow" "I") ∈ lw_all := lw_g (lw_at lw_m5 185 rfl) rfl
theorem q1214 : (Jvm.Cond.fieldLink "SortedPostModel" (247 : Nat) "SortedPostModel" "isDropped" "Z") ∈ lw_all := lw_g (lw_at lw_m5 186 rfl) rfl
theorem q1215 : (Jvm.Cond.fieldLink "SortedPostModel" (257 : Nat) "SortedPostModel" "isMarked" "Z") ∈ lw_all := lw_g (lw_at lw_m5 187 rfl) rfl
theorem q1216 : (Jvm.Cond.fieldLink "SortedPostModel" (227 : Nat) "SortedPostModel" "answerNow" "I") ∈ lw_all := lw_g (lw_at lw_m5 188 rfl) rfl
theorem q1217 : (Jvm.Cond.fieldLink "SortedPostModel" (104 : Nat) "SortedPostModel" "lanes" "[I") ∈ lw_all := lw_g (lw_at lw_m5 189 rfl) rfl
theorem q1218 : (Jvm.Cond.fieldLink "SortedPostModel" (107 : Nat) "SortedPostModel" "longs" "[I") ∈ lw_all := lw_g (lw_at lw_m5 190 rfl) rfl
theorem q1219 : (Jvm.Cond.fieldLink "SortedPostModel" (110 : Nat) "SortedPostModel" "items" "[I") ∈ lw_all := lw_g (lw_at lw_m5 191 rfl) rfl
theorem q1220 : (Jvm.Cond.fieldLink "SortedPostModel" (113 : Nat) "SortedPostModel" "junkMany" "[I") ∈ lw_all := lw_g (lw_at lw_m5 192 rfl) rfl
theorem q1221 : (Jvm.Cond.fieldLink "SortedPostModel" (116 : Nat) "SortedPostModel" "knows" "[I") ∈ lw_all := lw_g (lw_at lw_m5 193 rfl) rfl
theorem q1222 : (Jvm.Cond.fieldLink "SortedPostModel" (119 : Nat) "SortedPostModel" "atomRow" "[I") ∈ lw_all := lw_g (lw_at lw_m5 194 rfl) rfl
theorem q1223 : (Jvm.Cond.fieldLink "SortedPostModel" (322 : Nat) "SortedPostModel" "atomMany" "I") ∈ lw_all := lw_g (lw_at lw_m5 195 rfl) rfl
theorem q1224 : (Jvm.Cond.laysFinal "SortedPostModel" "SortedPostModel" "tape" "[I") ∈ lw_all := lw_g (lw_at lw_m5 196 rfl) rfl
theorem q1225 : (Jvm.Cond.soleField "SortedPostModel" "tape") ∈ lw_all := lw_g (lw_at lw_m5 197 rfl) rfl
theorem q1226 : (Jvm.Cond.lays "SortedPostModel" "SortedPostModel" "taped" "I") ∈ lw_all := lw_g (lw_at lw_m5 198 rfl) rfl
theorem q1227 : (Jvm.Cond.soleField "SortedPostModel" "taped") ∈ lw_all := lw_g (lw_at lw_m5 199 rfl) rfl
theorem q1228 : (Jvm.Cond.laysFinal "SortedPostModel" "SortedPostModel" "ruleMany" "[I") ∈ lw_all := lw_g (lw_at lw_m5 200 rfl) rfl
theorem q1229 : (Jvm.Cond.soleField "SortedPostModel" "ruleMany") ∈ lw_all := lw_g (lw_at lw_m5 201 rfl) rfl
theorem q1230 : (Jvm.Cond.laysFinal "SortedPostModel" "SortedPostModel" "codes" "[I") ∈ lw_all := lw_g (lw_at lw_m5 202 rfl) rfl
theorem q1231 : (Jvm.Cond.soleField "SortedPostModel" "codes") ∈ lw_all := lw_g (lw_at lw_m5 203 rfl) rfl
theorem q1232 : (Jvm.Cond.laysFinal "SortedPostModel" "SortedPostModel" "ruleFrom" "[I") ∈ lw_all := lw_g (lw_at lw_m5 204 rfl) rfl
theorem q1233 : (Jvm.Cond.soleField "SortedPostModel" "ruleFrom") ∈ lw_all := lw_g (lw_at lw_m5 205 rfl) rfl
theorem q1234 : (Jvm.Cond.laysFinal "SortedPostModel" "SortedPostModel" "acts" "[I") ∈ lw_all := lw_g (lw_at lw_m5 206 rfl) rfl
theorem q1235 : (Jvm.Cond.soleField "SortedPostModel" "acts") ∈ lw_all := lw_g (lw_at lw_m5 207 rfl) rfl
theorem q1236 : (Jvm.Cond.laysFinal "SortedPostModel" "SortedPostModel" "actMany" "[I") ∈ lw_all := lw_g (lw_at lw_m5 208 rfl) rfl
theorem q1237 : (Jvm.Cond.soleField "SortedPostModel" "actMany") ∈ lw_all := lw_g (lw_at lw_m5 209 rfl) rfl
theorem q1238 : (Jvm.Cond.laysFinal "SortedPostModel" "SortedPostModel" "quotas" "[I") ∈ lw_all := lw_g (lw_at lw_m5 210 rfl) rfl
theorem q1239 : (Jvm.Cond.soleField "SortedPostModel" "quotas") ∈ lw_all := lw_g (lw_at lw_m5 211 rfl) rfl
theorem q1240 : (Jvm.Cond.laysFinal "SortedPostModel" "SortedPostModel" "days" "[I") ∈ lw_all := lw_g (lw_at lw_m5 212 rfl) rfl
theorem q1241 : (Jvm.Cond.soleField "SortedPostModel" "days") ∈ lw_all := lw_g (lw_at lw_m5 213 rfl) rfl
theorem q1242 : (Jvm.Cond.lays "SortedPostModel" "SortedPostModel" "at" "I") ∈ lw_all := lw_g (lw_at lw_m5 214 rfl) rfl
theorem q1243 : (Jvm.Cond.soleField "SortedPostModel" "at") ∈ lw_all := lw_g (lw_at lw_m5 215 rfl) rfl
theorem q1244 : (Jvm.Cond.lays "SortedPostModel" "SortedPostModel" "wrong" "I") ∈ lw_all := lw_g (lw_at lw_m5 216 rfl) rfl
theorem q1245 : (Jvm.Cond.soleField "SortedPostModel" "wrong") ∈ lw_all := lw_g (lw_at lw_m5 217 rfl) rfl
theorem q1246 : (Jvm.Cond.laysFinal "SortedPostModel" "SortedPostModel" "waits" "[I") ∈ lw_all := lw_g (lw_at lw_m5 218 rfl) rfl
theorem q1247 : (Jvm.Cond.soleField "SortedPostModel" "waits") ∈ lw_all := lw_g (lw_at lw_m5 219 rfl) rfl
theorem q1248 : (Jvm.Cond.lays "SortedPostModel" "SortedPostModel" "waitMany" "I") ∈ lw_all := lw_g (lw_at lw_m5 220 rfl) rfl
theorem q1249 : (Jvm.Cond.soleField "SortedPostModel" "waitMany") ∈ lw_all := lw_g (lw_at lw_m5 221 rfl) rfl
theorem q1250 : (Jvm.Cond.lays "SortedPostModel" "SortedPostModel" "openMany" "I") ∈ lw_all := lw_g (lw_at lw_m5 222 rfl) rfl
theorem q1251 : (Jvm.Cond.soleField "SortedPostModel" "openMany") ∈ lw_all := lw_g (lw_at lw_m5 223 rfl) rfl
theorem q1252 : (Jvm.Cond.laysFinal "SortedPostModel" "SortedPostModel" "read" "[I") ∈ lw_all := lw_g (lw_at lw_m5 224 rfl) rfl
theorem q1253 : (Jvm.Cond.soleField "SortedPostModel" "read") ∈ lw_all := lw_g (lw_at lw_m5 225 rfl) rfl
theorem q1254 : (Jvm.Cond.lays "SortedPostModel" "SortedPostModel" "readMany" "I") ∈ lw_all := lw_g (lw_at lw_m5 226 rfl) rfl
theorem q1255 : (Jvm.Cond.soleField "SortedPostModel" "readMany") ∈ lw_all := lw_g (lw_at lw_m5 227 rfl) rfl
theorem q1256 : (Jvm.Cond.laysFinal "SortedPostModel" "SortedPostModel" "readFrom" "[I") ∈ lw_all := lw_g (lw_at lw_m5 228 rfl) rfl
theorem q1257 : (Jvm.Cond.soleField "SortedPostModel" "readFrom") ∈ lw_all := lw_g (lw_at lw_m5 229 rfl) rfl
theorem q1258 : (Jvm.Cond.laysFinal "SortedPostModel" "SortedPostModel" "readActs" "[I") ∈ lw_all := lw_g (lw_at lw_m5 230 rfl) rfl
theorem q1259 : (Jvm.Cond.soleField "SortedPostModel" "readActs") ∈ lw_all := lw_g (lw_at lw_m5 231 rfl) rfl
theorem q1260 : (Jvm.Cond.laysFinal "SortedPostModel" "SortedPostModel" "readActMany" "[I") ∈ lw_all := lw_g (lw_at lw_m5 232 rfl) rfl
theorem q1261 : (Jvm.Cond.soleField "SortedPostModel" "readActMany") ∈ lw_all := lw_g (lw_at lw_m5 233 rfl) rfl
theorem q1262 : (Jvm.Cond.lays "SortedPostModel" "SortedPostModel" "readRules" "I") ∈ lw_all := lw_g (lw_at lw_m5 234 rfl) rfl
theorem q1263 : (Jvm.Cond.soleField "SortedPostModel" "readRules") ∈ lw_all := lw_g (lw_at lw_m5 235 rfl) rfl
theorem q1264 : (Jvm.Cond.laysFinal "SortedPostModel" "SortedPostModel" "truths" "[Z") ∈ lw_all := lw_g (lw_at lw_m5 236 rfl) rfl
theorem q1265 : (Jvm.Cond.soleField "SortedPostModel" "truths") ∈ lw_all := lw_g (lw_at lw_m5 237 rfl) rfl
theorem q1266 : (Jvm.Cond.lays "SortedPostModel" "SortedPostModel" "byCase" "Z") ∈ lw_all := lw_g (lw_at lw_m5 238 rfl) rfl
theorem q1267 : (Jvm.Cond.soleField "SortedPostModel" "byCase") ∈ lw_all := lw_g (lw_at lw_m5 239 rfl) rfl
theorem q1268 : (Jvm.Cond.lays "SortedPostModel" "SortedPostModel" "caseTold" "I") ∈ lw_all := lw_g (lw_at lw_m6 0 rfl) rfl
theorem q1269 : (Jvm.Cond.soleField "SortedPostModel" "caseTold") ∈ lw_all := lw_g (lw_at lw_m6 1 rfl) rfl
theorem q1270 : (Jvm.Cond.lays "SortedPostModel" "SortedPostModel" "letterNow" "I") ∈ lw_all := lw_g (lw_at lw_m6 2 rfl) rfl
theorem q1271 : (Jvm.Cond.soleField "SortedPostModel" "letterNow") ∈ lw_all := lw_g (lw_at lw_m6 3 rfl) rfl
theorem q1272 : (Jvm.Cond.lays "SortedPostModel" "SortedPostModel" "boxNow" "I") ∈ lw_all := lw_g (lw_at lw_m6 4 rfl) rfl
theorem q1273 : (Jvm.Cond.soleField "SortedPostModel" "boxNow") ∈ lw_all := lw_g (lw_at lw_m6 5 rfl) rfl
theorem q1274 : (Jvm.Cond.lays "SortedPostModel" "SortedPostModel" "letters" "I") ∈ lw_all := lw_g (lw_at lw_m6 6 rfl) rfl
theorem q1275 : (Jvm.Cond.soleField "SortedPostModel" "letters") ∈ lw_all := lw_g (lw_at lw_m6 7 rfl) rfl
theorem q1276 : (Jvm.Cond.laysFinal "SortedPostModel" "SortedPostModel" "from" "[I") ∈ lw_all := lw_g (lw_at lw_m6 8 rfl) rfl
theorem q1277 : (Jvm.Cond.soleField "SortedPostModel" "from") ∈ lw_all := lw_g (lw_at lw_m6 9 rfl) rfl
theorem q1278 : (Jvm.Cond.laysFinal "SortedPostModel" "SortedPostModel" "to" "[I") ∈ lw_all := lw_g (lw_at lw_m6 10 rfl) rfl
theorem q1279 : (Jvm.Cond.soleField "SortedPostModel" "to") ∈ lw_all := lw_g (lw_at lw_m6 11 rfl) rfl
theorem q1280 : (Jvm.Cond.laysFinal "SortedPostModel" "SortedPostModel" "words" "[I") ∈ lw_all := lw_g (lw_at lw_m6 12 rfl) rfl
theorem q1281 : (Jvm.Cond.soleField "SortedPostModel" "words") ∈ lw_all := lw_g (lw_at lw_m6 13 rfl) rfl
theorem q1282 : (Jvm.Cond.laysFinal "SortedPostModel" "SortedPostModel" "sizes" "[I") ∈ lw_all := lw_g (lw_at lw_m6 14 rfl) rfl
theorem q1283 : (Jvm.Cond.soleField "SortedPostModel" "sizes") ∈ lw_all := lw_g (lw_at lw_m6 15 rfl) rfl
theorem q1284 : (Jvm.Cond.laysFinal "SortedPostModel" "SortedPostModel" "flags" "[I") ∈ lw_all := lw_g (lw_at lw_m6 16 rfl) rfl
theorem q1285 : (Jvm.Cond.soleField "SortedPostModel" "flags") ∈ lw_all := lw_g (lw_at lw_m6 17 rfl) rfl
theorem q1286 : (Jvm.Cond.laysFinal "SortedPostModel" "SortedPostModel" "ids" "[I") ∈ lw_all := lw_g (lw_at lw_m6 18 rfl) rfl
theorem q1287 : (Jvm.Cond.soleField "SortedPostModel" "ids") ∈ lw_all := lw_g (lw_at lw_m6 19 rfl) rfl
theorem q1288 : (Jvm.Cond.laysFinal "SortedPostModel" "SortedPostModel" "refs" "[I") ∈ lw_all := lw_g (lw_at lw_m6 20 rfl) rfl
theorem q1289 : (Jvm.Cond.soleField "SortedPostModel" "refs") ∈ lw_all := lw_g (lw_at lw_m6 21 rfl) rfl
theorem q1290 : (Jvm.Cond.laysFinal "SortedPostModel" "SortedPostModel" "dates" "[I") ∈ lw_all := lw_g (lw_at lw_m6 22 rfl) rfl
theorem q1291 : (Jvm.Cond.soleField "SortedPostModel" "dates") ∈ lw_all := lw_g (lw_at lw_m6 23 rfl) rfl
theorem q1292 : (Jvm.Cond.laysFinal "SortedPostModel" "SortedPostModel" "had" "[Z") ∈ lw_all := lw_g (lw_at lw_m6 24 rfl) rfl
theorem q1293 : (Jvm.Cond.soleField "SortedPostModel" "had") ∈ lw_all := lw_g (lw_at lw_m6 25 rfl) rfl
theorem q1294 : (Jvm.Cond.laysFinal "SortedPostModel" "SortedPostModel" "answered" "[I") ∈ lw_all := lw_g (lw_at lw_m6 26 rfl) rfl
theorem q1295 : (Jvm.Cond.soleField "SortedPostModel" "answered") ∈ lw_all := lw_g (lw_at lw_m6 27 rfl) rfl
theorem q1296 : (Jvm.Cond.lays "SortedPostModel" "SortedPostModel" "sentOn" "I") ∈ lw_all := lw_g (lw_at lw_m6 28 rfl) rfl
theorem q1297 : (Jvm.Cond.soleField "SortedPostModel" "sentOn") ∈ lw_all := lw_g (lw_at lw_m6 29 rfl) rfl
theorem q1298 : (Jvm.Cond.lays "SortedPostModel" "SortedPostModel" "dropped" "I") ∈ lw_all := lw_g (lw_at lw_m6 30 rfl) rfl
theorem q1299 : (Jvm.Cond.soleField "SortedPostModel" "dropped") ∈ lw_all := lw_g (lw_at lw_m6 31 rfl) rfl
theorem q1300 : (Jvm.Cond.lays "SortedPostModel" "SortedPostModel" "answers" "I") ∈ lw_all := lw_g (lw_at lw_m6 32 rfl) rfl
theorem q1301 : (Jvm.Cond.soleField "SortedPostModel" "answers") ∈ lw_all := lw_g (lw_at lw_m6 33 rfl) rfl
theorem q1302 : (Jvm.Cond.lays "SortedPostModel" "SortedPostModel" "full" "I") ∈ lw_all := lw_g (lw_at lw_m6 34 rfl) rfl
theorem q1303 : (Jvm.Cond.soleField "SortedPostModel" "full") ∈ lw_all := lw_g (lw_at lw_m6 35 rfl) rfl
theorem q1304 : (Jvm.Cond.laysFinal "SortedPostModel" "SortedPostModel" "trayMany" "[I") ∈ lw_all := lw_g (lw_at lw_m6 36 rfl) rfl
theorem q1305 : (Jvm.Cond.soleField "SortedPostModel" "trayMany") ∈ lw_all := lw_g (lw_at lw_m6 37 rfl) rfl
theorem q1306 : (Jvm.Cond.laysFinal "SortedPostModel" "SortedPostModel" "copyOf" "[I") ∈ lw_all := lw_g (lw_at lw_m6 38 rfl) rfl
theorem q1307 : (Jvm.Cond.soleField "SortedPostModel" "copyOf") ∈ lw_all := lw_g (lw_at lw_m6 39 rfl) rfl
theorem q1308 : (Jvm.Cond.laysFinal "SortedPostModel" "SortedPostModel" "marked" "[Z") ∈ lw_all := lw_g (lw_at lw_m6 40 rfl) rfl
theorem q1309 : (Jvm.Cond.soleField "SortedPostModel" "marked") ∈ lw_all := lw_g (lw_at lw_m6 41 rfl) rfl
theorem q1310 : (Jvm.Cond.laysFinal "SortedPostModel" "SortedPostModel" "learnt" "[I") ∈ lw_all := lw_g (lw_at lw_m6 42 rfl) rfl
theorem q1311 : (Jvm.Cond.soleField "SortedPostModel" "learnt") ∈ lw_all := lw_g (lw_at lw_m6 43 rfl) rfl
theorem q1312 : (Jvm.Cond.lays "SortedPostModel" "SortedPostModel" "filed" "I") ∈ lw_all := lw_g (lw_at lw_m6 44 rfl) rfl
theorem q1313 : (Jvm.Cond.soleField "SortedPostModel" "filed") ∈ lw_all := lw_g (lw_at lw_m6 45 rfl) rfl
theorem q1314 : (Jvm.Cond.laysFinal "SortedPostModel" "SortedPostModel" "comingLetter" "[I") ∈ lw_all := lw_g (lw_at lw_m6 46 rfl) rfl
theorem q1315 : (Jvm.Cond.soleField "SortedPostModel" "comingLetter") ∈ lw_all := lw_g (lw_at lw_m6 47 rfl) rfl
theorem q1316 : (Jvm.Cond.laysFinal "SortedPostModel" "SortedPostModel" "comingBox" "[I") ∈ lw_all := lw_g (lw_at lw_m6 48 rfl) rfl
theorem q1317 : (Jvm.Cond.soleField "SortedPostModel" "comingBox") ∈ lw_all := lw_g (lw_at lw_m6 49 rfl) rfl
theorem q1318 : (Jvm.Cond.laysFinal "SortedPostModel" "SortedPostModel" "comingTrace" "[I") ∈ lw_all := lw_g (lw_at lw_m6 50 rfl) rfl
theorem q1319 : (Jvm.Cond.soleField "SortedPostModel" "comingTrace") ∈ lw_all := lw_g (lw_at lw_m6 51 rfl) rfl
theorem q1320 : (Jvm.Cond.lays "SortedPostModel" "SortedPostModel" "comings" "I") ∈ lw_all := lw_g (lw_at lw_m6 52 rfl) rfl
theorem q1321 : (Jvm.Cond.soleField "SortedPostModel" "comings") ∈ lw_all := lw_g (lw_at lw_m6 53 rfl) rfl
theorem q1322 : (Jvm.Cond.lays "SortedPostModel" "SortedPostModel" "toFile" "I") ∈ lw_all := lw_g (lw_at lw_m6 54 rfl) rfl
theorem q1323 : (Jvm.Cond.soleField "SortedPostModel" "toFile") ∈ lw_all := lw_g (lw_at lw_m6 55 rfl) rfl
theorem q1324 : (Jvm.Cond.lays "SortedPostModel" "SortedPostModel" "sentNow" "I") ∈ lw_all := lw_g (lw_at lw_m6 56 rfl) rfl
theorem q1325 : (Jvm.Cond.soleField "SortedPostModel" "sentNow") ∈ lw_all := lw_g (lw_at lw_m6 57 rfl) rfl
theorem q1326 : (Jvm.Cond.lays "SortedPostModel" "SortedPostModel" "isDropped" "Z") ∈ lw_all := lw_g (lw_at lw_m6 58 rfl) rfl
theorem q1327 : (Jvm.Cond.soleField "SortedPostModel" "isDropped") ∈ lw_all := lw_g (lw_at lw_m6 59 rfl) rfl
theorem q1328 : (Jvm.Cond.lays "SortedPostModel" "SortedPostModel" "isMarked" "Z") ∈ lw_all := lw_g (lw_at lw_m6 60 rfl) rfl
theorem q1329 : (Jvm.Cond.soleField "SortedPostModel" "isMarked") ∈ lw_all := lw_g (lw_at lw_m6 61 rfl) rfl
theorem q1330 : (Jvm.Cond.lays "SortedPostModel" "SortedPostModel" "answerNow" "I") ∈ lw_all := lw_g (lw_at lw_m6 62 rfl) rfl
theorem q1331 : (Jvm.Cond.soleField "SortedPostModel" "answerNow") ∈ lw_all := lw_g (lw_at lw_m6 63 rfl) rfl
theorem q1332 : (Jvm.Cond.laysFinal "SortedPostModel" "SortedPostModel" "lanes" "[I") ∈ lw_all := lw_g (lw_at lw_m6 64 rfl) rfl
theorem q1333 : (Jvm.Cond.soleField "SortedPostModel" "lanes") ∈ lw_all := lw_g (lw_at lw_m6 65 rfl) rfl
theorem q1334 : (Jvm.Cond.laysFinal "SortedPostModel" "SortedPostModel" "longs" "[I") ∈ lw_all := lw_g (lw_at lw_m6 66 rfl) rfl
theorem q1335 : (Jvm.Cond.soleField "SortedPostModel" "longs") ∈ lw_all := lw_g (lw_at lw_m6 67 rfl) rfl
theorem q1336 : (Jvm.Cond.laysFinal "SortedPostModel" "SortedPostModel" "items" "[I") ∈ lw_all := lw_g (lw_at lw_m6 68 rfl) rfl
theorem q1337 : (Jvm.Cond.soleField "SortedPostModel" "items") ∈ lw_all := lw_g (lw_at lw_m6 69 rfl) rfl
theorem q1338 : (Jvm.Cond.laysFinal "SortedPostModel" "SortedPostModel" "junkMany" "[I") ∈ lw_all := lw_g (lw_at lw_m6 70 rfl) rfl
theorem q1339 : (Jvm.Cond.soleField "SortedPostModel" "junkMany") ∈ lw_all := lw_g (lw_at lw_m6 71 rfl) rfl
theorem q1340 : (Jvm.Cond.laysFinal "SortedPostModel" "SortedPostModel" "knows" "[I") ∈ lw_all := lw_g (lw_at lw_m6 72 rfl) rfl
theorem q1341 : (Jvm.Cond.soleField "SortedPostModel" "knows") ∈ lw_all := lw_g (lw_at lw_m6 73 rfl) rfl
theorem q1342 : (Jvm.Cond.laysFinal "SortedPostModel" "SortedPostModel" "atomRow" "[I") ∈ lw_all := lw_g (lw_at lw_m6 74 rfl) rfl
theorem q1343 : (Jvm.Cond.soleField "SortedPostModel" "atomRow") ∈ lw_all := lw_g (lw_at lw_m6 75 rfl) rfl
theorem q1344 : (Jvm.Cond.lays "SortedPostModel" "SortedPostModel" "atomMany" "I") ∈ lw_all := lw_g (lw_at lw_m6 76 rfl) rfl
theorem q1345 : (Jvm.Cond.soleField "SortedPostModel" "atomMany") ∈ lw_all := lw_g (lw_at lw_m6 77 rfl) rfl
theorem q1346 : (Jvm.Cond.superclass "SortedPostModel" "java/lang/Object") ∈ lw_all := lw_g (lw_at lw_m6 78 rfl) rfl
theorem q1348 : (Jvm.Cond.instanceMethod ({ cls := "SortedPostModel", name := "type", desc := "(JI)I" } : Jvm.MethodName)) ∈ lw_all := lw_g (lw_at lw_m6 80 rfl) rfl
theorem q1349 : (Jvm.Cond.selects "SortedPostModel" ({ cls := "SortedPostModel", name := "type", desc := "(JI)I" } : Jvm.MethodName) ({ cls := "SortedPostModel", name := "type", desc := "(JI)I" } : Jvm.MethodName)) ∈ lw_all := lw_g (lw_at lw_m6 81 rfl) rfl
theorem q1350 : (Jvm.Cond.code ({ cls := "SortedPostModel", name := "type", desc := "(JI)I" } : Jvm.MethodName) prog_21_method_6_code (5 : Nat) (Option.some Jvm.ClassFile.FieldType.int)) ∈ lw_all := lw_g (lw_at lw_m6 82 rfl) rfl
theorem q1351 : (Jvm.Cond.methodLink "SortedPostModel" (122 : Nat) ({ cls := "SortedPostModel", name := "in", desc := "(III)Z" } : Jvm.MethodName)) ∈ lw_all := lw_g (lw_at lw_m6 83 rfl) rfl
theorem q1352 : (Jvm.Cond.static ({ cls := "SortedPostModel", name := "in", desc := "(III)Z" } : Jvm.MethodName)) ∈ lw_all := lw_g (lw_at lw_m6 84 rfl) rfl
theorem q1353 : (Jvm.Cond.code ({ cls := "SortedPostModel", name := "in", desc := "(III)Z" } : Jvm.MethodName) prog_21_method_2_code (3 : Nat) (Option.some Jvm.ClassFile.FieldType.boolean)) ∈ lw_all := lw_g (lw_at lw_m6 85 rfl) rfl
theorem q1354 : (Jvm.Cond.constantLong "SortedPostModel" (126 : Nat) (255 : Int64)) ∈ lw_all := lw_g (lw_at lw_m6 86 rfl) rfl
theorem q1356 : (Jvm.Cond.instanceMethod ({ cls := "SortedPostModel", name := "rules", desc := "(I)I" } : Jvm.MethodName)) ∈ lw_all := lw_g (lw_at lw_m6 88 rfl) rfl
theorem q1357 : (Jvm.Cond.selects "SortedPostModel" ({ cls := "SortedPostModel", name := "rules", desc := "(I)I" } : Jvm.MethodName) ({ cls := "SortedPostModel", name := "rules", desc := "(I)I" } : Jvm.MethodName)) ∈ lw_all := lw_g (lw_at lw_m6 89 rfl) rfl
theorem q1358 : (Jvm.Cond.code ({ cls := "SortedPostModel", name := "rules", desc := "(I)I" } : Jvm.MethodName) prog_21_method_17_code (5 : Nat) (Option.some Jvm.ClassFile.FieldType.int)) ∈ lw_all := lw_g (lw_at lw_m6 90 rfl) rfl
theorem q1359 : (Jvm.Cond.methodLink "SortedPostModel" (186 : Nat) ({ cls := "SortedPostModel", name := "isBox", desc := "(I)Z" } : Jvm.MethodName)) ∈ lw_all := lw_g (lw_at lw_m6 91 rfl) rfl
theorem q1360 : (Jvm.Cond.static ({ cls := "SortedPostModel", name := "isBox", desc := "(I)Z" } : Jvm.MethodName)) ∈ lw_all := lw_g (lw_at lw_m6 92 rfl) rfl
theorem q1361 : (Jvm.Cond.code ({ cls := "SortedPostModel", name := "isBox", desc := "(I)Z" } : Jvm.MethodName) prog_21_method_4_code (1 : Nat) (Option.some Jvm.ClassFile.FieldType.boolean)) ∈ lw_all := lw_g (lw_at lw_m6 93 rfl) rfl
theorem q1362 : (Jvm.Cond.methodLink "SortedPostModel" (189 : Nat) ({ cls := "SortedPostModel", name := "rule", desc := "()V" } : Jvm.MethodName)) ∈ lw_all := lw_g (lw_at lw_m6 94 rfl) rfl
theorem q1363 : (Jvm.Cond.privateMethod ({ cls := "SortedPostModel", name := "rule", desc := "()V" } : Jvm.MethodName)) ∈ lw_tbl := lw_at lw_m6 95 rfl
theorem q1364 : (Jvm.Cond.instanceMethod ({ cls := "SortedPostModel", name := "rule", desc := "()V" } : Jvm.MethodName)) ∈ lw_all := lw_g (lw_at lw_m6 96 rfl) rfl
theorem q1365 : (Jvm.Cond.code ({ cls := "SortedPostModel", name := "rule", desc := "()V" } : Jvm.MethodName) prog_21_method_16_code (3 : Nat) (Option.none : Option Jvm.ClassFile.FieldType)) ∈ lw_all := lw_g (lw_at lw_m6 97 rfl) rfl
theorem q1366 : (Jvm.Cond.methodLink "SortedPostModel" (180 : Nat) ({ cls := "SortedPostModel", name := "expression", desc := "()V" } : Jvm.MethodName)) ∈ lw_all := lw_g (lw_at lw_m6 98 rfl) rfl
theorem q1367 : (Jvm.Cond.privateMethod ({ cls := "SortedPostModel", name := "expression", desc := "()V" } : Jvm.MethodName)) ∈ lw_tbl := lw_at lw_m6 99 rfl
theorem q1368 : (Jvm.Cond.instanceMethod ({ cls := "SortedPostModel", name := "expression", desc := "()V" } : Jvm.MethodName)) ∈ lw_all := lw_g (lw_at lw_m6 100 rfl) rfl
theorem q1369 : (Jvm.Cond.code ({ cls := "SortedPostModel", name := "expression", desc := "()V" } : Jvm.MethodName) prog_21_method_14_code (4 : Nat) (Option.none : Option Jvm.ClassFile.FieldType)) ∈ lw_all := lw_g (lw_at lw_m6 101 rfl) rfl
theorem q1370 : (Jvm.Cond.methodLink "SortedPostModel" (138 : Nat) ({ cls := "SortedPostModel", name := "next", desc := "()I" } : Jvm.MethodName)) ∈ lw_all := lw_g (lw_at lw_m6 102 rfl) rfl
theorem q1371 : (Jvm.Cond.privateMethod ({ cls := "SortedPostModel", name := "next", desc := "()I" } : Jvm.MethodName)) ∈ lw_tbl := lw_at lw_m6 103 rfl
theorem q1372 : (Jvm.Cond.instanceMethod ({ cls := "SortedPostModel", name := "next", desc := "()I" } : Jvm.MethodName)) ∈ lw_all := lw_g (lw_at lw_m6 104 rfl) rfl
theorem q1373 : (Jvm.Cond.code ({ cls := "SortedPostModel", name := "next", desc := "()I" } : Jvm.MethodName) prog_21_method_7_code (1 : Nat) (Option.some Jvm.ClassFile.FieldType.int)) ∈ lw_all := lw_g (lw_at lw_m6 105 rfl) rfl
theorem q1374 : (Jvm.Cond.methodLink "SortedPostModel" (167 : Nat) ({ cls := "SortedPostModel", name := "opens", desc := "(I)V" } : Jvm.MethodName)) ∈ lw_all := lw_g (lw_at lw_m6 106 rfl) rfl
theorem q1375 : (Jvm.Cond.privateMethod ({ cls := "SortedPostModel", name := "opens", desc := "(I)V" } : Jvm.MethodName)) ∈ lw_tbl := lw_at lw_m6 107 rfl
theorem q1376 : (Jvm.Cond.instanceMethod ({ cls := "SortedPostModel", name := "opens", desc := "(I)V" } : Jvm.MethodName)) ∈ lw_all := lw_g (lw_at lw_m6 108 rfl) rfl
theorem q1377 : (Jvm.Cond.code ({ cls := "SortedPostModel", name := "opens", desc := "(I)V" } : Jvm.MethodName) prog_21_method_13_code (2 : Nat) (Option.none : Option Jvm.ClassFile.FieldType)) ∈ lw_all := lw_g (lw_at lw_m6 109 rfl) rfl
theorem q1378 : (Jvm.Cond.methodLink "SortedPostModel" (142 : Nat) ({ cls := "SortedPostModel", name := "fails", desc := "(I)V" } : Jvm.MethodName)) ∈ lw_all := lw_g (lw_at lw_m6 110 rfl) rfl
theorem q1379 : (Jvm.Cond.privateMethod ({ cls := "SortedPostModel", name := "fails", desc := "(I)V" } : Jvm.MethodName)) ∈ lw_tbl := lw_at lw_m6 111 rfl
theorem q1380 : (Jvm.Cond.instanceMethod ({ cls := "SortedPostModel", name := "fails", desc := "(I)V" } : Jvm.MethodName)) ∈ lw_all := lw_g (lw_at lw_m6 112 rfl) rfl
theorem q1381 : (Jvm.Cond.code ({ cls := "SortedPostModel", name := "fails", desc := "(I)V" } : Jvm.MethodName) prog_21_method_8_code (2 : Nat) (Option.none : Option Jvm.ClassFile.FieldType)) ∈ lw_all := lw_g (lw_at lw_m6 113 rfl) rfl
theorem q1382 : (Jvm.Cond.methodLink "SortedPostModel" (170 : Nat) ({ cls := "SortedPostModel", name := "atom", desc := "(I)Z" } : Jvm.MethodName)) ∈ lw_all := lw_g (lw_at lw_m6 114 rfl) rfl
theorem q1383 : (Jvm.Cond.privateMethod ({ cls := "SortedPostModel", name := "atom", desc := "(I)Z" } : Jvm.MethodName)) ∈ lw_tbl := lw_at lw_m6 115 rfl
theorem q1384 : (Jvm.Cond.instanceMethod ({ cls := "SortedPostModel", name := "atom", desc := "(I)Z" } : Jvm.MethodName)) ∈ lw_all := lw_g (lw_at lw_m6 116 rfl) rfl
theorem q1385 : (Jvm.Cond.code ({ cls := "SortedPostModel", name := "atom", desc := "(I)Z" } : Jvm.MethodName) prog_21_method_11_code (4 : Nat) (Option.some Jvm.ClassFile.FieldType.boolean)) ∈ lw_all := lw_g (lw_at lw_m6 117 rfl) rfl
theorem q1386 : (Jvm.Cond.constant "SortedPostModel" (149 : Nat) (60000 : Int32)) ∈ lw_all := lw_g (lw_at lw_m6 118 rfl) rfl
theorem q1387 : (Jvm.Cond.methodLink "SortedPostModel" (150 : Nat) ({ cls := "SortedPostModel", name := "number", desc := "(I)I" } : Jvm.MethodName)) ∈ lw_all := lw_g (lw_at lw_m6 119 rfl) rfl
theorem q1388 : (Jvm.Cond.privateMethod ({ cls := "SortedPostModel", name := "number", desc := "(I)I" } : Jvm.MethodName)) ∈ lw_tbl := lw_at lw_m6 120 rfl
theorem q1389 : (Jvm.Cond.instanceMethod ({ cls := "SortedPostModel", name := "number", desc := "(I)I" } : Jvm.MethodName)) ∈ lw_all := lw_g (lw_at lw_m6 121 rfl) rfl
theorem q1390 : (Jvm.Cond.code ({ cls := "SortedPostModel", name := "number", desc := "(I)I" } : Jvm.MethodName) prog_21_method_9_code (4 : Nat) (Option.some Jvm.ClassFile.FieldType.int)) ∈ lw_all := lw_g (lw_at lw_m6 122 rfl) rfl
theorem q1391 : (Jvm.Cond.constant "SortedPostModel" (154 : Nat) (1000000 : Int32)) ∈ lw_all := lw_g (lw_at lw_m6 123 rfl) rfl
theorem q1392 : (Jvm.Cond.methodLink "SortedPostModel" (155 : Nat) ({ cls := "SortedPostModel", name := "put", desc := "(I)V" } : Jvm.MethodName)) ∈ lw_all := lw_g (lw_at lw_m6 124 rfl) rfl
theorem q1393 : (Jvm.Cond.privateMethod ({ cls := "SortedPostModel", name := "put", desc := "(I)V" } : Jvm.MethodName)) ∈ lw_tbl := lw_at lw_m6 125 rfl
theorem q1394 : (Jvm.Cond.instanceMethod ({ cls := "SortedPostModel", name := "put", desc := "(I)V" } : Jvm.MethodName)) ∈ lw_all := lw_g (lw_at lw_m6 126 rfl) rfl
theorem q1395 : (Jvm.Cond.code ({ cls := "SortedPostModel", name := "put", desc := "(I)V" } : Jvm.MethodName) prog_21_method_10_code (2 : Nat) (Option.none : Option Jvm.ClassFile.FieldType)) ∈ lw_all := lw_g (lw_at lw_m6 127 rfl) rfl
theorem q1396 : (Jvm.Cond.methodLink "SortedPostModel" (174 : Nat) ({ cls := "SortedPostModel", name := "settle", desc := "(I)V" } : Jvm.MethodName)) ∈ lw_all := lw_g (lw_at lw_m6 128 rfl) rfl
theorem q1397 : (Jvm.Cond.privateMethod ({ cls := "SortedPostModel", name := "settle", desc := "(I)V" } : Jvm.MethodName)) ∈ lw_tbl := lw_at lw_m6 129 rfl
theorem q1398 : (Jvm.Cond.instanceMethod ({ cls := "SortedPostModel", name := "settle", desc := "(I)V" } : Jvm.MethodName)) ∈ lw_all := lw_g (lw_at lw_m6 130 rfl) rfl
theorem q1399 : (Jvm.Cond.code ({ cls := "SortedPostModel", name := "settle", desc := "(I)V" } : Jvm.MethodName) prog_21_method_12_code (3 : Nat) (Option.none : Option Jvm.ClassFile.FieldType)) ∈ lw_all := lw_g (lw_at lw_m6 131 rfl) rfl
theorem q1400 : (Jvm.Cond.constant "SortedPostModel" (164 : Nat) (10000000 : Int32)) ∈ lw_all := lw_g (lw_at lw_m6 132 rfl) rfl
theorem q1401 : (Jvm.Cond.constant "SortedPostModel" (165 : Nat) (11000000 : Int32)) ∈ lw_all := lw_g (lw_at lw_m6 133 rfl) rfl
theorem q1402 : (Jvm.Cond.constant "SortedPostModel" (166 : Nat) (12000000 : Int32)) ∈ lw_all := lw_g (lw_at lw_m6 134 rfl) rfl
theorem q1403 : (Jvm.Cond.methodLink "SortedPostModel" (183 : Nat) ({ cls := "SortedPostModel", name := "act", desc := "(I)V" } : Jvm.MethodName)) ∈ lw_all := lw_g (lw_at lw_m6 135 rfl) rfl
theorem q1404 : (Jvm.Cond.privateMethod ({ cls := "SortedPostModel", name := "act", desc := "(I)V" } : Jvm.MethodName)) ∈ lw_tbl := lw_at lw_m6 136 rfl
theorem q1405 : (Jvm.Cond.instanceMethod ({ cls := "SortedPostModel", name := "act", desc := "(I)V" } : Jvm.MethodName)) ∈ lw_all := lw_g (lw_at lw_m6 137 rfl) rfl
theorem q1406 : (Jvm.Cond.code ({ cls := "SortedPostModel", name := "act", desc := "(I)V" } : Jvm.MethodName) prog_21_method_15_code (4 : Nat) (Option.none : Option Jvm.ClassFile.FieldType)) ∈ lw_all := lw_g (lw_at lw_m6 138 rfl) rfl
theorem q1408 : (Jvm.Cond.instanceMethod ({ cls := "SortedPostModel", name := "quota", desc := "(III)I" } : Jvm.MethodName)) ∈ lw_all := lw_g (lw_at lw_m6 140 rfl) rfl
theorem q1409 : (Jvm.Cond.selects "SortedPostModel" ({ cls := "SortedPostModel", name := "quota", desc := "(III)I" } : Jvm.MethodName) ({ cls := "SortedPostModel", name := "quota", desc := "(III)I" } : Jvm.MethodName)) ∈ lw_all := lw_g (lw_at lw_m6 141 rfl) rfl
theorem q1410 : (Jvm.Cond.code ({ cls := "SortedPostModel", name := "quota", desc := "(III)I" } : Jvm.MethodName) prog_21_method_18_code (5 : Nat) (Option.some Jvm.ClassFile.FieldType.int)) ∈ lw_all := lw_g (lw_at lw_m6 142 rfl) rfl
theorem q1411 : (Jvm.Cond.methodLink "SortedPostModel" (192 : Nat) ({ cls := "SortedPostModel", name := "isTray", desc := "(I)Z" } : Jvm.MethodName)) ∈ lw_all := lw_g (lw_at lw_m6 143 rfl) rfl
theorem q1412 : (Jvm.Cond.static ({ cls := "SortedPostModel", name := "isTray", desc := "(I)Z" } : Jvm.MethodName)) ∈ lw_all := lw_g (lw_at lw_m6 144 rfl) rfl
theorem q1413 : (Jvm.Cond.code ({ cls := "SortedPostModel", name := "isTray", desc := "(I)Z" } : Jvm.MethodName) prog_21_method_5_code (1 : Nat) (Option.some Jvm.ClassFile.FieldType.boolean)) ∈ lw_all := lw_g (lw_at lw_m6 145 rfl) rfl
theorem q1415 : (Jvm.Cond.instanceMethod ({ cls := "SortedPostModel", name := "days", desc := "(II)I" } : Jvm.MethodName)) ∈ lw_all := lw_g (lw_at lw_m6 147 rfl) rfl
theorem q1416 : (Jvm.Cond.selects "SortedPostModel" ({ cls := "SortedPostModel", name := "days", desc := "(II)I" } : Jvm.MethodName) ({ cls := "SortedPostModel", name := "days", desc := "(II)I" } : Jvm.MethodName)) ∈ lw_all := lw_g (lw_at lw_m6 148 rfl) rfl
theorem q1417 : (Jvm.Cond.code ({ cls := "SortedPostModel", name := "days", desc := "(II)I" } : Jvm.MethodName) prog_21_method_19_code (4 : Nat) (Option.some Jvm.ClassFile.FieldType.int)) ∈ lw_all := lw_g (lw_at lw_m6 149 rfl) rfl
theorem q1419 : (Jvm.Cond.instanceMethod ({ cls := "SortedPostModel", name := "post", desc := "(IIIIIIII)I" } : Jvm.MethodName)) ∈ lw_all := lw_g (lw_at lw_m6 151 rfl) rfl
theorem q1420 : (Jvm.Cond.selects "SortedPostModel" ({ cls := "SortedPostModel", name := "post", desc := "(IIIIIIII)I" } : Jvm.MethodName) ({ cls := "SortedPostModel", name := "post", desc := "(IIIIIIII)I" } : Jvm.MethodName)) ∈ lw_all := lw_g (lw_at lw_m6 152 rfl) rfl
theorem q1421 : (Jvm.Cond.code ({ cls := "SortedPostModel", name := "post", desc := "(IIIIIIII)I" } : Jvm.MethodName) prog_21_method_36_code (9 : Nat) (Option.some Jvm.ClassFile.FieldType.int)) ∈ lw_all := lw_g (lw_at lw_m6 153 rfl) rfl
theorem q1422 : (Jvm.Cond.methodLink "SortedPostModel" (291 : Nat) ({ cls := "SortedPostModel", name := "isGood", desc := "(IIIIIIII)Z" } : Jvm.MethodName)) ∈ lw_all := lw_g (lw_at lw_m6 154 rfl) rfl
theorem q1423 : (Jvm.Cond.static ({ cls := "SortedPostModel", name := "isGood", desc := "(IIIIIIII)Z" } : Jvm.MethodName)) ∈ lw_all := lw_g (lw_at lw_m6 155 rfl) rfl
theorem q1424 : (Jvm.Cond.code ({ cls := "SortedPostModel", name := "isGood", desc := "(IIIIIIII)Z" } : Jvm.MethodName) prog_21_method_32_code (9 : Nat) (Option.some Jvm.ClassFile.FieldType.boolean)) ∈ lw_all := lw_g (lw_at lw_m6 156 rfl) rfl
theorem q1425 : (Jvm.Cond.constant "SortedPostModel" (281 : Nat) (65535 : Int32)) ∈ lw_all := lw_g (lw_at lw_m6 157 rfl) rfl
theorem q1426 : (Jvm.Cond.methodLink "SortedPostModel" (282 : Nat) ({ cls := "SortedPostModel", name := "bits", desc := "(I)I" } : Jvm.MethodName)) ∈ lw_all := lw_g (lw_at lw_m6 158 rfl) rfl
theorem q1427 : (Jvm.Cond.static ({ cls := "SortedPostModel", name := "bits", desc := "(I)I" } : Jvm.MethodName)) ∈ lw_all := lw_g (lw_at lw_m6 159 rfl) rfl
theorem q1428 : (Jvm.Cond.code ({ cls := "SortedPostModel", name := "bits", desc := "(I)I" } : Jvm.MethodName) prog_21_method_21_code (3 : Nat) (Option.some Jvm.ClassFile.FieldType.int)) ∈ lw_all := lw_g (lw_at lw_m6 160 rfl) rfl
theorem q1429 : (Jvm.Cond.methodLink "SortedPostModel" (295 : Nat) ({ cls := "SortedPostModel", name := "latest", desc := "()I" } : Jvm.MethodName)) ∈ lw_all := lw_g (lw_at lw_m6 161 rfl) rfl
theorem q1430 : (Jvm.Cond.privateMethod ({ cls := "SortedPostModel", name := "latest", desc := "()I" } : Jvm.MethodName)) ∈ lw_tbl := lw_at lw_m6 162 rfl
theorem q1431 : (Jvm.Cond.instanceMethod ({ cls := "SortedPostModel", name := "latest", desc := "()I" } : Jvm.MethodName)) ∈ lw_all := lw_g (lw_at lw_m6 163 rfl) rfl
theorem q1432 : (Jvm.Cond.code ({ cls := "SortedPostModel", name := "latest", desc := "()I" } : Jvm.MethodName) prog_21_method_33_code (1 : Nat) (Option.some Jvm.ClassFile.FieldType.int)) ∈ lw_all := lw_g (lw_at lw_m6 164 rfl) rfl
theorem q1433 : (Jvm.Cond.methodLink "SortedPostModel" (298 : Nat) ({ cls := "SortedPostModel", name := "isFull", desc := "()Z" } : Jvm.MethodName)) ∈ lw_all := lw_g (lw_at lw_m6 165 rfl) rfl
theorem q1434 : (Jvm.Cond.privateMethod ({ cls := "SortedPostModel", name := "isFull", desc := "()Z" } : Jvm.MethodName)) ∈ lw_tbl := lw_at lw_m6 166 rfl
theorem q1435 : (Jvm.Cond.instanceMethod ({ cls := "SortedPostModel", name := "isFull", desc := "()Z" } : Jvm.MethodName)) ∈ lw_all := lw_g (lw_at lw_m6 167 rfl) rfl
theorem q1436 : (Jvm.Cond.code ({ cls := "SortedPostModel", name := "isFull", desc := "()Z" } : Jvm.MethodName) prog_21_method_34_code (1 : Nat) (Option.some Jvm.ClassFile.FieldType.boolean)) ∈ lw_all := lw_g (lw_at lw_m6 168 rfl) rfl
theorem q1437 : (Jvm.Cond.methodLink "SortedPostModel" (285 : Nat) ({ cls := "SortedPostModel", name := "copies", desc := "()I" } : Jvm.MethodName)) ∈ lw_all := lw_g (lw_at lw_m6 169 rfl) rfl
theorem q1438 : (Jvm.Cond.privateMethod ({ cls := "SortedPostModel", name := "copies", desc := "()I" } : Jvm.MethodName)) ∈ lw_tbl := lw_at lw_m6 170 rfl
theorem q1439 : (Jvm.Cond.instanceMethod ({ cls := "SortedPostModel", name := "copies", desc := "()I" } : Jvm.MethodName)) ∈ lw_all := lw_g (lw_at lw_m6 171 rfl) rfl
theorem q1440 : (Jvm.Cond.code ({ cls := "SortedPostModel", name := "copies", desc := "()I" } : Jvm.MethodName) prog_21_method_22_code (3 : Nat) (Option.some Jvm.ClassFile.FieldType.int)) ∈ lw_all := lw_g (lw_at lw_m6 172 rfl) rfl
theorem q1441 : (Jvm.Cond.methodLink "SortedPostModel" (302 : Nat) ({ cls := "SortedPostModel", name := "posted", desc := "(IIIIIIII)V" } : Jvm.MethodName)) ∈ lw_all := lw_g (lw_at lw_m6 173 rfl) rfl
theorem q1442 : (Jvm.Cond.privateMethod ({ cls := "SortedPostModel", name := "posted", desc := "(IIIIIIII)V" } : Jvm.MethodName)) ∈ lw_tbl := lw_at lw_m6 174 rfl
theorem q1443 : (Jvm.Cond.instanceMethod ({ cls := "SortedPostModel", name := "posted", desc := "(IIIIIIII)V" } : Jvm.MethodName)) ∈ lw_all := lw_g (lw_at lw_m6 175 rfl) rfl
theorem q1444 : (Jvm.Cond.code ({ cls := "SortedPostModel", name := "posted", desc := "(IIIIIIII)V" } : Jvm.MethodName) prog_21_method_35_code (11 : Nat) (Option.none : Option Jvm.ClassFile.FieldType)) ∈ lw_all := lw_g (lw_at lw_m6 176 rfl) rfl
theorem q1445 : (Jvm.Cond.methodLink "SortedPostModel" (230 : Nat) ({ cls := "SortedPostModel", name := "add", desc := "(IIIIIIII)V" } : Jvm.MethodName)) ∈ lw_all := lw_g (lw_at lw_m6 177 rfl) rfl
theorem q1446 : (Jvm.Cond.privateMethod ({ cls := "SortedPostModel", name := "add", desc := "(IIIIIIII)V" } : Jvm.MethodName)) ∈ lw_tbl := lw_at lw_m6 178 rfl
theorem q1447 : (Jvm.Cond.instanceMethod ({ cls := "SortedPostModel", name := "add", desc := "(IIIIIIII)V" } : Jvm.MethodName)) ∈ lw_all := lw_g (lw_at lw_m6 179 rfl) rfl
theorem q1448 : (Jvm.Cond.code ({ cls := "SortedPostModel", name := "add", desc := "(IIIIIIII)V" } : Jvm.MethodName) prog_21_method_27_code (9 : Nat) (Option.none : Option Jvm.ClassFile.FieldType)) ∈ lw_all := lw_g (lw_at lw_m6 180 rfl) rfl
theorem q1449 : (Jvm.Cond.methodLink "SortedPostModel" (243 : Nat) ({ cls := "SortedPostModel", name := "toCome", desc := "(III)V" } : Jvm.MethodName)) ∈ lw_all := lw_g (lw_at lw_m6 181 rfl) rfl
theorem q1450 : (Jvm.Cond.privateMethod ({ cls := "SortedPostModel", name := "toCome", desc := "(III)V" } : Jvm.MethodName)) ∈ lw_tbl := lw_at lw_m6 182 rfl
theorem q1451 : (Jvm.Cond.instanceMethod ({ cls := "SortedPostModel", name := "toCome", desc := "(III)V" } : Jvm.MethodName)) ∈ lw_all := lw_g (lw_at lw_m6 183 rfl) rfl
theorem q1452 : (Jvm.Cond.code ({ cls := "SortedPostModel", name := "toCome", desc := "(III)V" } : Jvm.MethodName) prog_21_method_24_code (4 : Nat) (Option.none : Option Jvm.ClassFile.FieldType)) ∈ lw_all := lw_g (lw_at lw_m6 184 rfl) rfl
theorem q1453 : (Jvm.Cond.methodLink "SortedPostModel" (288 : Nat) ({ cls := "SortedPostModel", name := "comes", desc := "(III)V" } : Jvm.MethodName)) ∈ lw_all := lw_g (lw_at lw_m6 185 rfl) rfl
theorem q1454 : (Jvm.Cond.privateMethod ({ cls := "SortedPostModel", name := "comes", desc := "(III)V" } : Jvm.MethodName)) ∈ lw_tbl := lw_at lw_m6 186 rfl
theorem q1455 : (Jvm.Cond.instanceMethod ({ cls := "SortedPostModel", name := "comes", desc := "(III)V" } : Jvm.MethodName)) ∈ lw_all := lw_g (lw_at lw_m6 187 rfl) rfl
theorem q1456 : (Jvm.Cond.code ({ cls := "SortedPostModel", name := "comes", desc := "(III)V" } : Jvm.MethodName) prog_21_method_29_code (9 : Nat) (Option.none : Option Jvm.ClassFile.FieldType)) ∈ lw_all := lw_g (lw_at lw_m6 188 rfl) rfl
theorem q1457 : (Jvm.Cond.methodLink "SortedPostModel" (260 : Nat) ({ cls := "SortedPostModel", name := "holds", desc := "(II)Z" } : Jvm.MethodName)) ∈ lw_all := lw_g (lw_at lw_m6 189 rfl) rfl
theorem q1458 : (Jvm.Cond.privateMethod ({ cls := "SortedPostModel", name := "holds", desc := "(II)Z" } : Jvm.MethodName)) ∈ lw_tbl := lw_at lw_m6 190 rfl
theorem q1459 : (Jvm.Cond.instanceMethod ({ cls := "SortedPostModel", name := "holds", desc := "(II)Z" } : Jvm.MethodName)) ∈ lw_all := lw_g (lw_at lw_m6 191 rfl) rfl
theorem q1460 : (Jvm.Cond.code ({ cls := "SortedPostModel", name := "holds", desc := "(II)Z" } : Jvm.MethodName) prog_21_method_20_code (6 : Nat) (Option.some Jvm.ClassFile.FieldType.boolean)) ∈ lw_all := lw_g (lw_at lw_m6 192 rfl) rfl
theorem q1461 : (Jvm.Cond.constant "SortedPostModel" (195 : Nat) (9000000 : Int32)) ∈ lw_all := lw_g (lw_at lw_m6 193 rfl) rfl
theorem q1462 : (Jvm.Cond.methodLink "SortedPostModel" (203 : Nat) ({ cls := "SortedPostModel", name := "numberOf", desc := "(I)I" } : Jvm.MethodName)) ∈ lw_all := lw_g (lw_at lw_m6 194 rfl) rfl
theorem q1463 : (Jvm.Cond.privateMethod ({ cls := "SortedPostModel", name := "numberOf", desc := "(I)I" } : Jvm.MethodName)) ∈ lw_tbl := lw_at lw_m6 195 rfl
theorem q1464 : (Jvm.Cond.instanceMethod ({ cls := "SortedPostModel", name := "numberOf", desc := "(I)I" } : Jvm.MethodName)) ∈ lw_all := lw_g (lw_at lw_m6 196 rfl) rfl
theorem q1465 : (Jvm.Cond.code ({ cls := "SortedPostModel", name := "numberOf", desc := "(I)I" } : Jvm.MethodName) prog_21_method_57_code (3 : Nat) (Option.some Jvm.ClassFile.FieldType.int)) ∈ lw_all := lw_g (lw_at lw_m6 197 rfl) rfl
theorem q1466 : (Jvm.Cond.methodLink "SortedPostModel" (206 : Nat) ({ cls := "SortedPostModel", name := "isSo", desc := "(I)Z" } : Jvm.MethodName)) ∈ lw_all := lw_g (lw_at lw_m6 198 rfl) rfl
theorem q1467 : (Jvm.Cond.privateMethod ({ cls := "SortedPostModel", name := "isSo", desc := "(I)Z" } : Jvm.MethodName)) ∈ lw_tbl := lw_at lw_m6 199 rfl
theorem q1468 : (Jvm.Cond.instanceMethod ({ cls := "SortedPostModel", name := "isSo", desc := "(I)Z" } : Jvm.MethodName)) ∈ lw_all := lw_g (lw_at lw_m6 200 rfl) rfl
theorem q1469 : (Jvm.Cond.code ({ cls := "SortedPostModel", name := "isSo", desc := "(I)Z" } : Jvm.MethodName) prog_21_method_23_code (4 : Nat) (Option.some Jvm.ClassFile.FieldType.boolean)) ∈ lw_all := lw_g (lw_at lw_m6 201 rfl) rfl
theorem q1470 : (Jvm.Cond.methodLink "SortedPostModel" (212 : Nat) ({ cls := "SortedPostModel", name := "isJunk", desc := "(I)Z" } : Jvm.MethodName)) ∈ lw_all := lw_g (lw_at lw_m6 202 rfl) rfl
theorem q1471 : (Jvm.Cond.privateMethod ({ cls := "SortedPostModel", name := "isJunk", desc := "(I)Z" } : Jvm.MethodName)) ∈ lw_tbl := lw_at lw_m6 203 rfl
theorem q1472 : (Jvm.Cond.instanceMethod ({ cls := "SortedPostModel", name := "isJunk", desc := "(I)Z" } : Jvm.MethodName)) ∈ lw_all := lw_g (lw_at lw_m6 204 rfl) rfl
theorem q1473 : (Jvm.Cond.code ({ cls := "SortedPostModel", name := "isJunk", desc := "(I)Z" } : Jvm.MethodName) prog_21_method_52_code (7 : Nat) (Option.some Jvm.ClassFile.FieldType.boolean)) ∈ lw_all := lw_g (lw_at lw_m6 205 rfl) rfl
theorem q1474 : (Jvm.Cond.constantLong "SortedPostModel" (317 : Nat) (2 : Int64)) ∈ lw_all := lw_g (lw_at lw_m6 206 rfl) rfl
theorem q1475 : (Jvm.Cond.methodLink "SortedPostModel" (263 : Nat) ({ cls := "SortedPostModel", name := "acts", desc := "(IIII)V" } : Jvm.MethodName)) ∈ lw_all := lw_g (lw_at lw_m6 207 rfl) rfl
theorem q1476 : (Jvm.Cond.privateMethod ({ cls := "SortedPostModel", name := "acts", desc := "(IIII)V" } : Jvm.MethodName)) ∈ lw_tbl := lw_at lw_m6 208 rfl
theorem q1477 : (Jvm.Cond.instanceMethod ({ cls := "SortedPostModel", name := "acts", desc := "(IIII)V" } : Jvm.MethodName)) ∈ lw_all := lw_g (lw_at lw_m6 209 rfl) rfl
theorem q1478 : (Jvm.Cond.code ({ cls := "SortedPostModel", name := "acts", desc := "(IIII)V" } : Jvm.MethodName) prog_21_method_28_code (6 : Nat) (Option.none : Option Jvm.ClassFile.FieldType)) ∈ lw_all := lw_g (lw_at lw_m6 210 rfl) rfl
theorem q1479 : (Jvm.Cond.methodLink "SortedPostModel" (250 : Nat) ({ cls := "SortedPostModel", name := "mayAnswer", desc := "(II)Z" } : Jvm.MethodName)) ∈ lw_all := lw_g (lw_at lw_m6 211 rfl) rfl
theorem q1480 : (Jvm.Cond.privateMethod ({ cls := "SortedPostModel", name := "mayAnswer", desc := "(II)Z" } : Jvm.MethodName)) ∈ lw_tbl := lw_at lw_m6 212 rfl
theorem q1481 : (Jvm.Cond.instanceMethod ({ cls := "SortedPostModel", name := "mayAnswer", desc := "(II)Z" } : Jvm.MethodName)) ∈ lw_all := lw_g (lw_at lw_m6 213 rfl) rfl
theorem q1482 : (Jvm.Cond.code ({ cls := "SortedPostModel", name := "mayAnswer", desc := "(II)Z" } : Jvm.MethodName) prog_21_method_25_code (4 : Nat) (Option.some Jvm.ClassFile.FieldType.boolean)) ∈ lw_all := lw_g (lw_at lw_m6 214 rfl) rfl
theorem q1483 : (Jvm.Cond.methodLink "SortedPostModel" (254 : Nat) ({ cls := "SortedPostModel", name := "answers", desc := "(II)V" } : Jvm.MethodName)) ∈ lw_all := lw_g (lw_at lw_m6 215 rfl) rfl
theorem q1484 : (Jvm.Cond.privateMethod ({ cls := "SortedPostModel", name := "answers", desc := "(II)V" } : Jvm.MethodName)) ∈ lw_tbl := lw_at lw_m6 216 rfl
theorem q1485 : (Jvm.Cond.instanceMethod ({ cls := "SortedPostModel", name := "answers", desc := "(II)V" } : Jvm.MethodName)) ∈ lw_all := lw_g (lw_at lw_m6 217 rfl) rfl
theorem q1486 : (Jvm.Cond.code ({ cls := "SortedPostModel", name := "answers", desc := "(II)V" } : Jvm.MethodName) prog_21_method_26_code (3 : Nat) (Option.none : Option Jvm.ClassFile.FieldType)) ∈ lw_all := lw_g (lw_at lw_m6 218 rfl) rfl
theorem q1487 : (Jvm.Cond.methodLink "SortedPostModel" (269 : Nat) ({ cls := "SortedPostModel", name := "files", desc := "(II)V" } : Jvm.MethodName)) ∈ lw_all := lw_g (lw_at lw_m6 219 rfl) rfl
theorem q1488 : (Jvm.Cond.privateMethod ({ cls := "SortedPostModel", name := "files", desc := "(II)V" } : Jvm.MethodName)) ∈ lw_tbl := lw_at lw_m6 220 rfl
theorem q1489 : (Jvm.Cond.instanceMethod ({ cls := "SortedPostModel", name := "files", desc := "(II)V" } : Jvm.MethodName)) ∈ lw_all := lw_g (lw_at lw_m6 221 rfl) rfl
theorem q1490 : (Jvm.Cond.code ({ cls := "SortedPostModel", name := "files", desc := "(II)V" } : Jvm.MethodName) prog_21_method_30_code (7 : Nat) (Option.none : Option Jvm.ClassFile.FieldType)) ∈ lw_all := lw_g (lw_at lw_m6 222 rfl) rfl
theorem q1491 : (Jvm.Cond.methodLink "SortedPostModel" (275 : Nat) ({ cls := "SortedPostModel", name := "put", desc := "(IIZI)V" } : Jvm.MethodName)) ∈ lw_all := lw_g (lw_at lw_m6 223 rfl) rfl
theorem q1492 : (Jvm.Cond.privateMethod ({ cls := "SortedPostModel", name := "put", desc := "(IIZI)V" } : Jvm.MethodName)) ∈ lw_tbl := lw_at lw_m6 224 rfl
theorem q1493 : (Jvm.Cond.instanceMethod ({ cls := "SortedPostModel", name := "put", desc := "(IIZI)V" } : Jvm.MethodName)) ∈ lw_all := lw_g (lw_at lw_m6 225 rfl) rfl
theorem q1494 : (Jvm.Cond.code ({ cls := "SortedPostModel", name := "put", desc := "(IIZI)V" } : Jvm.MethodName) prog_21_method_31_code (6 : Nat) (Option.none : Option Jvm.ClassFile.FieldType)) ∈ lw_all := lw_g (lw_at lw_m6 226 rfl) rfl
theorem q1496 : (Jvm.Cond.instanceMethod ({ cls := "SortedPostModel", name := "sheet", desc := "(III)I" } : Jvm.MethodName)) ∈ lw_all := lw_g (lw_at lw_m6 228 rfl) rfl
theorem q1497 : (Jvm.Cond.selects "SortedPostModel" ({ cls := "SortedPostModel", name := "sheet", desc := "(III)I" } : Jvm.MethodName) ({ cls := "SortedPostModel", name := "sheet", desc := "(III)I" } : Jvm.MethodName)) ∈ lw_all := lw_g (lw_at lw_m6 229 rfl) rfl
theorem q1498 : (Jvm.Cond.code ({ cls := "SortedPostModel", name := "sheet", desc := "(III)I" } : Jvm.MethodName) prog_21_method_38_code (5 : Nat) (Option.some Jvm.ClassFile.FieldType.int)) ∈ lw_all := lw_g (lw_at lw_m6 230 rfl) rfl
theorem q1499 : (Jvm.Cond.methodLink "SortedPostModel" (305 : Nat) ({ cls := "SortedPostModel", name := "isSheet", desc := "(I)Z" } : Jvm.MethodName)) ∈ lw_all := lw_g (lw_at lw_m6 231 rfl) rfl
theorem q1500 : (Jvm.Cond.static ({ cls := "SortedPostModel", name := "isSheet", desc := "(I)Z" } : Jvm.MethodName)) ∈ lw_all := lw_g (lw_at lw_m6 232 rfl) rfl
theorem q1501 : (Jvm.Cond.code ({ cls := "SortedPostModel", name := "isSheet", desc := "(I)Z" } : Jvm.MethodName) prog_21_method_37_code (1 : Nat) (Option.some Jvm.ClassFile.FieldType.boolean)) ∈ lw_all := lw_g (lw_at lw_m6 233 rfl) rfl
theorem q1503 : (Jvm.Cond.instanceMethod ({ cls := "SortedPostModel", name := "drop", desc := "(I)I" } : Jvm.MethodName)) ∈ lw_all := lw_g (lw_at lw_m6 235 rfl) rfl
theorem q1504 : (Jvm.Cond.selects "SortedPostModel" ({ cls := "SortedPostModel", name := "drop", desc := "(I)I" } : Jvm.MethodName) ({ cls := "SortedPostModel", name := "drop", desc := "(I)I" } : Jvm.MethodName)) ∈ lw_all := lw_g (lw_at lw_m6 236 rfl) rfl
theorem q1505 : (Jvm.Cond.code ({ cls := "SortedPostModel", name := "drop", desc := "(I)I" } : Jvm.MethodName) prog_21_method_39_code (2 : Nat) (Option.some Jvm.ClassFile.FieldType.int)) ∈ lw_all := lw_g (lw_at lw_m6 237 rfl) rfl
theorem q1507 : (Jvm.Cond.instanceMethod ({ cls := "SortedPostModel", name := "item", desc := "(IIII)I" } : Jvm.MethodName)) ∈ lw_all := lw_g (lw_at lw_m6 239 rfl) rfl
theorem q1508 : (Jvm.Cond.selects "SortedPostModel" ({ cls := "SortedPostModel", name := "item", desc := "(IIII)I" } : Jvm.MethodName) ({ cls := "SortedPostModel", name := "item", desc := "(IIII)I" } : Jvm.MethodName)) ∈ lw_all := lw_g (lw_at lw_m7 0 rfl) rfl
theorem q1509 : (Jvm.Cond.code ({ cls := "SortedPostModel", name := "item", desc := "(IIII)I" } : Jvm.MethodName) prog_21_method_40_code (5 : Nat) (Option.some Jvm.ClassFile.FieldType.int)) ∈ lw_all := lw_g (lw_at lw_m7 1 rfl) rfl
theorem q1511 : (Jvm.Cond.instanceMethod ({ cls := "SortedPostModel", name := "posts", desc := "(IIII)I" } : Jvm.MethodName)) ∈ lw_all := lw_g (lw_at lw_m7 3 rfl) rfl
theorem q1512 : (Jvm.Cond.selects "SortedPostModel" ({ cls := "SortedPostModel", name := "posts", desc := "(IIII)I" } : Jvm.MethodName) ({ cls := "SortedPostModel", name := "posts", desc := "(IIII)I" } : Jvm.MethodName)) ∈ lw_all := lw_g (lw_at lw_m7 4 rfl) rfl
theorem q1513 : (Jvm.Cond.code ({ cls := "SortedPostModel", name := "posts", desc := "(IIII)I" } : Jvm.MethodName) prog_21_method_41_code (9 : Nat) (Option.some Jvm.ClassFile.FieldType.int)) ∈ lw_all := lw_g (lw_at lw_m7 5 rfl) rfl
theorem q1515 : (Jvm.Cond.instanceMethod ({ cls := "SortedPostModel", name := "letter", desc := "(II)I" } : Jvm.MethodName)) ∈ lw_all := lw_g (lw_at lw_m7 7 rfl) rfl
theorem q1516 : (Jvm.Cond.selects "SortedPostModel" ({ cls := "SortedPostModel", name := "letter", desc := "(II)I" } : Jvm.MethodName) ({ cls := "SortedPostModel", name := "letter", desc := "(II)I" } : Jvm.MethodName)) ∈ lw_all := lw_g (lw_at lw_m7 8 rfl) rfl
theorem q1517 : (Jvm.Cond.code ({ cls := "SortedPostModel", name := "letter", desc := "(II)I" } : Jvm.MethodName) prog_21_method_42_code (3 : Nat) (Option.some Jvm.ClassFile.FieldType.int)) ∈ lw_all := lw_g (lw_at lw_m7 9 rfl) rfl
theorem q1519 : (Jvm.Cond.instanceMethod ({ cls := "SortedPostModel", name := "size", desc := "(II)I" } : Jvm.MethodName)) ∈ lw_all := lw_g (lw_at lw_m7 11 rfl) rfl
theorem q1520 : (Jvm.Cond.selects "SortedPostModel" ({ cls := "SortedPostModel", name := "size", desc := "(II)I" } : Jvm.MethodName) ({ cls := "SortedPostModel", name := "size", desc := "(II)I" } : Jvm.MethodName)) ∈ lw_all := lw_g (lw_at lw_m7 12 rfl) rfl
theorem q1521 : (Jvm.Cond.code ({ cls := "SortedPostModel", name := "size", desc := "(II)I" } : Jvm.MethodName) prog_21_method_44_code (3 : Nat) (Option.some Jvm.ClassFile.FieldType.int)) ∈ lw_all := lw_g (lw_at lw_m7 13 rfl) rfl
theorem q1522 : (Jvm.Cond.methodLink "SortedPostModel" (308 : Nat) ({ cls := "SortedPostModel", name := "isPlace", desc := "(II)Z" } : Jvm.MethodName)) ∈ lw_all := lw_g (lw_at lw_m7 14 rfl) rfl
theorem q1523 : (Jvm.Cond.static ({ cls := "SortedPostModel", name := "isPlace", desc := "(II)Z" } : Jvm.MethodName)) ∈ lw_all := lw_g (lw_at lw_m7 15 rfl) rfl
theorem q1524 : (Jvm.Cond.code ({ cls := "SortedPostModel", name := "isPlace", desc := "(II)Z" } : Jvm.MethodName) prog_21_method_43_code (2 : Nat) (Option.some Jvm.ClassFile.FieldType.boolean)) ∈ lw_all := lw_g (lw_at lw_m7 16 rfl) rfl
theorem q1526 : (Jvm.Cond.instanceMethod ({ cls := "SortedPostModel", name := "copy", desc := "(IIII)I" } : Jvm.MethodName)) ∈ lw_all := lw_g (lw_at lw_m7 18 rfl) rfl
theorem q1527 : (Jvm.Cond.selects "SortedPostModel" ({ cls := "SortedPostModel", name := "copy", desc := "(IIII)I" } : Jvm.MethodName) ({ cls := "SortedPostModel", name := "copy", desc := "(IIII)I" } : Jvm.MethodName)) ∈ lw_all := lw_g (lw_at lw_m7 19 rfl) rfl
theorem q1528 : (Jvm.Cond.code ({ cls := "SortedPostModel", name := "copy", desc := "(IIII)I" } : Jvm.MethodName) prog_21_method_46_code (6 : Nat) (Option.some Jvm.ClassFile.FieldType.int)) ∈ lw_all := lw_g (lw_at lw_m7 20 rfl) rfl
theorem q1529 : (Jvm.Cond.methodLink "SortedPostModel" (311 : Nat) ({ cls := "SortedPostModel", name := "isCopy", desc := "(III)Z" } : Jvm.MethodName)) ∈ lw_all := lw_g (lw_at lw_m7 21 rfl) rfl
theorem q1530 : (Jvm.Cond.privateMethod ({ cls := "SortedPostModel", name := "isCopy", desc := "(III)Z" } : Jvm.MethodName)) ∈ lw_tbl := lw_at lw_m7 22 rfl
theorem q1531 : (Jvm.Cond.instanceMethod ({ cls := "SortedPostModel", name := "isCopy", desc := "(III)Z" } : Jvm.MethodName)) ∈ lw_all := lw_g (lw_at lw_m7 23 rfl) rfl
theorem q1532 : (Jvm.Cond.code ({ cls := "SortedPostModel", name := "isCopy", desc := "(III)Z" } : Jvm.MethodName) prog_21_method_45_code (4 : Nat) (Option.some Jvm.ClassFile.FieldType.boolean)) ∈ lw_all := lw_g (lw_at lw_m7 24 rfl) rfl
theorem q1534 : (Jvm.Cond.instanceMethod ({ cls := "SortedPostModel", name := "move", desc := "(IIII)I" } : Jvm.MethodName)) ∈ lw_all := lw_g (lw_at lw_m7 26 rfl) rfl
theorem q1535 : (Jvm.Cond.selects "SortedPostModel" ({ cls := "SortedPostModel", name := "move", desc := "(IIII)I" } : Jvm.MethodName) ({ cls := "SortedPostModel", name := "move", desc := "(IIII)I" } : Jvm.MethodName)) ∈ lw_all := lw_g (lw_at lw_m7 27 rfl) rfl
theorem q1536 : (Jvm.Cond.code ({ cls := "SortedPostModel", name := "move", desc := "(IIII)I" } : Jvm.MethodName) prog_21_method_47_code (11 : Nat) (Option.some Jvm.ClassFile.FieldType.int)) ∈ lw_all := lw_g (lw_at lw_m7 28 rfl) rfl
theorem q1538 : (Jvm.Cond.instanceMethod ({ cls := "SortedPostModel", name := "clear", desc := "(II)I" } : Jvm.MethodName)) ∈ lw_all := lw_g (lw_at lw_m7 30 rfl) rfl
theorem q1539 : (Jvm.Cond.selects "SortedPostModel" ({ cls := "SortedPostModel", name := "clear", desc := "(II)I" } : Jvm.MethodName) ({ cls := "SortedPostModel", name := "clear", desc := "(II)I" } : Jvm.MethodName)) ∈ lw_all := lw_g (lw_at lw_m7 31 rfl) rfl
theorem q1540 : (Jvm.Cond.code ({ cls := "SortedPostModel", name := "clear", desc := "(II)I" } : Jvm.MethodName) prog_21_method_48_code (4 : Nat) (Option.some Jvm.ClassFile.FieldType.int)) ∈ lw_all := lw_g (lw_at lw_m7 32 rfl) rfl
theorem q1542 : (Jvm.Cond.instanceMethod ({ cls := "SortedPostModel", name := "count", desc := "(I)I" } : Jvm.MethodName)) ∈ lw_all := lw_g (lw_at lw_m7 34 rfl) rfl
theorem q1543 : (Jvm.Cond.selects "SortedPostModel" ({ cls := "SortedPostModel", name := "count", desc := "(I)I" } : Jvm.MethodName) ({ cls := "SortedPostModel", name := "count", desc := "(I)I" } : Jvm.MethodName)) ∈ lw_all := lw_g (lw_at lw_m7 35 rfl) rfl
theorem q1544 : (Jvm.Cond.code ({ cls := "SortedPostModel", name := "count", desc := "(I)I" } : Jvm.MethodName) prog_21_method_49_code (2 : Nat) (Option.some Jvm.ClassFile.FieldType.int)) ∈ lw_all := lw_g (lw_at lw_m7 36 rfl) rfl
theorem q1546 : (Jvm.Cond.instanceMethod ({ cls := "SortedPostModel", name := "thread", desc := "(I)I" } : Jvm.MethodName)) ∈ lw_all := lw_g (lw_at lw_m7 38 rfl) rfl
theorem q1547 : (Jvm.Cond.selects "SortedPostModel" ({ cls := "SortedPostModel", name := "thread", desc := "(I)I" } : Jvm.MethodName) ({ cls := "SortedPostModel", name := "thread", desc := "(I)I" } : Jvm.MethodName)) ∈ lw_all := lw_g (lw_at lw_m7 39 rfl) rfl
theorem q1548 : (Jvm.Cond.code ({ cls := "SortedPostModel", name := "thread", desc := "(I)I" } : Jvm.MethodName) prog_21_method_51_code (5 : Nat) (Option.some Jvm.ClassFile.FieldType.int)) ∈ lw_all := lw_g (lw_at lw_m7 40 rfl) rfl
theorem q1549 : (Jvm.Cond.methodLink "SortedPostModel" (314 : Nat) ({ cls := "SortedPostModel", name := "rootOf", desc := "(I)I" } : Jvm.MethodName)) ∈ lw_all := lw_g (lw_at lw_m7 41 rfl) rfl
theorem q1550 : (Jvm.Cond.privateMethod ({ cls := "SortedPostModel", name := "rootOf", desc := "(I)I" } : Jvm.MethodName)) ∈ lw_tbl := lw_at lw_m7 42 rfl
theorem q1551 : (Jvm.Cond.instanceMethod ({ cls := "SortedPostModel", name := "rootOf", desc := "(I)I" } : Jvm.MethodName)) ∈ lw_all := lw_g (lw_at lw_m7 43 rfl) rfl
theorem q1552 : (Jvm.Cond.code ({ cls := "SortedPostModel", name := "rootOf", desc := "(I)I" } : Jvm.MethodName) prog_21_method_50_code (5 : Nat) (Option.some Jvm.ClassFile.FieldType.int)) ∈ lw_all := lw_g (lw_at lw_m7 44 rfl) rfl
theorem q1554 : (Jvm.Cond.instanceMethod ({ cls := "SortedPostModel", name := "learn", desc := "(IIIZ)I" } : Jvm.MethodName)) ∈ lw_all := lw_g (lw_at lw_m7 46 rfl) rfl
theorem q1555 : (Jvm.Cond.selects "SortedPostModel" ({ cls := "SortedPostModel", name := "learn", desc := "(IIIZ)I" } : Jvm.MethodName) ({ cls := "SortedPostModel", name := "learn", desc := "(IIIZ)I" } : Jvm.MethodName)) ∈ lw_all := lw_g (lw_at lw_m7 47 rfl) rfl
theorem q1556 : (Jvm.Cond.code ({ cls := "SortedPostModel", name := "learn", desc := "(IIIZ)I" } : Jvm.MethodName) prog_21_method_54_code (7 : Nat) (Option.some Jvm.ClassFile.FieldType.int)) ∈ lw_all := lw_g (lw_at lw_m7 48 rfl) rfl
theorem q1557 : (Jvm.Cond.methodLink "SortedPostModel" (319 : Nat) ({ cls := "SortedPostModel", name := "learns", desc := "(III)V" } : Jvm.MethodName)) ∈ lw_all := lw_g (lw_at lw_m7 49 rfl) rfl
theorem q1558 : (Jvm.Cond.privateMethod ({ cls := "SortedPostModel", name := "learns", desc := "(III)V" } : Jvm.MethodName)) ∈ lw_tbl := lw_at lw_m7 50 rfl
theorem q1559 : (Jvm.Cond.instanceMethod ({ cls := "SortedPostModel", name := "learns", desc := "(III)V" } : Jvm.MethodName)) ∈ lw_all := lw_g (lw_at lw_m7 51 rfl) rfl
theorem q1560 : (Jvm.Cond.code ({ cls := "SortedPostModel", name := "learns", desc := "(III)V" } : Jvm.MethodName) prog_21_method_53_code (5 : Nat) (Option.none : Option Jvm.ClassFile.FieldType)) ∈ lw_all := lw_g (lw_at lw_m7 52 rfl) rfl
theorem q1562 : (Jvm.Cond.instanceMethod ({ cls := "SortedPostModel", name := "unlearn", desc := "(III)I" } : Jvm.MethodName)) ∈ lw_all := lw_g (lw_at lw_m7 54 rfl) rfl
theorem q1563 : (Jvm.Cond.selects "SortedPostModel" ({ cls := "SortedPostModel", name := "unlearn", desc := "(III)I" } : Jvm.MethodName) ({ cls := "SortedPostModel", name := "unlearn", desc := "(III)I" } : Jvm.MethodName)) ∈ lw_all := lw_g (lw_at lw_m7 55 rfl) rfl
theorem q1564 : (Jvm.Cond.code ({ cls := "SortedPostModel", name := "unlearn", desc := "(III)I" } : Jvm.MethodName) prog_21_method_55_code (6 : Nat) (Option.some Jvm.ClassFile.FieldType.int)) ∈ lw_all := lw_g (lw_at lw_m7 56 rfl) rfl
theorem q1566 : (Jvm.Cond.instanceMethod ({ cls := "SortedPostModel", name := "known", desc := "(IZ)I" } : Jvm.MethodName)) ∈ lw_all := lw_g (lw_at lw_m7 58 rfl) rfl
theorem q1567 : (Jvm.Cond.selects "SortedPostModel" ({ cls := "SortedPostModel", name := "known", desc := "(IZ)I" } : Jvm.MethodName) ({ cls := "SortedPostModel", name := "known", desc := "(IZ)I" } : Jvm.MethodName)) ∈ lw_all := lw_g (lw_at lw_m7 59 rfl) rfl
theorem q1568 : (Jvm.Cond.code ({ cls := "SortedPostModel", name := "known", desc := "(IZ)I" } : Jvm.MethodName) prog_21_method_56_code (3 : Nat) (Option.some Jvm.ClassFile.FieldType.int)) ∈ lw_all := lw_g (lw_at lw_m7 60 rfl) rfl
theorem q1570 : (Jvm.Cond.instanceMethod ({ cls := "SortedPostModel", name := "atoms", desc := "(I)I" } : Jvm.MethodName)) ∈ lw_all := lw_g (lw_at lw_m7 62 rfl) rfl
theorem q1571 : (Jvm.Cond.selects "SortedPostModel" ({ cls := "SortedPostModel", name := "atoms", desc := "(I)I" } : Jvm.MethodName) ({ cls := "SortedPostModel", name := "atoms", desc := "(I)I" } : Jvm.MethodName)) ∈ lw_all := lw_g (lw_at lw_m7 63 rfl) rfl
theorem q1572 : (Jvm.Cond.code ({ cls := "SortedPostModel", name := "atoms", desc := "(I)I" } : Jvm.MethodName) prog_21_method_59_code (2 : Nat) (Option.some Jvm.ClassFile.FieldType.int)) ∈ lw_all := lw_g (lw_at lw_m7 64 rfl) rfl
theorem q1573 : (Jvm.Cond.methodLink "SortedPostModel" (325 : Nat) ({ cls := "SortedPostModel", name := "gather", desc := "(I)V" } : Jvm.MethodName)) ∈ lw_all := lw_g (lw_at lw_m7 65 rfl) rfl
theorem q1574 : (Jvm.Cond.privateMethod ({ cls := "SortedPostModel", name := "gather", desc := "(I)V" } : Jvm.MethodName)) ∈ lw_tbl := lw_at lw_m7 66 rfl
theorem q1575 : (Jvm.Cond.instanceMethod ({ cls := "SortedPostModel", name := "gather", desc := "(I)V" } : Jvm.MethodName)) ∈ lw_all := lw_g (lw_at lw_m7 67 rfl) rfl
theorem q1576 : (Jvm.Cond.code ({ cls := "SortedPostModel", name := "gather", desc := "(I)V" } : Jvm.MethodName) prog_21_method_58_code (4 : Nat) (Option.none : Option Jvm.ClassFile.FieldType)) ∈ lw_all := lw_g (lw_at lw_m7 68 rfl) rfl
theorem q1578 : (Jvm.Cond.instanceMethod ({ cls := "SortedPostModel", name := "shown", desc := "(II)I" } : Jvm.MethodName)) ∈ lw_all := lw_g (lw_at lw_m7 70 rfl) rfl
theorem q1579 : (Jvm.Cond.selects "SortedPostModel" ({ cls := "SortedPostModel", name := "shown", desc := "(II)I" } : Jvm.MethodName) ({ cls := "SortedPostModel", name := "shown", desc := "(II)I" } : Jvm.MethodName)) ∈ lw_all := lw_g (lw_at lw_m7 71 rfl) rfl
theorem q1580 : (Jvm.Cond.code ({ cls := "SortedPostModel", name := "shown", desc := "(II)I" } : Jvm.MethodName) prog_21_method_64_code (3 : Nat) (Option.some Jvm.ClassFile.FieldType.int)) ∈ lw_all := lw_g (lw_at lw_m7 72 rfl) rfl
theorem q1581 : (Jvm.Cond.methodLink "SortedPostModel" (338 : Nat) ({ cls := "SortedPostModel", name := "least", desc := "(II)I" } : Jvm.MethodName)) ∈ lw_all := lw_g (lw_at lw_m7 73 rfl) rfl
theorem q1582 : (Jvm.Cond.privateMethod ({ cls := "SortedPostModel", name := "least", desc := "(II)I" } : Jvm.MethodName)) ∈ lw_tbl := lw_at lw_m7 74 rfl
theorem q1583 : (Jvm.Cond.instanceMethod ({ cls := "SortedPostModel", name := "least", desc := "(II)I" } : Jvm.MethodName)) ∈ lw_all := lw_g (lw_at lw_m7 75 rfl) rfl
theorem q1584 : (Jvm.Cond.code ({ cls := "SortedPostModel", name := "least", desc := "(II)I" } : Jvm.MethodName) prog_21_method_63_code (5 : Nat) (Option.some Jvm.ClassFile.FieldType.int)) ∈ lw_all := lw_g (lw_at lw_m7 76 rfl) rfl
theorem q1585 : (Jvm.Cond.methodLink "SortedPostModel" (331 : Nat) ({ cls := "SortedPostModel", name := "isCase", desc := "(I)Z" } : Jvm.MethodName)) ∈ lw_all := lw_g (lw_at lw_m7 77 rfl) rfl
theorem q1586 : (Jvm.Cond.privateMethod ({ cls := "SortedPostModel", name := "isCase", desc := "(I)Z" } : Jvm.MethodName)) ∈ lw_tbl := lw_at lw_m7 78 rfl
theorem q1587 : (Jvm.Cond.instanceMethod ({ cls := "SortedPostModel", name := "isCase", desc := "(I)Z" } : Jvm.MethodName)) ∈ lw_all := lw_g (lw_at lw_m7 79 rfl) rfl
theorem q1588 : (Jvm.Cond.code ({ cls := "SortedPostModel", name := "isCase", desc := "(I)Z" } : Jvm.MethodName) prog_21_method_60_code (8 : Nat) (Option.some Jvm.ClassFile.FieldType.boolean)) ∈ lw_all := lw_g (lw_at lw_m7 80 rfl) rfl
theorem q1589 : (Jvm.Cond.methodLink "SortedPostModel" (334 : Nat) ({ cls := "SortedPostModel", name := "actIn", desc := "(II)I" } : Jvm.MethodName)) ∈ lw_all := lw_g (lw_at lw_m7 81 rfl) rfl
theorem q1590 : (Jvm.Cond.privateMethod ({ cls := "SortedPostModel", name := "actIn", desc := "(II)I" } : Jvm.MethodName)) ∈ lw_tbl := lw_at lw_m7 82 rfl
theorem q1591 : (Jvm.Cond.instanceMethod ({ cls := "SortedPostModel", name := "actIn", desc := "(II)I" } : Jvm.MethodName)) ∈ lw_all := lw_g (lw_at lw_m7 83 rfl) rfl
theorem q1592 : (Jvm.Cond.code ({ cls := "SortedPostModel", name := "actIn", desc := "(II)I" } : Jvm.MethodName) prog_21_method_62_code (6 : Nat) (Option.some Jvm.ClassFile.FieldType.int)) ∈ lw_all := lw_g (lw_at lw_m7 84 rfl) rfl
theorem q1593 : (Jvm.Cond.methodLink "SortedPostModel" (328 : Nat) ({ cls := "SortedPostModel", name := "hasStop", desc := "(II)Z" } : Jvm.MethodName)) ∈ lw_all := lw_g (lw_at lw_m7 85 rfl) rfl
theorem q1594 : (Jvm.Cond.privateMethod ({ cls := "SortedPostModel", name := "hasStop", desc := "(II)Z" } : Jvm.MethodName)) ∈ lw_tbl := lw_at lw_m7 86 rfl
theorem q1595 : (Jvm.Cond.instanceMethod ({ cls := "SortedPostModel", name := "hasStop", desc := "(II)Z" } : Jvm.MethodName)) ∈ lw_all := lw_g (lw_at lw_m7 87 rfl) rfl
theorem q1596 : (Jvm.Cond.code ({ cls := "SortedPostModel", name := "hasStop", desc := "(II)Z" } : Jvm.MethodName) prog_21_method_61_code (5 : Nat) (Option.some Jvm.ClassFile.FieldType.boolean)) ∈ lw_all := lw_g (lw_at lw_m7 88 rfl) rfl
theorem q1598 : (Jvm.Cond.instanceMethod ({ cls := "SortedPostModel", name := "bare", desc := "(I)I" } : Jvm.MethodName)) ∈ lw_all := lw_g (lw_at lw_m7 90 rfl) rfl
theorem q1599 : (Jvm.Cond.selects "SortedPostModel" ({ cls := "SortedPostModel", name := "bare", desc := "(I)I" } : Jvm.MethodName) ({ cls := "SortedPostModel", name := "bare", desc := "(I)I" } : Jvm.MethodName)) ∈ lw_all := lw_g (lw_at lw_m7 91 rfl) rfl
theorem q1600 : (Jvm.Cond.code ({ cls := "SortedPostModel", name := "bare", desc := "(I)I" } : Jvm.MethodName) prog_21_method_65_code (2 : Nat) (Option.some Jvm.ClassFile.FieldType.int)) ∈ lw_all := lw_g (lw_at lw_m7 92 rfl) rfl
theorem q1602 : (Jvm.Cond.instanceMethod ({ cls := "SortedPostModel", name := "quarrel", desc := "(III)I" } : Jvm.MethodName)) ∈ lw_all := lw_g (lw_at lw_m7 94 rfl) rfl
theorem q1603 : (Jvm.Cond.selects "SortedPostModel" ({ cls := "SortedPostModel", name := "quarrel", desc := "(III)I" } : Jvm.MethodName) ({ cls := "SortedPostModel", name := "quarrel", desc := "(III)I" } : Jvm.MethodName)) ∈ lw_all := lw_g (lw_at lw_m7 95 rfl) rfl
theorem q1604 : (Jvm.Cond.code ({ cls := "SortedPostModel", name := "quarrel", desc := "(III)I" } : Jvm.MethodName) prog_21_method_67_code (7 : Nat) (Option.some Jvm.ClassFile.FieldType.int)) ∈ lw_all := lw_g (lw_at lw_m7 96 rfl) rfl
theorem q1605 : (Jvm.Cond.methodLink "SortedPostModel" (341 : Nat) ({ cls := "SortedPostModel", name := "filesOf", desc := "(II)I" } : Jvm.MethodName)) ∈ lw_all := lw_g (lw_at lw_m7 97 rfl) rfl
theorem q1606 : (Jvm.Cond.privateMethod ({ cls := "SortedPostModel", name := "filesOf", desc := "(II)I" } : Jvm.MethodName)) ∈ lw_tbl := lw_at lw_m7 98 rfl
theorem q1607 : (Jvm.Cond.instanceMethod ({ cls := "SortedPostModel", name := "filesOf", desc := "(II)I" } : Jvm.MethodName)) ∈ lw_all := lw_g (lw_at lw_m7 99 rfl) rfl
theorem q1608 : (Jvm.Cond.code ({ cls := "SortedPostModel", name := "filesOf", desc := "(II)I" } : Jvm.MethodName) prog_21_method_66_code (7 : Nat) (Option.some Jvm.ClassFile.FieldType.int)) ∈ lw_all := lw_g (lw_at lw_m7 100 rfl) rfl
theorem q1622 : (Jvm.Cond.castable "SortedPostModel" "java/lang/Object") ∈ lw_tbl := lw_at lw_m7 114 rfl
theorem in_X8 : ∀ w ∈ wsX80, w ∈ lw_all := lw_in wsX80 [1224, 1226, 1228, 1230, 1232, 1234, 1236, 1238, 1240, 1242, 1244, 1246, 1248, 1250, 1252, 1254, 1256, 1258, 1260, 1262, 1264, 1266, 1268, 1270, 1272, 1274, 1276, 1278, 1280, 1282, 1284, 1286, 1288, 1290, 1292, 1294, 1296, 1298, 1300, 1302, 1304, 1306, 1308, 1310, 1312, 1314, 1316, 1318, 1320, 1322, 1324, 1326, 1328, 1330, 1332, 1334, 1336, 1338, 1340, 1342, 1344] (by decide +kernel) (by decide +kernel)
