/-! SortedPost -/
set_option maxRecDepth 100000
def RX0 : String := "SortedPost"
def TX0 : u_T := fun k => match k with
  | 0 => ("SortedPost", "letters", "Ljava/util/List;", true)
  | 1 => ("SortedPost", "fault", "LSortedPost$Fault;", true)
  | 2 => ("SortedPost", "tape", "[B", true)
  | 3 => ("SortedPost", "taped", "I", false)
  | 4 => ("SortedPost", "at", "I", false)
  | 5 => ("SortedPost", "opens", "I", false)
  | 6 => ("SortedPost", "read", "LSortedPost$Rules;", false)
  | 7 => ("SortedPost", "boxes", "[LSortedPost$Box;", true)
  | 8 => ("SortedPost", "comingLetter", "[LSortedPost$Letter;", true)
  | 9 => ("SortedPost", "comingTo", "[I", true)
  | 10 => ("SortedPost", "comingTrace", "[I", true)
  | 11 => ("SortedPost", "comingMany", "I", false)
  | 12 => ("SortedPost", "copies", "I", false)
  | 13 => ("SortedPost", "sentOn", "I", false)
  | 14 => ("SortedPost", "dropped", "I", false)
  | 15 => ("SortedPost", "answers", "I", false)
  | 16 => ("SortedPost", "crowded", "I", false)
  | 17 => ("SortedPost", "arrival", "LSortedPost$Arrival;", true)
  | 18 => ("SortedPost", "known", "[I", true)
  | 19 => ("SortedPost", "words", "[I", true)
  | 20 => ("SortedPost", "tried", "LSortedPost$Case;", true)
  | _ => ("SortedPost", "sheets", "[LSortedPost$Sheet;", true)
def tyX0 : Nat → FieldType := fun k => match k with
  | 0 => .object "java/util/List"
  | 1 => .object "SortedPost$Fault"
  | 2 => .array .byte
  | 3 => .int
  | 4 => .int
  | 5 => .int
  | 6 => .object "SortedPost$Rules"
  | 7 => .array (.object "SortedPost$Box")
  | 8 => .array (.object "SortedPost$Letter")
  | 9 => .array .int
  | 10 => .array .int
  | 11 => .int
  | 12 => .int
  | 13 => .int
  | 14 => .int
  | 15 => .int
  | 16 => .int
  | 17 => .object "SortedPost$Arrival"
  | 18 => .array .int
  | 19 => .array .int
  | 20 => .object "SortedPost$Case"
  | _ => .array (.object "SortedPost$Sheet")
abbrev wsX00 : List Cond := u_ws RX0 TX0 22
set_option maxRecDepth 100000 in
theorem nmX0 : ∀ a, a < 22 → ∀ b, b < 22 → a ≠ b → (TX0 a).2.1 ≠ (TX0 b).2.1 := by decide +kernel
set_option maxRecDepth 100000 in
theorem tyX0_ok : ∀ k, k < 22 → parseFieldDescriptor (TX0 k).2.2.1 = some (tyX0 k) := by decide +kernel
abbrev cX0_type : ByteArray := prog_1_method_4_code
def yX0_type : MethodName := ⟨RX0, "type", "(JI)I"⟩
def dkwX0_type_4 : List UInt8 := [84, 42, 89, 180, 0, 9, 4, 96, 181, 0, 9, 132, 4, 255, 167, 255, 220, 42, 180, 0, 9, 172]
abbrev dktX0_type_4 : List UInt8 := dkwX0_type_4 ++ []
def dkwX0_type_3 : List UInt8 := [54, 4, 21, 4, 155, 0, 37, 42, 180, 0, 13, 42, 180, 0, 9, 31, 16, 8, 21, 4, 104, 123, 136, 145]
abbrev dktX0_type_3 : List UInt8 := dkwX0_type_3 ++ dktX0_type_4
def dkwX0_type_2 : List UInt8 := [132, 4, 255, 167, 255, 224, 42, 180, 0, 9, 29, 96, 16, 90, 164, 0, 6, 16, 253, 172, 29, 4, 100]
abbrev dktX0_type_2 : List UInt8 := dkwX0_type_2 ++ dktX0_type_3
def dkwX0_type_1 : List UInt8 := [16, 8, 21, 4, 104, 123, 20, 0, 7, 127, 136, 16, 32, 16, 126, 184, 0, 3, 154, 0, 5, 2, 172]
abbrev dktX0_type_1 : List UInt8 := dkwX0_type_1 ++ dktX0_type_2
def dkwX0_type_0 : List UInt8 := [29, 4, 16, 8, 184, 0, 3, 154, 0, 5, 2, 172, 29, 4, 100, 54, 4, 21, 4, 155, 0, 33, 31]
abbrev dktX0_type_0 : List UInt8 := dkwX0_type_0 ++ dktX0_type_1
theorem dksX0_type_0 : cX0_type.data.toList.drop 0 = dktX0_type_0 := by decide +kernel
theorem dksX0_type_1 : cX0_type.data.toList.drop 23 = dktX0_type_1 := dk_seg dksX0_type_0 23 rfl rfl
theorem dksX0_type_2 : cX0_type.data.toList.drop 46 = dktX0_type_2 := dk_seg dksX0_type_1 23 rfl rfl
theorem dksX0_type_3 : cX0_type.data.toList.drop 69 = dktX0_type_3 := dk_seg dksX0_type_2 23 rfl rfl
theorem dksX0_type_4 : cX0_type.data.toList.drop 93 = dktX0_type_4 := dk_seg dksX0_type_3 24 rfl rfl
theorem dX0_type_0 : decode cX0_type 0 = .ok (.iload_n 3, 1) := dk_29 (dk_at dksX0_type_0 0 rfl rfl)
theorem dX0_type_1 : decode cX0_type 1 = .ok (.iconst 1, 1) := dk_4 (dk_at dksX0_type_0 1 rfl rfl)
theorem dX0_type_2 : decode cX0_type 2 = .ok (.bipush 8, 2) := dk_16 8 (dk_at dksX0_type_0 2 rfl rfl)
theorem dX0_type_4 : decode cX0_type 4 = .ok (.invokestatic 3, 3) := dk_184 0 3 (dk_at dksX0_type_0 4 rfl rfl)
theorem dX0_type_7 : decode cX0_type 7 = .ok (.ifCond .ne 5, 3) := dk_154 0 5 (dk_at dksX0_type_0 7 rfl rfl)
theorem dX0_type_10 : decode cX0_type 10 = .ok (.iconst (-1), 1) := dk_2 (dk_at dksX0_type_0 10 rfl rfl)
theorem dX0_type_11 : decode cX0_type 11 = .ok (.ireturn, 1) := dk_172 (dk_at dksX0_type_0 11 rfl rfl)
theorem dX0_type_12 : decode cX0_type 12 = .ok (.iload_n 3, 1) := dk_29 (dk_at dksX0_type_0 12 rfl rfl)
theorem dX0_type_13 : decode cX0_type 13 = .ok (.iconst 1, 1) := dk_4 (dk_at dksX0_type_0 13 rfl rfl)
theorem dX0_type_14 : decode cX0_type 14 = .ok (.isub, 1) := dk_100 (dk_at dksX0_type_0 14 rfl rfl)
theorem dX0_type_15 : decode cX0_type 15 = .ok (.istore 4, 2) := dk_54 4 (dk_at dksX0_type_0 15 rfl rfl)
theorem dX0_type_17 : decode cX0_type 17 = .ok (.iload 4, 2) := dk_21 4 (dk_at dksX0_type_0 17 rfl rfl)
theorem dX0_type_19 : decode cX0_type 19 = .ok (.ifCond .lt 33, 3) := dk_155 0 33 (dk_at dksX0_type_0 19 rfl rfl)
theorem dX0_type_22 : decode cX0_type 22 = .ok (.lload_n 1, 1) := dk_31 (dk_at dksX0_type_0 22 rfl rfl)
theorem dX0_type_23 : decode cX0_type 23 = .ok (.bipush 8, 2) := dk_16 8 (dk_at dksX0_type_1 0 rfl rfl)
theorem dX0_type_25 : decode cX0_type 25 = .ok (.iload 4, 2) := dk_21 4 (dk_at dksX0_type_1 2 rfl rfl)
theorem dX0_type_27 : decode cX0_type 27 = .ok (.imul, 1) := dk_104 (dk_at dksX0_type_1 4 rfl rfl)
theorem dX0_type_28 : decode cX0_type 28 = .ok (.lshr, 1) := dk_123 (dk_at dksX0_type_1 5 rfl rfl)
theorem dX0_type_29 : decode cX0_type 29 = .ok (.ldc2_w 7, 3) := dk_20 0 7 (dk_at dksX0_type_1 6 rfl rfl)
theorem dX0_type_32 : decode cX0_type 32 = .ok (.land, 1) := dk_127 (dk_at dksX0_type_1 9 rfl rfl)
theorem dX0_type_33 : decode cX0_type 33 = .ok (.l2i, 1) := dk_136 (dk_at dksX0_type_1 10 rfl rfl)
theorem dX0_type_34 : decode cX0_type 34 = .ok (.bipush 32, 2) := dk_16 32 (dk_at dksX0_type_1 11 rfl rfl)
theorem dX0_type_36 : decode cX0_type 36 = .ok (.bipush 126, 2) := dk_16 126 (dk_at dksX0_type_1 13 rfl rfl)
theorem dX0_type_38 : decode cX0_type 38 = .ok (.invokestatic 3, 3) := dk_184 0 3 (dk_at dksX0_type_1 15 rfl rfl)
theorem dX0_type_41 : decode cX0_type 41 = .ok (.ifCond .ne 5, 3) := dk_154 0 5 (dk_at dksX0_type_1 18 rfl rfl)
theorem dX0_type_44 : decode cX0_type 44 = .ok (.iconst (-1), 1) := dk_2 (dk_at dksX0_type_1 21 rfl rfl)
theorem dX0_type_45 : decode cX0_type 45 = .ok (.ireturn, 1) := dk_172 (dk_at dksX0_type_1 22 rfl rfl)
theorem dX0_type_46 : decode cX0_type 46 = .ok (.iinc 4 (-1), 3) := dk_132 4 255 (dk_at dksX0_type_2 0 rfl rfl)
theorem dX0_type_49 : decode cX0_type 49 = .ok (.goto (-32), 3) := dk_167 255 224 (dk_at dksX0_type_2 3 rfl rfl)
theorem dX0_type_52 : decode cX0_type 52 = .ok (.aload_n 0, 1) := dk_42 (dk_at dksX0_type_2 6 rfl rfl)
theorem dX0_type_53 : decode cX0_type 53 = .ok (.getfield 9, 3) := dk_180 0 9 (dk_at dksX0_type_2 7 rfl rfl)
theorem dX0_type_56 : decode cX0_type 56 = .ok (.iload_n 3, 1) := dk_29 (dk_at dksX0_type_2 10 rfl rfl)
theorem dX0_type_57 : decode cX0_type 57 = .ok (.iadd, 1) := dk_96 (dk_at dksX0_type_2 11 rfl rfl)
theorem dX0_type_58 : decode cX0_type 58 = .ok (.bipush 90, 2) := dk_16 90 (dk_at dksX0_type_2 12 rfl rfl)
theorem dX0_type_60 : decode cX0_type 60 = .ok (.if_icmp .le 6, 3) := dk_164 0 6 (dk_at dksX0_type_2 14 rfl rfl)
theorem dX0_type_63 : decode cX0_type 63 = .ok (.bipush (-3), 2) := dk_16 253 (dk_at dksX0_type_2 17 rfl rfl)
theorem dX0_type_65 : decode cX0_type 65 = .ok (.ireturn, 1) := dk_172 (dk_at dksX0_type_2 19 rfl rfl)
theorem dX0_type_66 : decode cX0_type 66 = .ok (.iload_n 3, 1) := dk_29 (dk_at dksX0_type_2 20 rfl rfl)
theorem dX0_type_67 : decode cX0_type 67 = .ok (.iconst 1, 1) := dk_4 (dk_at dksX0_type_2 21 rfl rfl)
theorem dX0_type_68 : decode cX0_type 68 = .ok (.isub, 1) := dk_100 (dk_at dksX0_type_2 22 rfl rfl)
theorem dX0_type_69 : decode cX0_type 69 = .ok (.istore 4, 2) := dk_54 4 (dk_at dksX0_type_3 0 rfl rfl)
theorem dX0_type_71 : decode cX0_type 71 = .ok (.iload 4, 2) := dk_21 4 (dk_at dksX0_type_3 2 rfl rfl)
theorem dX0_type_73 : decode cX0_type 73 = .ok (.ifCond .lt 37, 3) := dk_155 0 37 (dk_at dksX0_type_3 4 rfl rfl)
theorem dX0_type_76 : decode cX0_type 76 = .ok (.aload_n 0, 1) := dk_42 (dk_at dksX0_type_3 7 rfl rfl)
theorem dX0_type_77 : decode cX0_type 77 = .ok (.getfield 13, 3) := dk_180 0 13 (dk_at dksX0_type_3 8 rfl rfl)
theorem dX0_type_80 : decode cX0_type 80 = .ok (.aload_n 0, 1) := dk_42 (dk_at dksX0_type_3 11 rfl rfl)
theorem dX0_type_81 : decode cX0_type 81 = .ok (.getfield 9, 3) := dk_180 0 9 (dk_at dksX0_type_3 12 rfl rfl)
theorem dX0_type_84 : decode cX0_type 84 = .ok (.lload_n 1, 1) := dk_31 (dk_at dksX0_type_3 15 rfl rfl)
theorem dX0_type_85 : decode cX0_type 85 = .ok (.bipush 8, 2) := dk_16 8 (dk_at dksX0_type_3 16 rfl rfl)
theorem dX0_type_87 : decode cX0_type 87 = .ok (.iload 4, 2) := dk_21 4 (dk_at dksX0_type_3 18 rfl rfl)
theorem dX0_type_89 : decode cX0_type 89 = .ok (.imul, 1) := dk_104 (dk_at dksX0_type_3 20 rfl rfl)
theorem dX0_type_90 : decode cX0_type 90 = .ok (.lshr, 1) := dk_123 (dk_at dksX0_type_3 21 rfl rfl)
theorem dX0_type_91 : decode cX0_type 91 = .ok (.l2i, 1) := dk_136 (dk_at dksX0_type_3 22 rfl rfl)
theorem dX0_type_92 : decode cX0_type 92 = .ok (.i2b, 1) := dk_145 (dk_at dksX0_type_3 23 rfl rfl)
theorem dX0_type_93 : decode cX0_type 93 = .ok (.bastore, 1) := dk_84 (dk_at dksX0_type_4 0 rfl rfl)
theorem dX0_type_94 : decode cX0_type 94 = .ok (.aload_n 0, 1) := dk_42 (dk_at dksX0_type_4 1 rfl rfl)
theorem dX0_type_95 : decode cX0_type 95 = .ok (.dup, 1) := dk_89 (dk_at dksX0_type_4 2 rfl rfl)
theorem dX0_type_96 : decode cX0_type 96 = .ok (.getfield 9, 3) := dk_180 0 9 (dk_at dksX0_type_4 3 rfl rfl)
theorem dX0_type_99 : decode cX0_type 99 = .ok (.iconst 1, 1) := dk_4 (dk_at dksX0_type_4 6 rfl rfl)
theorem dX0_type_100 : decode cX0_type 100 = .ok (.iadd, 1) := dk_96 (dk_at dksX0_type_4 7 rfl rfl)
theorem dX0_type_101 : decode cX0_type 101 = .ok (.putfield 9, 3) := dk_181 0 9 (dk_at dksX0_type_4 8 rfl rfl)
theorem dX0_type_104 : decode cX0_type 104 = .ok (.iinc 4 (-1), 3) := dk_132 4 255 (dk_at dksX0_type_4 11 rfl rfl)
theorem dX0_type_107 : decode cX0_type 107 = .ok (.goto (-36), 3) := dk_167 255 220 (dk_at dksX0_type_4 14 rfl rfl)
theorem dX0_type_110 : decode cX0_type 110 = .ok (.aload_n 0, 1) := dk_42 (dk_at dksX0_type_4 17 rfl rfl)
theorem dX0_type_111 : decode cX0_type 111 = .ok (.getfield 9, 3) := dk_180 0 9 (dk_at dksX0_type_4 18 rfl rfl)
theorem dX0_type_114 : decode cX0_type 114 = .ok (.ireturn, 1) := dk_172 (dk_at dksX0_type_4 21 rfl rfl)
abbrev cX0_isIn : ByteArray := prog_1_method_1_code
def yX0_isIn : MethodName := ⟨RX0, "isIn", "(III)Z"⟩
def dkwX0_isIn_0 : List UInt8 := [26, 27, 161, 0, 12, 26, 28, 163, 0, 7, 4, 167, 0, 4, 3, 172]
abbrev dktX0_isIn_0 : List UInt8 := dkwX0_isIn_0 ++ []
theorem dksX0_isIn_0 : cX0_isIn.data.toList.drop 0 = dktX0_isIn_0 := by decide +kernel
theorem dX0_isIn_0 : decode cX0_isIn 0 = .ok (.iload_n 0, 1) := dk_26 (dk_at dksX0_isIn_0 0 rfl rfl)
theorem dX0_isIn_1 : decode cX0_isIn 1 = .ok (.iload_n 1, 1) := dk_27 (dk_at dksX0_isIn_0 1 rfl rfl)
theorem dX0_isIn_2 : decode cX0_isIn 2 = .ok (.if_icmp .lt 12, 3) := dk_161 0 12 (dk_at dksX0_isIn_0 2 rfl rfl)
theorem dX0_isIn_5 : decode cX0_isIn 5 = .ok (.iload_n 0, 1) := dk_26 (dk_at dksX0_isIn_0 5 rfl rfl)
theorem dX0_isIn_6 : decode cX0_isIn 6 = .ok (.iload_n 2, 1) := dk_28 (dk_at dksX0_isIn_0 6 rfl rfl)
theorem dX0_isIn_7 : decode cX0_isIn 7 = .ok (.if_icmp .gt 7, 3) := dk_163 0 7 (dk_at dksX0_isIn_0 7 rfl rfl)
theorem dX0_isIn_10 : decode cX0_isIn 10 = .ok (.iconst 1, 1) := dk_4 (dk_at dksX0_isIn_0 10 rfl rfl)
theorem dX0_isIn_11 : decode cX0_isIn 11 = .ok (.goto 4, 3) := dk_167 0 4 (dk_at dksX0_isIn_0 11 rfl rfl)
theorem dX0_isIn_14 : decode cX0_isIn 14 = .ok (.iconst 0, 1) := dk_3 (dk_at dksX0_isIn_0 14 rfl rfl)
theorem dX0_isIn_15 : decode cX0_isIn 15 = .ok (.ireturn, 1) := dk_172 (dk_at dksX0_isIn_0 15 rfl rfl)
abbrev cX0_rules : ByteArray := prog_1_method_17_code
def yX0_rules : MethodName := ⟨RX0, "rules", "(I)I"⟩
def dkwX0_rules_2 : List UInt8 := [42, 180, 0, 90, 180, 0, 141, 185, 0, 100, 1, 0, 172]
abbrev dktX0_rules_2 : List UInt8 := dkwX0_rules_2 ++ []
def dkwX0_rules_1 : List UInt8 := [44, 180, 0, 24, 100, 172, 42, 3, 181, 0, 9, 42, 180, 0, 154, 27, 50, 42, 180, 0, 90, 181, 0, 158]
abbrev dktX0_rules_1 : List UInt8 := dkwX0_rules_1 ++ dktX0_rules_2
def dkwX0_rules_0 : List UInt8 := [27, 184, 0, 148, 154, 0, 5, 2, 172, 42, 182, 0, 151, 167, 0, 17, 77, 42, 3, 181, 0, 9, 16, 236]
abbrev dktX0_rules_0 : List UInt8 := dkwX0_rules_0 ++ dktX0_rules_1
theorem dksX0_rules_0 : cX0_rules.data.toList.drop 0 = dktX0_rules_0 := by decide +kernel
theorem dksX0_rules_1 : cX0_rules.data.toList.drop 24 = dktX0_rules_1 := dk_seg dksX0_rules_0 24 rfl rfl
theorem dksX0_rules_2 : cX0_rules.data.toList.drop 48 = dktX0_rules_2 := dk_seg dksX0_rules_1 24 rfl rfl
theorem dX0_rules_0 : decode cX0_rules 0 = .ok (.iload_n 1, 1) := dk_27 (dk_at dksX0_rules_0 0 rfl rfl)
theorem dX0_rules_1 : decode cX0_rules 1 = .ok (.invokestatic 148, 3) := dk_184 0 148 (dk_at dksX0_rules_0 1 rfl rfl)
theorem dX0_rules_4 : decode cX0_rules 4 = .ok (.ifCond .ne 5, 3) := dk_154 0 5 (dk_at dksX0_rules_0 4 rfl rfl)
theorem dX0_rules_7 : decode cX0_rules 7 = .ok (.iconst (-1), 1) := dk_2 (dk_at dksX0_rules_0 7 rfl rfl)
theorem dX0_rules_8 : decode cX0_rules 8 = .ok (.ireturn, 1) := dk_172 (dk_at dksX0_rules_0 8 rfl rfl)
theorem dX0_rules_9 : decode cX0_rules 9 = .ok (.aload_n 0, 1) := dk_42 (dk_at dksX0_rules_0 9 rfl rfl)
theorem dX0_rules_10 : decode cX0_rules 10 = .ok (.invokevirtual 151, 3) := dk_182 0 151 (dk_at dksX0_rules_0 10 rfl rfl)
theorem dX0_rules_13 : decode cX0_rules 13 = .ok (.goto 17, 3) := dk_167 0 17 (dk_at dksX0_rules_0 13 rfl rfl)
theorem dX0_rules_16 : decode cX0_rules 16 = .ok (.astore_n 2, 1) := dk_77 (dk_at dksX0_rules_0 16 rfl rfl)
theorem dX0_rules_17 : decode cX0_rules 17 = .ok (.aload_n 0, 1) := dk_42 (dk_at dksX0_rules_0 17 rfl rfl)
theorem dX0_rules_18 : decode cX0_rules 18 = .ok (.iconst 0, 1) := dk_3 (dk_at dksX0_rules_0 18 rfl rfl)
theorem dX0_rules_19 : decode cX0_rules 19 = .ok (.putfield 9, 3) := dk_181 0 9 (dk_at dksX0_rules_0 19 rfl rfl)
theorem dX0_rules_22 : decode cX0_rules 22 = .ok (.bipush (-20), 2) := dk_16 236 (dk_at dksX0_rules_0 22 rfl rfl)
theorem dX0_rules_24 : decode cX0_rules 24 = .ok (.aload_n 2, 1) := dk_44 (dk_at dksX0_rules_1 0 rfl rfl)
theorem dX0_rules_25 : decode cX0_rules 25 = .ok (.getfield 24, 3) := dk_180 0 24 (dk_at dksX0_rules_1 1 rfl rfl)
theorem dX0_rules_28 : decode cX0_rules 28 = .ok (.isub, 1) := dk_100 (dk_at dksX0_rules_1 4 rfl rfl)
theorem dX0_rules_29 : decode cX0_rules 29 = .ok (.ireturn, 1) := dk_172 (dk_at dksX0_rules_1 5 rfl rfl)
theorem dX0_rules_30 : decode cX0_rules 30 = .ok (.aload_n 0, 1) := dk_42 (dk_at dksX0_rules_1 6 rfl rfl)
theorem dX0_rules_31 : decode cX0_rules 31 = .ok (.iconst 0, 1) := dk_3 (dk_at dksX0_rules_1 7 rfl rfl)
theorem dX0_rules_32 : decode cX0_rules 32 = .ok (.putfield 9, 3) := dk_181 0 9 (dk_at dksX0_rules_1 8 rfl rfl)
theorem dX0_rules_35 : decode cX0_rules 35 = .ok (.aload_n 0, 1) := dk_42 (dk_at dksX0_rules_1 11 rfl rfl)
theorem dX0_rules_36 : decode cX0_rules 36 = .ok (.getfield 154, 3) := dk_180 0 154 (dk_at dksX0_rules_1 12 rfl rfl)
theorem dX0_rules_39 : decode cX0_rules 39 = .ok (.iload_n 1, 1) := dk_27 (dk_at dksX0_rules_1 15 rfl rfl)
theorem dX0_rules_40 : decode cX0_rules 40 = .ok (.aaload, 1) := dk_50 (dk_at dksX0_rules_1 16 rfl rfl)
theorem dX0_rules_41 : decode cX0_rules 41 = .ok (.aload_n 0, 1) := dk_42 (dk_at dksX0_rules_1 17 rfl rfl)
theorem dX0_rules_42 : decode cX0_rules 42 = .ok (.getfield 90, 3) := dk_180 0 90 (dk_at dksX0_rules_1 18 rfl rfl)
theorem dX0_rules_45 : decode cX0_rules 45 = .ok (.putfield 158, 3) := dk_181 0 158 (dk_at dksX0_rules_1 21 rfl rfl)
theorem dX0_rules_48 : decode cX0_rules 48 = .ok (.aload_n 0, 1) := dk_42 (dk_at dksX0_rules_2 0 rfl rfl)
theorem dX0_rules_49 : decode cX0_rules 49 = .ok (.getfield 90, 3) := dk_180 0 90 (dk_at dksX0_rules_2 1 rfl rfl)
theorem dX0_rules_52 : decode cX0_rules 52 = .ok (.getfield 141, 3) := dk_180 0 141 (dk_at dksX0_rules_2 4 rfl rfl)
theorem dX0_rules_55 : decode cX0_rules 55 = .ok (.invokeinterface 100 1, 5) := by decide +kernel
theorem dX0_rules_60 : decode cX0_rules 60 = .ok (.ireturn, 1) := dk_172 (dk_at dksX0_rules_2 12 rfl rfl)
abbrev cX0_isBox : ByteArray := prog_1_method_2_code
def yX0_isBox : MethodName := ⟨RX0, "isBox", "(I)Z"⟩
def dkwX0_isBox_0 : List UInt8 := [26, 3, 5, 184, 0, 3, 172]
abbrev dktX0_isBox_0 : List UInt8 := dkwX0_isBox_0 ++ []
theorem dksX0_isBox_0 : cX0_isBox.data.toList.drop 0 = dktX0_isBox_0 := by decide +kernel
theorem dX0_isBox_0 : decode cX0_isBox 0 = .ok (.iload_n 0, 1) := dk_26 (dk_at dksX0_isBox_0 0 rfl rfl)
theorem dX0_isBox_1 : decode cX0_isBox 1 = .ok (.iconst 0, 1) := dk_3 (dk_at dksX0_isBox_0 1 rfl rfl)
theorem dX0_isBox_2 : decode cX0_isBox 2 = .ok (.iconst 2, 1) := dk_5 (dk_at dksX0_isBox_0 2 rfl rfl)
theorem dX0_isBox_3 : decode cX0_isBox 3 = .ok (.invokestatic 3, 3) := dk_184 0 3 (dk_at dksX0_isBox_0 3 rfl rfl)
theorem dX0_isBox_6 : decode cX0_isBox 6 = .ok (.ireturn, 1) := dk_172 (dk_at dksX0_isBox_0 6 rfl rfl)
abbrev cX0_readRules : ByteArray := prog_1_method_16_code
def yX0_readRules : MethodName := ⟨RX0, "readRules", "()V"⟩
def dkwX0_readRules_3 : List UInt8 := [42, 182, 0, 145, 167, 255, 207, 42, 182, 0, 29, 155, 0, 12, 42, 42, 180, 0, 17, 182, 0, 33, 191, 177]
abbrev dktX0_readRules_3 : List UInt8 := dkwX0_readRules_3 ++ []
def dkwX0_readRules_2 : List UInt8 := [16, 6, 160, 0, 12, 42, 42, 180, 0, 17, 182, 0, 33, 191, 42, 89, 180, 0, 17, 4, 96, 181, 0, 17]
abbrev dktX0_readRules_2 : List UInt8 := dkwX0_readRules_2 ++ dktX0_readRules_3
def dkwX0_readRules_1 : List UInt8 := [182, 0, 145, 42, 182, 0, 29, 16, 59, 160, 0, 46, 42, 180, 0, 90, 180, 0, 141, 185, 0, 100, 1, 0]
abbrev dktX0_readRules_1 : List UInt8 := dkwX0_readRules_1 ++ dktX0_readRules_2
def dkwX0_readRules_0 : List UInt8 := [42, 3, 181, 0, 17, 42, 3, 181, 0, 57, 42, 187, 0, 95, 89, 183, 0, 144, 181, 0, 90, 42]
abbrev dktX0_readRules_0 : List UInt8 := dkwX0_readRules_0 ++ dktX0_readRules_1
theorem dksX0_readRules_0 : cX0_readRules.data.toList.drop 0 = dktX0_readRules_0 := by decide +kernel
theorem dksX0_readRules_1 : cX0_readRules.data.toList.drop 22 = dktX0_readRules_1 := dk_seg dksX0_readRules_0 22 rfl rfl
theorem dksX0_readRules_2 : cX0_readRules.data.toList.drop 46 = dktX0_readRules_2 := dk_seg dksX0_readRules_1 24 rfl rfl
theorem dksX0_readRules_3 : cX0_readRules.data.toList.drop 70 = dktX0_readRules_3 := dk_seg dksX0_readRules_2 24 rfl rfl
theorem dX0_readRules_0 : decode cX0_readRules 0 = .ok (.aload_n 0, 1) := dk_42 (dk_at dksX0_readRules_0 0 rfl rfl)
theorem dX0_readRules_1 : decode cX0_readRules 1 = .ok (.iconst 0, 1) := dk_3 (dk_at dksX0_readRules_0 1 rfl rfl)
theorem dX0_readRules_2 : decode cX0_readRules 2 = .ok (.putfield 17, 3) := dk_181 0 17 (dk_at dksX0_readRules_0 2 rfl rfl)
theorem dX0_readRules_5 : decode cX0_readRules 5 = .ok (.aload_n 0, 1) := dk_42 (dk_at dksX0_readRules_0 5 rfl rfl)
theorem dX0_readRules_6 : decode cX0_readRules 6 = .ok (.iconst 0, 1) := dk_3 (dk_at dksX0_readRules_0 6 rfl rfl)
theorem dX0_readRules_7 : decode cX0_readRules 7 = .ok (.putfield 57, 3) := dk_181 0 57 (dk_at dksX0_readRules_0 7 rfl rfl)
theorem dX0_readRules_10 : decode cX0_readRules 10 = .ok (.aload_n 0, 1) := dk_42 (dk_at dksX0_readRules_0 10 rfl rfl)
theorem dX0_readRules_11 : decode cX0_readRules 11 = .ok (.new 95, 3) := dk_187 0 95 (dk_at dksX0_readRules_0 11 rfl rfl)
theorem dX0_readRules_14 : decode cX0_readRules 14 = .ok (.dup, 1) := dk_89 (dk_at dksX0_readRules_0 14 rfl rfl)
theorem dX0_readRules_15 : decode cX0_readRules 15 = .ok (.invokespecial 144, 3) := dk_183 0 144 (dk_at dksX0_readRules_0 15 rfl rfl)
theorem dX0_readRules_18 : decode cX0_readRules 18 = .ok (.putfield 90, 3) := dk_181 0 90 (dk_at dksX0_readRules_0 18 rfl rfl)
theorem dX0_readRules_21 : decode cX0_readRules 21 = .ok (.aload_n 0, 1) := dk_42 (dk_at dksX0_readRules_0 21 rfl rfl)
theorem dX0_readRules_22 : decode cX0_readRules 22 = .ok (.invokevirtual 145, 3) := dk_182 0 145 (dk_at dksX0_readRules_1 0 rfl rfl)
theorem dX0_readRules_25 : decode cX0_readRules 25 = .ok (.aload_n 0, 1) := dk_42 (dk_at dksX0_readRules_1 3 rfl rfl)
theorem dX0_readRules_26 : decode cX0_readRules 26 = .ok (.invokevirtual 29, 3) := dk_182 0 29 (dk_at dksX0_readRules_1 4 rfl rfl)
theorem dX0_readRules_29 : decode cX0_readRules 29 = .ok (.bipush 59, 2) := dk_16 59 (dk_at dksX0_readRules_1 7 rfl rfl)
theorem dX0_readRules_31 : decode cX0_readRules 31 = .ok (.if_icmp .ne 46, 3) := dk_160 0 46 (dk_at dksX0_readRules_1 9 rfl rfl)
theorem dX0_readRules_34 : decode cX0_readRules 34 = .ok (.aload_n 0, 1) := dk_42 (dk_at dksX0_readRules_1 12 rfl rfl)
theorem dX0_readRules_35 : decode cX0_readRules 35 = .ok (.getfield 90, 3) := dk_180 0 90 (dk_at dksX0_readRules_1 13 rfl rfl)
theorem dX0_readRules_38 : decode cX0_readRules 38 = .ok (.getfield 141, 3) := dk_180 0 141 (dk_at dksX0_readRules_1 16 rfl rfl)
theorem dX0_readRules_41 : decode cX0_readRules 41 = .ok (.invokeinterface 100 1, 5) := by decide +kernel
theorem dX0_readRules_46 : decode cX0_readRules 46 = .ok (.bipush 6, 2) := dk_16 6 (dk_at dksX0_readRules_2 0 rfl rfl)
theorem dX0_readRules_48 : decode cX0_readRules 48 = .ok (.if_icmp .ne 12, 3) := dk_160 0 12 (dk_at dksX0_readRules_2 2 rfl rfl)
theorem dX0_readRules_51 : decode cX0_readRules 51 = .ok (.aload_n 0, 1) := dk_42 (dk_at dksX0_readRules_2 5 rfl rfl)
theorem dX0_readRules_52 : decode cX0_readRules 52 = .ok (.aload_n 0, 1) := dk_42 (dk_at dksX0_readRules_2 6 rfl rfl)
theorem dX0_readRules_53 : decode cX0_readRules 53 = .ok (.getfield 17, 3) := dk_180 0 17 (dk_at dksX0_readRules_2 7 rfl rfl)
theorem dX0_readRules_56 : decode cX0_readRules 56 = .ok (.invokevirtual 33, 3) := dk_182 0 33 (dk_at dksX0_readRules_2 10 rfl rfl)
theorem dX0_readRules_59 : decode cX0_readRules 59 = .ok (.athrow, 1) := dk_191 (dk_at dksX0_readRules_2 13 rfl rfl)
theorem dX0_readRules_60 : decode cX0_readRules 60 = .ok (.aload_n 0, 1) := dk_42 (dk_at dksX0_readRules_2 14 rfl rfl)
theorem dX0_readRules_61 : decode cX0_readRules 61 = .ok (.dup, 1) := dk_89 (dk_at dksX0_readRules_2 15 rfl rfl)
theorem dX0_readRules_62 : decode cX0_readRules 62 = .ok (.getfield 17, 3) := dk_180 0 17 (dk_at dksX0_readRules_2 16 rfl rfl)
theorem dX0_readRules_65 : decode cX0_readRules 65 = .ok (.iconst 1, 1) := dk_4 (dk_at dksX0_readRules_2 19 rfl rfl)
theorem dX0_readRules_66 : decode cX0_readRules 66 = .ok (.iadd, 1) := dk_96 (dk_at dksX0_readRules_2 20 rfl rfl)
theorem dX0_readRules_67 : decode cX0_readRules 67 = .ok (.putfield 17, 3) := dk_181 0 17 (dk_at dksX0_readRules_2 21 rfl rfl)
theorem dX0_readRules_70 : decode cX0_readRules 70 = .ok (.aload_n 0, 1) := dk_42 (dk_at dksX0_readRules_3 0 rfl rfl)
theorem dX0_readRules_71 : decode cX0_readRules 71 = .ok (.invokevirtual 145, 3) := dk_182 0 145 (dk_at dksX0_readRules_3 1 rfl rfl)
theorem dX0_readRules_74 : decode cX0_readRules 74 = .ok (.goto (-49), 3) := dk_167 255 207 (dk_at dksX0_readRules_3 4 rfl rfl)
theorem dX0_readRules_77 : decode cX0_readRules 77 = .ok (.aload_n 0, 1) := dk_42 (dk_at dksX0_readRules_3 7 rfl rfl)
theorem dX0_readRules_78 : decode cX0_readRules 78 = .ok (.invokevirtual 29, 3) := dk_182 0 29 (dk_at dksX0_readRules_3 8 rfl rfl)
theorem dX0_readRules_81 : decode cX0_readRules 81 = .ok (.ifCond .lt 12, 3) := dk_155 0 12 (dk_at dksX0_readRules_3 11 rfl rfl)
theorem dX0_readRules_84 : decode cX0_readRules 84 = .ok (.aload_n 0, 1) := dk_42 (dk_at dksX0_readRules_3 14 rfl rfl)
theorem dX0_readRules_85 : decode cX0_readRules 85 = .ok (.aload_n 0, 1) := dk_42 (dk_at dksX0_readRules_3 15 rfl rfl)
theorem dX0_readRules_86 : decode cX0_readRules 86 = .ok (.getfield 17, 3) := dk_180 0 17 (dk_at dksX0_readRules_3 16 rfl rfl)
theorem dX0_readRules_89 : decode cX0_readRules 89 = .ok (.invokevirtual 33, 3) := dk_182 0 33 (dk_at dksX0_readRules_3 19 rfl rfl)
theorem dX0_readRules_92 : decode cX0_readRules 92 = .ok (.athrow, 1) := dk_191 (dk_at dksX0_readRules_3 22 rfl rfl)
theorem dX0_readRules_93 : decode cX0_readRules 93 = .ok (.return_, 1) := dk_177 (dk_at dksX0_readRules_3 23 rfl rfl)
abbrev cX0_rule : ByteArray := prog_1_method_15_code
def yX0_rule : MethodName := ⟨RX0, "rule", "()V"⟩
def dkwX0_rule_4 : List UInt8 := [185, 0, 116, 2, 0, 87, 177]
abbrev dktX0_rule_4 : List UInt8 := dkwX0_rule_4 ++ []
def dkwX0_rule_3 : List UInt8 := [180, 0, 17, 4, 96, 181, 0, 17, 42, 43, 182, 0, 137, 167, 255, 215, 42, 180, 0, 90, 180, 0, 141, 43]
abbrev dktX0_rule_3 : List UInt8 := dkwX0_rule_3 ++ dktX0_rule_4
def dkwX0_rule_2 : List UInt8 := [160, 0, 38, 43, 180, 0, 126, 7, 160, 0, 12, 42, 42, 180, 0, 17, 182, 0, 33, 191, 42, 89]
abbrev dktX0_rule_2 : List UInt8 := dkwX0_rule_2 ++ dktX0_rule_3
def dkwX0_rule_1 : List UInt8 := [154, 0, 12, 42, 42, 180, 0, 17, 182, 0, 33, 191, 42, 43, 182, 0, 137, 42, 182, 0, 29, 16, 44]
abbrev dktX0_rule_1 : List UInt8 := dkwX0_rule_1 ++ dktX0_rule_2
def dkwX0_rule_0 : List UInt8 := [187, 0, 121, 89, 183, 0, 132, 76, 43, 42, 182, 0, 69, 181, 0, 133, 42, 16, 58, 182, 0, 41]
abbrev dktX0_rule_0 : List UInt8 := dkwX0_rule_0 ++ dktX0_rule_1
theorem dksX0_rule_0 : cX0_rule.data.toList.drop 0 = dktX0_rule_0 := by decide +kernel
theorem dksX0_rule_1 : cX0_rule.data.toList.drop 22 = dktX0_rule_1 := dk_seg dksX0_rule_0 22 rfl rfl
theorem dksX0_rule_2 : cX0_rule.data.toList.drop 45 = dktX0_rule_2 := dk_seg dksX0_rule_1 23 rfl rfl
theorem dksX0_rule_3 : cX0_rule.data.toList.drop 67 = dktX0_rule_3 := dk_seg dksX0_rule_2 22 rfl rfl
theorem dksX0_rule_4 : cX0_rule.data.toList.drop 91 = dktX0_rule_4 := dk_seg dksX0_rule_3 24 rfl rfl
theorem dX0_rule_0 : decode cX0_rule 0 = .ok (.new 121, 3) := dk_187 0 121 (dk_at dksX0_rule_0 0 rfl rfl)
theorem dX0_rule_3 : decode cX0_rule 3 = .ok (.dup, 1) := dk_89 (dk_at dksX0_rule_0 3 rfl rfl)
theorem dX0_rule_4 : decode cX0_rule 4 = .ok (.invokespecial 132, 3) := dk_183 0 132 (dk_at dksX0_rule_0 4 rfl rfl)
theorem dX0_rule_7 : decode cX0_rule 7 = .ok (.astore_n 1, 1) := dk_76 (dk_at dksX0_rule_0 7 rfl rfl)
theorem dX0_rule_8 : decode cX0_rule 8 = .ok (.aload_n 1, 1) := dk_43 (dk_at dksX0_rule_0 8 rfl rfl)
theorem dX0_rule_9 : decode cX0_rule 9 = .ok (.aload_n 0, 1) := dk_42 (dk_at dksX0_rule_0 9 rfl rfl)
theorem dX0_rule_10 : decode cX0_rule 10 = .ok (.invokevirtual 69, 3) := dk_182 0 69 (dk_at dksX0_rule_0 10 rfl rfl)
theorem dX0_rule_13 : decode cX0_rule 13 = .ok (.putfield 133, 3) := dk_181 0 133 (dk_at dksX0_rule_0 13 rfl rfl)
theorem dX0_rule_16 : decode cX0_rule 16 = .ok (.aload_n 0, 1) := dk_42 (dk_at dksX0_rule_0 16 rfl rfl)
theorem dX0_rule_17 : decode cX0_rule 17 = .ok (.bipush 58, 2) := dk_16 58 (dk_at dksX0_rule_0 17 rfl rfl)
theorem dX0_rule_19 : decode cX0_rule 19 = .ok (.invokevirtual 41, 3) := dk_182 0 41 (dk_at dksX0_rule_0 19 rfl rfl)
theorem dX0_rule_22 : decode cX0_rule 22 = .ok (.ifCond .ne 12, 3) := dk_154 0 12 (dk_at dksX0_rule_1 0 rfl rfl)
theorem dX0_rule_25 : decode cX0_rule 25 = .ok (.aload_n 0, 1) := dk_42 (dk_at dksX0_rule_1 3 rfl rfl)
theorem dX0_rule_26 : decode cX0_rule 26 = .ok (.aload_n 0, 1) := dk_42 (dk_at dksX0_rule_1 4 rfl rfl)
theorem dX0_rule_27 : decode cX0_rule 27 = .ok (.getfield 17, 3) := dk_180 0 17 (dk_at dksX0_rule_1 5 rfl rfl)
theorem dX0_rule_30 : decode cX0_rule 30 = .ok (.invokevirtual 33, 3) := dk_182 0 33 (dk_at dksX0_rule_1 8 rfl rfl)
theorem dX0_rule_33 : decode cX0_rule 33 = .ok (.athrow, 1) := dk_191 (dk_at dksX0_rule_1 11 rfl rfl)
theorem dX0_rule_34 : decode cX0_rule 34 = .ok (.aload_n 0, 1) := dk_42 (dk_at dksX0_rule_1 12 rfl rfl)
theorem dX0_rule_35 : decode cX0_rule 35 = .ok (.aload_n 1, 1) := dk_43 (dk_at dksX0_rule_1 13 rfl rfl)
theorem dX0_rule_36 : decode cX0_rule 36 = .ok (.invokevirtual 137, 3) := dk_182 0 137 (dk_at dksX0_rule_1 14 rfl rfl)
theorem dX0_rule_39 : decode cX0_rule 39 = .ok (.aload_n 0, 1) := dk_42 (dk_at dksX0_rule_1 17 rfl rfl)
theorem dX0_rule_40 : decode cX0_rule 40 = .ok (.invokevirtual 29, 3) := dk_182 0 29 (dk_at dksX0_rule_1 18 rfl rfl)
theorem dX0_rule_43 : decode cX0_rule 43 = .ok (.bipush 44, 2) := dk_16 44 (dk_at dksX0_rule_1 21 rfl rfl)
theorem dX0_rule_45 : decode cX0_rule 45 = .ok (.if_icmp .ne 38, 3) := dk_160 0 38 (dk_at dksX0_rule_2 0 rfl rfl)
theorem dX0_rule_48 : decode cX0_rule 48 = .ok (.aload_n 1, 1) := dk_43 (dk_at dksX0_rule_2 3 rfl rfl)
theorem dX0_rule_49 : decode cX0_rule 49 = .ok (.getfield 126, 3) := dk_180 0 126 (dk_at dksX0_rule_2 4 rfl rfl)
theorem dX0_rule_52 : decode cX0_rule 52 = .ok (.iconst 4, 1) := dk_7 (dk_at dksX0_rule_2 7 rfl rfl)
theorem dX0_rule_53 : decode cX0_rule 53 = .ok (.if_icmp .ne 12, 3) := dk_160 0 12 (dk_at dksX0_rule_2 8 rfl rfl)
theorem dX0_rule_56 : decode cX0_rule 56 = .ok (.aload_n 0, 1) := dk_42 (dk_at dksX0_rule_2 11 rfl rfl)
theorem dX0_rule_57 : decode cX0_rule 57 = .ok (.aload_n 0, 1) := dk_42 (dk_at dksX0_rule_2 12 rfl rfl)
theorem dX0_rule_58 : decode cX0_rule 58 = .ok (.getfield 17, 3) := dk_180 0 17 (dk_at dksX0_rule_2 13 rfl rfl)
theorem dX0_rule_61 : decode cX0_rule 61 = .ok (.invokevirtual 33, 3) := dk_182 0 33 (dk_at dksX0_rule_2 16 rfl rfl)
theorem dX0_rule_64 : decode cX0_rule 64 = .ok (.athrow, 1) := dk_191 (dk_at dksX0_rule_2 19 rfl rfl)
theorem dX0_rule_65 : decode cX0_rule 65 = .ok (.aload_n 0, 1) := dk_42 (dk_at dksX0_rule_2 20 rfl rfl)
theorem dX0_rule_66 : decode cX0_rule 66 = .ok (.dup, 1) := dk_89 (dk_at dksX0_rule_2 21 rfl rfl)
theorem dX0_rule_67 : decode cX0_rule 67 = .ok (.getfield 17, 3) := dk_180 0 17 (dk_at dksX0_rule_3 0 rfl rfl)
theorem dX0_rule_70 : decode cX0_rule 70 = .ok (.iconst 1, 1) := dk_4 (dk_at dksX0_rule_3 3 rfl rfl)
theorem dX0_rule_71 : decode cX0_rule 71 = .ok (.iadd, 1) := dk_96 (dk_at dksX0_rule_3 4 rfl rfl)
theorem dX0_rule_72 : decode cX0_rule 72 = .ok (.putfield 17, 3) := dk_181 0 17 (dk_at dksX0_rule_3 5 rfl rfl)
theorem dX0_rule_75 : decode cX0_rule 75 = .ok (.aload_n 0, 1) := dk_42 (dk_at dksX0_rule_3 8 rfl rfl)
theorem dX0_rule_76 : decode cX0_rule 76 = .ok (.aload_n 1, 1) := dk_43 (dk_at dksX0_rule_3 9 rfl rfl)
theorem dX0_rule_77 : decode cX0_rule 77 = .ok (.invokevirtual 137, 3) := dk_182 0 137 (dk_at dksX0_rule_3 10 rfl rfl)
theorem dX0_rule_80 : decode cX0_rule 80 = .ok (.goto (-41), 3) := dk_167 255 215 (dk_at dksX0_rule_3 13 rfl rfl)
theorem dX0_rule_83 : decode cX0_rule 83 = .ok (.aload_n 0, 1) := dk_42 (dk_at dksX0_rule_3 16 rfl rfl)
theorem dX0_rule_84 : decode cX0_rule 84 = .ok (.getfield 90, 3) := dk_180 0 90 (dk_at dksX0_rule_3 17 rfl rfl)
theorem dX0_rule_87 : decode cX0_rule 87 = .ok (.getfield 141, 3) := dk_180 0 141 (dk_at dksX0_rule_3 20 rfl rfl)
theorem dX0_rule_90 : decode cX0_rule 90 = .ok (.aload_n 1, 1) := dk_43 (dk_at dksX0_rule_3 23 rfl rfl)
theorem dX0_rule_91 : decode cX0_rule 91 = .ok (.invokeinterface 116 2, 5) := by decide +kernel
theorem dX0_rule_96 : decode cX0_rule 96 = .ok (.pop, 1) := dk_87 (dk_at dksX0_rule_4 5 rfl rfl)
theorem dX0_rule_97 : decode cX0_rule 97 = .ok (.return_, 1) := dk_177 (dk_at dksX0_rule_4 6 rfl rfl)
abbrev cX0_either : ByteArray := prog_1_method_9_code
def yX0_either : MethodName := ⟨RX0, "either", "()LSortedPost$Test;"⟩
def dkwX0_either_1 : List UInt8 := [183, 0, 47, 76, 167, 255, 234, 43, 176]
abbrev dktX0_either_1 : List UInt8 := dkwX0_either_1 ++ []
def dkwX0_either_0 : List UInt8 := [42, 182, 0, 37, 76, 42, 16, 124, 182, 0, 41, 153, 0, 19, 187, 0, 45, 89, 43, 42, 182, 0, 37]
abbrev dktX0_either_0 : List UInt8 := dkwX0_either_0 ++ dktX0_either_1
theorem dksX0_either_0 : cX0_either.data.toList.drop 0 = dktX0_either_0 := by decide +kernel
theorem dksX0_either_1 : cX0_either.data.toList.drop 23 = dktX0_either_1 := dk_seg dksX0_either_0 23 rfl rfl
theorem dX0_either_0 : decode cX0_either 0 = .ok (.aload_n 0, 1) := dk_42 (dk_at dksX0_either_0 0 rfl rfl)
theorem dX0_either_1 : decode cX0_either 1 = .ok (.invokevirtual 37, 3) := dk_182 0 37 (dk_at dksX0_either_0 1 rfl rfl)
theorem dX0_either_4 : decode cX0_either 4 = .ok (.astore_n 1, 1) := dk_76 (dk_at dksX0_either_0 4 rfl rfl)
theorem dX0_either_5 : decode cX0_either 5 = .ok (.aload_n 0, 1) := dk_42 (dk_at dksX0_either_0 5 rfl rfl)
theorem dX0_either_6 : decode cX0_either 6 = .ok (.bipush 124, 2) := dk_16 124 (dk_at dksX0_either_0 6 rfl rfl)
theorem dX0_either_8 : decode cX0_either 8 = .ok (.invokevirtual 41, 3) := dk_182 0 41 (dk_at dksX0_either_0 8 rfl rfl)
theorem dX0_either_11 : decode cX0_either 11 = .ok (.ifCond .eq 19, 3) := dk_153 0 19 (dk_at dksX0_either_0 11 rfl rfl)
theorem dX0_either_14 : decode cX0_either 14 = .ok (.new 45, 3) := dk_187 0 45 (dk_at dksX0_either_0 14 rfl rfl)
theorem dX0_either_17 : decode cX0_either 17 = .ok (.dup, 1) := dk_89 (dk_at dksX0_either_0 17 rfl rfl)
theorem dX0_either_18 : decode cX0_either 18 = .ok (.aload_n 1, 1) := dk_43 (dk_at dksX0_either_0 18 rfl rfl)
theorem dX0_either_19 : decode cX0_either 19 = .ok (.aload_n 0, 1) := dk_42 (dk_at dksX0_either_0 19 rfl rfl)
theorem dX0_either_20 : decode cX0_either 20 = .ok (.invokevirtual 37, 3) := dk_182 0 37 (dk_at dksX0_either_0 20 rfl rfl)
theorem dX0_either_23 : decode cX0_either 23 = .ok (.invokespecial 47, 3) := dk_183 0 47 (dk_at dksX0_either_1 0 rfl rfl)
theorem dX0_either_26 : decode cX0_either 26 = .ok (.astore_n 1, 1) := dk_76 (dk_at dksX0_either_1 3 rfl rfl)
theorem dX0_either_27 : decode cX0_either 27 = .ok (.goto (-22), 3) := dk_167 255 234 (dk_at dksX0_either_1 4 rfl rfl)
theorem dX0_either_30 : decode cX0_either 30 = .ok (.aload_n 1, 1) := dk_43 (dk_at dksX0_either_1 7 rfl rfl)
theorem dX0_either_31 : decode cX0_either 31 = .ok (.areturn, 1) := dk_176 (dk_at dksX0_either_1 8 rfl rfl)
abbrev cX0_both : ByteArray := prog_1_method_10_code
def yX0_both : MethodName := ⟨RX0, "both", "()LSortedPost$Test;"⟩
def dkwX0_both_1 : List UInt8 := [183, 0, 56, 76, 167, 255, 234, 43, 176]
abbrev dktX0_both_1 : List UInt8 := dkwX0_both_1 ++ []
def dkwX0_both_0 : List UInt8 := [42, 182, 0, 51, 76, 42, 16, 38, 182, 0, 41, 153, 0, 19, 187, 0, 54, 89, 43, 42, 182, 0, 51]
abbrev dktX0_both_0 : List UInt8 := dkwX0_both_0 ++ dktX0_both_1
theorem dksX0_both_0 : cX0_both.data.toList.drop 0 = dktX0_both_0 := by decide +kernel
theorem dksX0_both_1 : cX0_both.data.toList.drop 23 = dktX0_both_1 := dk_seg dksX0_both_0 23 rfl rfl
theorem dX0_both_0 : decode cX0_both 0 = .ok (.aload_n 0, 1) := dk_42 (dk_at dksX0_both_0 0 rfl rfl)
theorem dX0_both_1 : decode cX0_both 1 = .ok (.invokevirtual 51, 3) := dk_182 0 51 (dk_at dksX0_both_0 1 rfl rfl)
theorem dX0_both_4 : decode cX0_both 4 = .ok (.astore_n 1, 1) := dk_76 (dk_at dksX0_both_0 4 rfl rfl)
theorem dX0_both_5 : decode cX0_both 5 = .ok (.aload_n 0, 1) := dk_42 (dk_at dksX0_both_0 5 rfl rfl)
theorem dX0_both_6 : decode cX0_both 6 = .ok (.bipush 38, 2) := dk_16 38 (dk_at dksX0_both_0 6 rfl rfl)
theorem dX0_both_8 : decode cX0_both 8 = .ok (.invokevirtual 41, 3) := dk_182 0 41 (dk_at dksX0_both_0 8 rfl rfl)
theorem dX0_both_11 : decode cX0_both 11 = .ok (.ifCond .eq 19, 3) := dk_153 0 19 (dk_at dksX0_both_0 11 rfl rfl)
theorem dX0_both_14 : decode cX0_both 14 = .ok (.new 54, 3) := dk_187 0 54 (dk_at dksX0_both_0 14 rfl rfl)
theorem dX0_both_17 : decode cX0_both 17 = .ok (.dup, 1) := dk_89 (dk_at dksX0_both_0 17 rfl rfl)
theorem dX0_both_18 : decode cX0_both 18 = .ok (.aload_n 1, 1) := dk_43 (dk_at dksX0_both_0 18 rfl rfl)
theorem dX0_both_19 : decode cX0_both 19 = .ok (.aload_n 0, 1) := dk_42 (dk_at dksX0_both_0 19 rfl rfl)
theorem dX0_both_20 : decode cX0_both 20 = .ok (.invokevirtual 51, 3) := dk_182 0 51 (dk_at dksX0_both_0 20 rfl rfl)
theorem dX0_both_23 : decode cX0_both 23 = .ok (.invokespecial 56, 3) := dk_183 0 56 (dk_at dksX0_both_1 0 rfl rfl)
theorem dX0_both_26 : decode cX0_both 26 = .ok (.astore_n 1, 1) := dk_76 (dk_at dksX0_both_1 3 rfl rfl)
theorem dX0_both_27 : decode cX0_both 27 = .ok (.goto (-22), 3) := dk_167 255 234 (dk_at dksX0_both_1 4 rfl rfl)
theorem dX0_both_30 : decode cX0_both 30 = .ok (.aload_n 1, 1) := dk_43 (dk_at dksX0_both_1 7 rfl rfl)
theorem dX0_both_31 : decode cX0_both 31 = .ok (.areturn, 1) := dk_176 (dk_at dksX0_both_1 8 rfl rfl)
abbrev cX0_part : ByteArray := prog_1_method_12_code
def yX0_part : MethodName := ⟨RX0, "part", "()LSortedPost$Test;"⟩
def dkwX0_part_3 : List UInt8 := [182, 0, 33, 191, 42, 89, 180, 0, 57, 4, 100, 181, 0, 57, 44, 176, 42, 27, 182, 0, 72, 176]
abbrev dktX0_part_3 : List UInt8 := dkwX0_part_3 ++ []
def dkwX0_part_2 : List UInt8 := [182, 0, 60, 42, 182, 0, 69, 77, 42, 16, 41, 182, 0, 41, 154, 0, 12, 42, 42, 180, 0, 17]
abbrev dktX0_part_2 : List UInt8 := dkwX0_part_2 ++ dktX0_part_3
def dkwX0_part_1 : List UInt8 := [183, 0, 66, 77, 42, 89, 180, 0, 57, 4, 100, 181, 0, 57, 44, 176, 27, 16, 40, 160, 0, 42, 42]
abbrev dktX0_part_1 : List UInt8 := dkwX0_part_1 ++ dktX0_part_2
def dkwX0_part_0 : List UInt8 := [42, 182, 0, 29, 60, 27, 16, 33, 160, 0, 31, 42, 182, 0, 60, 187, 0, 64, 89, 42, 182, 0, 51]
abbrev dktX0_part_0 : List UInt8 := dkwX0_part_0 ++ dktX0_part_1
theorem dksX0_part_0 : cX0_part.data.toList.drop 0 = dktX0_part_0 := by decide +kernel
theorem dksX0_part_1 : cX0_part.data.toList.drop 23 = dktX0_part_1 := dk_seg dksX0_part_0 23 rfl rfl
theorem dksX0_part_2 : cX0_part.data.toList.drop 46 = dktX0_part_2 := dk_seg dksX0_part_1 23 rfl rfl
theorem dksX0_part_3 : cX0_part.data.toList.drop 68 = dktX0_part_3 := dk_seg dksX0_part_2 22 rfl rfl
theorem dX0_part_0 : decode cX0_part 0 = .ok (.aload_n 0, 1) := dk_42 (dk_at dksX0_part_0 0 rfl rfl)
theorem dX0_part_1 : decode cX0_part 1 = .ok (.invokevirtual 29, 3) := dk_182 0 29 (dk_at dksX0_part_0 1 rfl rfl)
theorem dX0_part_4 : decode cX0_part 4 = .ok (.istore_n 1, 1) := dk_60 (dk_at dksX0_part_0 4 rfl rfl)
theorem dX0_part_5 : decode cX0_part 5 = .ok (.iload_n 1, 1) := dk_27 (dk_at dksX0_part_0 5 rfl rfl)
theorem dX0_part_6 : decode cX0_part 6 = .ok (.bipush 33, 2) := dk_16 33 (dk_at dksX0_part_0 6 rfl rfl)
theorem dX0_part_8 : decode cX0_part 8 = .ok (.if_icmp .ne 31, 3) := dk_160 0 31 (dk_at dksX0_part_0 8 rfl rfl)
theorem dX0_part_11 : decode cX0_part 11 = .ok (.aload_n 0, 1) := dk_42 (dk_at dksX0_part_0 11 rfl rfl)
theorem dX0_part_12 : decode cX0_part 12 = .ok (.invokevirtual 60, 3) := dk_182 0 60 (dk_at dksX0_part_0 12 rfl rfl)
theorem dX0_part_15 : decode cX0_part 15 = .ok (.new 64, 3) := dk_187 0 64 (dk_at dksX0_part_0 15 rfl rfl)
theorem dX0_part_18 : decode cX0_part 18 = .ok (.dup, 1) := dk_89 (dk_at dksX0_part_0 18 rfl rfl)
theorem dX0_part_19 : decode cX0_part 19 = .ok (.aload_n 0, 1) := dk_42 (dk_at dksX0_part_0 19 rfl rfl)
theorem dX0_part_20 : decode cX0_part 20 = .ok (.invokevirtual 51, 3) := dk_182 0 51 (dk_at dksX0_part_0 20 rfl rfl)
theorem dX0_part_23 : decode cX0_part 23 = .ok (.invokespecial 66, 3) := dk_183 0 66 (dk_at dksX0_part_1 0 rfl rfl)
theorem dX0_part_26 : decode cX0_part 26 = .ok (.astore_n 2, 1) := dk_77 (dk_at dksX0_part_1 3 rfl rfl)
theorem dX0_part_27 : decode cX0_part 27 = .ok (.aload_n 0, 1) := dk_42 (dk_at dksX0_part_1 4 rfl rfl)
theorem dX0_part_28 : decode cX0_part 28 = .ok (.dup, 1) := dk_89 (dk_at dksX0_part_1 5 rfl rfl)
theorem dX0_part_29 : decode cX0_part 29 = .ok (.getfield 57, 3) := dk_180 0 57 (dk_at dksX0_part_1 6 rfl rfl)
theorem dX0_part_32 : decode cX0_part 32 = .ok (.iconst 1, 1) := dk_4 (dk_at dksX0_part_1 9 rfl rfl)
theorem dX0_part_33 : decode cX0_part 33 = .ok (.isub, 1) := dk_100 (dk_at dksX0_part_1 10 rfl rfl)
theorem dX0_part_34 : decode cX0_part 34 = .ok (.putfield 57, 3) := dk_181 0 57 (dk_at dksX0_part_1 11 rfl rfl)
theorem dX0_part_37 : decode cX0_part 37 = .ok (.aload_n 2, 1) := dk_44 (dk_at dksX0_part_1 14 rfl rfl)
theorem dX0_part_38 : decode cX0_part 38 = .ok (.areturn, 1) := dk_176 (dk_at dksX0_part_1 15 rfl rfl)
theorem dX0_part_39 : decode cX0_part 39 = .ok (.iload_n 1, 1) := dk_27 (dk_at dksX0_part_1 16 rfl rfl)
theorem dX0_part_40 : decode cX0_part 40 = .ok (.bipush 40, 2) := dk_16 40 (dk_at dksX0_part_1 17 rfl rfl)
theorem dX0_part_42 : decode cX0_part 42 = .ok (.if_icmp .ne 42, 3) := dk_160 0 42 (dk_at dksX0_part_1 19 rfl rfl)
theorem dX0_part_45 : decode cX0_part 45 = .ok (.aload_n 0, 1) := dk_42 (dk_at dksX0_part_1 22 rfl rfl)
theorem dX0_part_46 : decode cX0_part 46 = .ok (.invokevirtual 60, 3) := dk_182 0 60 (dk_at dksX0_part_2 0 rfl rfl)
theorem dX0_part_49 : decode cX0_part 49 = .ok (.aload_n 0, 1) := dk_42 (dk_at dksX0_part_2 3 rfl rfl)
theorem dX0_part_50 : decode cX0_part 50 = .ok (.invokevirtual 69, 3) := dk_182 0 69 (dk_at dksX0_part_2 4 rfl rfl)
theorem dX0_part_53 : decode cX0_part 53 = .ok (.astore_n 2, 1) := dk_77 (dk_at dksX0_part_2 7 rfl rfl)
theorem dX0_part_54 : decode cX0_part 54 = .ok (.aload_n 0, 1) := dk_42 (dk_at dksX0_part_2 8 rfl rfl)
theorem dX0_part_55 : decode cX0_part 55 = .ok (.bipush 41, 2) := dk_16 41 (dk_at dksX0_part_2 9 rfl rfl)
theorem dX0_part_57 : decode cX0_part 57 = .ok (.invokevirtual 41, 3) := dk_182 0 41 (dk_at dksX0_part_2 11 rfl rfl)
theorem dX0_part_60 : decode cX0_part 60 = .ok (.ifCond .ne 12, 3) := dk_154 0 12 (dk_at dksX0_part_2 14 rfl rfl)
theorem dX0_part_63 : decode cX0_part 63 = .ok (.aload_n 0, 1) := dk_42 (dk_at dksX0_part_2 17 rfl rfl)
theorem dX0_part_64 : decode cX0_part 64 = .ok (.aload_n 0, 1) := dk_42 (dk_at dksX0_part_2 18 rfl rfl)
theorem dX0_part_65 : decode cX0_part 65 = .ok (.getfield 17, 3) := dk_180 0 17 (dk_at dksX0_part_2 19 rfl rfl)
theorem dX0_part_68 : decode cX0_part 68 = .ok (.invokevirtual 33, 3) := dk_182 0 33 (dk_at dksX0_part_3 0 rfl rfl)
theorem dX0_part_71 : decode cX0_part 71 = .ok (.athrow, 1) := dk_191 (dk_at dksX0_part_3 3 rfl rfl)
theorem dX0_part_72 : decode cX0_part 72 = .ok (.aload_n 0, 1) := dk_42 (dk_at dksX0_part_3 4 rfl rfl)
theorem dX0_part_73 : decode cX0_part 73 = .ok (.dup, 1) := dk_89 (dk_at dksX0_part_3 5 rfl rfl)
theorem dX0_part_74 : decode cX0_part 74 = .ok (.getfield 57, 3) := dk_180 0 57 (dk_at dksX0_part_3 6 rfl rfl)
theorem dX0_part_77 : decode cX0_part 77 = .ok (.iconst 1, 1) := dk_4 (dk_at dksX0_part_3 9 rfl rfl)
theorem dX0_part_78 : decode cX0_part 78 = .ok (.isub, 1) := dk_100 (dk_at dksX0_part_3 10 rfl rfl)
theorem dX0_part_79 : decode cX0_part 79 = .ok (.putfield 57, 3) := dk_181 0 57 (dk_at dksX0_part_3 11 rfl rfl)
theorem dX0_part_82 : decode cX0_part 82 = .ok (.aload_n 2, 1) := dk_44 (dk_at dksX0_part_3 14 rfl rfl)
theorem dX0_part_83 : decode cX0_part 83 = .ok (.areturn, 1) := dk_176 (dk_at dksX0_part_3 15 rfl rfl)
theorem dX0_part_84 : decode cX0_part 84 = .ok (.aload_n 0, 1) := dk_42 (dk_at dksX0_part_3 16 rfl rfl)
theorem dX0_part_85 : decode cX0_part 85 = .ok (.iload_n 1, 1) := dk_27 (dk_at dksX0_part_3 17 rfl rfl)
theorem dX0_part_86 : decode cX0_part 86 = .ok (.invokevirtual 72, 3) := dk_182 0 72 (dk_at dksX0_part_3 18 rfl rfl)
theorem dX0_part_89 : decode cX0_part 89 = .ok (.areturn, 1) := dk_176 (dk_at dksX0_part_3 21 rfl rfl)
abbrev cX0_next : ByteArray := prog_1_method_5_code
def yX0_next : MethodName := ⟨RX0, "next", "()I"⟩
def dkwX0_next_2 : List UInt8 := [162, 0, 15, 42, 180, 0, 13, 42, 180, 0, 17, 51, 167, 0, 4, 2, 172]
abbrev dktX0_next_2 : List UInt8 := dkwX0_next_2 ++ []
def dkwX0_next_1 : List UInt8 := [160, 0, 16, 42, 89, 180, 0, 17, 4, 96, 181, 0, 17, 167, 255, 221, 42, 180, 0, 17, 42, 180, 0, 9]
abbrev dktX0_next_1 : List UInt8 := dkwX0_next_1 ++ dktX0_next_2
def dkwX0_next_0 : List UInt8 := [42, 180, 0, 17, 42, 180, 0, 9, 162, 0, 30, 42, 180, 0, 13, 42, 180, 0, 17, 51, 16, 32]
abbrev dktX0_next_0 : List UInt8 := dkwX0_next_0 ++ dktX0_next_1
theorem dksX0_next_0 : cX0_next.data.toList.drop 0 = dktX0_next_0 := by decide +kernel
theorem dksX0_next_1 : cX0_next.data.toList.drop 22 = dktX0_next_1 := dk_seg dksX0_next_0 22 rfl rfl
theorem dksX0_next_2 : cX0_next.data.toList.drop 46 = dktX0_next_2 := dk_seg dksX0_next_1 24 rfl rfl
theorem dX0_next_0 : decode cX0_next 0 = .ok (.aload_n 0, 1) := dk_42 (dk_at dksX0_next_0 0 rfl rfl)
theorem dX0_next_1 : decode cX0_next 1 = .ok (.getfield 17, 3) := dk_180 0 17 (dk_at dksX0_next_0 1 rfl rfl)
theorem dX0_next_4 : decode cX0_next 4 = .ok (.aload_n 0, 1) := dk_42 (dk_at dksX0_next_0 4 rfl rfl)
theorem dX0_next_5 : decode cX0_next 5 = .ok (.getfield 9, 3) := dk_180 0 9 (dk_at dksX0_next_0 5 rfl rfl)
theorem dX0_next_8 : decode cX0_next 8 = .ok (.if_icmp .ge 30, 3) := dk_162 0 30 (dk_at dksX0_next_0 8 rfl rfl)
theorem dX0_next_11 : decode cX0_next 11 = .ok (.aload_n 0, 1) := dk_42 (dk_at dksX0_next_0 11 rfl rfl)
theorem dX0_next_12 : decode cX0_next 12 = .ok (.getfield 13, 3) := dk_180 0 13 (dk_at dksX0_next_0 12 rfl rfl)
theorem dX0_next_15 : decode cX0_next 15 = .ok (.aload_n 0, 1) := dk_42 (dk_at dksX0_next_0 15 rfl rfl)
theorem dX0_next_16 : decode cX0_next 16 = .ok (.getfield 17, 3) := dk_180 0 17 (dk_at dksX0_next_0 16 rfl rfl)
theorem dX0_next_19 : decode cX0_next 19 = .ok (.baload, 1) := dk_51 (dk_at dksX0_next_0 19 rfl rfl)
theorem dX0_next_20 : decode cX0_next 20 = .ok (.bipush 32, 2) := dk_16 32 (dk_at dksX0_next_0 20 rfl rfl)
theorem dX0_next_22 : decode cX0_next 22 = .ok (.if_icmp .ne 16, 3) := dk_160 0 16 (dk_at dksX0_next_1 0 rfl rfl)
theorem dX0_next_25 : decode cX0_next 25 = .ok (.aload_n 0, 1) := dk_42 (dk_at dksX0_next_1 3 rfl rfl)
theorem dX0_next_26 : decode cX0_next 26 = .ok (.dup, 1) := dk_89 (dk_at dksX0_next_1 4 rfl rfl)
theorem dX0_next_27 : decode cX0_next 27 = .ok (.getfield 17, 3) := dk_180 0 17 (dk_at dksX0_next_1 5 rfl rfl)
theorem dX0_next_30 : decode cX0_next 30 = .ok (.iconst 1, 1) := dk_4 (dk_at dksX0_next_1 8 rfl rfl)
theorem dX0_next_31 : decode cX0_next 31 = .ok (.iadd, 1) := dk_96 (dk_at dksX0_next_1 9 rfl rfl)
theorem dX0_next_32 : decode cX0_next 32 = .ok (.putfield 17, 3) := dk_181 0 17 (dk_at dksX0_next_1 10 rfl rfl)
theorem dX0_next_35 : decode cX0_next 35 = .ok (.goto (-35), 3) := dk_167 255 221 (dk_at dksX0_next_1 13 rfl rfl)
theorem dX0_next_38 : decode cX0_next 38 = .ok (.aload_n 0, 1) := dk_42 (dk_at dksX0_next_1 16 rfl rfl)
theorem dX0_next_39 : decode cX0_next 39 = .ok (.getfield 17, 3) := dk_180 0 17 (dk_at dksX0_next_1 17 rfl rfl)
theorem dX0_next_42 : decode cX0_next 42 = .ok (.aload_n 0, 1) := dk_42 (dk_at dksX0_next_1 20 rfl rfl)
theorem dX0_next_43 : decode cX0_next 43 = .ok (.getfield 9, 3) := dk_180 0 9 (dk_at dksX0_next_1 21 rfl rfl)
theorem dX0_next_46 : decode cX0_next 46 = .ok (.if_icmp .ge 15, 3) := dk_162 0 15 (dk_at dksX0_next_2 0 rfl rfl)
theorem dX0_next_49 : decode cX0_next 49 = .ok (.aload_n 0, 1) := dk_42 (dk_at dksX0_next_2 3 rfl rfl)
theorem dX0_next_50 : decode cX0_next 50 = .ok (.getfield 13, 3) := dk_180 0 13 (dk_at dksX0_next_2 4 rfl rfl)
theorem dX0_next_53 : decode cX0_next 53 = .ok (.aload_n 0, 1) := dk_42 (dk_at dksX0_next_2 7 rfl rfl)
theorem dX0_next_54 : decode cX0_next 54 = .ok (.getfield 17, 3) := dk_180 0 17 (dk_at dksX0_next_2 8 rfl rfl)
theorem dX0_next_57 : decode cX0_next 57 = .ok (.baload, 1) := dk_51 (dk_at dksX0_next_2 11 rfl rfl)
theorem dX0_next_58 : decode cX0_next 58 = .ok (.goto 4, 3) := dk_167 0 4 (dk_at dksX0_next_2 12 rfl rfl)
theorem dX0_next_61 : decode cX0_next 61 = .ok (.iconst (-1), 1) := dk_2 (dk_at dksX0_next_2 15 rfl rfl)
theorem dX0_next_62 : decode cX0_next 62 = .ok (.ireturn, 1) := dk_172 (dk_at dksX0_next_2 16 rfl rfl)
abbrev cX0_open : ByteArray := prog_1_method_11_code
def yX0_open : MethodName := ⟨RX0, "open", "()V"⟩
def dkwX0_open_1 : List UInt8 := [96, 181, 0, 57, 42, 89, 180, 0, 17, 4, 96, 181, 0, 17, 177]
abbrev dktX0_open_1 : List UInt8 := dkwX0_open_1 ++ []
def dkwX0_open_0 : List UInt8 := [42, 180, 0, 57, 16, 8, 160, 0, 12, 42, 42, 180, 0, 17, 182, 0, 33, 191, 42, 89, 180, 0, 57, 4]
abbrev dktX0_open_0 : List UInt8 := dkwX0_open_0 ++ dktX0_open_1
theorem dksX0_open_0 : cX0_open.data.toList.drop 0 = dktX0_open_0 := by decide +kernel
theorem dksX0_open_1 : cX0_open.data.toList.drop 24 = dktX0_open_1 := dk_seg dksX0_open_0 24 rfl rfl
theorem dX0_open_0 : decode cX0_open 0 = .ok (.aload_n 0, 1) := dk_42 (dk_at dksX0_open_0 0 rfl rfl)
theorem dX0_open_1 : decode cX0_open 1 = .ok (.getfield 57, 3) := dk_180 0 57 (dk_at dksX0_open_0 1 rfl rfl)
theorem dX0_open_4 : decode cX0_open 4 = .ok (.bipush 8, 2) := dk_16 8 (dk_at dksX0_open_0 4 rfl rfl)
theorem dX0_open_6 : decode cX0_open 6 = .ok (.if_icmp .ne 12, 3) := dk_160 0 12 (dk_at dksX0_open_0 6 rfl rfl)
theorem dX0_open_9 : decode cX0_open 9 = .ok (.aload_n 0, 1) := dk_42 (dk_at dksX0_open_0 9 rfl rfl)
theorem dX0_open_10 : decode cX0_open 10 = .ok (.aload_n 0, 1) := dk_42 (dk_at dksX0_open_0 10 rfl rfl)
theorem dX0_open_11 : decode cX0_open 11 = .ok (.getfield 17, 3) := dk_180 0 17 (dk_at dksX0_open_0 11 rfl rfl)
theorem dX0_open_14 : decode cX0_open 14 = .ok (.invokevirtual 33, 3) := dk_182 0 33 (dk_at dksX0_open_0 14 rfl rfl)
theorem dX0_open_17 : decode cX0_open 17 = .ok (.athrow, 1) := dk_191 (dk_at dksX0_open_0 17 rfl rfl)
theorem dX0_open_18 : decode cX0_open 18 = .ok (.aload_n 0, 1) := dk_42 (dk_at dksX0_open_0 18 rfl rfl)
theorem dX0_open_19 : decode cX0_open 19 = .ok (.dup, 1) := dk_89 (dk_at dksX0_open_0 19 rfl rfl)
theorem dX0_open_20 : decode cX0_open 20 = .ok (.getfield 57, 3) := dk_180 0 57 (dk_at dksX0_open_0 20 rfl rfl)
theorem dX0_open_23 : decode cX0_open 23 = .ok (.iconst 1, 1) := dk_4 (dk_at dksX0_open_0 23 rfl rfl)
theorem dX0_open_24 : decode cX0_open 24 = .ok (.iadd, 1) := dk_96 (dk_at dksX0_open_1 0 rfl rfl)
theorem dX0_open_25 : decode cX0_open 25 = .ok (.putfield 57, 3) := dk_181 0 57 (dk_at dksX0_open_1 1 rfl rfl)
theorem dX0_open_28 : decode cX0_open 28 = .ok (.aload_n 0, 1) := dk_42 (dk_at dksX0_open_1 4 rfl rfl)
theorem dX0_open_29 : decode cX0_open 29 = .ok (.dup, 1) := dk_89 (dk_at dksX0_open_1 5 rfl rfl)
theorem dX0_open_30 : decode cX0_open 30 = .ok (.getfield 17, 3) := dk_180 0 17 (dk_at dksX0_open_1 6 rfl rfl)
theorem dX0_open_33 : decode cX0_open 33 = .ok (.iconst 1, 1) := dk_4 (dk_at dksX0_open_1 9 rfl rfl)
theorem dX0_open_34 : decode cX0_open 34 = .ok (.iadd, 1) := dk_96 (dk_at dksX0_open_1 10 rfl rfl)
theorem dX0_open_35 : decode cX0_open 35 = .ok (.putfield 17, 3) := dk_181 0 17 (dk_at dksX0_open_1 11 rfl rfl)
theorem dX0_open_38 : decode cX0_open 38 = .ok (.return_, 1) := dk_177 (dk_at dksX0_open_1 14 rfl rfl)
abbrev cX0_wrong : ByteArray := prog_1_method_6_code
def yX0_wrong : MethodName := ⟨RX0, "wrong", "(I)LSortedPost$Fault;"⟩
def dkwX0_wrong_0 : List UInt8 := [42, 180, 0, 20, 27, 181, 0, 24, 42, 180, 0, 20, 176]
abbrev dktX0_wrong_0 : List UInt8 := dkwX0_wrong_0 ++ []
theorem dksX0_wrong_0 : cX0_wrong.data.toList.drop 0 = dktX0_wrong_0 := by decide +kernel
theorem dX0_wrong_0 : decode cX0_wrong 0 = .ok (.aload_n 0, 1) := dk_42 (dk_at dksX0_wrong_0 0 rfl rfl)
theorem dX0_wrong_1 : decode cX0_wrong 1 = .ok (.getfield 20, 3) := dk_180 0 20 (dk_at dksX0_wrong_0 1 rfl rfl)
theorem dX0_wrong_4 : decode cX0_wrong 4 = .ok (.iload_n 1, 1) := dk_27 (dk_at dksX0_wrong_0 4 rfl rfl)
theorem dX0_wrong_5 : decode cX0_wrong 5 = .ok (.putfield 24, 3) := dk_181 0 24 (dk_at dksX0_wrong_0 5 rfl rfl)
theorem dX0_wrong_8 : decode cX0_wrong 8 = .ok (.aload_n 0, 1) := dk_42 (dk_at dksX0_wrong_0 8 rfl rfl)
theorem dX0_wrong_9 : decode cX0_wrong 9 = .ok (.getfield 20, 3) := dk_180 0 20 (dk_at dksX0_wrong_0 9 rfl rfl)
theorem dX0_wrong_12 : decode cX0_wrong 12 = .ok (.areturn, 1) := dk_176 (dk_at dksX0_wrong_0 12 rfl rfl)
abbrev cX0_takes : ByteArray := prog_1_method_8_code
def yX0_takes : MethodName := ⟨RX0, "takes", "(I)Z"⟩
def dkwX0_takes_1 : List UInt8 := [167, 0, 4, 3, 96, 181, 0, 17, 28, 172]
abbrev dktX0_takes_1 : List UInt8 := dkwX0_takes_1 ++ []
def dkwX0_takes_0 : List UInt8 := [42, 182, 0, 29, 27, 160, 0, 7, 4, 167, 0, 4, 3, 61, 42, 89, 180, 0, 17, 28, 153, 0, 7, 4]
abbrev dktX0_takes_0 : List UInt8 := dkwX0_takes_0 ++ dktX0_takes_1
theorem dksX0_takes_0 : cX0_takes.data.toList.drop 0 = dktX0_takes_0 := by decide +kernel
theorem dksX0_takes_1 : cX0_takes.data.toList.drop 24 = dktX0_takes_1 := dk_seg dksX0_takes_0 24 rfl rfl
theorem dX0_takes_0 : decode cX0_takes 0 = .ok (.aload_n 0, 1) := dk_42 (dk_at dksX0_takes_0 0 rfl rfl)
theorem dX0_takes_1 : decode cX0_takes 1 = .ok (.invokevirtual 29, 3) := dk_182 0 29 (dk_at dksX0_takes_0 1 rfl rfl)
theorem dX0_takes_4 : decode cX0_takes 4 = .ok (.iload_n 1, 1) := dk_27 (dk_at dksX0_takes_0 4 rfl rfl)
theorem dX0_takes_5 : decode cX0_takes 5 = .ok (.if_icmp .ne 7, 3) := dk_160 0 7 (dk_at dksX0_takes_0 5 rfl rfl)
theorem dX0_takes_8 : decode cX0_takes 8 = .ok (.iconst 1, 1) := dk_4 (dk_at dksX0_takes_0 8 rfl rfl)
theorem dX0_takes_9 : decode cX0_takes 9 = .ok (.goto 4, 3) := dk_167 0 4 (dk_at dksX0_takes_0 9 rfl rfl)
theorem dX0_takes_12 : decode cX0_takes 12 = .ok (.iconst 0, 1) := dk_3 (dk_at dksX0_takes_0 12 rfl rfl)
theorem dX0_takes_13 : decode cX0_takes 13 = .ok (.istore_n 2, 1) := dk_61 (dk_at dksX0_takes_0 13 rfl rfl)
theorem dX0_takes_14 : decode cX0_takes 14 = .ok (.aload_n 0, 1) := dk_42 (dk_at dksX0_takes_0 14 rfl rfl)
theorem dX0_takes_15 : decode cX0_takes 15 = .ok (.dup, 1) := dk_89 (dk_at dksX0_takes_0 15 rfl rfl)
theorem dX0_takes_16 : decode cX0_takes 16 = .ok (.getfield 17, 3) := dk_180 0 17 (dk_at dksX0_takes_0 16 rfl rfl)
theorem dX0_takes_19 : decode cX0_takes 19 = .ok (.iload_n 2, 1) := dk_28 (dk_at dksX0_takes_0 19 rfl rfl)
theorem dX0_takes_20 : decode cX0_takes 20 = .ok (.ifCond .eq 7, 3) := dk_153 0 7 (dk_at dksX0_takes_0 20 rfl rfl)
theorem dX0_takes_23 : decode cX0_takes 23 = .ok (.iconst 1, 1) := dk_4 (dk_at dksX0_takes_0 23 rfl rfl)
theorem dX0_takes_24 : decode cX0_takes 24 = .ok (.goto 4, 3) := dk_167 0 4 (dk_at dksX0_takes_1 0 rfl rfl)
theorem dX0_takes_27 : decode cX0_takes 27 = .ok (.iconst 0, 1) := dk_3 (dk_at dksX0_takes_1 3 rfl rfl)
theorem dX0_takes_28 : decode cX0_takes 28 = .ok (.iadd, 1) := dk_96 (dk_at dksX0_takes_1 4 rfl rfl)
theorem dX0_takes_29 : decode cX0_takes 29 = .ok (.putfield 17, 3) := dk_181 0 17 (dk_at dksX0_takes_1 5 rfl rfl)
theorem dX0_takes_32 : decode cX0_takes 32 = .ok (.iload_n 2, 1) := dk_28 (dk_at dksX0_takes_1 8 rfl rfl)
theorem dX0_takes_33 : decode cX0_takes 33 = .ok (.ireturn, 1) := dk_172 (dk_at dksX0_takes_1 9 rfl rfl)
abbrev cX0_atom : ByteArray := prog_1_method_13_code
def yX0_atom : MethodName := ⟨RX0, "atom", "(I)LSortedPost$Test;"⟩
def dkwX0_atom_10 : List UInt8 := [185, 0, 116, 2, 0, 87, 45, 176]
abbrev dktX0_atom_10 : List UInt8 := dkwX0_atom_10 ++ []
def dkwX0_atom_9 : List UInt8 := [180, 0, 90, 180, 0, 94, 185, 0, 100, 1, 0, 181, 0, 115, 42, 180, 0, 90, 180, 0, 94, 45]
abbrev dktX0_atom_9 : List UInt8 := dkwX0_atom_9 ++ dktX0_atom_10
def dkwX0_atom_8 : List UInt8 := [180, 0, 94, 21, 4, 185, 0, 105, 2, 0, 192, 0, 113, 176, 132, 4, 1, 167, 255, 194, 45, 42]
abbrev dktX0_atom_8 : List UInt8 := dkwX0_atom_8 ++ dktX0_atom_9
def dkwX0_atom_7 : List UInt8 := [180, 0, 94, 21, 4, 185, 0, 105, 2, 0, 192, 0, 81, 45, 182, 0, 109, 153, 0, 21, 42, 180, 0, 90]
abbrev dktX0_atom_7 : List UInt8 := dkwX0_atom_7 ++ dktX0_atom_8
def dkwX0_atom_6 : List UInt8 := [54, 4, 21, 4, 42, 180, 0, 90, 180, 0, 94, 185, 0, 100, 1, 0, 162, 0, 51, 42, 180, 0, 90]
abbrev dktX0_atom_6 : List UInt8 := dkwX0_atom_6 ++ dktX0_atom_7
def dkwX0_atom_5 : List UInt8 := [187, 0, 81, 89, 27, 28, 158, 0, 11, 42, 28, 182, 0, 83, 167, 0, 4, 3, 183, 0, 87, 78, 3]
abbrev dktX0_atom_5 : List UInt8 := dkwX0_atom_5 ++ dktX0_atom_6
def dkwX0_atom_4 : List UInt8 := [42, 89, 180, 0, 17, 4, 96, 181, 0, 17, 27, 16, 42, 160, 0, 11, 187, 0, 77, 89, 183, 0, 79, 176]
abbrev dktX0_atom_4 : List UInt8 := dkwX0_atom_4 ++ dktX0_atom_5
def dkwX0_atom_3 : List UInt8 := [16, 42, 160, 0, 7, 3, 167, 0, 4, 2, 61, 28, 156, 0, 12, 42, 42, 180, 0, 17, 182, 0, 33, 191]
abbrev dktX0_atom_3 : List UInt8 := dkwX0_atom_3 ++ dktX0_atom_4
def dkwX0_atom_2 : List UInt8 := [16, 97, 159, 0, 27, 27, 16, 106, 159, 0, 21, 27, 16, 100, 159, 0, 15, 27, 16, 114, 159, 0, 9, 27]
abbrev dktX0_atom_2 : List UInt8 := dkwX0_atom_2 ++ dktX0_atom_3
def dkwX0_atom_1 : List UInt8 := [16, 11, 167, 0, 55, 27, 16, 62, 160, 0, 8, 18, 76, 167, 0, 44, 27, 16, 108, 159, 0, 33, 27]
abbrev dktX0_atom_1 : List UInt8 := dkwX0_atom_1 ++ dktX0_atom_2
def dkwX0_atom_0 : List UInt8 := [27, 16, 102, 159, 0, 9, 27, 16, 116, 160, 0, 8, 16, 15, 167, 0, 66, 27, 16, 119, 160, 0, 8]
abbrev dktX0_atom_0 : List UInt8 := dkwX0_atom_0 ++ dktX0_atom_1
theorem dksX0_atom_0 : cX0_atom.data.toList.drop 0 = dktX0_atom_0 := by decide +kernel
theorem dksX0_atom_1 : cX0_atom.data.toList.drop 23 = dktX0_atom_1 := dk_seg dksX0_atom_0 23 rfl rfl
theorem dksX0_atom_2 : cX0_atom.data.toList.drop 46 = dktX0_atom_2 := dk_seg dksX0_atom_1 23 rfl rfl
theorem dksX0_atom_3 : cX0_atom.data.toList.drop 70 = dktX0_atom_3 := dk_seg dksX0_atom_2 24 rfl rfl
theorem dksX0_atom_4 : cX0_atom.data.toList.drop 94 = dktX0_atom_4 := dk_seg dksX0_atom_3 24 rfl rfl
theorem dksX0_atom_5 : cX0_atom.data.toList.drop 118 = dktX0_atom_5 := dk_seg dksX0_atom_4 24 rfl rfl
theorem dksX0_atom_6 : cX0_atom.data.toList.drop 141 = dktX0_atom_6 := dk_seg dksX0_atom_5 23 rfl rfl
theorem dksX0_atom_7 : cX0_atom.data.toList.drop 164 = dktX0_atom_7 := dk_seg dksX0_atom_6 23 rfl rfl
theorem dksX0_atom_8 : cX0_atom.data.toList.drop 188 = dktX0_atom_8 := dk_seg dksX0_atom_7 24 rfl rfl
theorem dksX0_atom_9 : cX0_atom.data.toList.drop 210 = dktX0_atom_9 := dk_seg dksX0_atom_8 22 rfl rfl
theorem dksX0_atom_10 : cX0_atom.data.toList.drop 232 = dktX0_atom_10 := dk_seg dksX0_atom_9 22 rfl rfl
theorem dX0_atom_0 : decode cX0_atom 0 = .ok (.iload_n 1, 1) := dk_27 (dk_at dksX0_atom_0 0 rfl rfl)
theorem dX0_atom_1 : decode cX0_atom 1 = .ok (.bipush 102, 2) := dk_16 102 (dk_at dksX0_atom_0 1 rfl rfl)
theorem dX0_atom_3 : decode cX0_atom 3 = .ok (.if_icmp .eq 9, 3) := dk_159 0 9 (dk_at dksX0_atom_0 3 rfl rfl)
theorem dX0_atom_6 : decode cX0_atom 6 = .ok (.iload_n 1, 1) := dk_27 (dk_at dksX0_atom_0 6 rfl rfl)
theorem dX0_atom_7 : decode cX0_atom 7 = .ok (.bipush 116, 2) := dk_16 116 (dk_at dksX0_atom_0 7 rfl rfl)
theorem dX0_atom_9 : decode cX0_atom 9 = .ok (.if_icmp .ne 8, 3) := dk_160 0 8 (dk_at dksX0_atom_0 9 rfl rfl)
theorem dX0_atom_12 : decode cX0_atom 12 = .ok (.bipush 15, 2) := dk_16 15 (dk_at dksX0_atom_0 12 rfl rfl)
theorem dX0_atom_14 : decode cX0_atom 14 = .ok (.goto 66, 3) := dk_167 0 66 (dk_at dksX0_atom_0 14 rfl rfl)
theorem dX0_atom_17 : decode cX0_atom 17 = .ok (.iload_n 1, 1) := dk_27 (dk_at dksX0_atom_0 17 rfl rfl)
theorem dX0_atom_18 : decode cX0_atom 18 = .ok (.bipush 119, 2) := dk_16 119 (dk_at dksX0_atom_0 18 rfl rfl)
theorem dX0_atom_20 : decode cX0_atom 20 = .ok (.if_icmp .ne 8, 3) := dk_160 0 8 (dk_at dksX0_atom_0 20 rfl rfl)
theorem dX0_atom_23 : decode cX0_atom 23 = .ok (.bipush 11, 2) := dk_16 11 (dk_at dksX0_atom_1 0 rfl rfl)
theorem dX0_atom_25 : decode cX0_atom 25 = .ok (.goto 55, 3) := dk_167 0 55 (dk_at dksX0_atom_1 2 rfl rfl)
theorem dX0_atom_28 : decode cX0_atom 28 = .ok (.iload_n 1, 1) := dk_27 (dk_at dksX0_atom_1 5 rfl rfl)
theorem dX0_atom_29 : decode cX0_atom 29 = .ok (.bipush 62, 2) := dk_16 62 (dk_at dksX0_atom_1 6 rfl rfl)
theorem dX0_atom_31 : decode cX0_atom 31 = .ok (.if_icmp .ne 8, 3) := dk_160 0 8 (dk_at dksX0_atom_1 8 rfl rfl)
theorem dX0_atom_34 : decode cX0_atom 34 = .ok (.ldc 76, 2) := dk_18 76 (dk_at dksX0_atom_1 11 rfl rfl)
theorem dX0_atom_36 : decode cX0_atom 36 = .ok (.goto 44, 3) := dk_167 0 44 (dk_at dksX0_atom_1 13 rfl rfl)
theorem dX0_atom_39 : decode cX0_atom 39 = .ok (.iload_n 1, 1) := dk_27 (dk_at dksX0_atom_1 16 rfl rfl)
theorem dX0_atom_40 : decode cX0_atom 40 = .ok (.bipush 108, 2) := dk_16 108 (dk_at dksX0_atom_1 17 rfl rfl)
theorem dX0_atom_42 : decode cX0_atom 42 = .ok (.if_icmp .eq 33, 3) := dk_159 0 33 (dk_at dksX0_atom_1 19 rfl rfl)
theorem dX0_atom_45 : decode cX0_atom 45 = .ok (.iload_n 1, 1) := dk_27 (dk_at dksX0_atom_1 22 rfl rfl)
theorem dX0_atom_46 : decode cX0_atom 46 = .ok (.bipush 97, 2) := dk_16 97 (dk_at dksX0_atom_2 0 rfl rfl)
theorem dX0_atom_48 : decode cX0_atom 48 = .ok (.if_icmp .eq 27, 3) := dk_159 0 27 (dk_at dksX0_atom_2 2 rfl rfl)
theorem dX0_atom_51 : decode cX0_atom 51 = .ok (.iload_n 1, 1) := dk_27 (dk_at dksX0_atom_2 5 rfl rfl)
theorem dX0_atom_52 : decode cX0_atom 52 = .ok (.bipush 106, 2) := dk_16 106 (dk_at dksX0_atom_2 6 rfl rfl)
theorem dX0_atom_54 : decode cX0_atom 54 = .ok (.if_icmp .eq 21, 3) := dk_159 0 21 (dk_at dksX0_atom_2 8 rfl rfl)
theorem dX0_atom_57 : decode cX0_atom 57 = .ok (.iload_n 1, 1) := dk_27 (dk_at dksX0_atom_2 11 rfl rfl)
theorem dX0_atom_58 : decode cX0_atom 58 = .ok (.bipush 100, 2) := dk_16 100 (dk_at dksX0_atom_2 12 rfl rfl)
theorem dX0_atom_60 : decode cX0_atom 60 = .ok (.if_icmp .eq 15, 3) := dk_159 0 15 (dk_at dksX0_atom_2 14 rfl rfl)
theorem dX0_atom_63 : decode cX0_atom 63 = .ok (.iload_n 1, 1) := dk_27 (dk_at dksX0_atom_2 17 rfl rfl)
theorem dX0_atom_64 : decode cX0_atom 64 = .ok (.bipush 114, 2) := dk_16 114 (dk_at dksX0_atom_2 18 rfl rfl)
theorem dX0_atom_66 : decode cX0_atom 66 = .ok (.if_icmp .eq 9, 3) := dk_159 0 9 (dk_at dksX0_atom_2 20 rfl rfl)
theorem dX0_atom_69 : decode cX0_atom 69 = .ok (.iload_n 1, 1) := dk_27 (dk_at dksX0_atom_2 23 rfl rfl)
theorem dX0_atom_70 : decode cX0_atom 70 = .ok (.bipush 42, 2) := dk_16 42 (dk_at dksX0_atom_3 0 rfl rfl)
theorem dX0_atom_72 : decode cX0_atom 72 = .ok (.if_icmp .ne 7, 3) := dk_160 0 7 (dk_at dksX0_atom_3 2 rfl rfl)
theorem dX0_atom_75 : decode cX0_atom 75 = .ok (.iconst 0, 1) := dk_3 (dk_at dksX0_atom_3 5 rfl rfl)
theorem dX0_atom_76 : decode cX0_atom 76 = .ok (.goto 4, 3) := dk_167 0 4 (dk_at dksX0_atom_3 6 rfl rfl)
theorem dX0_atom_79 : decode cX0_atom 79 = .ok (.iconst (-1), 1) := dk_2 (dk_at dksX0_atom_3 9 rfl rfl)
theorem dX0_atom_80 : decode cX0_atom 80 = .ok (.istore_n 2, 1) := dk_61 (dk_at dksX0_atom_3 10 rfl rfl)
theorem dX0_atom_81 : decode cX0_atom 81 = .ok (.iload_n 2, 1) := dk_28 (dk_at dksX0_atom_3 11 rfl rfl)
theorem dX0_atom_82 : decode cX0_atom 82 = .ok (.ifCond .ge 12, 3) := dk_156 0 12 (dk_at dksX0_atom_3 12 rfl rfl)
theorem dX0_atom_85 : decode cX0_atom 85 = .ok (.aload_n 0, 1) := dk_42 (dk_at dksX0_atom_3 15 rfl rfl)
theorem dX0_atom_86 : decode cX0_atom 86 = .ok (.aload_n 0, 1) := dk_42 (dk_at dksX0_atom_3 16 rfl rfl)
theorem dX0_atom_87 : decode cX0_atom 87 = .ok (.getfield 17, 3) := dk_180 0 17 (dk_at dksX0_atom_3 17 rfl rfl)
theorem dX0_atom_90 : decode cX0_atom 90 = .ok (.invokevirtual 33, 3) := dk_182 0 33 (dk_at dksX0_atom_3 20 rfl rfl)
theorem dX0_atom_93 : decode cX0_atom 93 = .ok (.athrow, 1) := dk_191 (dk_at dksX0_atom_3 23 rfl rfl)
theorem dX0_atom_94 : decode cX0_atom 94 = .ok (.aload_n 0, 1) := dk_42 (dk_at dksX0_atom_4 0 rfl rfl)
theorem dX0_atom_95 : decode cX0_atom 95 = .ok (.dup, 1) := dk_89 (dk_at dksX0_atom_4 1 rfl rfl)
theorem dX0_atom_96 : decode cX0_atom 96 = .ok (.getfield 17, 3) := dk_180 0 17 (dk_at dksX0_atom_4 2 rfl rfl)
theorem dX0_atom_99 : decode cX0_atom 99 = .ok (.iconst 1, 1) := dk_4 (dk_at dksX0_atom_4 5 rfl rfl)
theorem dX0_atom_100 : decode cX0_atom 100 = .ok (.iadd, 1) := dk_96 (dk_at dksX0_atom_4 6 rfl rfl)
theorem dX0_atom_101 : decode cX0_atom 101 = .ok (.putfield 17, 3) := dk_181 0 17 (dk_at dksX0_atom_4 7 rfl rfl)
theorem dX0_atom_104 : decode cX0_atom 104 = .ok (.iload_n 1, 1) := dk_27 (dk_at dksX0_atom_4 10 rfl rfl)
theorem dX0_atom_105 : decode cX0_atom 105 = .ok (.bipush 42, 2) := dk_16 42 (dk_at dksX0_atom_4 11 rfl rfl)
theorem dX0_atom_107 : decode cX0_atom 107 = .ok (.if_icmp .ne 11, 3) := dk_160 0 11 (dk_at dksX0_atom_4 13 rfl rfl)
theorem dX0_atom_110 : decode cX0_atom 110 = .ok (.new 77, 3) := dk_187 0 77 (dk_at dksX0_atom_4 16 rfl rfl)
theorem dX0_atom_113 : decode cX0_atom 113 = .ok (.dup, 1) := dk_89 (dk_at dksX0_atom_4 19 rfl rfl)
theorem dX0_atom_114 : decode cX0_atom 114 = .ok (.invokespecial 79, 3) := dk_183 0 79 (dk_at dksX0_atom_4 20 rfl rfl)
theorem dX0_atom_117 : decode cX0_atom 117 = .ok (.areturn, 1) := dk_176 (dk_at dksX0_atom_4 23 rfl rfl)
theorem dX0_atom_118 : decode cX0_atom 118 = .ok (.new 81, 3) := dk_187 0 81 (dk_at dksX0_atom_5 0 rfl rfl)
theorem dX0_atom_121 : decode cX0_atom 121 = .ok (.dup, 1) := dk_89 (dk_at dksX0_atom_5 3 rfl rfl)
theorem dX0_atom_122 : decode cX0_atom 122 = .ok (.iload_n 1, 1) := dk_27 (dk_at dksX0_atom_5 4 rfl rfl)
theorem dX0_atom_123 : decode cX0_atom 123 = .ok (.iload_n 2, 1) := dk_28 (dk_at dksX0_atom_5 5 rfl rfl)
theorem dX0_atom_124 : decode cX0_atom 124 = .ok (.ifCond .le 11, 3) := dk_158 0 11 (dk_at dksX0_atom_5 6 rfl rfl)
theorem dX0_atom_127 : decode cX0_atom 127 = .ok (.aload_n 0, 1) := dk_42 (dk_at dksX0_atom_5 9 rfl rfl)
theorem dX0_atom_128 : decode cX0_atom 128 = .ok (.iload_n 2, 1) := dk_28 (dk_at dksX0_atom_5 10 rfl rfl)
theorem dX0_atom_129 : decode cX0_atom 129 = .ok (.invokevirtual 83, 3) := dk_182 0 83 (dk_at dksX0_atom_5 11 rfl rfl)
theorem dX0_atom_132 : decode cX0_atom 132 = .ok (.goto 4, 3) := dk_167 0 4 (dk_at dksX0_atom_5 14 rfl rfl)
theorem dX0_atom_135 : decode cX0_atom 135 = .ok (.iconst 0, 1) := dk_3 (dk_at dksX0_atom_5 17 rfl rfl)
theorem dX0_atom_136 : decode cX0_atom 136 = .ok (.invokespecial 87, 3) := dk_183 0 87 (dk_at dksX0_atom_5 18 rfl rfl)
theorem dX0_atom_139 : decode cX0_atom 139 = .ok (.astore_n 3, 1) := dk_78 (dk_at dksX0_atom_5 21 rfl rfl)
theorem dX0_atom_140 : decode cX0_atom 140 = .ok (.iconst 0, 1) := dk_3 (dk_at dksX0_atom_5 22 rfl rfl)
theorem dX0_atom_141 : decode cX0_atom 141 = .ok (.istore 4, 2) := dk_54 4 (dk_at dksX0_atom_6 0 rfl rfl)
theorem dX0_atom_143 : decode cX0_atom 143 = .ok (.iload 4, 2) := dk_21 4 (dk_at dksX0_atom_6 2 rfl rfl)
theorem dX0_atom_145 : decode cX0_atom 145 = .ok (.aload_n 0, 1) := dk_42 (dk_at dksX0_atom_6 4 rfl rfl)
theorem dX0_atom_146 : decode cX0_atom 146 = .ok (.getfield 90, 3) := dk_180 0 90 (dk_at dksX0_atom_6 5 rfl rfl)
theorem dX0_atom_149 : decode cX0_atom 149 = .ok (.getfield 94, 3) := dk_180 0 94 (dk_at dksX0_atom_6 8 rfl rfl)
theorem dX0_atom_152 : decode cX0_atom 152 = .ok (.invokeinterface 100 1, 5) := by decide +kernel
theorem dX0_atom_157 : decode cX0_atom 157 = .ok (.if_icmp .ge 51, 3) := dk_162 0 51 (dk_at dksX0_atom_6 16 rfl rfl)
theorem dX0_atom_160 : decode cX0_atom 160 = .ok (.aload_n 0, 1) := dk_42 (dk_at dksX0_atom_6 19 rfl rfl)
theorem dX0_atom_161 : decode cX0_atom 161 = .ok (.getfield 90, 3) := dk_180 0 90 (dk_at dksX0_atom_6 20 rfl rfl)
theorem dX0_atom_164 : decode cX0_atom 164 = .ok (.getfield 94, 3) := dk_180 0 94 (dk_at dksX0_atom_7 0 rfl rfl)
theorem dX0_atom_167 : decode cX0_atom 167 = .ok (.iload 4, 2) := dk_21 4 (dk_at dksX0_atom_7 3 rfl rfl)
theorem dX0_atom_169 : decode cX0_atom 169 = .ok (.invokeinterface 105 2, 5) := by decide +kernel
theorem dX0_atom_174 : decode cX0_atom 174 = .ok (.checkcast 81, 3) := dk_192 0 81 (dk_at dksX0_atom_7 10 rfl rfl)
theorem dX0_atom_177 : decode cX0_atom 177 = .ok (.aload_n 3, 1) := dk_45 (dk_at dksX0_atom_7 13 rfl rfl)
theorem dX0_atom_178 : decode cX0_atom 178 = .ok (.invokevirtual 109, 3) := dk_182 0 109 (dk_at dksX0_atom_7 14 rfl rfl)
theorem dX0_atom_181 : decode cX0_atom 181 = .ok (.ifCond .eq 21, 3) := dk_153 0 21 (dk_at dksX0_atom_7 17 rfl rfl)
theorem dX0_atom_184 : decode cX0_atom 184 = .ok (.aload_n 0, 1) := dk_42 (dk_at dksX0_atom_7 20 rfl rfl)
theorem dX0_atom_185 : decode cX0_atom 185 = .ok (.getfield 90, 3) := dk_180 0 90 (dk_at dksX0_atom_7 21 rfl rfl)
theorem dX0_atom_188 : decode cX0_atom 188 = .ok (.getfield 94, 3) := dk_180 0 94 (dk_at dksX0_atom_8 0 rfl rfl)
theorem dX0_atom_191 : decode cX0_atom 191 = .ok (.iload 4, 2) := dk_21 4 (dk_at dksX0_atom_8 3 rfl rfl)
theorem dX0_atom_193 : decode cX0_atom 193 = .ok (.invokeinterface 105 2, 5) := by decide +kernel
theorem dX0_atom_198 : decode cX0_atom 198 = .ok (.checkcast 113, 3) := dk_192 0 113 (dk_at dksX0_atom_8 10 rfl rfl)
theorem dX0_atom_201 : decode cX0_atom 201 = .ok (.areturn, 1) := dk_176 (dk_at dksX0_atom_8 13 rfl rfl)
theorem dX0_atom_202 : decode cX0_atom 202 = .ok (.iinc 4 1, 3) := dk_132 4 1 (dk_at dksX0_atom_8 14 rfl rfl)
theorem dX0_atom_205 : decode cX0_atom 205 = .ok (.goto (-62), 3) := dk_167 255 194 (dk_at dksX0_atom_8 17 rfl rfl)
theorem dX0_atom_208 : decode cX0_atom 208 = .ok (.aload_n 3, 1) := dk_45 (dk_at dksX0_atom_8 20 rfl rfl)
theorem dX0_atom_209 : decode cX0_atom 209 = .ok (.aload_n 0, 1) := dk_42 (dk_at dksX0_atom_8 21 rfl rfl)
theorem dX0_atom_210 : decode cX0_atom 210 = .ok (.getfield 90, 3) := dk_180 0 90 (dk_at dksX0_atom_9 0 rfl rfl)
theorem dX0_atom_213 : decode cX0_atom 213 = .ok (.getfield 94, 3) := dk_180 0 94 (dk_at dksX0_atom_9 3 rfl rfl)
theorem dX0_atom_216 : decode cX0_atom 216 = .ok (.invokeinterface 100 1, 5) := by decide +kernel
theorem dX0_atom_221 : decode cX0_atom 221 = .ok (.putfield 115, 3) := dk_181 0 115 (dk_at dksX0_atom_9 11 rfl rfl)
theorem dX0_atom_224 : decode cX0_atom 224 = .ok (.aload_n 0, 1) := dk_42 (dk_at dksX0_atom_9 14 rfl rfl)
theorem dX0_atom_225 : decode cX0_atom 225 = .ok (.getfield 90, 3) := dk_180 0 90 (dk_at dksX0_atom_9 15 rfl rfl)
theorem dX0_atom_228 : decode cX0_atom 228 = .ok (.getfield 94, 3) := dk_180 0 94 (dk_at dksX0_atom_9 18 rfl rfl)
theorem dX0_atom_231 : decode cX0_atom 231 = .ok (.aload_n 3, 1) := dk_45 (dk_at dksX0_atom_9 21 rfl rfl)
theorem dX0_atom_232 : decode cX0_atom 232 = .ok (.invokeinterface 116 2, 5) := by decide +kernel
theorem dX0_atom_237 : decode cX0_atom 237 = .ok (.pop, 1) := dk_87 (dk_at dksX0_atom_10 5 rfl rfl)
theorem dX0_atom_238 : decode cX0_atom 238 = .ok (.aload_n 3, 1) := dk_45 (dk_at dksX0_atom_10 6 rfl rfl)
theorem dX0_atom_239 : decode cX0_atom 239 = .ok (.areturn, 1) := dk_176 (dk_at dksX0_atom_10 7 rfl rfl)
abbrev cX0_number : ByteArray := prog_1_method_7_code
def yX0_number : MethodName := ⟨RX0, "number", "(I)I"⟩
def dkwX0_number_5 : List UInt8 := [42, 29, 182, 0, 33, 191, 21, 4, 172]
abbrev dktX0_number_5 : List UInt8 := dkwX0_number_5 ++ []
def dkwX0_number_4 : List UInt8 := [42, 180, 0, 17, 29, 159, 0, 19, 42, 180, 0, 17, 29, 100, 8, 163, 0, 9, 21, 4, 27, 164, 0, 9]
abbrev dktX0_number_4 : List UInt8 := dkwX0_number_4 ++ dktX0_number_5
def dkwX0_number_3 : List UInt8 := [167, 0, 5, 21, 4, 54, 4, 42, 89, 180, 0, 17, 4, 96, 181, 0, 17, 167, 255, 181, 28, 155, 0, 27]
abbrev dktX0_number_3 : List UInt8 := dkwX0_number_3 ++ dktX0_number_4
def dkwX0_number_2 : List UInt8 := [100, 8, 162, 0, 24, 16, 10, 21, 4, 104, 42, 180, 0, 13, 42, 180, 0, 17, 51, 96, 16, 48, 100]
abbrev dktX0_number_2 : List UInt8 := dkwX0_number_2 ++ dktX0_number_3
def dkwX0_number_1 : List UInt8 := [42, 180, 0, 13, 42, 180, 0, 17, 51, 16, 48, 16, 57, 184, 0, 3, 153, 0, 51, 42, 180, 0, 17, 29]
abbrev dktX0_number_1 : List UInt8 := dkwX0_number_1 ++ dktX0_number_2
def dkwX0_number_0 : List UInt8 := [42, 182, 0, 29, 61, 42, 180, 0, 17, 62, 3, 54, 4, 42, 180, 0, 17, 42, 180, 0, 9, 162, 0, 70]
abbrev dktX0_number_0 : List UInt8 := dkwX0_number_0 ++ dktX0_number_1
theorem dksX0_number_0 : cX0_number.data.toList.drop 0 = dktX0_number_0 := by decide +kernel
theorem dksX0_number_1 : cX0_number.data.toList.drop 24 = dktX0_number_1 := dk_seg dksX0_number_0 24 rfl rfl
theorem dksX0_number_2 : cX0_number.data.toList.drop 48 = dktX0_number_2 := dk_seg dksX0_number_1 24 rfl rfl
theorem dksX0_number_3 : cX0_number.data.toList.drop 71 = dktX0_number_3 := dk_seg dksX0_number_2 23 rfl rfl
theorem dksX0_number_4 : cX0_number.data.toList.drop 95 = dktX0_number_4 := dk_seg dksX0_number_3 24 rfl rfl
theorem dksX0_number_5 : cX0_number.data.toList.drop 119 = dktX0_number_5 := dk_seg dksX0_number_4 24 rfl rfl
theorem dX0_number_0 : decode cX0_number 0 = .ok (.aload_n 0, 1) := dk_42 (dk_at dksX0_number_0 0 rfl rfl)
theorem dX0_number_1 : decode cX0_number 1 = .ok (.invokevirtual 29, 3) := dk_182 0 29 (dk_at dksX0_number_0 1 rfl rfl)
theorem dX0_number_4 : decode cX0_number 4 = .ok (.istore_n 2, 1) := dk_61 (dk_at dksX0_number_0 4 rfl rfl)
theorem dX0_number_5 : decode cX0_number 5 = .ok (.aload_n 0, 1) := dk_42 (dk_at dksX0_number_0 5 rfl rfl)
theorem dX0_number_6 : decode cX0_number 6 = .ok (.getfield 17, 3) := dk_180 0 17 (dk_at dksX0_number_0 6 rfl rfl)
theorem dX0_number_9 : decode cX0_number 9 = .ok (.istore_n 3, 1) := dk_62 (dk_at dksX0_number_0 9 rfl rfl)
theorem dX0_number_10 : decode cX0_number 10 = .ok (.iconst 0, 1) := dk_3 (dk_at dksX0_number_0 10 rfl rfl)
theorem dX0_number_11 : decode cX0_number 11 = .ok (.istore 4, 2) := dk_54 4 (dk_at dksX0_number_0 11 rfl rfl)
theorem dX0_number_13 : decode cX0_number 13 = .ok (.aload_n 0, 1) := dk_42 (dk_at dksX0_number_0 13 rfl rfl)
theorem dX0_number_14 : decode cX0_number 14 = .ok (.getfield 17, 3) := dk_180 0 17 (dk_at dksX0_number_0 14 rfl rfl)
theorem dX0_number_17 : decode cX0_number 17 = .ok (.aload_n 0, 1) := dk_42 (dk_at dksX0_number_0 17 rfl rfl)
theorem dX0_number_18 : decode cX0_number 18 = .ok (.getfield 9, 3) := dk_180 0 9 (dk_at dksX0_number_0 18 rfl rfl)
theorem dX0_number_21 : decode cX0_number 21 = .ok (.if_icmp .ge 70, 3) := dk_162 0 70 (dk_at dksX0_number_0 21 rfl rfl)
theorem dX0_number_24 : decode cX0_number 24 = .ok (.aload_n 0, 1) := dk_42 (dk_at dksX0_number_1 0 rfl rfl)
theorem dX0_number_25 : decode cX0_number 25 = .ok (.getfield 13, 3) := dk_180 0 13 (dk_at dksX0_number_1 1 rfl rfl)
theorem dX0_number_28 : decode cX0_number 28 = .ok (.aload_n 0, 1) := dk_42 (dk_at dksX0_number_1 4 rfl rfl)
theorem dX0_number_29 : decode cX0_number 29 = .ok (.getfield 17, 3) := dk_180 0 17 (dk_at dksX0_number_1 5 rfl rfl)
theorem dX0_number_32 : decode cX0_number 32 = .ok (.baload, 1) := dk_51 (dk_at dksX0_number_1 8 rfl rfl)
theorem dX0_number_33 : decode cX0_number 33 = .ok (.bipush 48, 2) := dk_16 48 (dk_at dksX0_number_1 9 rfl rfl)
theorem dX0_number_35 : decode cX0_number 35 = .ok (.bipush 57, 2) := dk_16 57 (dk_at dksX0_number_1 11 rfl rfl)
theorem dX0_number_37 : decode cX0_number 37 = .ok (.invokestatic 3, 3) := dk_184 0 3 (dk_at dksX0_number_1 13 rfl rfl)
theorem dX0_number_40 : decode cX0_number 40 = .ok (.ifCond .eq 51, 3) := dk_153 0 51 (dk_at dksX0_number_1 16 rfl rfl)
theorem dX0_number_43 : decode cX0_number 43 = .ok (.aload_n 0, 1) := dk_42 (dk_at dksX0_number_1 19 rfl rfl)
theorem dX0_number_44 : decode cX0_number 44 = .ok (.getfield 17, 3) := dk_180 0 17 (dk_at dksX0_number_1 20 rfl rfl)
theorem dX0_number_47 : decode cX0_number 47 = .ok (.iload_n 3, 1) := dk_29 (dk_at dksX0_number_1 23 rfl rfl)
theorem dX0_number_48 : decode cX0_number 48 = .ok (.isub, 1) := dk_100 (dk_at dksX0_number_2 0 rfl rfl)
theorem dX0_number_49 : decode cX0_number 49 = .ok (.iconst 5, 1) := dk_8 (dk_at dksX0_number_2 1 rfl rfl)
theorem dX0_number_50 : decode cX0_number 50 = .ok (.if_icmp .ge 24, 3) := dk_162 0 24 (dk_at dksX0_number_2 2 rfl rfl)
theorem dX0_number_53 : decode cX0_number 53 = .ok (.bipush 10, 2) := dk_16 10 (dk_at dksX0_number_2 5 rfl rfl)
theorem dX0_number_55 : decode cX0_number 55 = .ok (.iload 4, 2) := dk_21 4 (dk_at dksX0_number_2 7 rfl rfl)
theorem dX0_number_57 : decode cX0_number 57 = .ok (.imul, 1) := dk_104 (dk_at dksX0_number_2 9 rfl rfl)
theorem dX0_number_58 : decode cX0_number 58 = .ok (.aload_n 0, 1) := dk_42 (dk_at dksX0_number_2 10 rfl rfl)
theorem dX0_number_59 : decode cX0_number 59 = .ok (.getfield 13, 3) := dk_180 0 13 (dk_at dksX0_number_2 11 rfl rfl)
theorem dX0_number_62 : decode cX0_number 62 = .ok (.aload_n 0, 1) := dk_42 (dk_at dksX0_number_2 14 rfl rfl)
theorem dX0_number_63 : decode cX0_number 63 = .ok (.getfield 17, 3) := dk_180 0 17 (dk_at dksX0_number_2 15 rfl rfl)
theorem dX0_number_66 : decode cX0_number 66 = .ok (.baload, 1) := dk_51 (dk_at dksX0_number_2 18 rfl rfl)
theorem dX0_number_67 : decode cX0_number 67 = .ok (.iadd, 1) := dk_96 (dk_at dksX0_number_2 19 rfl rfl)
theorem dX0_number_68 : decode cX0_number 68 = .ok (.bipush 48, 2) := dk_16 48 (dk_at dksX0_number_2 20 rfl rfl)
theorem dX0_number_70 : decode cX0_number 70 = .ok (.isub, 1) := dk_100 (dk_at dksX0_number_2 22 rfl rfl)
theorem dX0_number_71 : decode cX0_number 71 = .ok (.goto 5, 3) := dk_167 0 5 (dk_at dksX0_number_3 0 rfl rfl)
theorem dX0_number_74 : decode cX0_number 74 = .ok (.iload 4, 2) := dk_21 4 (dk_at dksX0_number_3 3 rfl rfl)
theorem dX0_number_76 : decode cX0_number 76 = .ok (.istore 4, 2) := dk_54 4 (dk_at dksX0_number_3 5 rfl rfl)
theorem dX0_number_78 : decode cX0_number 78 = .ok (.aload_n 0, 1) := dk_42 (dk_at dksX0_number_3 7 rfl rfl)
theorem dX0_number_79 : decode cX0_number 79 = .ok (.dup, 1) := dk_89 (dk_at dksX0_number_3 8 rfl rfl)
theorem dX0_number_80 : decode cX0_number 80 = .ok (.getfield 17, 3) := dk_180 0 17 (dk_at dksX0_number_3 9 rfl rfl)
theorem dX0_number_83 : decode cX0_number 83 = .ok (.iconst 1, 1) := dk_4 (dk_at dksX0_number_3 12 rfl rfl)
theorem dX0_number_84 : decode cX0_number 84 = .ok (.iadd, 1) := dk_96 (dk_at dksX0_number_3 13 rfl rfl)
theorem dX0_number_85 : decode cX0_number 85 = .ok (.putfield 17, 3) := dk_181 0 17 (dk_at dksX0_number_3 14 rfl rfl)
theorem dX0_number_88 : decode cX0_number 88 = .ok (.goto (-75), 3) := dk_167 255 181 (dk_at dksX0_number_3 17 rfl rfl)
theorem dX0_number_91 : decode cX0_number 91 = .ok (.iload_n 2, 1) := dk_28 (dk_at dksX0_number_3 20 rfl rfl)
theorem dX0_number_92 : decode cX0_number 92 = .ok (.ifCond .lt 27, 3) := dk_155 0 27 (dk_at dksX0_number_3 21 rfl rfl)
theorem dX0_number_95 : decode cX0_number 95 = .ok (.aload_n 0, 1) := dk_42 (dk_at dksX0_number_4 0 rfl rfl)
theorem dX0_number_96 : decode cX0_number 96 = .ok (.getfield 17, 3) := dk_180 0 17 (dk_at dksX0_number_4 1 rfl rfl)
theorem dX0_number_99 : decode cX0_number 99 = .ok (.iload_n 3, 1) := dk_29 (dk_at dksX0_number_4 4 rfl rfl)
theorem dX0_number_100 : decode cX0_number 100 = .ok (.if_icmp .eq 19, 3) := dk_159 0 19 (dk_at dksX0_number_4 5 rfl rfl)
theorem dX0_number_103 : decode cX0_number 103 = .ok (.aload_n 0, 1) := dk_42 (dk_at dksX0_number_4 8 rfl rfl)
theorem dX0_number_104 : decode cX0_number 104 = .ok (.getfield 17, 3) := dk_180 0 17 (dk_at dksX0_number_4 9 rfl rfl)
theorem dX0_number_107 : decode cX0_number 107 = .ok (.iload_n 3, 1) := dk_29 (dk_at dksX0_number_4 12 rfl rfl)
theorem dX0_number_108 : decode cX0_number 108 = .ok (.isub, 1) := dk_100 (dk_at dksX0_number_4 13 rfl rfl)
theorem dX0_number_109 : decode cX0_number 109 = .ok (.iconst 5, 1) := dk_8 (dk_at dksX0_number_4 14 rfl rfl)
theorem dX0_number_110 : decode cX0_number 110 = .ok (.if_icmp .gt 9, 3) := dk_163 0 9 (dk_at dksX0_number_4 15 rfl rfl)
theorem dX0_number_113 : decode cX0_number 113 = .ok (.iload 4, 2) := dk_21 4 (dk_at dksX0_number_4 18 rfl rfl)
theorem dX0_number_115 : decode cX0_number 115 = .ok (.iload_n 1, 1) := dk_27 (dk_at dksX0_number_4 20 rfl rfl)
theorem dX0_number_116 : decode cX0_number 116 = .ok (.if_icmp .le 9, 3) := dk_164 0 9 (dk_at dksX0_number_4 21 rfl rfl)
theorem dX0_number_119 : decode cX0_number 119 = .ok (.aload_n 0, 1) := dk_42 (dk_at dksX0_number_5 0 rfl rfl)
theorem dX0_number_120 : decode cX0_number 120 = .ok (.iload_n 3, 1) := dk_29 (dk_at dksX0_number_5 1 rfl rfl)
theorem dX0_number_121 : decode cX0_number 121 = .ok (.invokevirtual 33, 3) := dk_182 0 33 (dk_at dksX0_number_5 2 rfl rfl)
theorem dX0_number_124 : decode cX0_number 124 = .ok (.athrow, 1) := dk_191 (dk_at dksX0_number_5 5 rfl rfl)
theorem dX0_number_125 : decode cX0_number 125 = .ok (.iload 4, 2) := dk_21 4 (dk_at dksX0_number_5 6 rfl rfl)
theorem dX0_number_127 : decode cX0_number 127 = .ok (.ireturn, 1) := dk_172 (dk_at dksX0_number_5 8 rfl rfl)
abbrev cX0_act : ByteArray := prog_1_method_14_code
def yX0_act : MethodName := ⟨RX0, "act", "(LSortedPost$Rule;)V"⟩
def dkwX0_act_5 : List UInt8 := [4, 96, 181, 0, 126, 177]
abbrev dktX0_act_5 : List UInt8 := dkwX0_act_5 ++ []
def dkwX0_act_4 : List UInt8 := [167, 0, 18, 28, 16, 71, 160, 0, 11, 42, 5, 182, 0, 83, 167, 0, 4, 3, 79, 43, 89, 180, 0, 126]
abbrev dktX0_act_4 : List UInt8 := dkwX0_act_4 ++ dktX0_act_5
def dkwX0_act_3 : List UInt8 := [180, 0, 126, 28, 79, 43, 180, 0, 129, 43, 180, 0, 126, 28, 16, 70, 160, 0, 11, 42, 6, 182, 0, 83]
abbrev dktX0_act_3 : List UInt8 := dkwX0_act_3 ++ dktX0_act_4
def dkwX0_act_2 : List UInt8 := [42, 180, 0, 17, 182, 0, 33, 191, 42, 89, 180, 0, 17, 4, 96, 181, 0, 17, 43, 180, 0, 120, 43]
abbrev dktX0_act_2 : List UInt8 := dkwX0_act_2 ++ dktX0_act_3
def dkwX0_act_1 : List UInt8 := [16, 88, 159, 0, 30, 28, 16, 86, 159, 0, 24, 28, 16, 77, 159, 0, 18, 28, 16, 83, 159, 0, 12, 42]
abbrev dktX0_act_1 : List UInt8 := dkwX0_act_1 ++ dktX0_act_2
def dkwX0_act_0 : List UInt8 := [42, 182, 0, 29, 61, 28, 16, 70, 159, 0, 48, 28, 16, 75, 159, 0, 42, 28, 16, 71, 159, 0, 36, 28]
abbrev dktX0_act_0 : List UInt8 := dkwX0_act_0 ++ dktX0_act_1
theorem dksX0_act_0 : cX0_act.data.toList.drop 0 = dktX0_act_0 := by decide +kernel
theorem dksX0_act_1 : cX0_act.data.toList.drop 24 = dktX0_act_1 := dk_seg dksX0_act_0 24 rfl rfl
theorem dksX0_act_2 : cX0_act.data.toList.drop 48 = dktX0_act_2 := dk_seg dksX0_act_1 24 rfl rfl
theorem dksX0_act_3 : cX0_act.data.toList.drop 71 = dktX0_act_3 := dk_seg dksX0_act_2 23 rfl rfl
theorem dksX0_act_4 : cX0_act.data.toList.drop 95 = dktX0_act_4 := dk_seg dksX0_act_3 24 rfl rfl
theorem dksX0_act_5 : cX0_act.data.toList.drop 119 = dktX0_act_5 := dk_seg dksX0_act_4 24 rfl rfl
theorem dX0_act_0 : decode cX0_act 0 = .ok (.aload_n 0, 1) := dk_42 (dk_at dksX0_act_0 0 rfl rfl)
theorem dX0_act_1 : decode cX0_act 1 = .ok (.invokevirtual 29, 3) := dk_182 0 29 (dk_at dksX0_act_0 1 rfl rfl)
theorem dX0_act_4 : decode cX0_act 4 = .ok (.istore_n 2, 1) := dk_61 (dk_at dksX0_act_0 4 rfl rfl)
theorem dX0_act_5 : decode cX0_act 5 = .ok (.iload_n 2, 1) := dk_28 (dk_at dksX0_act_0 5 rfl rfl)
theorem dX0_act_6 : decode cX0_act 6 = .ok (.bipush 70, 2) := dk_16 70 (dk_at dksX0_act_0 6 rfl rfl)
theorem dX0_act_8 : decode cX0_act 8 = .ok (.if_icmp .eq 48, 3) := dk_159 0 48 (dk_at dksX0_act_0 8 rfl rfl)
theorem dX0_act_11 : decode cX0_act 11 = .ok (.iload_n 2, 1) := dk_28 (dk_at dksX0_act_0 11 rfl rfl)
theorem dX0_act_12 : decode cX0_act 12 = .ok (.bipush 75, 2) := dk_16 75 (dk_at dksX0_act_0 12 rfl rfl)
theorem dX0_act_14 : decode cX0_act 14 = .ok (.if_icmp .eq 42, 3) := dk_159 0 42 (dk_at dksX0_act_0 14 rfl rfl)
theorem dX0_act_17 : decode cX0_act 17 = .ok (.iload_n 2, 1) := dk_28 (dk_at dksX0_act_0 17 rfl rfl)
theorem dX0_act_18 : decode cX0_act 18 = .ok (.bipush 71, 2) := dk_16 71 (dk_at dksX0_act_0 18 rfl rfl)
theorem dX0_act_20 : decode cX0_act 20 = .ok (.if_icmp .eq 36, 3) := dk_159 0 36 (dk_at dksX0_act_0 20 rfl rfl)
theorem dX0_act_23 : decode cX0_act 23 = .ok (.iload_n 2, 1) := dk_28 (dk_at dksX0_act_0 23 rfl rfl)
theorem dX0_act_24 : decode cX0_act 24 = .ok (.bipush 88, 2) := dk_16 88 (dk_at dksX0_act_1 0 rfl rfl)
theorem dX0_act_26 : decode cX0_act 26 = .ok (.if_icmp .eq 30, 3) := dk_159 0 30 (dk_at dksX0_act_1 2 rfl rfl)
theorem dX0_act_29 : decode cX0_act 29 = .ok (.iload_n 2, 1) := dk_28 (dk_at dksX0_act_1 5 rfl rfl)
theorem dX0_act_30 : decode cX0_act 30 = .ok (.bipush 86, 2) := dk_16 86 (dk_at dksX0_act_1 6 rfl rfl)
theorem dX0_act_32 : decode cX0_act 32 = .ok (.if_icmp .eq 24, 3) := dk_159 0 24 (dk_at dksX0_act_1 8 rfl rfl)
theorem dX0_act_35 : decode cX0_act 35 = .ok (.iload_n 2, 1) := dk_28 (dk_at dksX0_act_1 11 rfl rfl)
theorem dX0_act_36 : decode cX0_act 36 = .ok (.bipush 77, 2) := dk_16 77 (dk_at dksX0_act_1 12 rfl rfl)
theorem dX0_act_38 : decode cX0_act 38 = .ok (.if_icmp .eq 18, 3) := dk_159 0 18 (dk_at dksX0_act_1 14 rfl rfl)
theorem dX0_act_41 : decode cX0_act 41 = .ok (.iload_n 2, 1) := dk_28 (dk_at dksX0_act_1 17 rfl rfl)
theorem dX0_act_42 : decode cX0_act 42 = .ok (.bipush 83, 2) := dk_16 83 (dk_at dksX0_act_1 18 rfl rfl)
theorem dX0_act_44 : decode cX0_act 44 = .ok (.if_icmp .eq 12, 3) := dk_159 0 12 (dk_at dksX0_act_1 20 rfl rfl)
theorem dX0_act_47 : decode cX0_act 47 = .ok (.aload_n 0, 1) := dk_42 (dk_at dksX0_act_1 23 rfl rfl)
theorem dX0_act_48 : decode cX0_act 48 = .ok (.aload_n 0, 1) := dk_42 (dk_at dksX0_act_2 0 rfl rfl)
theorem dX0_act_49 : decode cX0_act 49 = .ok (.getfield 17, 3) := dk_180 0 17 (dk_at dksX0_act_2 1 rfl rfl)
theorem dX0_act_52 : decode cX0_act 52 = .ok (.invokevirtual 33, 3) := dk_182 0 33 (dk_at dksX0_act_2 4 rfl rfl)
theorem dX0_act_55 : decode cX0_act 55 = .ok (.athrow, 1) := dk_191 (dk_at dksX0_act_2 7 rfl rfl)
theorem dX0_act_56 : decode cX0_act 56 = .ok (.aload_n 0, 1) := dk_42 (dk_at dksX0_act_2 8 rfl rfl)
theorem dX0_act_57 : decode cX0_act 57 = .ok (.dup, 1) := dk_89 (dk_at dksX0_act_2 9 rfl rfl)
theorem dX0_act_58 : decode cX0_act 58 = .ok (.getfield 17, 3) := dk_180 0 17 (dk_at dksX0_act_2 10 rfl rfl)
theorem dX0_act_61 : decode cX0_act 61 = .ok (.iconst 1, 1) := dk_4 (dk_at dksX0_act_2 13 rfl rfl)
theorem dX0_act_62 : decode cX0_act 62 = .ok (.iadd, 1) := dk_96 (dk_at dksX0_act_2 14 rfl rfl)
theorem dX0_act_63 : decode cX0_act 63 = .ok (.putfield 17, 3) := dk_181 0 17 (dk_at dksX0_act_2 15 rfl rfl)
theorem dX0_act_66 : decode cX0_act 66 = .ok (.aload_n 1, 1) := dk_43 (dk_at dksX0_act_2 18 rfl rfl)
theorem dX0_act_67 : decode cX0_act 67 = .ok (.getfield 120, 3) := dk_180 0 120 (dk_at dksX0_act_2 19 rfl rfl)
theorem dX0_act_70 : decode cX0_act 70 = .ok (.aload_n 1, 1) := dk_43 (dk_at dksX0_act_2 22 rfl rfl)
theorem dX0_act_71 : decode cX0_act 71 = .ok (.getfield 126, 3) := dk_180 0 126 (dk_at dksX0_act_3 0 rfl rfl)
theorem dX0_act_74 : decode cX0_act 74 = .ok (.iload_n 2, 1) := dk_28 (dk_at dksX0_act_3 3 rfl rfl)
theorem dX0_act_75 : decode cX0_act 75 = .ok (.iastore, 1) := dk_79 (dk_at dksX0_act_3 4 rfl rfl)
theorem dX0_act_76 : decode cX0_act 76 = .ok (.aload_n 1, 1) := dk_43 (dk_at dksX0_act_3 5 rfl rfl)
theorem dX0_act_77 : decode cX0_act 77 = .ok (.getfield 129, 3) := dk_180 0 129 (dk_at dksX0_act_3 6 rfl rfl)
theorem dX0_act_80 : decode cX0_act 80 = .ok (.aload_n 1, 1) := dk_43 (dk_at dksX0_act_3 9 rfl rfl)
theorem dX0_act_81 : decode cX0_act 81 = .ok (.getfield 126, 3) := dk_180 0 126 (dk_at dksX0_act_3 10 rfl rfl)
theorem dX0_act_84 : decode cX0_act 84 = .ok (.iload_n 2, 1) := dk_28 (dk_at dksX0_act_3 13 rfl rfl)
theorem dX0_act_85 : decode cX0_act 85 = .ok (.bipush 70, 2) := dk_16 70 (dk_at dksX0_act_3 14 rfl rfl)
theorem dX0_act_87 : decode cX0_act 87 = .ok (.if_icmp .ne 11, 3) := dk_160 0 11 (dk_at dksX0_act_3 16 rfl rfl)
theorem dX0_act_90 : decode cX0_act 90 = .ok (.aload_n 0, 1) := dk_42 (dk_at dksX0_act_3 19 rfl rfl)
theorem dX0_act_91 : decode cX0_act 91 = .ok (.iconst 3, 1) := dk_6 (dk_at dksX0_act_3 20 rfl rfl)
theorem dX0_act_92 : decode cX0_act 92 = .ok (.invokevirtual 83, 3) := dk_182 0 83 (dk_at dksX0_act_3 21 rfl rfl)
theorem dX0_act_95 : decode cX0_act 95 = .ok (.goto 18, 3) := dk_167 0 18 (dk_at dksX0_act_4 0 rfl rfl)
theorem dX0_act_98 : decode cX0_act 98 = .ok (.iload_n 2, 1) := dk_28 (dk_at dksX0_act_4 3 rfl rfl)
theorem dX0_act_99 : decode cX0_act 99 = .ok (.bipush 71, 2) := dk_16 71 (dk_at dksX0_act_4 4 rfl rfl)
theorem dX0_act_101 : decode cX0_act 101 = .ok (.if_icmp .ne 11, 3) := dk_160 0 11 (dk_at dksX0_act_4 6 rfl rfl)
theorem dX0_act_104 : decode cX0_act 104 = .ok (.aload_n 0, 1) := dk_42 (dk_at dksX0_act_4 9 rfl rfl)
theorem dX0_act_105 : decode cX0_act 105 = .ok (.iconst 2, 1) := dk_5 (dk_at dksX0_act_4 10 rfl rfl)
theorem dX0_act_106 : decode cX0_act 106 = .ok (.invokevirtual 83, 3) := dk_182 0 83 (dk_at dksX0_act_4 11 rfl rfl)
theorem dX0_act_109 : decode cX0_act 109 = .ok (.goto 4, 3) := dk_167 0 4 (dk_at dksX0_act_4 14 rfl rfl)
theorem dX0_act_112 : decode cX0_act 112 = .ok (.iconst 0, 1) := dk_3 (dk_at dksX0_act_4 17 rfl rfl)
theorem dX0_act_113 : decode cX0_act 113 = .ok (.iastore, 1) := dk_79 (dk_at dksX0_act_4 18 rfl rfl)
theorem dX0_act_114 : decode cX0_act 114 = .ok (.aload_n 1, 1) := dk_43 (dk_at dksX0_act_4 19 rfl rfl)
theorem dX0_act_115 : decode cX0_act 115 = .ok (.dup, 1) := dk_89 (dk_at dksX0_act_4 20 rfl rfl)
theorem dX0_act_116 : decode cX0_act 116 = .ok (.getfield 126, 3) := dk_180 0 126 (dk_at dksX0_act_4 21 rfl rfl)
theorem dX0_act_119 : decode cX0_act 119 = .ok (.iconst 1, 1) := dk_4 (dk_at dksX0_act_5 0 rfl rfl)
theorem dX0_act_120 : decode cX0_act 120 = .ok (.iadd, 1) := dk_96 (dk_at dksX0_act_5 1 rfl rfl)
theorem dX0_act_121 : decode cX0_act 121 = .ok (.putfield 126, 3) := dk_181 0 126 (dk_at dksX0_act_5 2 rfl rfl)
theorem dX0_act_124 : decode cX0_act 124 = .ok (.return_, 1) := dk_177 (dk_at dksX0_act_5 5 rfl rfl)
abbrev cX0_init : ByteArray := prog_1_method_18_code
def yX0_init : MethodName := ⟨RX0, "<init>", "()V"⟩
def dkwX0_init_7 : List UInt8 := [183, 0, 216, 83, 132, 1, 1, 167, 255, 235, 177]
abbrev dktX0_init_7 : List UInt8 := dkwX0_init_7 ++ []
def dkwX0_init_6 : List UInt8 := [189, 0, 210, 181, 0, 212, 3, 60, 27, 5, 162, 0, 22, 42, 180, 0, 212, 27, 187, 0, 210, 89]
abbrev dktX0_init_6 : List UInt8 := dkwX0_init_6 ++ dktX0_init_7
def dkwX0_init_5 : List UInt8 := [181, 0, 197, 42, 16, 24, 188, 10, 181, 0, 200, 42, 187, 0, 203, 89, 183, 0, 205, 181, 0, 206, 42, 5]
abbrev dktX0_init_5 : List UInt8 := dkwX0_init_5 ++ dktX0_init_6
def dkwX0_init_4 : List UInt8 := [42, 16, 64, 188, 10, 181, 0, 185, 42, 187, 0, 188, 89, 42, 183, 0, 190, 181, 0, 193, 42, 5, 188, 10]
abbrev dktX0_init_4 : List UInt8 := dkwX0_init_4 ++ dktX0_init_5
def dkwX0_init_3 : List UInt8 := [183, 0, 173, 83, 181, 0, 154, 42, 16, 64, 189, 0, 176, 181, 0, 178, 42, 16, 64, 188, 10, 181, 0, 182]
abbrev dktX0_init_3 : List UInt8 := dkwX0_init_3 ++ dktX0_init_4
def dkwX0_init_2 : List UInt8 := [183, 0, 173, 83, 89, 4, 187, 0, 159, 89, 4, 183, 0, 173, 83, 89, 5, 187, 0, 159, 89, 5]
abbrev dktX0_init_2 : List UInt8 := dkwX0_init_2 ++ dktX0_init_3
def dkwX0_init_1 : List UInt8 := [181, 0, 20, 42, 16, 90, 188, 8, 181, 0, 13, 42, 6, 189, 0, 159, 89, 3, 187, 0, 159, 89, 3]
abbrev dktX0_init_1 : List UInt8 := dkwX0_init_1 ++ dktX0_init_2
def dkwX0_init_0 : List UInt8 := [42, 183, 0, 163, 42, 187, 0, 166, 89, 183, 0, 168, 181, 0, 169, 42, 187, 0, 25, 89, 183, 0, 172]
abbrev dktX0_init_0 : List UInt8 := dkwX0_init_0 ++ dktX0_init_1
theorem dksX0_init_0 : cX0_init.data.toList.drop 0 = dktX0_init_0 := by decide +kernel
theorem dksX0_init_1 : cX0_init.data.toList.drop 23 = dktX0_init_1 := dk_seg dksX0_init_0 23 rfl rfl
theorem dksX0_init_2 : cX0_init.data.toList.drop 46 = dktX0_init_2 := dk_seg dksX0_init_1 23 rfl rfl
theorem dksX0_init_3 : cX0_init.data.toList.drop 68 = dktX0_init_3 := dk_seg dksX0_init_2 22 rfl rfl
theorem dksX0_init_4 : cX0_init.data.toList.drop 92 = dktX0_init_4 := dk_seg dksX0_init_3 24 rfl rfl
theorem dksX0_init_5 : cX0_init.data.toList.drop 116 = dktX0_init_5 := dk_seg dksX0_init_4 24 rfl rfl
theorem dksX0_init_6 : cX0_init.data.toList.drop 140 = dktX0_init_6 := dk_seg dksX0_init_5 24 rfl rfl
theorem dksX0_init_7 : cX0_init.data.toList.drop 162 = dktX0_init_7 := dk_seg dksX0_init_6 22 rfl rfl
theorem dX0_init_0 : decode cX0_init 0 = .ok (.aload_n 0, 1) := dk_42 (dk_at dksX0_init_0 0 rfl rfl)
theorem dX0_init_1 : decode cX0_init 1 = .ok (.invokespecial 163, 3) := dk_183 0 163 (dk_at dksX0_init_0 1 rfl rfl)
theorem dX0_init_4 : decode cX0_init 4 = .ok (.aload_n 0, 1) := dk_42 (dk_at dksX0_init_0 4 rfl rfl)
theorem dX0_init_5 : decode cX0_init 5 = .ok (.new 166, 3) := dk_187 0 166 (dk_at dksX0_init_0 5 rfl rfl)
theorem dX0_init_8 : decode cX0_init 8 = .ok (.dup, 1) := dk_89 (dk_at dksX0_init_0 8 rfl rfl)
theorem dX0_init_9 : decode cX0_init 9 = .ok (.invokespecial 168, 3) := dk_183 0 168 (dk_at dksX0_init_0 9 rfl rfl)
theorem dX0_init_12 : decode cX0_init 12 = .ok (.putfield 169, 3) := dk_181 0 169 (dk_at dksX0_init_0 12 rfl rfl)
theorem dX0_init_15 : decode cX0_init 15 = .ok (.aload_n 0, 1) := dk_42 (dk_at dksX0_init_0 15 rfl rfl)
theorem dX0_init_16 : decode cX0_init 16 = .ok (.new 25, 3) := dk_187 0 25 (dk_at dksX0_init_0 16 rfl rfl)
theorem dX0_init_19 : decode cX0_init 19 = .ok (.dup, 1) := dk_89 (dk_at dksX0_init_0 19 rfl rfl)
theorem dX0_init_20 : decode cX0_init 20 = .ok (.invokespecial 172, 3) := dk_183 0 172 (dk_at dksX0_init_0 20 rfl rfl)
theorem dX0_init_23 : decode cX0_init 23 = .ok (.putfield 20, 3) := dk_181 0 20 (dk_at dksX0_init_1 0 rfl rfl)
theorem dX0_init_26 : decode cX0_init 26 = .ok (.aload_n 0, 1) := dk_42 (dk_at dksX0_init_1 3 rfl rfl)
theorem dX0_init_27 : decode cX0_init 27 = .ok (.bipush 90, 2) := dk_16 90 (dk_at dksX0_init_1 4 rfl rfl)
theorem dX0_init_29 : decode cX0_init 29 = .ok (.newarray .byte, 2) := dk_188_8 (dk_at dksX0_init_1 6 rfl rfl)
theorem dX0_init_31 : decode cX0_init 31 = .ok (.putfield 13, 3) := dk_181 0 13 (dk_at dksX0_init_1 8 rfl rfl)
theorem dX0_init_34 : decode cX0_init 34 = .ok (.aload_n 0, 1) := dk_42 (dk_at dksX0_init_1 11 rfl rfl)
theorem dX0_init_35 : decode cX0_init 35 = .ok (.iconst 3, 1) := dk_6 (dk_at dksX0_init_1 12 rfl rfl)
theorem dX0_init_36 : decode cX0_init 36 = .ok (.anewarray 159, 3) := dk_189 0 159 (dk_at dksX0_init_1 13 rfl rfl)
theorem dX0_init_39 : decode cX0_init 39 = .ok (.dup, 1) := dk_89 (dk_at dksX0_init_1 16 rfl rfl)
theorem dX0_init_40 : decode cX0_init 40 = .ok (.iconst 0, 1) := dk_3 (dk_at dksX0_init_1 17 rfl rfl)
theorem dX0_init_41 : decode cX0_init 41 = .ok (.new 159, 3) := dk_187 0 159 (dk_at dksX0_init_1 18 rfl rfl)
theorem dX0_init_44 : decode cX0_init 44 = .ok (.dup, 1) := dk_89 (dk_at dksX0_init_1 21 rfl rfl)
theorem dX0_init_45 : decode cX0_init 45 = .ok (.iconst 0, 1) := dk_3 (dk_at dksX0_init_1 22 rfl rfl)
theorem dX0_init_46 : decode cX0_init 46 = .ok (.invokespecial 173, 3) := dk_183 0 173 (dk_at dksX0_init_2 0 rfl rfl)
theorem dX0_init_49 : decode cX0_init 49 = .ok (.aastore, 1) := dk_83 (dk_at dksX0_init_2 3 rfl rfl)
theorem dX0_init_50 : decode cX0_init 50 = .ok (.dup, 1) := dk_89 (dk_at dksX0_init_2 4 rfl rfl)
theorem dX0_init_51 : decode cX0_init 51 = .ok (.iconst 1, 1) := dk_4 (dk_at dksX0_init_2 5 rfl rfl)
theorem dX0_init_52 : decode cX0_init 52 = .ok (.new 159, 3) := dk_187 0 159 (dk_at dksX0_init_2 6 rfl rfl)
theorem dX0_init_55 : decode cX0_init 55 = .ok (.dup, 1) := dk_89 (dk_at dksX0_init_2 9 rfl rfl)
theorem dX0_init_56 : decode cX0_init 56 = .ok (.iconst 1, 1) := dk_4 (dk_at dksX0_init_2 10 rfl rfl)
theorem dX0_init_57 : decode cX0_init 57 = .ok (.invokespecial 173, 3) := dk_183 0 173 (dk_at dksX0_init_2 11 rfl rfl)
theorem dX0_init_60 : decode cX0_init 60 = .ok (.aastore, 1) := dk_83 (dk_at dksX0_init_2 14 rfl rfl)
theorem dX0_init_61 : decode cX0_init 61 = .ok (.dup, 1) := dk_89 (dk_at dksX0_init_2 15 rfl rfl)
theorem dX0_init_62 : decode cX0_init 62 = .ok (.iconst 2, 1) := dk_5 (dk_at dksX0_init_2 16 rfl rfl)
theorem dX0_init_63 : decode cX0_init 63 = .ok (.new 159, 3) := dk_187 0 159 (dk_at dksX0_init_2 17 rfl rfl)
theorem dX0_init_66 : decode cX0_init 66 = .ok (.dup, 1) := dk_89 (dk_at dksX0_init_2 20 rfl rfl)
theorem dX0_init_67 : decode cX0_init 67 = .ok (.iconst 2, 1) := dk_5 (dk_at dksX0_init_2 21 rfl rfl)
theorem dX0_init_68 : decode cX0_init 68 = .ok (.invokespecial 173, 3) := dk_183 0 173 (dk_at dksX0_init_3 0 rfl rfl)
theorem dX0_init_71 : decode cX0_init 71 = .ok (.aastore, 1) := dk_83 (dk_at dksX0_init_3 3 rfl rfl)
theorem dX0_init_72 : decode cX0_init 72 = .ok (.putfield 154, 3) := dk_181 0 154 (dk_at dksX0_init_3 4 rfl rfl)
theorem dX0_init_75 : decode cX0_init 75 = .ok (.aload_n 0, 1) := dk_42 (dk_at dksX0_init_3 7 rfl rfl)
theorem dX0_init_76 : decode cX0_init 76 = .ok (.bipush 64, 2) := dk_16 64 (dk_at dksX0_init_3 8 rfl rfl)
theorem dX0_init_78 : decode cX0_init 78 = .ok (.anewarray 176, 3) := dk_189 0 176 (dk_at dksX0_init_3 10 rfl rfl)
theorem dX0_init_81 : decode cX0_init 81 = .ok (.putfield 178, 3) := dk_181 0 178 (dk_at dksX0_init_3 13 rfl rfl)
theorem dX0_init_84 : decode cX0_init 84 = .ok (.aload_n 0, 1) := dk_42 (dk_at dksX0_init_3 16 rfl rfl)
theorem dX0_init_85 : decode cX0_init 85 = .ok (.bipush 64, 2) := dk_16 64 (dk_at dksX0_init_3 17 rfl rfl)
theorem dX0_init_87 : decode cX0_init 87 = .ok (.newarray .int, 2) := dk_188_10 (dk_at dksX0_init_3 19 rfl rfl)
theorem dX0_init_89 : decode cX0_init 89 = .ok (.putfield 182, 3) := dk_181 0 182 (dk_at dksX0_init_3 21 rfl rfl)
theorem dX0_init_92 : decode cX0_init 92 = .ok (.aload_n 0, 1) := dk_42 (dk_at dksX0_init_4 0 rfl rfl)
theorem dX0_init_93 : decode cX0_init 93 = .ok (.bipush 64, 2) := dk_16 64 (dk_at dksX0_init_4 1 rfl rfl)
theorem dX0_init_95 : decode cX0_init 95 = .ok (.newarray .int, 2) := dk_188_10 (dk_at dksX0_init_4 3 rfl rfl)
theorem dX0_init_97 : decode cX0_init 97 = .ok (.putfield 185, 3) := dk_181 0 185 (dk_at dksX0_init_4 5 rfl rfl)
theorem dX0_init_100 : decode cX0_init 100 = .ok (.aload_n 0, 1) := dk_42 (dk_at dksX0_init_4 8 rfl rfl)
theorem dX0_init_101 : decode cX0_init 101 = .ok (.new 188, 3) := dk_187 0 188 (dk_at dksX0_init_4 9 rfl rfl)
theorem dX0_init_104 : decode cX0_init 104 = .ok (.dup, 1) := dk_89 (dk_at dksX0_init_4 12 rfl rfl)
theorem dX0_init_105 : decode cX0_init 105 = .ok (.aload_n 0, 1) := dk_42 (dk_at dksX0_init_4 13 rfl rfl)
theorem dX0_init_106 : decode cX0_init 106 = .ok (.invokespecial 190, 3) := dk_183 0 190 (dk_at dksX0_init_4 14 rfl rfl)
theorem dX0_init_109 : decode cX0_init 109 = .ok (.putfield 193, 3) := dk_181 0 193 (dk_at dksX0_init_4 17 rfl rfl)
theorem dX0_init_112 : decode cX0_init 112 = .ok (.aload_n 0, 1) := dk_42 (dk_at dksX0_init_4 20 rfl rfl)
theorem dX0_init_113 : decode cX0_init 113 = .ok (.iconst 2, 1) := dk_5 (dk_at dksX0_init_4 21 rfl rfl)
theorem dX0_init_114 : decode cX0_init 114 = .ok (.newarray .int, 2) := dk_188_10 (dk_at dksX0_init_4 22 rfl rfl)
theorem dX0_init_116 : decode cX0_init 116 = .ok (.putfield 197, 3) := dk_181 0 197 (dk_at dksX0_init_5 0 rfl rfl)
theorem dX0_init_119 : decode cX0_init 119 = .ok (.aload_n 0, 1) := dk_42 (dk_at dksX0_init_5 3 rfl rfl)
theorem dX0_init_120 : decode cX0_init 120 = .ok (.bipush 24, 2) := dk_16 24 (dk_at dksX0_init_5 4 rfl rfl)
theorem dX0_init_122 : decode cX0_init 122 = .ok (.newarray .int, 2) := dk_188_10 (dk_at dksX0_init_5 6 rfl rfl)
theorem dX0_init_124 : decode cX0_init 124 = .ok (.putfield 200, 3) := dk_181 0 200 (dk_at dksX0_init_5 8 rfl rfl)
theorem dX0_init_127 : decode cX0_init 127 = .ok (.aload_n 0, 1) := dk_42 (dk_at dksX0_init_5 11 rfl rfl)
theorem dX0_init_128 : decode cX0_init 128 = .ok (.new 203, 3) := dk_187 0 203 (dk_at dksX0_init_5 12 rfl rfl)
theorem dX0_init_131 : decode cX0_init 131 = .ok (.dup, 1) := dk_89 (dk_at dksX0_init_5 15 rfl rfl)
theorem dX0_init_132 : decode cX0_init 132 = .ok (.invokespecial 205, 3) := dk_183 0 205 (dk_at dksX0_init_5 16 rfl rfl)
theorem dX0_init_135 : decode cX0_init 135 = .ok (.putfield 206, 3) := dk_181 0 206 (dk_at dksX0_init_5 19 rfl rfl)
theorem dX0_init_138 : decode cX0_init 138 = .ok (.aload_n 0, 1) := dk_42 (dk_at dksX0_init_5 22 rfl rfl)
theorem dX0_init_139 : decode cX0_init 139 = .ok (.iconst 2, 1) := dk_5 (dk_at dksX0_init_5 23 rfl rfl)
theorem dX0_init_140 : decode cX0_init 140 = .ok (.anewarray 210, 3) := dk_189 0 210 (dk_at dksX0_init_6 0 rfl rfl)
theorem dX0_init_143 : decode cX0_init 143 = .ok (.putfield 212, 3) := dk_181 0 212 (dk_at dksX0_init_6 3 rfl rfl)
theorem dX0_init_146 : decode cX0_init 146 = .ok (.iconst 0, 1) := dk_3 (dk_at dksX0_init_6 6 rfl rfl)
theorem dX0_init_147 : decode cX0_init 147 = .ok (.istore_n 1, 1) := dk_60 (dk_at dksX0_init_6 7 rfl rfl)
theorem dX0_init_148 : decode cX0_init 148 = .ok (.iload_n 1, 1) := dk_27 (dk_at dksX0_init_6 8 rfl rfl)
theorem dX0_init_149 : decode cX0_init 149 = .ok (.iconst 2, 1) := dk_5 (dk_at dksX0_init_6 9 rfl rfl)
theorem dX0_init_150 : decode cX0_init 150 = .ok (.if_icmp .ge 22, 3) := dk_162 0 22 (dk_at dksX0_init_6 10 rfl rfl)
theorem dX0_init_153 : decode cX0_init 153 = .ok (.aload_n 0, 1) := dk_42 (dk_at dksX0_init_6 13 rfl rfl)
theorem dX0_init_154 : decode cX0_init 154 = .ok (.getfield 212, 3) := dk_180 0 212 (dk_at dksX0_init_6 14 rfl rfl)
theorem dX0_init_157 : decode cX0_init 157 = .ok (.iload_n 1, 1) := dk_27 (dk_at dksX0_init_6 17 rfl rfl)
theorem dX0_init_158 : decode cX0_init 158 = .ok (.new 210, 3) := dk_187 0 210 (dk_at dksX0_init_6 18 rfl rfl)
theorem dX0_init_161 : decode cX0_init 161 = .ok (.dup, 1) := dk_89 (dk_at dksX0_init_6 21 rfl rfl)
theorem dX0_init_162 : decode cX0_init 162 = .ok (.invokespecial 216, 3) := dk_183 0 216 (dk_at dksX0_init_7 0 rfl rfl)
theorem dX0_init_165 : decode cX0_init 165 = .ok (.aastore, 1) := dk_83 (dk_at dksX0_init_7 3 rfl rfl)
theorem dX0_init_166 : decode cX0_init 166 = .ok (.iinc 1 1, 3) := dk_132 1 1 (dk_at dksX0_init_7 4 rfl rfl)
theorem dX0_init_169 : decode cX0_init 169 = .ok (.goto (-21), 3) := dk_167 255 235 (dk_at dksX0_init_7 7 rfl rfl)
theorem dX0_init_172 : decode cX0_init 172 = .ok (.return_, 1) := dk_177 (dk_at dksX0_init_7 10 rfl rfl)
abbrev cX0_quota : ByteArray := prog_1_method_19_code
def yX0_quota : MethodName := ⟨RX0, "quota", "(III)I"⟩
def dkwX0_quota_2 : List UInt8 := [180, 0, 220, 28, 50, 29, 181, 0, 224, 21, 4, 172]
abbrev dktX0_quota_2 : List UInt8 := dkwX0_quota_2 ++ []
def dkwX0_quota_1 : List UInt8 := [2, 172, 42, 180, 0, 154, 27, 50, 180, 0, 220, 28, 50, 180, 0, 224, 54, 4, 42, 180, 0, 154, 27, 50]
abbrev dktX0_quota_1 : List UInt8 := dkwX0_quota_1 ++ dktX0_quota_2
def dkwX0_quota_0 : List UInt8 := [27, 184, 0, 148, 153, 0, 20, 28, 184, 0, 217, 153, 0, 13, 29, 3, 16, 99, 184, 0, 3, 154, 0, 5]
abbrev dktX0_quota_0 : List UInt8 := dkwX0_quota_0 ++ dktX0_quota_1
theorem dksX0_quota_0 : cX0_quota.data.toList.drop 0 = dktX0_quota_0 := by decide +kernel
theorem dksX0_quota_1 : cX0_quota.data.toList.drop 24 = dktX0_quota_1 := dk_seg dksX0_quota_0 24 rfl rfl
theorem dksX0_quota_2 : cX0_quota.data.toList.drop 48 = dktX0_quota_2 := dk_seg dksX0_quota_1 24 rfl rfl
theorem dX0_quota_0 : decode cX0_quota 0 = .ok (.iload_n 1, 1) := dk_27 (dk_at dksX0_quota_0 0 rfl rfl)
theorem dX0_quota_1 : decode cX0_quota 1 = .ok (.invokestatic 148, 3) := dk_184 0 148 (dk_at dksX0_quota_0 1 rfl rfl)
theorem dX0_quota_4 : decode cX0_quota 4 = .ok (.ifCond .eq 20, 3) := dk_153 0 20 (dk_at dksX0_quota_0 4 rfl rfl)
theorem dX0_quota_7 : decode cX0_quota 7 = .ok (.iload_n 2, 1) := dk_28 (dk_at dksX0_quota_0 7 rfl rfl)
theorem dX0_quota_8 : decode cX0_quota 8 = .ok (.invokestatic 217, 3) := dk_184 0 217 (dk_at dksX0_quota_0 8 rfl rfl)
theorem dX0_quota_11 : decode cX0_quota 11 = .ok (.ifCond .eq 13, 3) := dk_153 0 13 (dk_at dksX0_quota_0 11 rfl rfl)
theorem dX0_quota_14 : decode cX0_quota 14 = .ok (.iload_n 3, 1) := dk_29 (dk_at dksX0_quota_0 14 rfl rfl)
theorem dX0_quota_15 : decode cX0_quota 15 = .ok (.iconst 0, 1) := dk_3 (dk_at dksX0_quota_0 15 rfl rfl)
theorem dX0_quota_16 : decode cX0_quota 16 = .ok (.bipush 99, 2) := dk_16 99 (dk_at dksX0_quota_0 16 rfl rfl)
theorem dX0_quota_18 : decode cX0_quota 18 = .ok (.invokestatic 3, 3) := dk_184 0 3 (dk_at dksX0_quota_0 18 rfl rfl)
theorem dX0_quota_21 : decode cX0_quota 21 = .ok (.ifCond .ne 5, 3) := dk_154 0 5 (dk_at dksX0_quota_0 21 rfl rfl)
theorem dX0_quota_24 : decode cX0_quota 24 = .ok (.iconst (-1), 1) := dk_2 (dk_at dksX0_quota_1 0 rfl rfl)
theorem dX0_quota_25 : decode cX0_quota 25 = .ok (.ireturn, 1) := dk_172 (dk_at dksX0_quota_1 1 rfl rfl)
theorem dX0_quota_26 : decode cX0_quota 26 = .ok (.aload_n 0, 1) := dk_42 (dk_at dksX0_quota_1 2 rfl rfl)
theorem dX0_quota_27 : decode cX0_quota 27 = .ok (.getfield 154, 3) := dk_180 0 154 (dk_at dksX0_quota_1 3 rfl rfl)
theorem dX0_quota_30 : decode cX0_quota 30 = .ok (.iload_n 1, 1) := dk_27 (dk_at dksX0_quota_1 6 rfl rfl)
theorem dX0_quota_31 : decode cX0_quota 31 = .ok (.aaload, 1) := dk_50 (dk_at dksX0_quota_1 7 rfl rfl)
theorem dX0_quota_32 : decode cX0_quota 32 = .ok (.getfield 220, 3) := dk_180 0 220 (dk_at dksX0_quota_1 8 rfl rfl)
theorem dX0_quota_35 : decode cX0_quota 35 = .ok (.iload_n 2, 1) := dk_28 (dk_at dksX0_quota_1 11 rfl rfl)
theorem dX0_quota_36 : decode cX0_quota 36 = .ok (.aaload, 1) := dk_50 (dk_at dksX0_quota_1 12 rfl rfl)
theorem dX0_quota_37 : decode cX0_quota 37 = .ok (.getfield 224, 3) := dk_180 0 224 (dk_at dksX0_quota_1 13 rfl rfl)
theorem dX0_quota_40 : decode cX0_quota 40 = .ok (.istore 4, 2) := dk_54 4 (dk_at dksX0_quota_1 16 rfl rfl)
theorem dX0_quota_42 : decode cX0_quota 42 = .ok (.aload_n 0, 1) := dk_42 (dk_at dksX0_quota_1 18 rfl rfl)
theorem dX0_quota_43 : decode cX0_quota 43 = .ok (.getfield 154, 3) := dk_180 0 154 (dk_at dksX0_quota_1 19 rfl rfl)
theorem dX0_quota_46 : decode cX0_quota 46 = .ok (.iload_n 1, 1) := dk_27 (dk_at dksX0_quota_1 22 rfl rfl)
theorem dX0_quota_47 : decode cX0_quota 47 = .ok (.aaload, 1) := dk_50 (dk_at dksX0_quota_1 23 rfl rfl)
theorem dX0_quota_48 : decode cX0_quota 48 = .ok (.getfield 220, 3) := dk_180 0 220 (dk_at dksX0_quota_2 0 rfl rfl)
theorem dX0_quota_51 : decode cX0_quota 51 = .ok (.iload_n 2, 1) := dk_28 (dk_at dksX0_quota_2 3 rfl rfl)
theorem dX0_quota_52 : decode cX0_quota 52 = .ok (.aaload, 1) := dk_50 (dk_at dksX0_quota_2 4 rfl rfl)
theorem dX0_quota_53 : decode cX0_quota 53 = .ok (.iload_n 3, 1) := dk_29 (dk_at dksX0_quota_2 5 rfl rfl)
theorem dX0_quota_54 : decode cX0_quota 54 = .ok (.putfield 224, 3) := dk_181 0 224 (dk_at dksX0_quota_2 6 rfl rfl)
theorem dX0_quota_57 : decode cX0_quota 57 = .ok (.iload 4, 2) := dk_21 4 (dk_at dksX0_quota_2 9 rfl rfl)
theorem dX0_quota_59 : decode cX0_quota 59 = .ok (.ireturn, 1) := dk_172 (dk_at dksX0_quota_2 11 rfl rfl)
abbrev cX0_isTray : ByteArray := prog_1_method_3_code
def yX0_isTray : MethodName := ⟨RX0, "isTray", "(I)Z"⟩
def dkwX0_isTray_0 : List UInt8 := [26, 3, 6, 184, 0, 3, 172]
abbrev dktX0_isTray_0 : List UInt8 := dkwX0_isTray_0 ++ []
theorem dksX0_isTray_0 : cX0_isTray.data.toList.drop 0 = dktX0_isTray_0 := by decide +kernel
theorem dX0_isTray_0 : decode cX0_isTray 0 = .ok (.iload_n 0, 1) := dk_26 (dk_at dksX0_isTray_0 0 rfl rfl)
theorem dX0_isTray_1 : decode cX0_isTray 1 = .ok (.iconst 0, 1) := dk_3 (dk_at dksX0_isTray_0 1 rfl rfl)
theorem dX0_isTray_2 : decode cX0_isTray 2 = .ok (.iconst 3, 1) := dk_6 (dk_at dksX0_isTray_0 2 rfl rfl)
theorem dX0_isTray_3 : decode cX0_isTray 3 = .ok (.invokestatic 3, 3) := dk_184 0 3 (dk_at dksX0_isTray_0 3 rfl rfl)
theorem dX0_isTray_6 : decode cX0_isTray 6 = .ok (.ireturn, 1) := dk_172 (dk_at dksX0_isTray_0 6 rfl rfl)
abbrev cX0_days : ByteArray := prog_1_method_20_code
def yX0_days : MethodName := ⟨RX0, "days", "(II)I"⟩
def dkwX0_days_1 : List UInt8 := [50, 180, 0, 229, 62, 42, 180, 0, 154, 27, 50, 28, 181, 0, 229, 29, 172]
abbrev dktX0_days_1 : List UInt8 := dkwX0_days_1 ++ []
def dkwX0_days_0 : List UInt8 := [27, 184, 0, 148, 153, 0, 13, 28, 4, 16, 99, 184, 0, 3, 154, 0, 5, 2, 172, 42, 180, 0, 154, 27]
abbrev dktX0_days_0 : List UInt8 := dkwX0_days_0 ++ dktX0_days_1
theorem dksX0_days_0 : cX0_days.data.toList.drop 0 = dktX0_days_0 := by decide +kernel
theorem dksX0_days_1 : cX0_days.data.toList.drop 24 = dktX0_days_1 := dk_seg dksX0_days_0 24 rfl rfl
theorem dX0_days_0 : decode cX0_days 0 = .ok (.iload_n 1, 1) := dk_27 (dk_at dksX0_days_0 0 rfl rfl)
theorem dX0_days_1 : decode cX0_days 1 = .ok (.invokestatic 148, 3) := dk_184 0 148 (dk_at dksX0_days_0 1 rfl rfl)
theorem dX0_days_4 : decode cX0_days 4 = .ok (.ifCond .eq 13, 3) := dk_153 0 13 (dk_at dksX0_days_0 4 rfl rfl)
theorem dX0_days_7 : decode cX0_days 7 = .ok (.iload_n 2, 1) := dk_28 (dk_at dksX0_days_0 7 rfl rfl)
theorem dX0_days_8 : decode cX0_days 8 = .ok (.iconst 1, 1) := dk_4 (dk_at dksX0_days_0 8 rfl rfl)
theorem dX0_days_9 : decode cX0_days 9 = .ok (.bipush 99, 2) := dk_16 99 (dk_at dksX0_days_0 9 rfl rfl)
theorem dX0_days_11 : decode cX0_days 11 = .ok (.invokestatic 3, 3) := dk_184 0 3 (dk_at dksX0_days_0 11 rfl rfl)
theorem dX0_days_14 : decode cX0_days 14 = .ok (.ifCond .ne 5, 3) := dk_154 0 5 (dk_at dksX0_days_0 14 rfl rfl)
theorem dX0_days_17 : decode cX0_days 17 = .ok (.iconst (-1), 1) := dk_2 (dk_at dksX0_days_0 17 rfl rfl)
theorem dX0_days_18 : decode cX0_days 18 = .ok (.ireturn, 1) := dk_172 (dk_at dksX0_days_0 18 rfl rfl)
theorem dX0_days_19 : decode cX0_days 19 = .ok (.aload_n 0, 1) := dk_42 (dk_at dksX0_days_0 19 rfl rfl)
theorem dX0_days_20 : decode cX0_days 20 = .ok (.getfield 154, 3) := dk_180 0 154 (dk_at dksX0_days_0 20 rfl rfl)
theorem dX0_days_23 : decode cX0_days 23 = .ok (.iload_n 1, 1) := dk_27 (dk_at dksX0_days_0 23 rfl rfl)
theorem dX0_days_24 : decode cX0_days 24 = .ok (.aaload, 1) := dk_50 (dk_at dksX0_days_1 0 rfl rfl)
theorem dX0_days_25 : decode cX0_days 25 = .ok (.getfield 229, 3) := dk_180 0 229 (dk_at dksX0_days_1 1 rfl rfl)
theorem dX0_days_28 : decode cX0_days 28 = .ok (.istore_n 3, 1) := dk_62 (dk_at dksX0_days_1 4 rfl rfl)
theorem dX0_days_29 : decode cX0_days 29 = .ok (.aload_n 0, 1) := dk_42 (dk_at dksX0_days_1 5 rfl rfl)
theorem dX0_days_30 : decode cX0_days 30 = .ok (.getfield 154, 3) := dk_180 0 154 (dk_at dksX0_days_1 6 rfl rfl)
theorem dX0_days_33 : decode cX0_days 33 = .ok (.iload_n 1, 1) := dk_27 (dk_at dksX0_days_1 9 rfl rfl)
theorem dX0_days_34 : decode cX0_days 34 = .ok (.aaload, 1) := dk_50 (dk_at dksX0_days_1 10 rfl rfl)
theorem dX0_days_35 : decode cX0_days 35 = .ok (.iload_n 2, 1) := dk_28 (dk_at dksX0_days_1 11 rfl rfl)
theorem dX0_days_36 : decode cX0_days 36 = .ok (.putfield 229, 3) := dk_181 0 229 (dk_at dksX0_days_1 12 rfl rfl)
theorem dX0_days_39 : decode cX0_days 39 = .ok (.iload_n 3, 1) := dk_29 (dk_at dksX0_days_1 15 rfl rfl)
theorem dX0_days_40 : decode cX0_days 40 = .ok (.ireturn, 1) := dk_172 (dk_at dksX0_days_1 16 rfl rfl)
abbrev cX0_post : ByteArray := prog_1_method_29_code
def yX0_post : MethodName := ⟨RX0, "post", "(IIIIIIII)I"⟩
def dkwX0_post_3 : List UInt8 := [21, 8, 183, 1, 54, 182, 1, 91, 172]
abbrev dktX0_post_3 : List UInt8 := dkwX0_post_3 ++ []
def dkwX0_post_2 : List UInt8 := [187, 0, 176, 89, 42, 180, 0, 169, 185, 0, 100, 1, 0, 27, 28, 29, 21, 4, 21, 5, 21, 6, 21, 7]
abbrev dktX0_post_2 : List UInt8 := dkwX0_post_2 ++ dktX0_post_3
def dkwX0_post_1 : List UInt8 := [182, 1, 85, 162, 0, 6, 16, 254, 172, 42, 182, 1, 88, 153, 0, 8, 16, 253, 167, 0, 36, 42]
abbrev dktX0_post_1 : List UInt8 := dkwX0_post_1 ++ dktX0_post_2
def dkwX0_post_0 : List UInt8 := [27, 28, 29, 21, 4, 21, 5, 21, 6, 21, 7, 21, 8, 184, 1, 81, 154, 0, 5, 2, 172, 21, 8, 42]
abbrev dktX0_post_0 : List UInt8 := dkwX0_post_0 ++ dktX0_post_1
theorem dksX0_post_0 : cX0_post.data.toList.drop 0 = dktX0_post_0 := by decide +kernel
theorem dksX0_post_1 : cX0_post.data.toList.drop 24 = dktX0_post_1 := dk_seg dksX0_post_0 24 rfl rfl
theorem dksX0_post_2 : cX0_post.data.toList.drop 46 = dktX0_post_2 := dk_seg dksX0_post_1 22 rfl rfl
theorem dksX0_post_3 : cX0_post.data.toList.drop 70 = dktX0_post_3 := dk_seg dksX0_post_2 24 rfl rfl
theorem dX0_post_0 : decode cX0_post 0 = .ok (.iload_n 1, 1) := dk_27 (dk_at dksX0_post_0 0 rfl rfl)
theorem dX0_post_1 : decode cX0_post 1 = .ok (.iload_n 2, 1) := dk_28 (dk_at dksX0_post_0 1 rfl rfl)
theorem dX0_post_2 : decode cX0_post 2 = .ok (.iload_n 3, 1) := dk_29 (dk_at dksX0_post_0 2 rfl rfl)
theorem dX0_post_3 : decode cX0_post 3 = .ok (.iload 4, 2) := dk_21 4 (dk_at dksX0_post_0 3 rfl rfl)
theorem dX0_post_5 : decode cX0_post 5 = .ok (.iload 5, 2) := dk_21 5 (dk_at dksX0_post_0 5 rfl rfl)
theorem dX0_post_7 : decode cX0_post 7 = .ok (.iload 6, 2) := dk_21 6 (dk_at dksX0_post_0 7 rfl rfl)
theorem dX0_post_9 : decode cX0_post 9 = .ok (.iload 7, 2) := dk_21 7 (dk_at dksX0_post_0 9 rfl rfl)
theorem dX0_post_11 : decode cX0_post 11 = .ok (.iload 8, 2) := dk_21 8 (dk_at dksX0_post_0 11 rfl rfl)
theorem dX0_post_13 : decode cX0_post 13 = .ok (.invokestatic 337, 3) := dk_184 1 81 (dk_at dksX0_post_0 13 rfl rfl)
theorem dX0_post_16 : decode cX0_post 16 = .ok (.ifCond .ne 5, 3) := dk_154 0 5 (dk_at dksX0_post_0 16 rfl rfl)
theorem dX0_post_19 : decode cX0_post 19 = .ok (.iconst (-1), 1) := dk_2 (dk_at dksX0_post_0 19 rfl rfl)
theorem dX0_post_20 : decode cX0_post 20 = .ok (.ireturn, 1) := dk_172 (dk_at dksX0_post_0 20 rfl rfl)
theorem dX0_post_21 : decode cX0_post 21 = .ok (.iload 8, 2) := dk_21 8 (dk_at dksX0_post_0 21 rfl rfl)
theorem dX0_post_23 : decode cX0_post 23 = .ok (.aload_n 0, 1) := dk_42 (dk_at dksX0_post_0 23 rfl rfl)
theorem dX0_post_24 : decode cX0_post 24 = .ok (.invokevirtual 341, 3) := dk_182 1 85 (dk_at dksX0_post_1 0 rfl rfl)
theorem dX0_post_27 : decode cX0_post 27 = .ok (.if_icmp .ge 6, 3) := dk_162 0 6 (dk_at dksX0_post_1 3 rfl rfl)
theorem dX0_post_30 : decode cX0_post 30 = .ok (.bipush (-2), 2) := dk_16 254 (dk_at dksX0_post_1 6 rfl rfl)
theorem dX0_post_32 : decode cX0_post 32 = .ok (.ireturn, 1) := dk_172 (dk_at dksX0_post_1 8 rfl rfl)
theorem dX0_post_33 : decode cX0_post 33 = .ok (.aload_n 0, 1) := dk_42 (dk_at dksX0_post_1 9 rfl rfl)
theorem dX0_post_34 : decode cX0_post 34 = .ok (.invokevirtual 344, 3) := dk_182 1 88 (dk_at dksX0_post_1 10 rfl rfl)
theorem dX0_post_37 : decode cX0_post 37 = .ok (.ifCond .eq 8, 3) := dk_153 0 8 (dk_at dksX0_post_1 13 rfl rfl)
theorem dX0_post_40 : decode cX0_post 40 = .ok (.bipush (-3), 2) := dk_16 253 (dk_at dksX0_post_1 16 rfl rfl)
theorem dX0_post_42 : decode cX0_post 42 = .ok (.goto 36, 3) := dk_167 0 36 (dk_at dksX0_post_1 18 rfl rfl)
theorem dX0_post_45 : decode cX0_post 45 = .ok (.aload_n 0, 1) := dk_42 (dk_at dksX0_post_1 21 rfl rfl)
theorem dX0_post_46 : decode cX0_post 46 = .ok (.new 176, 3) := dk_187 0 176 (dk_at dksX0_post_2 0 rfl rfl)
theorem dX0_post_49 : decode cX0_post 49 = .ok (.dup, 1) := dk_89 (dk_at dksX0_post_2 3 rfl rfl)
theorem dX0_post_50 : decode cX0_post 50 = .ok (.aload_n 0, 1) := dk_42 (dk_at dksX0_post_2 4 rfl rfl)
theorem dX0_post_51 : decode cX0_post 51 = .ok (.getfield 169, 3) := dk_180 0 169 (dk_at dksX0_post_2 5 rfl rfl)
theorem dX0_post_54 : decode cX0_post 54 = .ok (.invokeinterface 100 1, 5) := by decide +kernel
theorem dX0_post_59 : decode cX0_post 59 = .ok (.iload_n 1, 1) := dk_27 (dk_at dksX0_post_2 13 rfl rfl)
theorem dX0_post_60 : decode cX0_post 60 = .ok (.iload_n 2, 1) := dk_28 (dk_at dksX0_post_2 14 rfl rfl)
theorem dX0_post_61 : decode cX0_post 61 = .ok (.iload_n 3, 1) := dk_29 (dk_at dksX0_post_2 15 rfl rfl)
theorem dX0_post_62 : decode cX0_post 62 = .ok (.iload 4, 2) := dk_21 4 (dk_at dksX0_post_2 16 rfl rfl)
theorem dX0_post_64 : decode cX0_post 64 = .ok (.iload 5, 2) := dk_21 5 (dk_at dksX0_post_2 18 rfl rfl)
theorem dX0_post_66 : decode cX0_post 66 = .ok (.iload 6, 2) := dk_21 6 (dk_at dksX0_post_2 20 rfl rfl)
theorem dX0_post_68 : decode cX0_post 68 = .ok (.iload 7, 2) := dk_21 7 (dk_at dksX0_post_2 22 rfl rfl)
theorem dX0_post_70 : decode cX0_post 70 = .ok (.iload 8, 2) := dk_21 8 (dk_at dksX0_post_3 0 rfl rfl)
theorem dX0_post_72 : decode cX0_post 72 = .ok (.invokespecial 310, 3) := dk_183 1 54 (dk_at dksX0_post_3 2 rfl rfl)
theorem dX0_post_75 : decode cX0_post 75 = .ok (.invokevirtual 347, 3) := dk_182 1 91 (dk_at dksX0_post_3 5 rfl rfl)
theorem dX0_post_78 : decode cX0_post 78 = .ok (.ireturn, 1) := dk_172 (dk_at dksX0_post_3 8 rfl rfl)
abbrev cX0_isLetter : ByteArray := prog_1_method_25_code
def yX0_isLetter : MethodName := ⟨RX0, "isLetter", "(IIIIIIII)Z"⟩
def dkwX0_isLetter_4 : List UInt8 := [153, 0, 19, 21, 7, 3, 17, 39, 15, 184, 0, 3, 153, 0, 7, 4, 167, 0, 4, 3, 172]
abbrev dktX0_isLetter_4 : List UInt8 := dkwX0_isLetter_4 ++ []
def dkwX0_isLetter_3 : List UInt8 := [153, 0, 43, 21, 5, 3, 17, 39, 15, 184, 0, 3, 153, 0, 31, 21, 6, 2, 17, 39, 15, 184, 0, 3]
abbrev dktX0_isLetter_3 : List UInt8 := dkwX0_isLetter_3 ++ dktX0_isLetter_4
def dkwX0_isLetter_2 : List UInt8 := [21, 8, 153, 0, 63, 29, 3, 18, 76, 184, 0, 3, 153, 0, 53, 21, 4, 3, 6, 184, 0, 3]
abbrev dktX0_isLetter_2 : List UInt8 := dkwX0_isLetter_2 ++ dktX0_isLetter_3
def dkwX0_isLetter_1 : List UInt8 := [17, 15, 255, 184, 0, 3, 153, 0, 15, 28, 184, 1, 65, 7, 163, 0, 7, 4, 167, 0, 4, 3, 54, 8]
abbrev dktX0_isLetter_1 : List UInt8 := dkwX0_isLetter_1 ++ dktX0_isLetter_2
def dkwX0_isLetter_0 : List UInt8 := [26, 3, 16, 15, 184, 0, 3, 153, 0, 37, 27, 3, 19, 1, 64, 184, 0, 3, 153, 0, 26, 28, 3]
abbrev dktX0_isLetter_0 : List UInt8 := dkwX0_isLetter_0 ++ dktX0_isLetter_1
theorem dksX0_isLetter_0 : cX0_isLetter.data.toList.drop 0 = dktX0_isLetter_0 := by decide +kernel
theorem dksX0_isLetter_1 : cX0_isLetter.data.toList.drop 23 = dktX0_isLetter_1 := dk_seg dksX0_isLetter_0 23 rfl rfl
theorem dksX0_isLetter_2 : cX0_isLetter.data.toList.drop 47 = dktX0_isLetter_2 := dk_seg dksX0_isLetter_1 24 rfl rfl
theorem dksX0_isLetter_3 : cX0_isLetter.data.toList.drop 69 = dktX0_isLetter_3 := dk_seg dksX0_isLetter_2 22 rfl rfl
theorem dksX0_isLetter_4 : cX0_isLetter.data.toList.drop 93 = dktX0_isLetter_4 := dk_seg dksX0_isLetter_3 24 rfl rfl
theorem dX0_isLetter_0 : decode cX0_isLetter 0 = .ok (.iload_n 0, 1) := dk_26 (dk_at dksX0_isLetter_0 0 rfl rfl)
theorem dX0_isLetter_1 : decode cX0_isLetter 1 = .ok (.iconst 0, 1) := dk_3 (dk_at dksX0_isLetter_0 1 rfl rfl)
theorem dX0_isLetter_2 : decode cX0_isLetter 2 = .ok (.bipush 15, 2) := dk_16 15 (dk_at dksX0_isLetter_0 2 rfl rfl)
theorem dX0_isLetter_4 : decode cX0_isLetter 4 = .ok (.invokestatic 3, 3) := dk_184 0 3 (dk_at dksX0_isLetter_0 4 rfl rfl)
theorem dX0_isLetter_7 : decode cX0_isLetter 7 = .ok (.ifCond .eq 37, 3) := dk_153 0 37 (dk_at dksX0_isLetter_0 7 rfl rfl)
theorem dX0_isLetter_10 : decode cX0_isLetter 10 = .ok (.iload_n 1, 1) := dk_27 (dk_at dksX0_isLetter_0 10 rfl rfl)
theorem dX0_isLetter_11 : decode cX0_isLetter 11 = .ok (.iconst 0, 1) := dk_3 (dk_at dksX0_isLetter_0 11 rfl rfl)
theorem dX0_isLetter_12 : decode cX0_isLetter 12 = .ok (.ldc_w 320, 3) := dk_19 1 64 (dk_at dksX0_isLetter_0 12 rfl rfl)
theorem dX0_isLetter_15 : decode cX0_isLetter 15 = .ok (.invokestatic 3, 3) := dk_184 0 3 (dk_at dksX0_isLetter_0 15 rfl rfl)
theorem dX0_isLetter_18 : decode cX0_isLetter 18 = .ok (.ifCond .eq 26, 3) := dk_153 0 26 (dk_at dksX0_isLetter_0 18 rfl rfl)
theorem dX0_isLetter_21 : decode cX0_isLetter 21 = .ok (.iload_n 2, 1) := dk_28 (dk_at dksX0_isLetter_0 21 rfl rfl)
theorem dX0_isLetter_22 : decode cX0_isLetter 22 = .ok (.iconst 0, 1) := dk_3 (dk_at dksX0_isLetter_0 22 rfl rfl)
theorem dX0_isLetter_23 : decode cX0_isLetter 23 = .ok (.sipush 4095, 3) := dk_17 15 255 (dk_at dksX0_isLetter_1 0 rfl rfl)
theorem dX0_isLetter_26 : decode cX0_isLetter 26 = .ok (.invokestatic 3, 3) := dk_184 0 3 (dk_at dksX0_isLetter_1 3 rfl rfl)
theorem dX0_isLetter_29 : decode cX0_isLetter 29 = .ok (.ifCond .eq 15, 3) := dk_153 0 15 (dk_at dksX0_isLetter_1 6 rfl rfl)
theorem dX0_isLetter_32 : decode cX0_isLetter 32 = .ok (.iload_n 2, 1) := dk_28 (dk_at dksX0_isLetter_1 9 rfl rfl)
theorem dX0_isLetter_33 : decode cX0_isLetter 33 = .ok (.invokestatic 321, 3) := dk_184 1 65 (dk_at dksX0_isLetter_1 10 rfl rfl)
theorem dX0_isLetter_36 : decode cX0_isLetter 36 = .ok (.iconst 4, 1) := dk_7 (dk_at dksX0_isLetter_1 13 rfl rfl)
theorem dX0_isLetter_37 : decode cX0_isLetter 37 = .ok (.if_icmp .gt 7, 3) := dk_163 0 7 (dk_at dksX0_isLetter_1 14 rfl rfl)
theorem dX0_isLetter_40 : decode cX0_isLetter 40 = .ok (.iconst 1, 1) := dk_4 (dk_at dksX0_isLetter_1 17 rfl rfl)
theorem dX0_isLetter_41 : decode cX0_isLetter 41 = .ok (.goto 4, 3) := dk_167 0 4 (dk_at dksX0_isLetter_1 18 rfl rfl)
theorem dX0_isLetter_44 : decode cX0_isLetter 44 = .ok (.iconst 0, 1) := dk_3 (dk_at dksX0_isLetter_1 21 rfl rfl)
theorem dX0_isLetter_45 : decode cX0_isLetter 45 = .ok (.istore 8, 2) := dk_54 8 (dk_at dksX0_isLetter_1 22 rfl rfl)
theorem dX0_isLetter_47 : decode cX0_isLetter 47 = .ok (.iload 8, 2) := dk_21 8 (dk_at dksX0_isLetter_2 0 rfl rfl)
theorem dX0_isLetter_49 : decode cX0_isLetter 49 = .ok (.ifCond .eq 63, 3) := dk_153 0 63 (dk_at dksX0_isLetter_2 2 rfl rfl)
theorem dX0_isLetter_52 : decode cX0_isLetter 52 = .ok (.iload_n 3, 1) := dk_29 (dk_at dksX0_isLetter_2 5 rfl rfl)
theorem dX0_isLetter_53 : decode cX0_isLetter 53 = .ok (.iconst 0, 1) := dk_3 (dk_at dksX0_isLetter_2 6 rfl rfl)
theorem dX0_isLetter_54 : decode cX0_isLetter 54 = .ok (.ldc 76, 2) := dk_18 76 (dk_at dksX0_isLetter_2 7 rfl rfl)
theorem dX0_isLetter_56 : decode cX0_isLetter 56 = .ok (.invokestatic 3, 3) := dk_184 0 3 (dk_at dksX0_isLetter_2 9 rfl rfl)
theorem dX0_isLetter_59 : decode cX0_isLetter 59 = .ok (.ifCond .eq 53, 3) := dk_153 0 53 (dk_at dksX0_isLetter_2 12 rfl rfl)
theorem dX0_isLetter_62 : decode cX0_isLetter 62 = .ok (.iload 4, 2) := dk_21 4 (dk_at dksX0_isLetter_2 15 rfl rfl)
theorem dX0_isLetter_64 : decode cX0_isLetter 64 = .ok (.iconst 0, 1) := dk_3 (dk_at dksX0_isLetter_2 17 rfl rfl)
theorem dX0_isLetter_65 : decode cX0_isLetter 65 = .ok (.iconst 3, 1) := dk_6 (dk_at dksX0_isLetter_2 18 rfl rfl)
theorem dX0_isLetter_66 : decode cX0_isLetter 66 = .ok (.invokestatic 3, 3) := dk_184 0 3 (dk_at dksX0_isLetter_2 19 rfl rfl)
theorem dX0_isLetter_69 : decode cX0_isLetter 69 = .ok (.ifCond .eq 43, 3) := dk_153 0 43 (dk_at dksX0_isLetter_3 0 rfl rfl)
theorem dX0_isLetter_72 : decode cX0_isLetter 72 = .ok (.iload 5, 2) := dk_21 5 (dk_at dksX0_isLetter_3 3 rfl rfl)
theorem dX0_isLetter_74 : decode cX0_isLetter 74 = .ok (.iconst 0, 1) := dk_3 (dk_at dksX0_isLetter_3 5 rfl rfl)
theorem dX0_isLetter_75 : decode cX0_isLetter 75 = .ok (.sipush 9999, 3) := dk_17 39 15 (dk_at dksX0_isLetter_3 6 rfl rfl)
theorem dX0_isLetter_78 : decode cX0_isLetter 78 = .ok (.invokestatic 3, 3) := dk_184 0 3 (dk_at dksX0_isLetter_3 9 rfl rfl)
theorem dX0_isLetter_81 : decode cX0_isLetter 81 = .ok (.ifCond .eq 31, 3) := dk_153 0 31 (dk_at dksX0_isLetter_3 12 rfl rfl)
theorem dX0_isLetter_84 : decode cX0_isLetter 84 = .ok (.iload 6, 2) := dk_21 6 (dk_at dksX0_isLetter_3 15 rfl rfl)
theorem dX0_isLetter_86 : decode cX0_isLetter 86 = .ok (.iconst (-1), 1) := dk_2 (dk_at dksX0_isLetter_3 17 rfl rfl)
theorem dX0_isLetter_87 : decode cX0_isLetter 87 = .ok (.sipush 9999, 3) := dk_17 39 15 (dk_at dksX0_isLetter_3 18 rfl rfl)
theorem dX0_isLetter_90 : decode cX0_isLetter 90 = .ok (.invokestatic 3, 3) := dk_184 0 3 (dk_at dksX0_isLetter_3 21 rfl rfl)
theorem dX0_isLetter_93 : decode cX0_isLetter 93 = .ok (.ifCond .eq 19, 3) := dk_153 0 19 (dk_at dksX0_isLetter_4 0 rfl rfl)
theorem dX0_isLetter_96 : decode cX0_isLetter 96 = .ok (.iload 7, 2) := dk_21 7 (dk_at dksX0_isLetter_4 3 rfl rfl)
theorem dX0_isLetter_98 : decode cX0_isLetter 98 = .ok (.iconst 0, 1) := dk_3 (dk_at dksX0_isLetter_4 5 rfl rfl)
theorem dX0_isLetter_99 : decode cX0_isLetter 99 = .ok (.sipush 9999, 3) := dk_17 39 15 (dk_at dksX0_isLetter_4 6 rfl rfl)
theorem dX0_isLetter_102 : decode cX0_isLetter 102 = .ok (.invokestatic 3, 3) := dk_184 0 3 (dk_at dksX0_isLetter_4 9 rfl rfl)
theorem dX0_isLetter_105 : decode cX0_isLetter 105 = .ok (.ifCond .eq 7, 3) := dk_153 0 7 (dk_at dksX0_isLetter_4 12 rfl rfl)
theorem dX0_isLetter_108 : decode cX0_isLetter 108 = .ok (.iconst 1, 1) := dk_4 (dk_at dksX0_isLetter_4 15 rfl rfl)
theorem dX0_isLetter_109 : decode cX0_isLetter 109 = .ok (.goto 4, 3) := dk_167 0 4 (dk_at dksX0_isLetter_4 16 rfl rfl)
theorem dX0_isLetter_112 : decode cX0_isLetter 112 = .ok (.iconst 0, 1) := dk_3 (dk_at dksX0_isLetter_4 19 rfl rfl)
theorem dX0_isLetter_113 : decode cX0_isLetter 113 = .ok (.ireturn, 1) := dk_172 (dk_at dksX0_isLetter_4 20 rfl rfl)
abbrev cX0_latestDay : ByteArray := prog_1_method_26_code
def yX0_latestDay : MethodName := ⟨RX0, "latestDay", "()I"⟩
def dkwX0_latestDay_1 : List UInt8 := [185, 0, 100, 1, 0, 4, 100, 185, 0, 105, 2, 0, 192, 0, 176, 180, 1, 51, 172]
abbrev dktX0_latestDay_1 : List UInt8 := dkwX0_latestDay_1 ++ []
def dkwX0_latestDay_0 : List UInt8 := [42, 180, 0, 169, 185, 1, 70, 1, 0, 153, 0, 7, 3, 167, 0, 29, 42, 180, 0, 169, 42, 180, 0, 169]
abbrev dktX0_latestDay_0 : List UInt8 := dkwX0_latestDay_0 ++ dktX0_latestDay_1
theorem dksX0_latestDay_0 : cX0_latestDay.data.toList.drop 0 = dktX0_latestDay_0 := by decide +kernel
theorem dksX0_latestDay_1 : cX0_latestDay.data.toList.drop 24 = dktX0_latestDay_1 := dk_seg dksX0_latestDay_0 24 rfl rfl
theorem dX0_latestDay_0 : decode cX0_latestDay 0 = .ok (.aload_n 0, 1) := dk_42 (dk_at dksX0_latestDay_0 0 rfl rfl)
theorem dX0_latestDay_1 : decode cX0_latestDay 1 = .ok (.getfield 169, 3) := dk_180 0 169 (dk_at dksX0_latestDay_0 1 rfl rfl)
theorem dX0_latestDay_4 : decode cX0_latestDay 4 = .ok (.invokeinterface 326 1, 5) := by decide +kernel
theorem dX0_latestDay_9 : decode cX0_latestDay 9 = .ok (.ifCond .eq 7, 3) := dk_153 0 7 (dk_at dksX0_latestDay_0 9 rfl rfl)
theorem dX0_latestDay_12 : decode cX0_latestDay 12 = .ok (.iconst 0, 1) := dk_3 (dk_at dksX0_latestDay_0 12 rfl rfl)
theorem dX0_latestDay_13 : decode cX0_latestDay 13 = .ok (.goto 29, 3) := dk_167 0 29 (dk_at dksX0_latestDay_0 13 rfl rfl)
theorem dX0_latestDay_16 : decode cX0_latestDay 16 = .ok (.aload_n 0, 1) := dk_42 (dk_at dksX0_latestDay_0 16 rfl rfl)
theorem dX0_latestDay_17 : decode cX0_latestDay 17 = .ok (.getfield 169, 3) := dk_180 0 169 (dk_at dksX0_latestDay_0 17 rfl rfl)
theorem dX0_latestDay_20 : decode cX0_latestDay 20 = .ok (.aload_n 0, 1) := dk_42 (dk_at dksX0_latestDay_0 20 rfl rfl)
theorem dX0_latestDay_21 : decode cX0_latestDay 21 = .ok (.getfield 169, 3) := dk_180 0 169 (dk_at dksX0_latestDay_0 21 rfl rfl)
theorem dX0_latestDay_24 : decode cX0_latestDay 24 = .ok (.invokeinterface 100 1, 5) := by decide +kernel
theorem dX0_latestDay_29 : decode cX0_latestDay 29 = .ok (.iconst 1, 1) := dk_4 (dk_at dksX0_latestDay_1 5 rfl rfl)
theorem dX0_latestDay_30 : decode cX0_latestDay 30 = .ok (.isub, 1) := dk_100 (dk_at dksX0_latestDay_1 6 rfl rfl)
theorem dX0_latestDay_31 : decode cX0_latestDay 31 = .ok (.invokeinterface 105 2, 5) := by decide +kernel
theorem dX0_latestDay_36 : decode cX0_latestDay 36 = .ok (.checkcast 176, 3) := dk_192 0 176 (dk_at dksX0_latestDay_1 12 rfl rfl)
theorem dX0_latestDay_39 : decode cX0_latestDay 39 = .ok (.getfield 307, 3) := dk_180 1 51 (dk_at dksX0_latestDay_1 15 rfl rfl)
theorem dX0_latestDay_42 : decode cX0_latestDay 42 = .ok (.ireturn, 1) := dk_172 (dk_at dksX0_latestDay_1 18 rfl rfl)
abbrev cX0_isFull : ByteArray := prog_1_method_27_code
def yX0_isFull : MethodName := ⟨RX0, "isFull", "()Z"⟩
def dkwX0_isFull_1 : List UInt8 := [164, 0, 7, 4, 167, 0, 4, 3, 172]
abbrev dktX0_isFull_1 : List UInt8 := dkwX0_isFull_1 ++ []
def dkwX0_isFull_0 : List UInt8 := [42, 180, 1, 44, 17, 0, 180, 163, 0, 18, 42, 180, 0, 169, 185, 0, 100, 1, 0, 17, 0, 190]
abbrev dktX0_isFull_0 : List UInt8 := dkwX0_isFull_0 ++ dktX0_isFull_1
theorem dksX0_isFull_0 : cX0_isFull.data.toList.drop 0 = dktX0_isFull_0 := by decide +kernel
theorem dksX0_isFull_1 : cX0_isFull.data.toList.drop 22 = dktX0_isFull_1 := dk_seg dksX0_isFull_0 22 rfl rfl
theorem dX0_isFull_0 : decode cX0_isFull 0 = .ok (.aload_n 0, 1) := dk_42 (dk_at dksX0_isFull_0 0 rfl rfl)
theorem dX0_isFull_1 : decode cX0_isFull 1 = .ok (.getfield 300, 3) := dk_180 1 44 (dk_at dksX0_isFull_0 1 rfl rfl)
theorem dX0_isFull_4 : decode cX0_isFull 4 = .ok (.sipush 180, 3) := dk_17 0 180 (dk_at dksX0_isFull_0 4 rfl rfl)
theorem dX0_isFull_7 : decode cX0_isFull 7 = .ok (.if_icmp .gt 18, 3) := dk_163 0 18 (dk_at dksX0_isFull_0 7 rfl rfl)
theorem dX0_isFull_10 : decode cX0_isFull 10 = .ok (.aload_n 0, 1) := dk_42 (dk_at dksX0_isFull_0 10 rfl rfl)
theorem dX0_isFull_11 : decode cX0_isFull 11 = .ok (.getfield 169, 3) := dk_180 0 169 (dk_at dksX0_isFull_0 11 rfl rfl)
theorem dX0_isFull_14 : decode cX0_isFull 14 = .ok (.invokeinterface 100 1, 5) := by decide +kernel
theorem dX0_isFull_19 : decode cX0_isFull 19 = .ok (.sipush 190, 3) := dk_17 0 190 (dk_at dksX0_isFull_0 19 rfl rfl)
theorem dX0_isFull_22 : decode cX0_isFull 22 = .ok (.if_icmp .le 7, 3) := dk_164 0 7 (dk_at dksX0_isFull_1 0 rfl rfl)
theorem dX0_isFull_25 : decode cX0_isFull 25 = .ok (.iconst 1, 1) := dk_4 (dk_at dksX0_isFull_1 3 rfl rfl)
theorem dX0_isFull_26 : decode cX0_isFull 26 = .ok (.goto 4, 3) := dk_167 0 4 (dk_at dksX0_isFull_1 4 rfl rfl)
theorem dX0_isFull_29 : decode cX0_isFull 29 = .ok (.iconst 0, 1) := dk_3 (dk_at dksX0_isFull_1 7 rfl rfl)
theorem dX0_isFull_30 : decode cX0_isFull 30 = .ok (.ireturn, 1) := dk_172 (dk_at dksX0_isFull_1 8 rfl rfl)
abbrev cX0_send : ByteArray := prog_1_method_28_code
def yX0_send : MethodName := ⟨RX0, "send", "(LSortedPost$Letter;)I"⟩
def dkwX0_send_3 : List UInt8 := [29, 46, 50, 42, 180, 0, 185, 29, 46, 182, 1, 77, 96, 61, 132, 3, 1, 167, 255, 215, 28, 172]
abbrev dktX0_send_3 : List UInt8 := dkwX0_send_3 ++ []
def dkwX0_send_2 : List UInt8 := [29, 42, 180, 0, 232, 162, 0, 39, 28, 42, 42, 180, 0, 178, 29, 50, 42, 180, 0, 154, 42, 180, 0, 182]
abbrev dktX0_send_2 : List UInt8 := dkwX0_send_2 ++ dktX0_send_3
def dkwX0_send_1 : List UInt8 := [28, 182, 1, 74, 153, 0, 10, 42, 43, 28, 3, 182, 1, 60, 132, 2, 1, 167, 255, 233, 3, 61, 3, 62]
abbrev dktX0_send_1 : List UInt8 := dkwX0_send_1 ++ dktX0_send_2
def dkwX0_send_0 : List UInt8 := [42, 180, 0, 169, 43, 185, 0, 116, 2, 0, 87, 42, 3, 181, 0, 232, 3, 61, 28, 6, 162, 0, 24, 43]
abbrev dktX0_send_0 : List UInt8 := dkwX0_send_0 ++ dktX0_send_1
theorem dksX0_send_0 : cX0_send.data.toList.drop 0 = dktX0_send_0 := by decide +kernel
theorem dksX0_send_1 : cX0_send.data.toList.drop 24 = dktX0_send_1 := dk_seg dksX0_send_0 24 rfl rfl
theorem dksX0_send_2 : cX0_send.data.toList.drop 48 = dktX0_send_2 := dk_seg dksX0_send_1 24 rfl rfl
theorem dksX0_send_3 : cX0_send.data.toList.drop 72 = dktX0_send_3 := dk_seg dksX0_send_2 24 rfl rfl
theorem dX0_send_0 : decode cX0_send 0 = .ok (.aload_n 0, 1) := dk_42 (dk_at dksX0_send_0 0 rfl rfl)
theorem dX0_send_1 : decode cX0_send 1 = .ok (.getfield 169, 3) := dk_180 0 169 (dk_at dksX0_send_0 1 rfl rfl)
theorem dX0_send_4 : decode cX0_send 4 = .ok (.aload_n 1, 1) := dk_43 (dk_at dksX0_send_0 4 rfl rfl)
theorem dX0_send_5 : decode cX0_send 5 = .ok (.invokeinterface 116 2, 5) := by decide +kernel
theorem dX0_send_10 : decode cX0_send 10 = .ok (.pop, 1) := dk_87 (dk_at dksX0_send_0 10 rfl rfl)
theorem dX0_send_11 : decode cX0_send 11 = .ok (.aload_n 0, 1) := dk_42 (dk_at dksX0_send_0 11 rfl rfl)
theorem dX0_send_12 : decode cX0_send 12 = .ok (.iconst 0, 1) := dk_3 (dk_at dksX0_send_0 12 rfl rfl)
theorem dX0_send_13 : decode cX0_send 13 = .ok (.putfield 232, 3) := dk_181 0 232 (dk_at dksX0_send_0 13 rfl rfl)
theorem dX0_send_16 : decode cX0_send 16 = .ok (.iconst 0, 1) := dk_3 (dk_at dksX0_send_0 16 rfl rfl)
theorem dX0_send_17 : decode cX0_send 17 = .ok (.istore_n 2, 1) := dk_61 (dk_at dksX0_send_0 17 rfl rfl)
theorem dX0_send_18 : decode cX0_send 18 = .ok (.iload_n 2, 1) := dk_28 (dk_at dksX0_send_0 18 rfl rfl)
theorem dX0_send_19 : decode cX0_send 19 = .ok (.iconst 3, 1) := dk_6 (dk_at dksX0_send_0 19 rfl rfl)
theorem dX0_send_20 : decode cX0_send 20 = .ok (.if_icmp .ge 24, 3) := dk_162 0 24 (dk_at dksX0_send_0 20 rfl rfl)
theorem dX0_send_23 : decode cX0_send 23 = .ok (.aload_n 1, 1) := dk_43 (dk_at dksX0_send_0 23 rfl rfl)
theorem dX0_send_24 : decode cX0_send 24 = .ok (.iload_n 2, 1) := dk_28 (dk_at dksX0_send_1 0 rfl rfl)
theorem dX0_send_25 : decode cX0_send 25 = .ok (.invokevirtual 330, 3) := dk_182 1 74 (dk_at dksX0_send_1 1 rfl rfl)
theorem dX0_send_28 : decode cX0_send 28 = .ok (.ifCond .eq 10, 3) := dk_153 0 10 (dk_at dksX0_send_1 4 rfl rfl)
theorem dX0_send_31 : decode cX0_send 31 = .ok (.aload_n 0, 1) := dk_42 (dk_at dksX0_send_1 7 rfl rfl)
theorem dX0_send_32 : decode cX0_send 32 = .ok (.aload_n 1, 1) := dk_43 (dk_at dksX0_send_1 8 rfl rfl)
theorem dX0_send_33 : decode cX0_send 33 = .ok (.iload_n 2, 1) := dk_28 (dk_at dksX0_send_1 9 rfl rfl)
theorem dX0_send_34 : decode cX0_send 34 = .ok (.iconst 0, 1) := dk_3 (dk_at dksX0_send_1 10 rfl rfl)
theorem dX0_send_35 : decode cX0_send 35 = .ok (.invokevirtual 316, 3) := dk_182 1 60 (dk_at dksX0_send_1 11 rfl rfl)
theorem dX0_send_38 : decode cX0_send 38 = .ok (.iinc 2 1, 3) := dk_132 2 1 (dk_at dksX0_send_1 14 rfl rfl)
theorem dX0_send_41 : decode cX0_send 41 = .ok (.goto (-23), 3) := dk_167 255 233 (dk_at dksX0_send_1 17 rfl rfl)
theorem dX0_send_44 : decode cX0_send 44 = .ok (.iconst 0, 1) := dk_3 (dk_at dksX0_send_1 20 rfl rfl)
theorem dX0_send_45 : decode cX0_send 45 = .ok (.istore_n 2, 1) := dk_61 (dk_at dksX0_send_1 21 rfl rfl)
theorem dX0_send_46 : decode cX0_send 46 = .ok (.iconst 0, 1) := dk_3 (dk_at dksX0_send_1 22 rfl rfl)
theorem dX0_send_47 : decode cX0_send 47 = .ok (.istore_n 3, 1) := dk_62 (dk_at dksX0_send_1 23 rfl rfl)
theorem dX0_send_48 : decode cX0_send 48 = .ok (.iload_n 3, 1) := dk_29 (dk_at dksX0_send_2 0 rfl rfl)
theorem dX0_send_49 : decode cX0_send 49 = .ok (.aload_n 0, 1) := dk_42 (dk_at dksX0_send_2 1 rfl rfl)
theorem dX0_send_50 : decode cX0_send 50 = .ok (.getfield 232, 3) := dk_180 0 232 (dk_at dksX0_send_2 2 rfl rfl)
theorem dX0_send_53 : decode cX0_send 53 = .ok (.if_icmp .ge 39, 3) := dk_162 0 39 (dk_at dksX0_send_2 5 rfl rfl)
theorem dX0_send_56 : decode cX0_send 56 = .ok (.iload_n 2, 1) := dk_28 (dk_at dksX0_send_2 8 rfl rfl)
theorem dX0_send_57 : decode cX0_send 57 = .ok (.aload_n 0, 1) := dk_42 (dk_at dksX0_send_2 9 rfl rfl)
theorem dX0_send_58 : decode cX0_send 58 = .ok (.aload_n 0, 1) := dk_42 (dk_at dksX0_send_2 10 rfl rfl)
theorem dX0_send_59 : decode cX0_send 59 = .ok (.getfield 178, 3) := dk_180 0 178 (dk_at dksX0_send_2 11 rfl rfl)
theorem dX0_send_62 : decode cX0_send 62 = .ok (.iload_n 3, 1) := dk_29 (dk_at dksX0_send_2 14 rfl rfl)
theorem dX0_send_63 : decode cX0_send 63 = .ok (.aaload, 1) := dk_50 (dk_at dksX0_send_2 15 rfl rfl)
theorem dX0_send_64 : decode cX0_send 64 = .ok (.aload_n 0, 1) := dk_42 (dk_at dksX0_send_2 16 rfl rfl)
theorem dX0_send_65 : decode cX0_send 65 = .ok (.getfield 154, 3) := dk_180 0 154 (dk_at dksX0_send_2 17 rfl rfl)
theorem dX0_send_68 : decode cX0_send 68 = .ok (.aload_n 0, 1) := dk_42 (dk_at dksX0_send_2 20 rfl rfl)
theorem dX0_send_69 : decode cX0_send 69 = .ok (.getfield 182, 3) := dk_180 0 182 (dk_at dksX0_send_2 21 rfl rfl)
theorem dX0_send_72 : decode cX0_send 72 = .ok (.iload_n 3, 1) := dk_29 (dk_at dksX0_send_3 0 rfl rfl)
theorem dX0_send_73 : decode cX0_send 73 = .ok (.iaload, 1) := dk_46 (dk_at dksX0_send_3 1 rfl rfl)
theorem dX0_send_74 : decode cX0_send 74 = .ok (.aaload, 1) := dk_50 (dk_at dksX0_send_3 2 rfl rfl)
theorem dX0_send_75 : decode cX0_send 75 = .ok (.aload_n 0, 1) := dk_42 (dk_at dksX0_send_3 3 rfl rfl)
theorem dX0_send_76 : decode cX0_send 76 = .ok (.getfield 185, 3) := dk_180 0 185 (dk_at dksX0_send_3 4 rfl rfl)
theorem dX0_send_79 : decode cX0_send 79 = .ok (.iload_n 3, 1) := dk_29 (dk_at dksX0_send_3 7 rfl rfl)
theorem dX0_send_80 : decode cX0_send 80 = .ok (.iaload, 1) := dk_46 (dk_at dksX0_send_3 8 rfl rfl)
theorem dX0_send_81 : decode cX0_send 81 = .ok (.invokevirtual 333, 3) := dk_182 1 77 (dk_at dksX0_send_3 9 rfl rfl)
theorem dX0_send_84 : decode cX0_send 84 = .ok (.iadd, 1) := dk_96 (dk_at dksX0_send_3 12 rfl rfl)
theorem dX0_send_85 : decode cX0_send 85 = .ok (.istore_n 2, 1) := dk_61 (dk_at dksX0_send_3 13 rfl rfl)
theorem dX0_send_86 : decode cX0_send 86 = .ok (.iinc 3 1, 3) := dk_132 3 1 (dk_at dksX0_send_3 14 rfl rfl)
theorem dX0_send_89 : decode cX0_send 89 = .ok (.goto (-41), 3) := dk_167 255 215 (dk_at dksX0_send_3 17 rfl rfl)
theorem dX0_send_92 : decode cX0_send 92 = .ok (.iload_n 2, 1) := dk_28 (dk_at dksX0_send_3 20 rfl rfl)
theorem dX0_send_93 : decode cX0_send 93 = .ok (.ireturn, 1) := dk_172 (dk_at dksX0_send_3 21 rfl rfl)
abbrev cX0_willCome : ByteArray := prog_1_method_21_code
def yX0_willCome : MethodName := ⟨RX0, "willCome", "(LSortedPost$Letter;II)V"⟩
def dkwX0_willCome_1 : List UInt8 := [42, 180, 0, 232, 29, 79, 42, 89, 180, 0, 232, 4, 96, 181, 0, 232, 177]
abbrev dktX0_willCome_1 : List UInt8 := dkwX0_willCome_1 ++ []
def dkwX0_willCome_0 : List UInt8 := [42, 180, 0, 178, 42, 180, 0, 232, 43, 83, 42, 180, 0, 182, 42, 180, 0, 232, 28, 79, 42, 180, 0, 185]
abbrev dktX0_willCome_0 : List UInt8 := dkwX0_willCome_0 ++ dktX0_willCome_1
theorem dksX0_willCome_0 : cX0_willCome.data.toList.drop 0 = dktX0_willCome_0 := by decide +kernel
theorem dksX0_willCome_1 : cX0_willCome.data.toList.drop 24 = dktX0_willCome_1 := dk_seg dksX0_willCome_0 24 rfl rfl
theorem dX0_willCome_0 : decode cX0_willCome 0 = .ok (.aload_n 0, 1) := dk_42 (dk_at dksX0_willCome_0 0 rfl rfl)
theorem dX0_willCome_1 : decode cX0_willCome 1 = .ok (.getfield 178, 3) := dk_180 0 178 (dk_at dksX0_willCome_0 1 rfl rfl)
theorem dX0_willCome_4 : decode cX0_willCome 4 = .ok (.aload_n 0, 1) := dk_42 (dk_at dksX0_willCome_0 4 rfl rfl)
theorem dX0_willCome_5 : decode cX0_willCome 5 = .ok (.getfield 232, 3) := dk_180 0 232 (dk_at dksX0_willCome_0 5 rfl rfl)
theorem dX0_willCome_8 : decode cX0_willCome 8 = .ok (.aload_n 1, 1) := dk_43 (dk_at dksX0_willCome_0 8 rfl rfl)
theorem dX0_willCome_9 : decode cX0_willCome 9 = .ok (.aastore, 1) := dk_83 (dk_at dksX0_willCome_0 9 rfl rfl)
theorem dX0_willCome_10 : decode cX0_willCome 10 = .ok (.aload_n 0, 1) := dk_42 (dk_at dksX0_willCome_0 10 rfl rfl)
theorem dX0_willCome_11 : decode cX0_willCome 11 = .ok (.getfield 182, 3) := dk_180 0 182 (dk_at dksX0_willCome_0 11 rfl rfl)
theorem dX0_willCome_14 : decode cX0_willCome 14 = .ok (.aload_n 0, 1) := dk_42 (dk_at dksX0_willCome_0 14 rfl rfl)
theorem dX0_willCome_15 : decode cX0_willCome 15 = .ok (.getfield 232, 3) := dk_180 0 232 (dk_at dksX0_willCome_0 15 rfl rfl)
theorem dX0_willCome_18 : decode cX0_willCome 18 = .ok (.iload_n 2, 1) := dk_28 (dk_at dksX0_willCome_0 18 rfl rfl)
theorem dX0_willCome_19 : decode cX0_willCome 19 = .ok (.iastore, 1) := dk_79 (dk_at dksX0_willCome_0 19 rfl rfl)
theorem dX0_willCome_20 : decode cX0_willCome 20 = .ok (.aload_n 0, 1) := dk_42 (dk_at dksX0_willCome_0 20 rfl rfl)
theorem dX0_willCome_21 : decode cX0_willCome 21 = .ok (.getfield 185, 3) := dk_180 0 185 (dk_at dksX0_willCome_0 21 rfl rfl)
theorem dX0_willCome_24 : decode cX0_willCome 24 = .ok (.aload_n 0, 1) := dk_42 (dk_at dksX0_willCome_1 0 rfl rfl)
theorem dX0_willCome_25 : decode cX0_willCome 25 = .ok (.getfield 232, 3) := dk_180 0 232 (dk_at dksX0_willCome_1 1 rfl rfl)
theorem dX0_willCome_28 : decode cX0_willCome 28 = .ok (.iload_n 3, 1) := dk_29 (dk_at dksX0_willCome_1 4 rfl rfl)
theorem dX0_willCome_29 : decode cX0_willCome 29 = .ok (.iastore, 1) := dk_79 (dk_at dksX0_willCome_1 5 rfl rfl)
theorem dX0_willCome_30 : decode cX0_willCome 30 = .ok (.aload_n 0, 1) := dk_42 (dk_at dksX0_willCome_1 6 rfl rfl)
theorem dX0_willCome_31 : decode cX0_willCome 31 = .ok (.dup, 1) := dk_89 (dk_at dksX0_willCome_1 7 rfl rfl)
theorem dX0_willCome_32 : decode cX0_willCome 32 = .ok (.getfield 232, 3) := dk_180 0 232 (dk_at dksX0_willCome_1 8 rfl rfl)
theorem dX0_willCome_35 : decode cX0_willCome 35 = .ok (.iconst 1, 1) := dk_4 (dk_at dksX0_willCome_1 11 rfl rfl)
theorem dX0_willCome_36 : decode cX0_willCome 36 = .ok (.iadd, 1) := dk_96 (dk_at dksX0_willCome_1 12 rfl rfl)
theorem dX0_willCome_37 : decode cX0_willCome 37 = .ok (.putfield 232, 3) := dk_181 0 232 (dk_at dksX0_willCome_1 13 rfl rfl)
theorem dX0_willCome_40 : decode cX0_willCome 40 = .ok (.return_, 1) := dk_177 (dk_at dksX0_willCome_1 16 rfl rfl)
abbrev cX0_arrive : ByteArray := prog_1_method_22_code
def yX0_arrive : MethodName := ⟨RX0, "arrive", "(LSortedPost$Letter;LSortedPost$Box;I)I"⟩
def dkwX0_arrive_9 : List UInt8 := [180, 1, 15, 153, 0, 9, 42, 43, 44, 182, 1, 18, 21, 5, 172]
abbrev dktX0_arrive_9 : List UInt8 := dkwX0_arrive_9 ++ []
def dkwX0_arrive_8 : List UInt8 := [181, 0, 249, 42, 25, 4, 182, 1, 4, 54, 5, 44, 180, 1, 8, 43, 180, 1, 12, 4, 84, 25, 4]
abbrev dktX0_arrive_8 : List UInt8 := dkwX0_arrive_8 ++ dktX0_arrive_9
def dkwX0_arrive_7 : List UInt8 := [167, 0, 4, 3, 96, 181, 0, 254, 25, 4, 25, 4, 180, 1, 1, 153, 0, 7, 3, 167, 0, 4, 4]
abbrev dktX0_arrive_7 : List UInt8 := dkwX0_arrive_7 ++ dktX0_arrive_8
def dkwX0_arrive_6 : List UInt8 := [25, 4, 180, 0, 251, 154, 0, 43, 42, 89, 180, 0, 254, 25, 4, 180, 1, 1, 153, 0, 7, 4]
abbrev dktX0_arrive_6 : List UInt8 := dkwX0_arrive_6 ++ dktX0_arrive_7
def dkwX0_arrive_5 : List UInt8 := [182, 0, 247, 132, 7, 1, 167, 255, 214, 132, 5, 1, 167, 255, 146, 25, 4, 180, 0, 249, 154, 0, 51]
abbrev dktX0_arrive_5 : List UInt8 := dkwX0_arrive_5 ++ dktX0_arrive_6
def dkwX0_arrive_4 : List UInt8 := [180, 0, 239, 154, 0, 30, 25, 4, 25, 6, 180, 0, 120, 21, 7, 46, 25, 6, 180, 0, 129, 21, 7, 46]
abbrev dktX0_arrive_4 : List UInt8 := dkwX0_arrive_4 ++ dktX0_arrive_5
def dkwX0_arrive_3 : List UInt8 := [185, 0, 243, 2, 0, 153, 0, 51, 3, 54, 7, 21, 7, 25, 6, 180, 0, 126, 162, 0, 38, 25, 4]
abbrev dktX0_arrive_3 : List UInt8 := dkwX0_arrive_3 ++ dktX0_arrive_4
def dkwX0_arrive_2 : List UInt8 := [180, 0, 141, 21, 5, 185, 0, 105, 2, 0, 192, 0, 121, 58, 6, 25, 6, 180, 0, 133, 25, 4]
abbrev dktX0_arrive_2 : List UInt8 := dkwX0_arrive_2 ++ dktX0_arrive_3
def dkwX0_arrive_1 : List UInt8 := [180, 0, 141, 185, 0, 100, 1, 0, 162, 0, 99, 25, 4, 180, 0, 239, 154, 0, 91, 44, 180, 0, 158]
abbrev dktX0_arrive_1 : List UInt8 := dkwX0_arrive_1 ++ dktX0_arrive_2
def dkwX0_arrive_0 : List UInt8 := [42, 180, 0, 193, 58, 4, 25, 4, 43, 44, 29, 182, 0, 235, 3, 54, 5, 21, 5, 44, 180, 0, 158]
abbrev dktX0_arrive_0 : List UInt8 := dkwX0_arrive_0 ++ dktX0_arrive_1
theorem dksX0_arrive_0 : cX0_arrive.data.toList.drop 0 = dktX0_arrive_0 := by decide +kernel
theorem dksX0_arrive_1 : cX0_arrive.data.toList.drop 23 = dktX0_arrive_1 := dk_seg dksX0_arrive_0 23 rfl rfl
theorem dksX0_arrive_2 : cX0_arrive.data.toList.drop 46 = dktX0_arrive_2 := dk_seg dksX0_arrive_1 23 rfl rfl
theorem dksX0_arrive_3 : cX0_arrive.data.toList.drop 68 = dktX0_arrive_3 := dk_seg dksX0_arrive_2 22 rfl rfl
theorem dksX0_arrive_4 : cX0_arrive.data.toList.drop 91 = dktX0_arrive_4 := dk_seg dksX0_arrive_3 23 rfl rfl
theorem dksX0_arrive_5 : cX0_arrive.data.toList.drop 115 = dktX0_arrive_5 := dk_seg dksX0_arrive_4 24 rfl rfl
theorem dksX0_arrive_6 : cX0_arrive.data.toList.drop 138 = dktX0_arrive_6 := dk_seg dksX0_arrive_5 23 rfl rfl
theorem dksX0_arrive_7 : cX0_arrive.data.toList.drop 160 = dktX0_arrive_7 := dk_seg dksX0_arrive_6 22 rfl rfl
theorem dksX0_arrive_8 : cX0_arrive.data.toList.drop 183 = dktX0_arrive_8 := dk_seg dksX0_arrive_7 23 rfl rfl
theorem dksX0_arrive_9 : cX0_arrive.data.toList.drop 206 = dktX0_arrive_9 := dk_seg dksX0_arrive_8 23 rfl rfl
theorem dX0_arrive_0 : decode cX0_arrive 0 = .ok (.aload_n 0, 1) := dk_42 (dk_at dksX0_arrive_0 0 rfl rfl)
theorem dX0_arrive_1 : decode cX0_arrive 1 = .ok (.getfield 193, 3) := dk_180 0 193 (dk_at dksX0_arrive_0 1 rfl rfl)
theorem dX0_arrive_4 : decode cX0_arrive 4 = .ok (.astore 4, 2) := dk_58 4 (dk_at dksX0_arrive_0 4 rfl rfl)
theorem dX0_arrive_6 : decode cX0_arrive 6 = .ok (.aload 4, 2) := dk_25 4 (dk_at dksX0_arrive_0 6 rfl rfl)
theorem dX0_arrive_8 : decode cX0_arrive 8 = .ok (.aload_n 1, 1) := dk_43 (dk_at dksX0_arrive_0 8 rfl rfl)
theorem dX0_arrive_9 : decode cX0_arrive 9 = .ok (.aload_n 2, 1) := dk_44 (dk_at dksX0_arrive_0 9 rfl rfl)
theorem dX0_arrive_10 : decode cX0_arrive 10 = .ok (.iload_n 3, 1) := dk_29 (dk_at dksX0_arrive_0 10 rfl rfl)
theorem dX0_arrive_11 : decode cX0_arrive 11 = .ok (.invokevirtual 235, 3) := dk_182 0 235 (dk_at dksX0_arrive_0 11 rfl rfl)
theorem dX0_arrive_14 : decode cX0_arrive 14 = .ok (.iconst 0, 1) := dk_3 (dk_at dksX0_arrive_0 14 rfl rfl)
theorem dX0_arrive_15 : decode cX0_arrive 15 = .ok (.istore 5, 2) := dk_54 5 (dk_at dksX0_arrive_0 15 rfl rfl)
theorem dX0_arrive_17 : decode cX0_arrive 17 = .ok (.iload 5, 2) := dk_21 5 (dk_at dksX0_arrive_0 17 rfl rfl)
theorem dX0_arrive_19 : decode cX0_arrive 19 = .ok (.aload_n 2, 1) := dk_44 (dk_at dksX0_arrive_0 19 rfl rfl)
theorem dX0_arrive_20 : decode cX0_arrive 20 = .ok (.getfield 158, 3) := dk_180 0 158 (dk_at dksX0_arrive_0 20 rfl rfl)
theorem dX0_arrive_23 : decode cX0_arrive 23 = .ok (.getfield 141, 3) := dk_180 0 141 (dk_at dksX0_arrive_1 0 rfl rfl)
theorem dX0_arrive_26 : decode cX0_arrive 26 = .ok (.invokeinterface 100 1, 5) := by decide +kernel
theorem dX0_arrive_31 : decode cX0_arrive 31 = .ok (.if_icmp .ge 99, 3) := dk_162 0 99 (dk_at dksX0_arrive_1 8 rfl rfl)
theorem dX0_arrive_34 : decode cX0_arrive 34 = .ok (.aload 4, 2) := dk_25 4 (dk_at dksX0_arrive_1 11 rfl rfl)
theorem dX0_arrive_36 : decode cX0_arrive 36 = .ok (.getfield 239, 3) := dk_180 0 239 (dk_at dksX0_arrive_1 13 rfl rfl)
theorem dX0_arrive_39 : decode cX0_arrive 39 = .ok (.ifCond .ne 91, 3) := dk_154 0 91 (dk_at dksX0_arrive_1 16 rfl rfl)
theorem dX0_arrive_42 : decode cX0_arrive 42 = .ok (.aload_n 2, 1) := dk_44 (dk_at dksX0_arrive_1 19 rfl rfl)
theorem dX0_arrive_43 : decode cX0_arrive 43 = .ok (.getfield 158, 3) := dk_180 0 158 (dk_at dksX0_arrive_1 20 rfl rfl)
theorem dX0_arrive_46 : decode cX0_arrive 46 = .ok (.getfield 141, 3) := dk_180 0 141 (dk_at dksX0_arrive_2 0 rfl rfl)
theorem dX0_arrive_49 : decode cX0_arrive 49 = .ok (.iload 5, 2) := dk_21 5 (dk_at dksX0_arrive_2 3 rfl rfl)
theorem dX0_arrive_51 : decode cX0_arrive 51 = .ok (.invokeinterface 105 2, 5) := by decide +kernel
theorem dX0_arrive_56 : decode cX0_arrive 56 = .ok (.checkcast 121, 3) := dk_192 0 121 (dk_at dksX0_arrive_2 10 rfl rfl)
theorem dX0_arrive_59 : decode cX0_arrive 59 = .ok (.astore 6, 2) := dk_58 6 (dk_at dksX0_arrive_2 13 rfl rfl)
theorem dX0_arrive_61 : decode cX0_arrive 61 = .ok (.aload 6, 2) := dk_25 6 (dk_at dksX0_arrive_2 15 rfl rfl)
theorem dX0_arrive_63 : decode cX0_arrive 63 = .ok (.getfield 133, 3) := dk_180 0 133 (dk_at dksX0_arrive_2 17 rfl rfl)
theorem dX0_arrive_66 : decode cX0_arrive 66 = .ok (.aload 4, 2) := dk_25 4 (dk_at dksX0_arrive_2 20 rfl rfl)
theorem dX0_arrive_68 : decode cX0_arrive 68 = .ok (.invokeinterface 243 2, 5) := by decide +kernel
theorem dX0_arrive_73 : decode cX0_arrive 73 = .ok (.ifCond .eq 51, 3) := dk_153 0 51 (dk_at dksX0_arrive_3 5 rfl rfl)
theorem dX0_arrive_76 : decode cX0_arrive 76 = .ok (.iconst 0, 1) := dk_3 (dk_at dksX0_arrive_3 8 rfl rfl)
theorem dX0_arrive_77 : decode cX0_arrive 77 = .ok (.istore 7, 2) := dk_54 7 (dk_at dksX0_arrive_3 9 rfl rfl)
theorem dX0_arrive_79 : decode cX0_arrive 79 = .ok (.iload 7, 2) := dk_21 7 (dk_at dksX0_arrive_3 11 rfl rfl)
theorem dX0_arrive_81 : decode cX0_arrive 81 = .ok (.aload 6, 2) := dk_25 6 (dk_at dksX0_arrive_3 13 rfl rfl)
theorem dX0_arrive_83 : decode cX0_arrive 83 = .ok (.getfield 126, 3) := dk_180 0 126 (dk_at dksX0_arrive_3 15 rfl rfl)
theorem dX0_arrive_86 : decode cX0_arrive 86 = .ok (.if_icmp .ge 38, 3) := dk_162 0 38 (dk_at dksX0_arrive_3 18 rfl rfl)
theorem dX0_arrive_89 : decode cX0_arrive 89 = .ok (.aload 4, 2) := dk_25 4 (dk_at dksX0_arrive_3 21 rfl rfl)
theorem dX0_arrive_91 : decode cX0_arrive 91 = .ok (.getfield 239, 3) := dk_180 0 239 (dk_at dksX0_arrive_4 0 rfl rfl)
theorem dX0_arrive_94 : decode cX0_arrive 94 = .ok (.ifCond .ne 30, 3) := dk_154 0 30 (dk_at dksX0_arrive_4 3 rfl rfl)
theorem dX0_arrive_97 : decode cX0_arrive 97 = .ok (.aload 4, 2) := dk_25 4 (dk_at dksX0_arrive_4 6 rfl rfl)
theorem dX0_arrive_99 : decode cX0_arrive 99 = .ok (.aload 6, 2) := dk_25 6 (dk_at dksX0_arrive_4 8 rfl rfl)
theorem dX0_arrive_101 : decode cX0_arrive 101 = .ok (.getfield 120, 3) := dk_180 0 120 (dk_at dksX0_arrive_4 10 rfl rfl)
theorem dX0_arrive_104 : decode cX0_arrive 104 = .ok (.iload 7, 2) := dk_21 7 (dk_at dksX0_arrive_4 13 rfl rfl)
theorem dX0_arrive_106 : decode cX0_arrive 106 = .ok (.iaload, 1) := dk_46 (dk_at dksX0_arrive_4 15 rfl rfl)
theorem dX0_arrive_107 : decode cX0_arrive 107 = .ok (.aload 6, 2) := dk_25 6 (dk_at dksX0_arrive_4 16 rfl rfl)
theorem dX0_arrive_109 : decode cX0_arrive 109 = .ok (.getfield 129, 3) := dk_180 0 129 (dk_at dksX0_arrive_4 18 rfl rfl)
theorem dX0_arrive_112 : decode cX0_arrive 112 = .ok (.iload 7, 2) := dk_21 7 (dk_at dksX0_arrive_4 21 rfl rfl)
theorem dX0_arrive_114 : decode cX0_arrive 114 = .ok (.iaload, 1) := dk_46 (dk_at dksX0_arrive_4 23 rfl rfl)
theorem dX0_arrive_115 : decode cX0_arrive 115 = .ok (.invokevirtual 247, 3) := dk_182 0 247 (dk_at dksX0_arrive_5 0 rfl rfl)
theorem dX0_arrive_118 : decode cX0_arrive 118 = .ok (.iinc 7 1, 3) := dk_132 7 1 (dk_at dksX0_arrive_5 3 rfl rfl)
theorem dX0_arrive_121 : decode cX0_arrive 121 = .ok (.goto (-42), 3) := dk_167 255 214 (dk_at dksX0_arrive_5 6 rfl rfl)
theorem dX0_arrive_124 : decode cX0_arrive 124 = .ok (.iinc 5 1, 3) := dk_132 5 1 (dk_at dksX0_arrive_5 9 rfl rfl)
theorem dX0_arrive_127 : decode cX0_arrive 127 = .ok (.goto (-110), 3) := dk_167 255 146 (dk_at dksX0_arrive_5 12 rfl rfl)
theorem dX0_arrive_130 : decode cX0_arrive 130 = .ok (.aload 4, 2) := dk_25 4 (dk_at dksX0_arrive_5 15 rfl rfl)
theorem dX0_arrive_132 : decode cX0_arrive 132 = .ok (.getfield 249, 3) := dk_180 0 249 (dk_at dksX0_arrive_5 17 rfl rfl)
theorem dX0_arrive_135 : decode cX0_arrive 135 = .ok (.ifCond .ne 51, 3) := dk_154 0 51 (dk_at dksX0_arrive_5 20 rfl rfl)
theorem dX0_arrive_138 : decode cX0_arrive 138 = .ok (.aload 4, 2) := dk_25 4 (dk_at dksX0_arrive_6 0 rfl rfl)
theorem dX0_arrive_140 : decode cX0_arrive 140 = .ok (.getfield 251, 3) := dk_180 0 251 (dk_at dksX0_arrive_6 2 rfl rfl)
theorem dX0_arrive_143 : decode cX0_arrive 143 = .ok (.ifCond .ne 43, 3) := dk_154 0 43 (dk_at dksX0_arrive_6 5 rfl rfl)
theorem dX0_arrive_146 : decode cX0_arrive 146 = .ok (.aload_n 0, 1) := dk_42 (dk_at dksX0_arrive_6 8 rfl rfl)
theorem dX0_arrive_147 : decode cX0_arrive 147 = .ok (.dup, 1) := dk_89 (dk_at dksX0_arrive_6 9 rfl rfl)
theorem dX0_arrive_148 : decode cX0_arrive 148 = .ok (.getfield 254, 3) := dk_180 0 254 (dk_at dksX0_arrive_6 10 rfl rfl)
theorem dX0_arrive_151 : decode cX0_arrive 151 = .ok (.aload 4, 2) := dk_25 4 (dk_at dksX0_arrive_6 13 rfl rfl)
theorem dX0_arrive_153 : decode cX0_arrive 153 = .ok (.getfield 257, 3) := dk_180 1 1 (dk_at dksX0_arrive_6 15 rfl rfl)
theorem dX0_arrive_156 : decode cX0_arrive 156 = .ok (.ifCond .eq 7, 3) := dk_153 0 7 (dk_at dksX0_arrive_6 18 rfl rfl)
theorem dX0_arrive_159 : decode cX0_arrive 159 = .ok (.iconst 1, 1) := dk_4 (dk_at dksX0_arrive_6 21 rfl rfl)
theorem dX0_arrive_160 : decode cX0_arrive 160 = .ok (.goto 4, 3) := dk_167 0 4 (dk_at dksX0_arrive_7 0 rfl rfl)
theorem dX0_arrive_163 : decode cX0_arrive 163 = .ok (.iconst 0, 1) := dk_3 (dk_at dksX0_arrive_7 3 rfl rfl)
theorem dX0_arrive_164 : decode cX0_arrive 164 = .ok (.iadd, 1) := dk_96 (dk_at dksX0_arrive_7 4 rfl rfl)
theorem dX0_arrive_165 : decode cX0_arrive 165 = .ok (.putfield 254, 3) := dk_181 0 254 (dk_at dksX0_arrive_7 5 rfl rfl)
theorem dX0_arrive_168 : decode cX0_arrive 168 = .ok (.aload 4, 2) := dk_25 4 (dk_at dksX0_arrive_7 8 rfl rfl)
theorem dX0_arrive_170 : decode cX0_arrive 170 = .ok (.aload 4, 2) := dk_25 4 (dk_at dksX0_arrive_7 10 rfl rfl)
theorem dX0_arrive_172 : decode cX0_arrive 172 = .ok (.getfield 257, 3) := dk_180 1 1 (dk_at dksX0_arrive_7 12 rfl rfl)
theorem dX0_arrive_175 : decode cX0_arrive 175 = .ok (.ifCond .eq 7, 3) := dk_153 0 7 (dk_at dksX0_arrive_7 15 rfl rfl)
theorem dX0_arrive_178 : decode cX0_arrive 178 = .ok (.iconst 0, 1) := dk_3 (dk_at dksX0_arrive_7 18 rfl rfl)
theorem dX0_arrive_179 : decode cX0_arrive 179 = .ok (.goto 4, 3) := dk_167 0 4 (dk_at dksX0_arrive_7 19 rfl rfl)
theorem dX0_arrive_182 : decode cX0_arrive 182 = .ok (.iconst 1, 1) := dk_4 (dk_at dksX0_arrive_7 22 rfl rfl)
theorem dX0_arrive_183 : decode cX0_arrive 183 = .ok (.putfield 249, 3) := dk_181 0 249 (dk_at dksX0_arrive_8 0 rfl rfl)
theorem dX0_arrive_186 : decode cX0_arrive 186 = .ok (.aload_n 0, 1) := dk_42 (dk_at dksX0_arrive_8 3 rfl rfl)
theorem dX0_arrive_187 : decode cX0_arrive 187 = .ok (.aload 4, 2) := dk_25 4 (dk_at dksX0_arrive_8 4 rfl rfl)
theorem dX0_arrive_189 : decode cX0_arrive 189 = .ok (.invokevirtual 260, 3) := dk_182 1 4 (dk_at dksX0_arrive_8 6 rfl rfl)
theorem dX0_arrive_192 : decode cX0_arrive 192 = .ok (.istore 5, 2) := dk_54 5 (dk_at dksX0_arrive_8 9 rfl rfl)
theorem dX0_arrive_194 : decode cX0_arrive 194 = .ok (.aload_n 2, 1) := dk_44 (dk_at dksX0_arrive_8 11 rfl rfl)
theorem dX0_arrive_195 : decode cX0_arrive 195 = .ok (.getfield 264, 3) := dk_180 1 8 (dk_at dksX0_arrive_8 12 rfl rfl)
theorem dX0_arrive_198 : decode cX0_arrive 198 = .ok (.aload_n 1, 1) := dk_43 (dk_at dksX0_arrive_8 15 rfl rfl)
theorem dX0_arrive_199 : decode cX0_arrive 199 = .ok (.getfield 268, 3) := dk_180 1 12 (dk_at dksX0_arrive_8 16 rfl rfl)
theorem dX0_arrive_202 : decode cX0_arrive 202 = .ok (.iconst 1, 1) := dk_4 (dk_at dksX0_arrive_8 19 rfl rfl)
theorem dX0_arrive_203 : decode cX0_arrive 203 = .ok (.bastore, 1) := dk_84 (dk_at dksX0_arrive_8 20 rfl rfl)
theorem dX0_arrive_204 : decode cX0_arrive 204 = .ok (.aload 4, 2) := dk_25 4 (dk_at dksX0_arrive_8 21 rfl rfl)
theorem dX0_arrive_206 : decode cX0_arrive 206 = .ok (.getfield 271, 3) := dk_180 1 15 (dk_at dksX0_arrive_9 0 rfl rfl)
theorem dX0_arrive_209 : decode cX0_arrive 209 = .ok (.ifCond .eq 9, 3) := dk_153 0 9 (dk_at dksX0_arrive_9 3 rfl rfl)
theorem dX0_arrive_212 : decode cX0_arrive 212 = .ok (.aload_n 0, 1) := dk_42 (dk_at dksX0_arrive_9 6 rfl rfl)
theorem dX0_arrive_213 : decode cX0_arrive 213 = .ok (.aload_n 1, 1) := dk_43 (dk_at dksX0_arrive_9 7 rfl rfl)
theorem dX0_arrive_214 : decode cX0_arrive 214 = .ok (.aload_n 2, 1) := dk_44 (dk_at dksX0_arrive_9 8 rfl rfl)
theorem dX0_arrive_215 : decode cX0_arrive 215 = .ok (.invokevirtual 274, 3) := dk_182 1 18 (dk_at dksX0_arrive_9 9 rfl rfl)
theorem dX0_arrive_218 : decode cX0_arrive 218 = .ok (.iload 5, 2) := dk_21 5 (dk_at dksX0_arrive_9 12 rfl rfl)
theorem dX0_arrive_220 : decode cX0_arrive 220 = .ok (.ireturn, 1) := dk_172 (dk_at dksX0_arrive_9 14 rfl rfl)
abbrev cX0_isJunk : ByteArray := prog_1_method_40_code
def yX0_isJunk : MethodName := ⟨RX0, "isJunk", "(LSortedPost$Letter;)Z"⟩
def dkwX0_isJunk_4 : List UInt8 := [132, 6, 1, 167, 255, 182, 32, 22, 4, 148, 158, 0, 7, 4, 167, 0, 4, 3, 172]
abbrev dktX0_isJunk_4 : List UInt8 := dkwX0_isJunk_4 ++ []
def dkwX0_isJunk_3 : List UInt8 := [16, 12, 21, 6, 96, 46, 133, 10, 97, 42, 180, 0, 197, 3, 46, 133, 20, 1, 155, 97, 105, 105, 55, 4]
abbrev dktX0_isJunk_3 : List UInt8 := dkwX0_isJunk_3 ++ dktX0_isJunk_4
def dkwX0_isJunk_2 : List UInt8 := [133, 10, 97, 42, 180, 0, 197, 4, 46, 133, 20, 1, 155, 97, 105, 105, 65, 22, 4, 42, 180, 0, 200]
abbrev dktX0_isJunk_2 : List UInt8 := dkwX0_isJunk_2 ++ dktX0_isJunk_3
def dkwX0_isJunk_1 : List UInt8 := [21, 6, 16, 12, 162, 0, 73, 43, 21, 6, 182, 1, 152, 153, 0, 58, 32, 42, 180, 0, 200, 21, 6, 46]
abbrev dktX0_isJunk_1 : List UInt8 := dkwX0_isJunk_1 ++ dktX0_isJunk_2
def dkwX0_isJunk_0 : List UInt8 := [42, 180, 0, 197, 3, 46, 133, 10, 97, 65, 42, 180, 0, 197, 4, 46, 133, 10, 97, 55, 4, 3, 54, 6]
abbrev dktX0_isJunk_0 : List UInt8 := dkwX0_isJunk_0 ++ dktX0_isJunk_1
theorem dksX0_isJunk_0 : cX0_isJunk.data.toList.drop 0 = dktX0_isJunk_0 := by decide +kernel
theorem dksX0_isJunk_1 : cX0_isJunk.data.toList.drop 24 = dktX0_isJunk_1 := dk_seg dksX0_isJunk_0 24 rfl rfl
theorem dksX0_isJunk_2 : cX0_isJunk.data.toList.drop 48 = dktX0_isJunk_2 := dk_seg dksX0_isJunk_1 24 rfl rfl
theorem dksX0_isJunk_3 : cX0_isJunk.data.toList.drop 71 = dktX0_isJunk_3 := dk_seg dksX0_isJunk_2 23 rfl rfl
theorem dksX0_isJunk_4 : cX0_isJunk.data.toList.drop 95 = dktX0_isJunk_4 := dk_seg dksX0_isJunk_3 24 rfl rfl
theorem dX0_isJunk_0 : decode cX0_isJunk 0 = .ok (.aload_n 0, 1) := dk_42 (dk_at dksX0_isJunk_0 0 rfl rfl)
theorem dX0_isJunk_1 : decode cX0_isJunk 1 = .ok (.getfield 197, 3) := dk_180 0 197 (dk_at dksX0_isJunk_0 1 rfl rfl)
theorem dX0_isJunk_4 : decode cX0_isJunk 4 = .ok (.iconst 0, 1) := dk_3 (dk_at dksX0_isJunk_0 4 rfl rfl)
theorem dX0_isJunk_5 : decode cX0_isJunk 5 = .ok (.iaload, 1) := dk_46 (dk_at dksX0_isJunk_0 5 rfl rfl)
theorem dX0_isJunk_6 : decode cX0_isJunk 6 = .ok (.i2l, 1) := dk_133 (dk_at dksX0_isJunk_0 6 rfl rfl)
theorem dX0_isJunk_7 : decode cX0_isJunk 7 = .ok (.lconst 1, 1) := dk_10 (dk_at dksX0_isJunk_0 7 rfl rfl)
theorem dX0_isJunk_8 : decode cX0_isJunk 8 = .ok (.ladd, 1) := dk_97 (dk_at dksX0_isJunk_0 8 rfl rfl)
theorem dX0_isJunk_9 : decode cX0_isJunk 9 = .ok (.lstore_n 2, 1) := dk_65 (dk_at dksX0_isJunk_0 9 rfl rfl)
theorem dX0_isJunk_10 : decode cX0_isJunk 10 = .ok (.aload_n 0, 1) := dk_42 (dk_at dksX0_isJunk_0 10 rfl rfl)
theorem dX0_isJunk_11 : decode cX0_isJunk 11 = .ok (.getfield 197, 3) := dk_180 0 197 (dk_at dksX0_isJunk_0 11 rfl rfl)
theorem dX0_isJunk_14 : decode cX0_isJunk 14 = .ok (.iconst 1, 1) := dk_4 (dk_at dksX0_isJunk_0 14 rfl rfl)
theorem dX0_isJunk_15 : decode cX0_isJunk 15 = .ok (.iaload, 1) := dk_46 (dk_at dksX0_isJunk_0 15 rfl rfl)
theorem dX0_isJunk_16 : decode cX0_isJunk 16 = .ok (.i2l, 1) := dk_133 (dk_at dksX0_isJunk_0 16 rfl rfl)
theorem dX0_isJunk_17 : decode cX0_isJunk 17 = .ok (.lconst 1, 1) := dk_10 (dk_at dksX0_isJunk_0 17 rfl rfl)
theorem dX0_isJunk_18 : decode cX0_isJunk 18 = .ok (.ladd, 1) := dk_97 (dk_at dksX0_isJunk_0 18 rfl rfl)
theorem dX0_isJunk_19 : decode cX0_isJunk 19 = .ok (.lstore 4, 2) := dk_55 4 (dk_at dksX0_isJunk_0 19 rfl rfl)
theorem dX0_isJunk_21 : decode cX0_isJunk 21 = .ok (.iconst 0, 1) := dk_3 (dk_at dksX0_isJunk_0 21 rfl rfl)
theorem dX0_isJunk_22 : decode cX0_isJunk 22 = .ok (.istore 6, 2) := dk_54 6 (dk_at dksX0_isJunk_0 22 rfl rfl)
theorem dX0_isJunk_24 : decode cX0_isJunk 24 = .ok (.iload 6, 2) := dk_21 6 (dk_at dksX0_isJunk_1 0 rfl rfl)
theorem dX0_isJunk_26 : decode cX0_isJunk 26 = .ok (.bipush 12, 2) := dk_16 12 (dk_at dksX0_isJunk_1 2 rfl rfl)
theorem dX0_isJunk_28 : decode cX0_isJunk 28 = .ok (.if_icmp .ge 73, 3) := dk_162 0 73 (dk_at dksX0_isJunk_1 4 rfl rfl)
theorem dX0_isJunk_31 : decode cX0_isJunk 31 = .ok (.aload_n 1, 1) := dk_43 (dk_at dksX0_isJunk_1 7 rfl rfl)
theorem dX0_isJunk_32 : decode cX0_isJunk 32 = .ok (.iload 6, 2) := dk_21 6 (dk_at dksX0_isJunk_1 8 rfl rfl)
theorem dX0_isJunk_34 : decode cX0_isJunk 34 = .ok (.invokevirtual 408, 3) := dk_182 1 152 (dk_at dksX0_isJunk_1 10 rfl rfl)
theorem dX0_isJunk_37 : decode cX0_isJunk 37 = .ok (.ifCond .eq 58, 3) := dk_153 0 58 (dk_at dksX0_isJunk_1 13 rfl rfl)
theorem dX0_isJunk_40 : decode cX0_isJunk 40 = .ok (.lload_n 2, 1) := dk_32 (dk_at dksX0_isJunk_1 16 rfl rfl)
theorem dX0_isJunk_41 : decode cX0_isJunk 41 = .ok (.aload_n 0, 1) := dk_42 (dk_at dksX0_isJunk_1 17 rfl rfl)
theorem dX0_isJunk_42 : decode cX0_isJunk 42 = .ok (.getfield 200, 3) := dk_180 0 200 (dk_at dksX0_isJunk_1 18 rfl rfl)
theorem dX0_isJunk_45 : decode cX0_isJunk 45 = .ok (.iload 6, 2) := dk_21 6 (dk_at dksX0_isJunk_1 21 rfl rfl)
theorem dX0_isJunk_47 : decode cX0_isJunk 47 = .ok (.iaload, 1) := dk_46 (dk_at dksX0_isJunk_1 23 rfl rfl)
theorem dX0_isJunk_48 : decode cX0_isJunk 48 = .ok (.i2l, 1) := dk_133 (dk_at dksX0_isJunk_2 0 rfl rfl)
theorem dX0_isJunk_49 : decode cX0_isJunk 49 = .ok (.lconst 1, 1) := dk_10 (dk_at dksX0_isJunk_2 1 rfl rfl)
theorem dX0_isJunk_50 : decode cX0_isJunk 50 = .ok (.ladd, 1) := dk_97 (dk_at dksX0_isJunk_2 2 rfl rfl)
theorem dX0_isJunk_51 : decode cX0_isJunk 51 = .ok (.aload_n 0, 1) := dk_42 (dk_at dksX0_isJunk_2 3 rfl rfl)
theorem dX0_isJunk_52 : decode cX0_isJunk 52 = .ok (.getfield 197, 3) := dk_180 0 197 (dk_at dksX0_isJunk_2 4 rfl rfl)
theorem dX0_isJunk_55 : decode cX0_isJunk 55 = .ok (.iconst 1, 1) := dk_4 (dk_at dksX0_isJunk_2 7 rfl rfl)
theorem dX0_isJunk_56 : decode cX0_isJunk 56 = .ok (.iaload, 1) := dk_46 (dk_at dksX0_isJunk_2 8 rfl rfl)
theorem dX0_isJunk_57 : decode cX0_isJunk 57 = .ok (.i2l, 1) := dk_133 (dk_at dksX0_isJunk_2 9 rfl rfl)
theorem dX0_isJunk_58 : decode cX0_isJunk 58 = .ok (.ldc2_w 411, 3) := dk_20 1 155 (dk_at dksX0_isJunk_2 10 rfl rfl)
theorem dX0_isJunk_61 : decode cX0_isJunk 61 = .ok (.ladd, 1) := dk_97 (dk_at dksX0_isJunk_2 13 rfl rfl)
theorem dX0_isJunk_62 : decode cX0_isJunk 62 = .ok (.lmul, 1) := dk_105 (dk_at dksX0_isJunk_2 14 rfl rfl)
theorem dX0_isJunk_63 : decode cX0_isJunk 63 = .ok (.lmul, 1) := dk_105 (dk_at dksX0_isJunk_2 15 rfl rfl)
theorem dX0_isJunk_64 : decode cX0_isJunk 64 = .ok (.lstore_n 2, 1) := dk_65 (dk_at dksX0_isJunk_2 16 rfl rfl)
theorem dX0_isJunk_65 : decode cX0_isJunk 65 = .ok (.lload 4, 2) := dk_22 4 (dk_at dksX0_isJunk_2 17 rfl rfl)
theorem dX0_isJunk_67 : decode cX0_isJunk 67 = .ok (.aload_n 0, 1) := dk_42 (dk_at dksX0_isJunk_2 19 rfl rfl)
theorem dX0_isJunk_68 : decode cX0_isJunk 68 = .ok (.getfield 200, 3) := dk_180 0 200 (dk_at dksX0_isJunk_2 20 rfl rfl)
theorem dX0_isJunk_71 : decode cX0_isJunk 71 = .ok (.bipush 12, 2) := dk_16 12 (dk_at dksX0_isJunk_3 0 rfl rfl)
theorem dX0_isJunk_73 : decode cX0_isJunk 73 = .ok (.iload 6, 2) := dk_21 6 (dk_at dksX0_isJunk_3 2 rfl rfl)
theorem dX0_isJunk_75 : decode cX0_isJunk 75 = .ok (.iadd, 1) := dk_96 (dk_at dksX0_isJunk_3 4 rfl rfl)
theorem dX0_isJunk_76 : decode cX0_isJunk 76 = .ok (.iaload, 1) := dk_46 (dk_at dksX0_isJunk_3 5 rfl rfl)
theorem dX0_isJunk_77 : decode cX0_isJunk 77 = .ok (.i2l, 1) := dk_133 (dk_at dksX0_isJunk_3 6 rfl rfl)
theorem dX0_isJunk_78 : decode cX0_isJunk 78 = .ok (.lconst 1, 1) := dk_10 (dk_at dksX0_isJunk_3 7 rfl rfl)
theorem dX0_isJunk_79 : decode cX0_isJunk 79 = .ok (.ladd, 1) := dk_97 (dk_at dksX0_isJunk_3 8 rfl rfl)
theorem dX0_isJunk_80 : decode cX0_isJunk 80 = .ok (.aload_n 0, 1) := dk_42 (dk_at dksX0_isJunk_3 9 rfl rfl)
theorem dX0_isJunk_81 : decode cX0_isJunk 81 = .ok (.getfield 197, 3) := dk_180 0 197 (dk_at dksX0_isJunk_3 10 rfl rfl)
theorem dX0_isJunk_84 : decode cX0_isJunk 84 = .ok (.iconst 0, 1) := dk_3 (dk_at dksX0_isJunk_3 13 rfl rfl)
theorem dX0_isJunk_85 : decode cX0_isJunk 85 = .ok (.iaload, 1) := dk_46 (dk_at dksX0_isJunk_3 14 rfl rfl)
theorem dX0_isJunk_86 : decode cX0_isJunk 86 = .ok (.i2l, 1) := dk_133 (dk_at dksX0_isJunk_3 15 rfl rfl)
theorem dX0_isJunk_87 : decode cX0_isJunk 87 = .ok (.ldc2_w 411, 3) := dk_20 1 155 (dk_at dksX0_isJunk_3 16 rfl rfl)
theorem dX0_isJunk_90 : decode cX0_isJunk 90 = .ok (.ladd, 1) := dk_97 (dk_at dksX0_isJunk_3 19 rfl rfl)
theorem dX0_isJunk_91 : decode cX0_isJunk 91 = .ok (.lmul, 1) := dk_105 (dk_at dksX0_isJunk_3 20 rfl rfl)
theorem dX0_isJunk_92 : decode cX0_isJunk 92 = .ok (.lmul, 1) := dk_105 (dk_at dksX0_isJunk_3 21 rfl rfl)
theorem dX0_isJunk_93 : decode cX0_isJunk 93 = .ok (.lstore 4, 2) := dk_55 4 (dk_at dksX0_isJunk_3 22 rfl rfl)
theorem dX0_isJunk_95 : decode cX0_isJunk 95 = .ok (.iinc 6 1, 3) := dk_132 6 1 (dk_at dksX0_isJunk_4 0 rfl rfl)
theorem dX0_isJunk_98 : decode cX0_isJunk 98 = .ok (.goto (-74), 3) := dk_167 255 182 (dk_at dksX0_isJunk_4 3 rfl rfl)
theorem dX0_isJunk_101 : decode cX0_isJunk 101 = .ok (.lload_n 2, 1) := dk_32 (dk_at dksX0_isJunk_4 6 rfl rfl)
theorem dX0_isJunk_102 : decode cX0_isJunk 102 = .ok (.lload 4, 2) := dk_22 4 (dk_at dksX0_isJunk_4 7 rfl rfl)
theorem dX0_isJunk_104 : decode cX0_isJunk 104 = .ok (.lcmp, 1) := dk_148 (dk_at dksX0_isJunk_4 9 rfl rfl)
theorem dX0_isJunk_105 : decode cX0_isJunk 105 = .ok (.ifCond .le 7, 3) := dk_158 0 7 (dk_at dksX0_isJunk_4 10 rfl rfl)
theorem dX0_isJunk_108 : decode cX0_isJunk 108 = .ok (.iconst 1, 1) := dk_4 (dk_at dksX0_isJunk_4 13 rfl rfl)
theorem dX0_isJunk_109 : decode cX0_isJunk 109 = .ok (.goto 4, 3) := dk_167 0 4 (dk_at dksX0_isJunk_4 14 rfl rfl)
theorem dX0_isJunk_112 : decode cX0_isJunk 112 = .ok (.iconst 0, 1) := dk_3 (dk_at dksX0_isJunk_4 17 rfl rfl)
theorem dX0_isJunk_113 : decode cX0_isJunk 113 = .ok (.ireturn, 1) := dk_172 (dk_at dksX0_isJunk_4 18 rfl rfl)
abbrev cX0_file : ByteArray := prog_1_method_23_code
def yX0_file : MethodName := ⟨RX0, "file", "(LSortedPost$Arrival;)I"⟩
def dkwX0_file_6 : List UInt8 := [167, 255, 200, 42, 89, 180, 1, 44, 29, 96, 181, 1, 44, 29, 172]
abbrev dktX0_file_6 : List UInt8 := dkwX0_file_6 ++ []
def dkwX0_file_5 : List UInt8 := [180, 1, 34, 43, 180, 1, 38, 183, 1, 41, 185, 0, 116, 2, 0, 87, 132, 3, 1, 132, 4, 1]
abbrev dktX0_file_5 : List UInt8 := dkwX0_file_5 ++ dktX0_file_6
def dkwX0_file_4 : List UInt8 := [4, 126, 4, 160, 0, 40, 43, 180, 1, 22, 180, 0, 220, 21, 4, 50, 180, 1, 26, 187, 1, 32, 89, 43]
abbrev dktX0_file_4 : List UInt8 := dkwX0_file_4 ++ dktX0_file_5
def dkwX0_file_3 : List UInt8 := [181, 1, 29, 132, 3, 1, 167, 255, 187, 3, 62, 3, 54, 4, 21, 4, 7, 162, 0, 56, 28, 21, 4, 122]
abbrev dktX0_file_3 : List UInt8 := dkwX0_file_3 ++ dktX0_file_4
def dkwX0_file_2 : List UInt8 := [180, 0, 224, 161, 0, 23, 28, 4, 29, 120, 2, 130, 126, 4, 128, 61, 42, 89, 180, 1, 29, 4, 96]
abbrev dktX0_file_2 : List UInt8 := dkwX0_file_2 ++ dktX0_file_3
def dkwX0_file_1 : List UInt8 := [180, 0, 249, 29, 122, 4, 126, 4, 160, 0, 41, 25, 4, 180, 1, 26, 185, 0, 100, 1, 0, 25, 4]
abbrev dktX0_file_1 : List UInt8 := dkwX0_file_1 ++ dktX0_file_2
def dkwX0_file_0 : List UInt8 := [43, 180, 0, 249, 61, 4, 62, 29, 7, 162, 0, 70, 43, 180, 1, 22, 180, 0, 220, 29, 50, 58, 4, 43]
abbrev dktX0_file_0 : List UInt8 := dkwX0_file_0 ++ dktX0_file_1
theorem dksX0_file_0 : cX0_file.data.toList.drop 0 = dktX0_file_0 := by decide +kernel
theorem dksX0_file_1 : cX0_file.data.toList.drop 24 = dktX0_file_1 := dk_seg dksX0_file_0 24 rfl rfl
theorem dksX0_file_2 : cX0_file.data.toList.drop 47 = dktX0_file_2 := dk_seg dksX0_file_1 23 rfl rfl
theorem dksX0_file_3 : cX0_file.data.toList.drop 70 = dktX0_file_3 := dk_seg dksX0_file_2 23 rfl rfl
theorem dksX0_file_4 : cX0_file.data.toList.drop 94 = dktX0_file_4 := dk_seg dksX0_file_3 24 rfl rfl
theorem dksX0_file_5 : cX0_file.data.toList.drop 118 = dktX0_file_5 := dk_seg dksX0_file_4 24 rfl rfl
theorem dksX0_file_6 : cX0_file.data.toList.drop 140 = dktX0_file_6 := dk_seg dksX0_file_5 22 rfl rfl
theorem dX0_file_0 : decode cX0_file 0 = .ok (.aload_n 1, 1) := dk_43 (dk_at dksX0_file_0 0 rfl rfl)
theorem dX0_file_1 : decode cX0_file 1 = .ok (.getfield 249, 3) := dk_180 0 249 (dk_at dksX0_file_0 1 rfl rfl)
theorem dX0_file_4 : decode cX0_file 4 = .ok (.istore_n 2, 1) := dk_61 (dk_at dksX0_file_0 4 rfl rfl)
theorem dX0_file_5 : decode cX0_file 5 = .ok (.iconst 1, 1) := dk_4 (dk_at dksX0_file_0 5 rfl rfl)
theorem dX0_file_6 : decode cX0_file 6 = .ok (.istore_n 3, 1) := dk_62 (dk_at dksX0_file_0 6 rfl rfl)
theorem dX0_file_7 : decode cX0_file 7 = .ok (.iload_n 3, 1) := dk_29 (dk_at dksX0_file_0 7 rfl rfl)
theorem dX0_file_8 : decode cX0_file 8 = .ok (.iconst 4, 1) := dk_7 (dk_at dksX0_file_0 8 rfl rfl)
theorem dX0_file_9 : decode cX0_file 9 = .ok (.if_icmp .ge 70, 3) := dk_162 0 70 (dk_at dksX0_file_0 9 rfl rfl)
theorem dX0_file_12 : decode cX0_file 12 = .ok (.aload_n 1, 1) := dk_43 (dk_at dksX0_file_0 12 rfl rfl)
theorem dX0_file_13 : decode cX0_file 13 = .ok (.getfield 278, 3) := dk_180 1 22 (dk_at dksX0_file_0 13 rfl rfl)
theorem dX0_file_16 : decode cX0_file 16 = .ok (.getfield 220, 3) := dk_180 0 220 (dk_at dksX0_file_0 16 rfl rfl)
theorem dX0_file_19 : decode cX0_file 19 = .ok (.iload_n 3, 1) := dk_29 (dk_at dksX0_file_0 19 rfl rfl)
theorem dX0_file_20 : decode cX0_file 20 = .ok (.aaload, 1) := dk_50 (dk_at dksX0_file_0 20 rfl rfl)
theorem dX0_file_21 : decode cX0_file 21 = .ok (.astore 4, 2) := dk_58 4 (dk_at dksX0_file_0 21 rfl rfl)
theorem dX0_file_23 : decode cX0_file 23 = .ok (.aload_n 1, 1) := dk_43 (dk_at dksX0_file_0 23 rfl rfl)
theorem dX0_file_24 : decode cX0_file 24 = .ok (.getfield 249, 3) := dk_180 0 249 (dk_at dksX0_file_1 0 rfl rfl)
theorem dX0_file_27 : decode cX0_file 27 = .ok (.iload_n 3, 1) := dk_29 (dk_at dksX0_file_1 3 rfl rfl)
theorem dX0_file_28 : decode cX0_file 28 = .ok (.ishr, 1) := dk_122 (dk_at dksX0_file_1 4 rfl rfl)
theorem dX0_file_29 : decode cX0_file 29 = .ok (.iconst 1, 1) := dk_4 (dk_at dksX0_file_1 5 rfl rfl)
theorem dX0_file_30 : decode cX0_file 30 = .ok (.iand, 1) := dk_126 (dk_at dksX0_file_1 6 rfl rfl)
theorem dX0_file_31 : decode cX0_file 31 = .ok (.iconst 1, 1) := dk_4 (dk_at dksX0_file_1 7 rfl rfl)
theorem dX0_file_32 : decode cX0_file 32 = .ok (.if_icmp .ne 41, 3) := dk_160 0 41 (dk_at dksX0_file_1 8 rfl rfl)
theorem dX0_file_35 : decode cX0_file 35 = .ok (.aload 4, 2) := dk_25 4 (dk_at dksX0_file_1 11 rfl rfl)
theorem dX0_file_37 : decode cX0_file 37 = .ok (.getfield 282, 3) := dk_180 1 26 (dk_at dksX0_file_1 13 rfl rfl)
theorem dX0_file_40 : decode cX0_file 40 = .ok (.invokeinterface 100 1, 5) := by decide +kernel
theorem dX0_file_45 : decode cX0_file 45 = .ok (.aload 4, 2) := dk_25 4 (dk_at dksX0_file_1 21 rfl rfl)
theorem dX0_file_47 : decode cX0_file 47 = .ok (.getfield 224, 3) := dk_180 0 224 (dk_at dksX0_file_2 0 rfl rfl)
theorem dX0_file_50 : decode cX0_file 50 = .ok (.if_icmp .lt 23, 3) := dk_161 0 23 (dk_at dksX0_file_2 3 rfl rfl)
theorem dX0_file_53 : decode cX0_file 53 = .ok (.iload_n 2, 1) := dk_28 (dk_at dksX0_file_2 6 rfl rfl)
theorem dX0_file_54 : decode cX0_file 54 = .ok (.iconst 1, 1) := dk_4 (dk_at dksX0_file_2 7 rfl rfl)
theorem dX0_file_55 : decode cX0_file 55 = .ok (.iload_n 3, 1) := dk_29 (dk_at dksX0_file_2 8 rfl rfl)
theorem dX0_file_56 : decode cX0_file 56 = .ok (.ishl, 1) := dk_120 (dk_at dksX0_file_2 9 rfl rfl)
theorem dX0_file_57 : decode cX0_file 57 = .ok (.iconst (-1), 1) := dk_2 (dk_at dksX0_file_2 10 rfl rfl)
theorem dX0_file_58 : decode cX0_file 58 = .ok (.ixor, 1) := dk_130 (dk_at dksX0_file_2 11 rfl rfl)
theorem dX0_file_59 : decode cX0_file 59 = .ok (.iand, 1) := dk_126 (dk_at dksX0_file_2 12 rfl rfl)
theorem dX0_file_60 : decode cX0_file 60 = .ok (.iconst 1, 1) := dk_4 (dk_at dksX0_file_2 13 rfl rfl)
theorem dX0_file_61 : decode cX0_file 61 = .ok (.ior, 1) := dk_128 (dk_at dksX0_file_2 14 rfl rfl)
theorem dX0_file_62 : decode cX0_file 62 = .ok (.istore_n 2, 1) := dk_61 (dk_at dksX0_file_2 15 rfl rfl)
theorem dX0_file_63 : decode cX0_file 63 = .ok (.aload_n 0, 1) := dk_42 (dk_at dksX0_file_2 16 rfl rfl)
theorem dX0_file_64 : decode cX0_file 64 = .ok (.dup, 1) := dk_89 (dk_at dksX0_file_2 17 rfl rfl)
theorem dX0_file_65 : decode cX0_file 65 = .ok (.getfield 285, 3) := dk_180 1 29 (dk_at dksX0_file_2 18 rfl rfl)
theorem dX0_file_68 : decode cX0_file 68 = .ok (.iconst 1, 1) := dk_4 (dk_at dksX0_file_2 21 rfl rfl)
theorem dX0_file_69 : decode cX0_file 69 = .ok (.iadd, 1) := dk_96 (dk_at dksX0_file_2 22 rfl rfl)
theorem dX0_file_70 : decode cX0_file 70 = .ok (.putfield 285, 3) := dk_181 1 29 (dk_at dksX0_file_3 0 rfl rfl)
theorem dX0_file_73 : decode cX0_file 73 = .ok (.iinc 3 1, 3) := dk_132 3 1 (dk_at dksX0_file_3 3 rfl rfl)
theorem dX0_file_76 : decode cX0_file 76 = .ok (.goto (-69), 3) := dk_167 255 187 (dk_at dksX0_file_3 6 rfl rfl)
theorem dX0_file_79 : decode cX0_file 79 = .ok (.iconst 0, 1) := dk_3 (dk_at dksX0_file_3 9 rfl rfl)
theorem dX0_file_80 : decode cX0_file 80 = .ok (.istore_n 3, 1) := dk_62 (dk_at dksX0_file_3 10 rfl rfl)
theorem dX0_file_81 : decode cX0_file 81 = .ok (.iconst 0, 1) := dk_3 (dk_at dksX0_file_3 11 rfl rfl)
theorem dX0_file_82 : decode cX0_file 82 = .ok (.istore 4, 2) := dk_54 4 (dk_at dksX0_file_3 12 rfl rfl)
theorem dX0_file_84 : decode cX0_file 84 = .ok (.iload 4, 2) := dk_21 4 (dk_at dksX0_file_3 14 rfl rfl)
theorem dX0_file_86 : decode cX0_file 86 = .ok (.iconst 4, 1) := dk_7 (dk_at dksX0_file_3 16 rfl rfl)
theorem dX0_file_87 : decode cX0_file 87 = .ok (.if_icmp .ge 56, 3) := dk_162 0 56 (dk_at dksX0_file_3 17 rfl rfl)
theorem dX0_file_90 : decode cX0_file 90 = .ok (.iload_n 2, 1) := dk_28 (dk_at dksX0_file_3 20 rfl rfl)
theorem dX0_file_91 : decode cX0_file 91 = .ok (.iload 4, 2) := dk_21 4 (dk_at dksX0_file_3 21 rfl rfl)
theorem dX0_file_93 : decode cX0_file 93 = .ok (.ishr, 1) := dk_122 (dk_at dksX0_file_3 23 rfl rfl)
theorem dX0_file_94 : decode cX0_file 94 = .ok (.iconst 1, 1) := dk_4 (dk_at dksX0_file_4 0 rfl rfl)
theorem dX0_file_95 : decode cX0_file 95 = .ok (.iand, 1) := dk_126 (dk_at dksX0_file_4 1 rfl rfl)
theorem dX0_file_96 : decode cX0_file 96 = .ok (.iconst 1, 1) := dk_4 (dk_at dksX0_file_4 2 rfl rfl)
theorem dX0_file_97 : decode cX0_file 97 = .ok (.if_icmp .ne 40, 3) := dk_160 0 40 (dk_at dksX0_file_4 3 rfl rfl)
theorem dX0_file_100 : decode cX0_file 100 = .ok (.aload_n 1, 1) := dk_43 (dk_at dksX0_file_4 6 rfl rfl)
theorem dX0_file_101 : decode cX0_file 101 = .ok (.getfield 278, 3) := dk_180 1 22 (dk_at dksX0_file_4 7 rfl rfl)
theorem dX0_file_104 : decode cX0_file 104 = .ok (.getfield 220, 3) := dk_180 0 220 (dk_at dksX0_file_4 10 rfl rfl)
theorem dX0_file_107 : decode cX0_file 107 = .ok (.iload 4, 2) := dk_21 4 (dk_at dksX0_file_4 13 rfl rfl)
theorem dX0_file_109 : decode cX0_file 109 = .ok (.aaload, 1) := dk_50 (dk_at dksX0_file_4 15 rfl rfl)
theorem dX0_file_110 : decode cX0_file 110 = .ok (.getfield 282, 3) := dk_180 1 26 (dk_at dksX0_file_4 16 rfl rfl)
theorem dX0_file_113 : decode cX0_file 113 = .ok (.new 288, 3) := dk_187 1 32 (dk_at dksX0_file_4 19 rfl rfl)
theorem dX0_file_116 : decode cX0_file 116 = .ok (.dup, 1) := dk_89 (dk_at dksX0_file_4 22 rfl rfl)
theorem dX0_file_117 : decode cX0_file 117 = .ok (.aload_n 1, 1) := dk_43 (dk_at dksX0_file_4 23 rfl rfl)
theorem dX0_file_118 : decode cX0_file 118 = .ok (.getfield 290, 3) := dk_180 1 34 (dk_at dksX0_file_5 0 rfl rfl)
theorem dX0_file_121 : decode cX0_file 121 = .ok (.aload_n 1, 1) := dk_43 (dk_at dksX0_file_5 3 rfl rfl)
theorem dX0_file_122 : decode cX0_file 122 = .ok (.getfield 294, 3) := dk_180 1 38 (dk_at dksX0_file_5 4 rfl rfl)
theorem dX0_file_125 : decode cX0_file 125 = .ok (.invokespecial 297, 3) := dk_183 1 41 (dk_at dksX0_file_5 7 rfl rfl)
theorem dX0_file_128 : decode cX0_file 128 = .ok (.invokeinterface 116 2, 5) := by decide +kernel
theorem dX0_file_133 : decode cX0_file 133 = .ok (.pop, 1) := dk_87 (dk_at dksX0_file_5 15 rfl rfl)
theorem dX0_file_134 : decode cX0_file 134 = .ok (.iinc 3 1, 3) := dk_132 3 1 (dk_at dksX0_file_5 16 rfl rfl)
theorem dX0_file_137 : decode cX0_file 137 = .ok (.iinc 4 1, 3) := dk_132 4 1 (dk_at dksX0_file_5 19 rfl rfl)
theorem dX0_file_140 : decode cX0_file 140 = .ok (.goto (-56), 3) := dk_167 255 200 (dk_at dksX0_file_6 0 rfl rfl)
theorem dX0_file_143 : decode cX0_file 143 = .ok (.aload_n 0, 1) := dk_42 (dk_at dksX0_file_6 3 rfl rfl)
theorem dX0_file_144 : decode cX0_file 144 = .ok (.dup, 1) := dk_89 (dk_at dksX0_file_6 4 rfl rfl)
theorem dX0_file_145 : decode cX0_file 145 = .ok (.getfield 300, 3) := dk_180 1 44 (dk_at dksX0_file_6 5 rfl rfl)
theorem dX0_file_148 : decode cX0_file 148 = .ok (.iload_n 3, 1) := dk_29 (dk_at dksX0_file_6 8 rfl rfl)
theorem dX0_file_149 : decode cX0_file 149 = .ok (.iadd, 1) := dk_96 (dk_at dksX0_file_6 9 rfl rfl)
theorem dX0_file_150 : decode cX0_file 150 = .ok (.putfield 300, 3) := dk_181 1 44 (dk_at dksX0_file_6 10 rfl rfl)
theorem dX0_file_153 : decode cX0_file 153 = .ok (.iload_n 3, 1) := dk_29 (dk_at dksX0_file_6 13 rfl rfl)
theorem dX0_file_154 : decode cX0_file 154 = .ok (.ireturn, 1) := dk_172 (dk_at dksX0_file_6 14 rfl rfl)
abbrev cX0_sendBack : ByteArray := prog_1_method_24_code
def yX0_sendBack : MethodName := ⟨RX0, "sendBack", "(LSortedPost$Letter;LSortedPost$Box;)V"⟩
def dkwX0_sendBack_3 : List UInt8 := [180, 1, 48, 184, 0, 148, 153, 0, 14, 42, 25, 4, 43, 180, 1, 48, 3, 182, 1, 60, 177]
abbrev dktX0_sendBack_3 : List UInt8 := dkwX0_sendBack_3 ++ []
def dkwX0_sendBack_2 : List UInt8 := [180, 0, 169, 25, 4, 185, 0, 116, 2, 0, 87, 42, 89, 180, 1, 57, 4, 96, 181, 1, 57, 43]
abbrev dktX0_sendBack_2 : List UInt8 := dkwX0_sendBack_2 ++ dktX0_sendBack_3
def dkwX0_sendBack_1 : List UInt8 := [120, 3, 16, 100, 5, 17, 39, 16, 29, 96, 43, 180, 1, 12, 43, 180, 1, 51, 183, 1, 54, 58, 4, 42]
abbrev dktX0_sendBack_1 : List UInt8 := dkwX0_sendBack_1 ++ dktX0_sendBack_2
def dkwX0_sendBack_0 : List UInt8 := [42, 180, 0, 169, 185, 0, 100, 1, 0, 62, 187, 0, 176, 89, 29, 44, 180, 1, 46, 4, 43, 180, 1, 48]
abbrev dktX0_sendBack_0 : List UInt8 := dkwX0_sendBack_0 ++ dktX0_sendBack_1
theorem dksX0_sendBack_0 : cX0_sendBack.data.toList.drop 0 = dktX0_sendBack_0 := by decide +kernel
theorem dksX0_sendBack_1 : cX0_sendBack.data.toList.drop 24 = dktX0_sendBack_1 := dk_seg dksX0_sendBack_0 24 rfl rfl
theorem dksX0_sendBack_2 : cX0_sendBack.data.toList.drop 48 = dktX0_sendBack_2 := dk_seg dksX0_sendBack_1 24 rfl rfl
theorem dksX0_sendBack_3 : cX0_sendBack.data.toList.drop 70 = dktX0_sendBack_3 := dk_seg dksX0_sendBack_2 22 rfl rfl
theorem dX0_sendBack_0 : decode cX0_sendBack 0 = .ok (.aload_n 0, 1) := dk_42 (dk_at dksX0_sendBack_0 0 rfl rfl)
theorem dX0_sendBack_1 : decode cX0_sendBack 1 = .ok (.getfield 169, 3) := dk_180 0 169 (dk_at dksX0_sendBack_0 1 rfl rfl)
theorem dX0_sendBack_4 : decode cX0_sendBack 4 = .ok (.invokeinterface 100 1, 5) := by decide +kernel
theorem dX0_sendBack_9 : decode cX0_sendBack 9 = .ok (.istore_n 3, 1) := dk_62 (dk_at dksX0_sendBack_0 9 rfl rfl)
theorem dX0_sendBack_10 : decode cX0_sendBack 10 = .ok (.new 176, 3) := dk_187 0 176 (dk_at dksX0_sendBack_0 10 rfl rfl)
theorem dX0_sendBack_13 : decode cX0_sendBack 13 = .ok (.dup, 1) := dk_89 (dk_at dksX0_sendBack_0 13 rfl rfl)
theorem dX0_sendBack_14 : decode cX0_sendBack 14 = .ok (.iload_n 3, 1) := dk_29 (dk_at dksX0_sendBack_0 14 rfl rfl)
theorem dX0_sendBack_15 : decode cX0_sendBack 15 = .ok (.aload_n 2, 1) := dk_44 (dk_at dksX0_sendBack_0 15 rfl rfl)
theorem dX0_sendBack_16 : decode cX0_sendBack 16 = .ok (.getfield 302, 3) := dk_180 1 46 (dk_at dksX0_sendBack_0 16 rfl rfl)
theorem dX0_sendBack_19 : decode cX0_sendBack 19 = .ok (.iconst 1, 1) := dk_4 (dk_at dksX0_sendBack_0 19 rfl rfl)
theorem dX0_sendBack_20 : decode cX0_sendBack 20 = .ok (.aload_n 1, 1) := dk_43 (dk_at dksX0_sendBack_0 20 rfl rfl)
theorem dX0_sendBack_21 : decode cX0_sendBack 21 = .ok (.getfield 304, 3) := dk_180 1 48 (dk_at dksX0_sendBack_0 21 rfl rfl)
theorem dX0_sendBack_24 : decode cX0_sendBack 24 = .ok (.ishl, 1) := dk_120 (dk_at dksX0_sendBack_1 0 rfl rfl)
theorem dX0_sendBack_25 : decode cX0_sendBack 25 = .ok (.iconst 0, 1) := dk_3 (dk_at dksX0_sendBack_1 1 rfl rfl)
theorem dX0_sendBack_26 : decode cX0_sendBack 26 = .ok (.bipush 100, 2) := dk_16 100 (dk_at dksX0_sendBack_1 2 rfl rfl)
theorem dX0_sendBack_28 : decode cX0_sendBack 28 = .ok (.iconst 2, 1) := dk_5 (dk_at dksX0_sendBack_1 4 rfl rfl)
theorem dX0_sendBack_29 : decode cX0_sendBack 29 = .ok (.sipush 10000, 3) := dk_17 39 16 (dk_at dksX0_sendBack_1 5 rfl rfl)
theorem dX0_sendBack_32 : decode cX0_sendBack 32 = .ok (.iload_n 3, 1) := dk_29 (dk_at dksX0_sendBack_1 8 rfl rfl)
theorem dX0_sendBack_33 : decode cX0_sendBack 33 = .ok (.iadd, 1) := dk_96 (dk_at dksX0_sendBack_1 9 rfl rfl)
theorem dX0_sendBack_34 : decode cX0_sendBack 34 = .ok (.aload_n 1, 1) := dk_43 (dk_at dksX0_sendBack_1 10 rfl rfl)
theorem dX0_sendBack_35 : decode cX0_sendBack 35 = .ok (.getfield 268, 3) := dk_180 1 12 (dk_at dksX0_sendBack_1 11 rfl rfl)
theorem dX0_sendBack_38 : decode cX0_sendBack 38 = .ok (.aload_n 1, 1) := dk_43 (dk_at dksX0_sendBack_1 14 rfl rfl)
theorem dX0_sendBack_39 : decode cX0_sendBack 39 = .ok (.getfield 307, 3) := dk_180 1 51 (dk_at dksX0_sendBack_1 15 rfl rfl)
theorem dX0_sendBack_42 : decode cX0_sendBack 42 = .ok (.invokespecial 310, 3) := dk_183 1 54 (dk_at dksX0_sendBack_1 18 rfl rfl)
theorem dX0_sendBack_45 : decode cX0_sendBack 45 = .ok (.astore 4, 2) := dk_58 4 (dk_at dksX0_sendBack_1 21 rfl rfl)
theorem dX0_sendBack_47 : decode cX0_sendBack 47 = .ok (.aload_n 0, 1) := dk_42 (dk_at dksX0_sendBack_1 23 rfl rfl)
theorem dX0_sendBack_48 : decode cX0_sendBack 48 = .ok (.getfield 169, 3) := dk_180 0 169 (dk_at dksX0_sendBack_2 0 rfl rfl)
theorem dX0_sendBack_51 : decode cX0_sendBack 51 = .ok (.aload 4, 2) := dk_25 4 (dk_at dksX0_sendBack_2 3 rfl rfl)
theorem dX0_sendBack_53 : decode cX0_sendBack 53 = .ok (.invokeinterface 116 2, 5) := by decide +kernel
theorem dX0_sendBack_58 : decode cX0_sendBack 58 = .ok (.pop, 1) := dk_87 (dk_at dksX0_sendBack_2 10 rfl rfl)
theorem dX0_sendBack_59 : decode cX0_sendBack 59 = .ok (.aload_n 0, 1) := dk_42 (dk_at dksX0_sendBack_2 11 rfl rfl)
theorem dX0_sendBack_60 : decode cX0_sendBack 60 = .ok (.dup, 1) := dk_89 (dk_at dksX0_sendBack_2 12 rfl rfl)
theorem dX0_sendBack_61 : decode cX0_sendBack 61 = .ok (.getfield 313, 3) := dk_180 1 57 (dk_at dksX0_sendBack_2 13 rfl rfl)
theorem dX0_sendBack_64 : decode cX0_sendBack 64 = .ok (.iconst 1, 1) := dk_4 (dk_at dksX0_sendBack_2 16 rfl rfl)
theorem dX0_sendBack_65 : decode cX0_sendBack 65 = .ok (.iadd, 1) := dk_96 (dk_at dksX0_sendBack_2 17 rfl rfl)
theorem dX0_sendBack_66 : decode cX0_sendBack 66 = .ok (.putfield 313, 3) := dk_181 1 57 (dk_at dksX0_sendBack_2 18 rfl rfl)
theorem dX0_sendBack_69 : decode cX0_sendBack 69 = .ok (.aload_n 1, 1) := dk_43 (dk_at dksX0_sendBack_2 21 rfl rfl)
theorem dX0_sendBack_70 : decode cX0_sendBack 70 = .ok (.getfield 304, 3) := dk_180 1 48 (dk_at dksX0_sendBack_3 0 rfl rfl)
theorem dX0_sendBack_73 : decode cX0_sendBack 73 = .ok (.invokestatic 148, 3) := dk_184 0 148 (dk_at dksX0_sendBack_3 3 rfl rfl)
theorem dX0_sendBack_76 : decode cX0_sendBack 76 = .ok (.ifCond .eq 14, 3) := dk_153 0 14 (dk_at dksX0_sendBack_3 6 rfl rfl)
theorem dX0_sendBack_79 : decode cX0_sendBack 79 = .ok (.aload_n 0, 1) := dk_42 (dk_at dksX0_sendBack_3 9 rfl rfl)
theorem dX0_sendBack_80 : decode cX0_sendBack 80 = .ok (.aload 4, 2) := dk_25 4 (dk_at dksX0_sendBack_3 10 rfl rfl)
theorem dX0_sendBack_82 : decode cX0_sendBack 82 = .ok (.aload_n 1, 1) := dk_43 (dk_at dksX0_sendBack_3 12 rfl rfl)
theorem dX0_sendBack_83 : decode cX0_sendBack 83 = .ok (.getfield 304, 3) := dk_180 1 48 (dk_at dksX0_sendBack_3 13 rfl rfl)
theorem dX0_sendBack_86 : decode cX0_sendBack 86 = .ok (.iconst 0, 1) := dk_3 (dk_at dksX0_sendBack_3 16 rfl rfl)
theorem dX0_sendBack_87 : decode cX0_sendBack 87 = .ok (.invokevirtual 316, 3) := dk_182 1 60 (dk_at dksX0_sendBack_3 17 rfl rfl)
theorem dX0_sendBack_90 : decode cX0_sendBack 90 = .ok (.return_, 1) := dk_177 (dk_at dksX0_sendBack_3 20 rfl rfl)
abbrev cX0_posts : ByteArray := prog_1_method_30_code
def yX0_posts : MethodName := ⟨RX0, "posts", "(IIII)I"⟩
def dkwX0_posts_15 : List UInt8 := [21, 7, 172]
abbrev dktX0_posts_15 : List UInt8 := dkwX0_posts_15 ++ []
def dkwX0_posts_14 : List UInt8 := [21, 8, 16, 7, 96, 182, 1, 109, 183, 1, 54, 182, 1, 91, 96, 54, 7, 132, 8, 8, 167, 255, 134]
abbrev dktX0_posts_14 : List UInt8 := dkwX0_posts_14 ++ dktX0_posts_15
def dkwX0_posts_13 : List UInt8 := [182, 1, 109, 25, 5, 21, 8, 8, 96, 182, 1, 109, 25, 5, 21, 8, 16, 6, 96, 182, 1, 109, 25, 5]
abbrev dktX0_posts_13 : List UInt8 := dkwX0_posts_13 ++ dktX0_posts_14
def dkwX0_posts_12 : List UInt8 := [21, 8, 5, 96, 182, 1, 109, 25, 5, 21, 8, 6, 96, 182, 1, 109, 25, 5, 21, 8, 7, 96]
abbrev dktX0_posts_12 : List UInt8 := dkwX0_posts_12 ++ dktX0_posts_13
def dkwX0_posts_11 : List UInt8 := [185, 0, 100, 1, 0, 25, 5, 21, 8, 182, 1, 109, 25, 5, 21, 8, 4, 96, 182, 1, 109, 25, 5]
abbrev dktX0_posts_11 : List UInt8 := dkwX0_posts_11 ++ dktX0_posts_12
def dkwX0_posts_10 : List UInt8 := [182, 1, 88, 153, 0, 6, 16, 253, 172, 21, 7, 42, 187, 0, 176, 89, 42, 180, 0, 169]
abbrev dktX0_posts_10 : List UInt8 := dkwX0_posts_10 ++ dktX0_posts_11
def dkwX0_posts_9 : List UInt8 := [167, 255, 133, 3, 54, 7, 29, 54, 8, 21, 8, 29, 16, 8, 21, 4, 104, 96, 162, 0, 116, 42]
abbrev dktX0_posts_9 : List UInt8 := dkwX0_posts_9 ++ dktX0_posts_10
def dkwX0_posts_8 : List UInt8 := [21, 6, 162, 0, 6, 16, 254, 172, 25, 5, 21, 7, 16, 7, 96, 182, 1, 109, 54, 6, 132, 7, 8]
abbrev dktX0_posts_8 : List UInt8 := dkwX0_posts_8 ++ dktX0_posts_9
def dkwX0_posts_7 : List UInt8 := [21, 7, 16, 7, 96, 182, 1, 109, 184, 1, 81, 153, 0, 18, 25, 5, 21, 7, 16, 7, 96, 182, 1, 109]
abbrev dktX0_posts_7 : List UInt8 := dkwX0_posts_7 ++ dktX0_posts_8
def dkwX0_posts_6 : List UInt8 := [182, 1, 109, 25, 5, 21, 7, 8, 96, 182, 1, 109, 25, 5, 21, 7, 16, 6, 96, 182, 1, 109, 25, 5]
abbrev dktX0_posts_6 : List UInt8 := dkwX0_posts_6 ++ dktX0_posts_7
def dkwX0_posts_5 : List UInt8 := [21, 7, 5, 96, 182, 1, 109, 25, 5, 21, 7, 6, 96, 182, 1, 109, 25, 5, 21, 7, 7, 96]
abbrev dktX0_posts_5 : List UInt8 := dkwX0_posts_5 ++ dktX0_posts_6
def dkwX0_posts_4 : List UInt8 := [104, 96, 162, 0, 117, 25, 5, 21, 7, 182, 1, 109, 25, 5, 21, 7, 4, 96, 182, 1, 109, 25, 5]
abbrev dktX0_posts_4 : List UInt8 := dkwX0_posts_4 ++ dktX0_posts_5
def dkwX0_posts_3 : List UInt8 := [104, 100, 164, 0, 6, 16, 243, 172, 42, 182, 1, 85, 54, 6, 29, 54, 7, 21, 7, 29, 16, 8, 21, 4]
abbrev dktX0_posts_3 : List UInt8 := dkwX0_posts_3 ++ dktX0_posts_4
def dkwX0_posts_2 : List UInt8 := [182, 1, 105, 28, 159, 0, 6, 16, 244, 172, 29, 155, 0, 18, 29, 25, 5, 182, 1, 108, 16, 8, 21, 4]
abbrev dktX0_posts_2 : List UInt8 := dkwX0_posts_2 ++ dktX0_posts_3
def dkwX0_posts_1 : List UInt8 := [2, 172, 42, 180, 0, 212, 27, 50, 58, 5, 25, 5, 180, 1, 101, 199, 0, 6, 16, 245, 172, 25, 5]
abbrev dktX0_posts_1 : List UInt8 := dkwX0_posts_1 ++ dktX0_posts_2
def dkwX0_posts_0 : List UInt8 := [27, 184, 1, 95, 153, 0, 20, 28, 184, 1, 98, 153, 0, 13, 21, 4, 3, 8, 184, 0, 3, 154, 0, 5]
abbrev dktX0_posts_0 : List UInt8 := dkwX0_posts_0 ++ dktX0_posts_1
theorem dksX0_posts_0 : cX0_posts.data.toList.drop 0 = dktX0_posts_0 := by decide +kernel
theorem dksX0_posts_1 : cX0_posts.data.toList.drop 24 = dktX0_posts_1 := dk_seg dksX0_posts_0 24 rfl rfl
theorem dksX0_posts_2 : cX0_posts.data.toList.drop 47 = dktX0_posts_2 := dk_seg dksX0_posts_1 23 rfl rfl
theorem dksX0_posts_3 : cX0_posts.data.toList.drop 71 = dktX0_posts_3 := dk_seg dksX0_posts_2 24 rfl rfl
theorem dksX0_posts_4 : cX0_posts.data.toList.drop 95 = dktX0_posts_4 := dk_seg dksX0_posts_3 24 rfl rfl
theorem dksX0_posts_5 : cX0_posts.data.toList.drop 118 = dktX0_posts_5 := dk_seg dksX0_posts_4 23 rfl rfl
theorem dksX0_posts_6 : cX0_posts.data.toList.drop 140 = dktX0_posts_6 := dk_seg dksX0_posts_5 22 rfl rfl
theorem dksX0_posts_7 : cX0_posts.data.toList.drop 164 = dktX0_posts_7 := dk_seg dksX0_posts_6 24 rfl rfl
theorem dksX0_posts_8 : cX0_posts.data.toList.drop 188 = dktX0_posts_8 := dk_seg dksX0_posts_7 24 rfl rfl
theorem dksX0_posts_9 : cX0_posts.data.toList.drop 211 = dktX0_posts_9 := dk_seg dksX0_posts_8 23 rfl rfl
theorem dksX0_posts_10 : cX0_posts.data.toList.drop 233 = dktX0_posts_10 := dk_seg dksX0_posts_9 22 rfl rfl
theorem dksX0_posts_11 : cX0_posts.data.toList.drop 253 = dktX0_posts_11 := dk_seg dksX0_posts_10 20 rfl rfl
theorem dksX0_posts_12 : cX0_posts.data.toList.drop 276 = dktX0_posts_12 := dk_seg dksX0_posts_11 23 rfl rfl
theorem dksX0_posts_13 : cX0_posts.data.toList.drop 298 = dktX0_posts_13 := dk_seg dksX0_posts_12 22 rfl rfl
theorem dksX0_posts_14 : cX0_posts.data.toList.drop 322 = dktX0_posts_14 := dk_seg dksX0_posts_13 24 rfl rfl
theorem dksX0_posts_15 : cX0_posts.data.toList.drop 345 = dktX0_posts_15 := dk_seg dksX0_posts_14 23 rfl rfl
theorem dX0_posts_0 : decode cX0_posts 0 = .ok (.iload_n 1, 1) := dk_27 (dk_at dksX0_posts_0 0 rfl rfl)
theorem dX0_posts_1 : decode cX0_posts 1 = .ok (.invokestatic 351, 3) := dk_184 1 95 (dk_at dksX0_posts_0 1 rfl rfl)
theorem dX0_posts_4 : decode cX0_posts 4 = .ok (.ifCond .eq 20, 3) := dk_153 0 20 (dk_at dksX0_posts_0 4 rfl rfl)
theorem dX0_posts_7 : decode cX0_posts 7 = .ok (.iload_n 2, 1) := dk_28 (dk_at dksX0_posts_0 7 rfl rfl)
theorem dX0_posts_8 : decode cX0_posts 8 = .ok (.invokestatic 354, 3) := dk_184 1 98 (dk_at dksX0_posts_0 8 rfl rfl)
theorem dX0_posts_11 : decode cX0_posts 11 = .ok (.ifCond .eq 13, 3) := dk_153 0 13 (dk_at dksX0_posts_0 11 rfl rfl)
theorem dX0_posts_14 : decode cX0_posts 14 = .ok (.iload 4, 2) := dk_21 4 (dk_at dksX0_posts_0 14 rfl rfl)
theorem dX0_posts_16 : decode cX0_posts 16 = .ok (.iconst 0, 1) := dk_3 (dk_at dksX0_posts_0 16 rfl rfl)
theorem dX0_posts_17 : decode cX0_posts 17 = .ok (.iconst 5, 1) := dk_8 (dk_at dksX0_posts_0 17 rfl rfl)
theorem dX0_posts_18 : decode cX0_posts 18 = .ok (.invokestatic 3, 3) := dk_184 0 3 (dk_at dksX0_posts_0 18 rfl rfl)
theorem dX0_posts_21 : decode cX0_posts 21 = .ok (.ifCond .ne 5, 3) := dk_154 0 5 (dk_at dksX0_posts_0 21 rfl rfl)
theorem dX0_posts_24 : decode cX0_posts 24 = .ok (.iconst (-1), 1) := dk_2 (dk_at dksX0_posts_1 0 rfl rfl)
theorem dX0_posts_25 : decode cX0_posts 25 = .ok (.ireturn, 1) := dk_172 (dk_at dksX0_posts_1 1 rfl rfl)
theorem dX0_posts_26 : decode cX0_posts 26 = .ok (.aload_n 0, 1) := dk_42 (dk_at dksX0_posts_1 2 rfl rfl)
theorem dX0_posts_27 : decode cX0_posts 27 = .ok (.getfield 212, 3) := dk_180 0 212 (dk_at dksX0_posts_1 3 rfl rfl)
theorem dX0_posts_30 : decode cX0_posts 30 = .ok (.iload_n 1, 1) := dk_27 (dk_at dksX0_posts_1 6 rfl rfl)
theorem dX0_posts_31 : decode cX0_posts 31 = .ok (.aaload, 1) := dk_50 (dk_at dksX0_posts_1 7 rfl rfl)
theorem dX0_posts_32 : decode cX0_posts 32 = .ok (.astore 5, 2) := dk_58 5 (dk_at dksX0_posts_1 8 rfl rfl)
theorem dX0_posts_34 : decode cX0_posts 34 = .ok (.aload 5, 2) := dk_25 5 (dk_at dksX0_posts_1 10 rfl rfl)
theorem dX0_posts_36 : decode cX0_posts 36 = .ok (.getfield 357, 3) := dk_180 1 101 (dk_at dksX0_posts_1 12 rfl rfl)
theorem dX0_posts_39 : decode cX0_posts 39 = .ok (.ifnonnull 6, 3) := dk_199 0 6 (dk_at dksX0_posts_1 15 rfl rfl)
theorem dX0_posts_42 : decode cX0_posts 42 = .ok (.bipush (-11), 2) := dk_16 245 (dk_at dksX0_posts_1 18 rfl rfl)
theorem dX0_posts_44 : decode cX0_posts 44 = .ok (.ireturn, 1) := dk_172 (dk_at dksX0_posts_1 20 rfl rfl)
theorem dX0_posts_45 : decode cX0_posts 45 = .ok (.aload 5, 2) := dk_25 5 (dk_at dksX0_posts_1 21 rfl rfl)
theorem dX0_posts_47 : decode cX0_posts 47 = .ok (.invokevirtual 361, 3) := dk_182 1 105 (dk_at dksX0_posts_2 0 rfl rfl)
theorem dX0_posts_50 : decode cX0_posts 50 = .ok (.iload_n 2, 1) := dk_28 (dk_at dksX0_posts_2 3 rfl rfl)
theorem dX0_posts_51 : decode cX0_posts 51 = .ok (.if_icmp .eq 6, 3) := dk_159 0 6 (dk_at dksX0_posts_2 4 rfl rfl)
theorem dX0_posts_54 : decode cX0_posts 54 = .ok (.bipush (-12), 2) := dk_16 244 (dk_at dksX0_posts_2 7 rfl rfl)
theorem dX0_posts_56 : decode cX0_posts 56 = .ok (.ireturn, 1) := dk_172 (dk_at dksX0_posts_2 9 rfl rfl)
theorem dX0_posts_57 : decode cX0_posts 57 = .ok (.iload_n 3, 1) := dk_29 (dk_at dksX0_posts_2 10 rfl rfl)
theorem dX0_posts_58 : decode cX0_posts 58 = .ok (.ifCond .lt 18, 3) := dk_155 0 18 (dk_at dksX0_posts_2 11 rfl rfl)
theorem dX0_posts_61 : decode cX0_posts 61 = .ok (.iload_n 3, 1) := dk_29 (dk_at dksX0_posts_2 14 rfl rfl)
theorem dX0_posts_62 : decode cX0_posts 62 = .ok (.aload 5, 2) := dk_25 5 (dk_at dksX0_posts_2 15 rfl rfl)
theorem dX0_posts_64 : decode cX0_posts 64 = .ok (.invokevirtual 364, 3) := dk_182 1 108 (dk_at dksX0_posts_2 17 rfl rfl)
theorem dX0_posts_67 : decode cX0_posts 67 = .ok (.bipush 8, 2) := dk_16 8 (dk_at dksX0_posts_2 20 rfl rfl)
theorem dX0_posts_69 : decode cX0_posts 69 = .ok (.iload 4, 2) := dk_21 4 (dk_at dksX0_posts_2 22 rfl rfl)
theorem dX0_posts_71 : decode cX0_posts 71 = .ok (.imul, 1) := dk_104 (dk_at dksX0_posts_3 0 rfl rfl)
theorem dX0_posts_72 : decode cX0_posts 72 = .ok (.isub, 1) := dk_100 (dk_at dksX0_posts_3 1 rfl rfl)
theorem dX0_posts_73 : decode cX0_posts 73 = .ok (.if_icmp .le 6, 3) := dk_164 0 6 (dk_at dksX0_posts_3 2 rfl rfl)
theorem dX0_posts_76 : decode cX0_posts 76 = .ok (.bipush (-13), 2) := dk_16 243 (dk_at dksX0_posts_3 5 rfl rfl)
theorem dX0_posts_78 : decode cX0_posts 78 = .ok (.ireturn, 1) := dk_172 (dk_at dksX0_posts_3 7 rfl rfl)
theorem dX0_posts_79 : decode cX0_posts 79 = .ok (.aload_n 0, 1) := dk_42 (dk_at dksX0_posts_3 8 rfl rfl)
theorem dX0_posts_80 : decode cX0_posts 80 = .ok (.invokevirtual 341, 3) := dk_182 1 85 (dk_at dksX0_posts_3 9 rfl rfl)
theorem dX0_posts_83 : decode cX0_posts 83 = .ok (.istore 6, 2) := dk_54 6 (dk_at dksX0_posts_3 12 rfl rfl)
theorem dX0_posts_85 : decode cX0_posts 85 = .ok (.iload_n 3, 1) := dk_29 (dk_at dksX0_posts_3 14 rfl rfl)
theorem dX0_posts_86 : decode cX0_posts 86 = .ok (.istore 7, 2) := dk_54 7 (dk_at dksX0_posts_3 15 rfl rfl)
theorem dX0_posts_88 : decode cX0_posts 88 = .ok (.iload 7, 2) := dk_21 7 (dk_at dksX0_posts_3 17 rfl rfl)
theorem dX0_posts_90 : decode cX0_posts 90 = .ok (.iload_n 3, 1) := dk_29 (dk_at dksX0_posts_3 19 rfl rfl)
theorem dX0_posts_91 : decode cX0_posts 91 = .ok (.bipush 8, 2) := dk_16 8 (dk_at dksX0_posts_3 20 rfl rfl)
theorem dX0_posts_93 : decode cX0_posts 93 = .ok (.iload 4, 2) := dk_21 4 (dk_at dksX0_posts_3 22 rfl rfl)
theorem dX0_posts_95 : decode cX0_posts 95 = .ok (.imul, 1) := dk_104 (dk_at dksX0_posts_4 0 rfl rfl)
theorem dX0_posts_96 : decode cX0_posts 96 = .ok (.iadd, 1) := dk_96 (dk_at dksX0_posts_4 1 rfl rfl)
theorem dX0_posts_97 : decode cX0_posts 97 = .ok (.if_icmp .ge 117, 3) := dk_162 0 117 (dk_at dksX0_posts_4 2 rfl rfl)
theorem dX0_posts_100 : decode cX0_posts 100 = .ok (.aload 5, 2) := dk_25 5 (dk_at dksX0_posts_4 5 rfl rfl)
theorem dX0_posts_102 : decode cX0_posts 102 = .ok (.iload 7, 2) := dk_21 7 (dk_at dksX0_posts_4 7 rfl rfl)
theorem dX0_posts_104 : decode cX0_posts 104 = .ok (.invokevirtual 365, 3) := dk_182 1 109 (dk_at dksX0_posts_4 9 rfl rfl)
theorem dX0_posts_107 : decode cX0_posts 107 = .ok (.aload 5, 2) := dk_25 5 (dk_at dksX0_posts_4 12 rfl rfl)
theorem dX0_posts_109 : decode cX0_posts 109 = .ok (.iload 7, 2) := dk_21 7 (dk_at dksX0_posts_4 14 rfl rfl)
theorem dX0_posts_111 : decode cX0_posts 111 = .ok (.iconst 1, 1) := dk_4 (dk_at dksX0_posts_4 16 rfl rfl)
theorem dX0_posts_112 : decode cX0_posts 112 = .ok (.iadd, 1) := dk_96 (dk_at dksX0_posts_4 17 rfl rfl)
theorem dX0_posts_113 : decode cX0_posts 113 = .ok (.invokevirtual 365, 3) := dk_182 1 109 (dk_at dksX0_posts_4 18 rfl rfl)
theorem dX0_posts_116 : decode cX0_posts 116 = .ok (.aload 5, 2) := dk_25 5 (dk_at dksX0_posts_4 21 rfl rfl)
theorem dX0_posts_118 : decode cX0_posts 118 = .ok (.iload 7, 2) := dk_21 7 (dk_at dksX0_posts_5 0 rfl rfl)
theorem dX0_posts_120 : decode cX0_posts 120 = .ok (.iconst 2, 1) := dk_5 (dk_at dksX0_posts_5 2 rfl rfl)
theorem dX0_posts_121 : decode cX0_posts 121 = .ok (.iadd, 1) := dk_96 (dk_at dksX0_posts_5 3 rfl rfl)
theorem dX0_posts_122 : decode cX0_posts 122 = .ok (.invokevirtual 365, 3) := dk_182 1 109 (dk_at dksX0_posts_5 4 rfl rfl)
theorem dX0_posts_125 : decode cX0_posts 125 = .ok (.aload 5, 2) := dk_25 5 (dk_at dksX0_posts_5 7 rfl rfl)
theorem dX0_posts_127 : decode cX0_posts 127 = .ok (.iload 7, 2) := dk_21 7 (dk_at dksX0_posts_5 9 rfl rfl)
theorem dX0_posts_129 : decode cX0_posts 129 = .ok (.iconst 3, 1) := dk_6 (dk_at dksX0_posts_5 11 rfl rfl)
theorem dX0_posts_130 : decode cX0_posts 130 = .ok (.iadd, 1) := dk_96 (dk_at dksX0_posts_5 12 rfl rfl)
theorem dX0_posts_131 : decode cX0_posts 131 = .ok (.invokevirtual 365, 3) := dk_182 1 109 (dk_at dksX0_posts_5 13 rfl rfl)
theorem dX0_posts_134 : decode cX0_posts 134 = .ok (.aload 5, 2) := dk_25 5 (dk_at dksX0_posts_5 16 rfl rfl)
theorem dX0_posts_136 : decode cX0_posts 136 = .ok (.iload 7, 2) := dk_21 7 (dk_at dksX0_posts_5 18 rfl rfl)
theorem dX0_posts_138 : decode cX0_posts 138 = .ok (.iconst 4, 1) := dk_7 (dk_at dksX0_posts_5 20 rfl rfl)
theorem dX0_posts_139 : decode cX0_posts 139 = .ok (.iadd, 1) := dk_96 (dk_at dksX0_posts_5 21 rfl rfl)
theorem dX0_posts_140 : decode cX0_posts 140 = .ok (.invokevirtual 365, 3) := dk_182 1 109 (dk_at dksX0_posts_6 0 rfl rfl)
theorem dX0_posts_143 : decode cX0_posts 143 = .ok (.aload 5, 2) := dk_25 5 (dk_at dksX0_posts_6 3 rfl rfl)
theorem dX0_posts_145 : decode cX0_posts 145 = .ok (.iload 7, 2) := dk_21 7 (dk_at dksX0_posts_6 5 rfl rfl)
theorem dX0_posts_147 : decode cX0_posts 147 = .ok (.iconst 5, 1) := dk_8 (dk_at dksX0_posts_6 7 rfl rfl)
theorem dX0_posts_148 : decode cX0_posts 148 = .ok (.iadd, 1) := dk_96 (dk_at dksX0_posts_6 8 rfl rfl)
theorem dX0_posts_149 : decode cX0_posts 149 = .ok (.invokevirtual 365, 3) := dk_182 1 109 (dk_at dksX0_posts_6 9 rfl rfl)
theorem dX0_posts_152 : decode cX0_posts 152 = .ok (.aload 5, 2) := dk_25 5 (dk_at dksX0_posts_6 12 rfl rfl)
theorem dX0_posts_154 : decode cX0_posts 154 = .ok (.iload 7, 2) := dk_21 7 (dk_at dksX0_posts_6 14 rfl rfl)
theorem dX0_posts_156 : decode cX0_posts 156 = .ok (.bipush 6, 2) := dk_16 6 (dk_at dksX0_posts_6 16 rfl rfl)
theorem dX0_posts_158 : decode cX0_posts 158 = .ok (.iadd, 1) := dk_96 (dk_at dksX0_posts_6 18 rfl rfl)
theorem dX0_posts_159 : decode cX0_posts 159 = .ok (.invokevirtual 365, 3) := dk_182 1 109 (dk_at dksX0_posts_6 19 rfl rfl)
theorem dX0_posts_162 : decode cX0_posts 162 = .ok (.aload 5, 2) := dk_25 5 (dk_at dksX0_posts_6 22 rfl rfl)
theorem dX0_posts_164 : decode cX0_posts 164 = .ok (.iload 7, 2) := dk_21 7 (dk_at dksX0_posts_7 0 rfl rfl)
theorem dX0_posts_166 : decode cX0_posts 166 = .ok (.bipush 7, 2) := dk_16 7 (dk_at dksX0_posts_7 2 rfl rfl)
theorem dX0_posts_168 : decode cX0_posts 168 = .ok (.iadd, 1) := dk_96 (dk_at dksX0_posts_7 4 rfl rfl)
theorem dX0_posts_169 : decode cX0_posts 169 = .ok (.invokevirtual 365, 3) := dk_182 1 109 (dk_at dksX0_posts_7 5 rfl rfl)
theorem dX0_posts_172 : decode cX0_posts 172 = .ok (.invokestatic 337, 3) := dk_184 1 81 (dk_at dksX0_posts_7 8 rfl rfl)
theorem dX0_posts_175 : decode cX0_posts 175 = .ok (.ifCond .eq 18, 3) := dk_153 0 18 (dk_at dksX0_posts_7 11 rfl rfl)
theorem dX0_posts_178 : decode cX0_posts 178 = .ok (.aload 5, 2) := dk_25 5 (dk_at dksX0_posts_7 14 rfl rfl)
theorem dX0_posts_180 : decode cX0_posts 180 = .ok (.iload 7, 2) := dk_21 7 (dk_at dksX0_posts_7 16 rfl rfl)
theorem dX0_posts_182 : decode cX0_posts 182 = .ok (.bipush 7, 2) := dk_16 7 (dk_at dksX0_posts_7 18 rfl rfl)
theorem dX0_posts_184 : decode cX0_posts 184 = .ok (.iadd, 1) := dk_96 (dk_at dksX0_posts_7 20 rfl rfl)
theorem dX0_posts_185 : decode cX0_posts 185 = .ok (.invokevirtual 365, 3) := dk_182 1 109 (dk_at dksX0_posts_7 21 rfl rfl)
theorem dX0_posts_188 : decode cX0_posts 188 = .ok (.iload 6, 2) := dk_21 6 (dk_at dksX0_posts_8 0 rfl rfl)
theorem dX0_posts_190 : decode cX0_posts 190 = .ok (.if_icmp .ge 6, 3) := dk_162 0 6 (dk_at dksX0_posts_8 2 rfl rfl)
theorem dX0_posts_193 : decode cX0_posts 193 = .ok (.bipush (-2), 2) := dk_16 254 (dk_at dksX0_posts_8 5 rfl rfl)
theorem dX0_posts_195 : decode cX0_posts 195 = .ok (.ireturn, 1) := dk_172 (dk_at dksX0_posts_8 7 rfl rfl)
theorem dX0_posts_196 : decode cX0_posts 196 = .ok (.aload 5, 2) := dk_25 5 (dk_at dksX0_posts_8 8 rfl rfl)
theorem dX0_posts_198 : decode cX0_posts 198 = .ok (.iload 7, 2) := dk_21 7 (dk_at dksX0_posts_8 10 rfl rfl)
theorem dX0_posts_200 : decode cX0_posts 200 = .ok (.bipush 7, 2) := dk_16 7 (dk_at dksX0_posts_8 12 rfl rfl)
theorem dX0_posts_202 : decode cX0_posts 202 = .ok (.iadd, 1) := dk_96 (dk_at dksX0_posts_8 14 rfl rfl)
theorem dX0_posts_203 : decode cX0_posts 203 = .ok (.invokevirtual 365, 3) := dk_182 1 109 (dk_at dksX0_posts_8 15 rfl rfl)
theorem dX0_posts_206 : decode cX0_posts 206 = .ok (.istore 6, 2) := dk_54 6 (dk_at dksX0_posts_8 18 rfl rfl)
theorem dX0_posts_208 : decode cX0_posts 208 = .ok (.iinc 7 8, 3) := dk_132 7 8 (dk_at dksX0_posts_8 20 rfl rfl)
theorem dX0_posts_211 : decode cX0_posts 211 = .ok (.goto (-123), 3) := dk_167 255 133 (dk_at dksX0_posts_9 0 rfl rfl)
theorem dX0_posts_214 : decode cX0_posts 214 = .ok (.iconst 0, 1) := dk_3 (dk_at dksX0_posts_9 3 rfl rfl)
theorem dX0_posts_215 : decode cX0_posts 215 = .ok (.istore 7, 2) := dk_54 7 (dk_at dksX0_posts_9 4 rfl rfl)
theorem dX0_posts_217 : decode cX0_posts 217 = .ok (.iload_n 3, 1) := dk_29 (dk_at dksX0_posts_9 6 rfl rfl)
theorem dX0_posts_218 : decode cX0_posts 218 = .ok (.istore 8, 2) := dk_54 8 (dk_at dksX0_posts_9 7 rfl rfl)
theorem dX0_posts_220 : decode cX0_posts 220 = .ok (.iload 8, 2) := dk_21 8 (dk_at dksX0_posts_9 9 rfl rfl)
theorem dX0_posts_222 : decode cX0_posts 222 = .ok (.iload_n 3, 1) := dk_29 (dk_at dksX0_posts_9 11 rfl rfl)
theorem dX0_posts_223 : decode cX0_posts 223 = .ok (.bipush 8, 2) := dk_16 8 (dk_at dksX0_posts_9 12 rfl rfl)
theorem dX0_posts_225 : decode cX0_posts 225 = .ok (.iload 4, 2) := dk_21 4 (dk_at dksX0_posts_9 14 rfl rfl)
theorem dX0_posts_227 : decode cX0_posts 227 = .ok (.imul, 1) := dk_104 (dk_at dksX0_posts_9 16 rfl rfl)
theorem dX0_posts_228 : decode cX0_posts 228 = .ok (.iadd, 1) := dk_96 (dk_at dksX0_posts_9 17 rfl rfl)
theorem dX0_posts_229 : decode cX0_posts 229 = .ok (.if_icmp .ge 116, 3) := dk_162 0 116 (dk_at dksX0_posts_9 18 rfl rfl)
theorem dX0_posts_232 : decode cX0_posts 232 = .ok (.aload_n 0, 1) := dk_42 (dk_at dksX0_posts_9 21 rfl rfl)
theorem dX0_posts_233 : decode cX0_posts 233 = .ok (.invokevirtual 344, 3) := dk_182 1 88 (dk_at dksX0_posts_10 0 rfl rfl)
theorem dX0_posts_236 : decode cX0_posts 236 = .ok (.ifCond .eq 6, 3) := dk_153 0 6 (dk_at dksX0_posts_10 3 rfl rfl)
theorem dX0_posts_239 : decode cX0_posts 239 = .ok (.bipush (-3), 2) := dk_16 253 (dk_at dksX0_posts_10 6 rfl rfl)
theorem dX0_posts_241 : decode cX0_posts 241 = .ok (.ireturn, 1) := dk_172 (dk_at dksX0_posts_10 8 rfl rfl)
theorem dX0_posts_242 : decode cX0_posts 242 = .ok (.iload 7, 2) := dk_21 7 (dk_at dksX0_posts_10 9 rfl rfl)
theorem dX0_posts_244 : decode cX0_posts 244 = .ok (.aload_n 0, 1) := dk_42 (dk_at dksX0_posts_10 11 rfl rfl)
theorem dX0_posts_245 : decode cX0_posts 245 = .ok (.new 176, 3) := dk_187 0 176 (dk_at dksX0_posts_10 12 rfl rfl)
theorem dX0_posts_248 : decode cX0_posts 248 = .ok (.dup, 1) := dk_89 (dk_at dksX0_posts_10 15 rfl rfl)
theorem dX0_posts_249 : decode cX0_posts 249 = .ok (.aload_n 0, 1) := dk_42 (dk_at dksX0_posts_10 16 rfl rfl)
theorem dX0_posts_250 : decode cX0_posts 250 = .ok (.getfield 169, 3) := dk_180 0 169 (dk_at dksX0_posts_10 17 rfl rfl)
theorem dX0_posts_253 : decode cX0_posts 253 = .ok (.invokeinterface 100 1, 5) := by decide +kernel
theorem dX0_posts_258 : decode cX0_posts 258 = .ok (.aload 5, 2) := dk_25 5 (dk_at dksX0_posts_11 5 rfl rfl)
theorem dX0_posts_260 : decode cX0_posts 260 = .ok (.iload 8, 2) := dk_21 8 (dk_at dksX0_posts_11 7 rfl rfl)
theorem dX0_posts_262 : decode cX0_posts 262 = .ok (.invokevirtual 365, 3) := dk_182 1 109 (dk_at dksX0_posts_11 9 rfl rfl)
theorem dX0_posts_265 : decode cX0_posts 265 = .ok (.aload 5, 2) := dk_25 5 (dk_at dksX0_posts_11 12 rfl rfl)
theorem dX0_posts_267 : decode cX0_posts 267 = .ok (.iload 8, 2) := dk_21 8 (dk_at dksX0_posts_11 14 rfl rfl)
theorem dX0_posts_269 : decode cX0_posts 269 = .ok (.iconst 1, 1) := dk_4 (dk_at dksX0_posts_11 16 rfl rfl)
theorem dX0_posts_270 : decode cX0_posts 270 = .ok (.iadd, 1) := dk_96 (dk_at dksX0_posts_11 17 rfl rfl)
theorem dX0_posts_271 : decode cX0_posts 271 = .ok (.invokevirtual 365, 3) := dk_182 1 109 (dk_at dksX0_posts_11 18 rfl rfl)
theorem dX0_posts_274 : decode cX0_posts 274 = .ok (.aload 5, 2) := dk_25 5 (dk_at dksX0_posts_11 21 rfl rfl)
theorem dX0_posts_276 : decode cX0_posts 276 = .ok (.iload 8, 2) := dk_21 8 (dk_at dksX0_posts_12 0 rfl rfl)
theorem dX0_posts_278 : decode cX0_posts 278 = .ok (.iconst 2, 1) := dk_5 (dk_at dksX0_posts_12 2 rfl rfl)
theorem dX0_posts_279 : decode cX0_posts 279 = .ok (.iadd, 1) := dk_96 (dk_at dksX0_posts_12 3 rfl rfl)
theorem dX0_posts_280 : decode cX0_posts 280 = .ok (.invokevirtual 365, 3) := dk_182 1 109 (dk_at dksX0_posts_12 4 rfl rfl)
theorem dX0_posts_283 : decode cX0_posts 283 = .ok (.aload 5, 2) := dk_25 5 (dk_at dksX0_posts_12 7 rfl rfl)
theorem dX0_posts_285 : decode cX0_posts 285 = .ok (.iload 8, 2) := dk_21 8 (dk_at dksX0_posts_12 9 rfl rfl)
theorem dX0_posts_287 : decode cX0_posts 287 = .ok (.iconst 3, 1) := dk_6 (dk_at dksX0_posts_12 11 rfl rfl)
theorem dX0_posts_288 : decode cX0_posts 288 = .ok (.iadd, 1) := dk_96 (dk_at dksX0_posts_12 12 rfl rfl)
theorem dX0_posts_289 : decode cX0_posts 289 = .ok (.invokevirtual 365, 3) := dk_182 1 109 (dk_at dksX0_posts_12 13 rfl rfl)
theorem dX0_posts_292 : decode cX0_posts 292 = .ok (.aload 5, 2) := dk_25 5 (dk_at dksX0_posts_12 16 rfl rfl)
theorem dX0_posts_294 : decode cX0_posts 294 = .ok (.iload 8, 2) := dk_21 8 (dk_at dksX0_posts_12 18 rfl rfl)
theorem dX0_posts_296 : decode cX0_posts 296 = .ok (.iconst 4, 1) := dk_7 (dk_at dksX0_posts_12 20 rfl rfl)
theorem dX0_posts_297 : decode cX0_posts 297 = .ok (.iadd, 1) := dk_96 (dk_at dksX0_posts_12 21 rfl rfl)
theorem dX0_posts_298 : decode cX0_posts 298 = .ok (.invokevirtual 365, 3) := dk_182 1 109 (dk_at dksX0_posts_13 0 rfl rfl)
theorem dX0_posts_301 : decode cX0_posts 301 = .ok (.aload 5, 2) := dk_25 5 (dk_at dksX0_posts_13 3 rfl rfl)
theorem dX0_posts_303 : decode cX0_posts 303 = .ok (.iload 8, 2) := dk_21 8 (dk_at dksX0_posts_13 5 rfl rfl)
theorem dX0_posts_305 : decode cX0_posts 305 = .ok (.iconst 5, 1) := dk_8 (dk_at dksX0_posts_13 7 rfl rfl)
theorem dX0_posts_306 : decode cX0_posts 306 = .ok (.iadd, 1) := dk_96 (dk_at dksX0_posts_13 8 rfl rfl)
theorem dX0_posts_307 : decode cX0_posts 307 = .ok (.invokevirtual 365, 3) := dk_182 1 109 (dk_at dksX0_posts_13 9 rfl rfl)
theorem dX0_posts_310 : decode cX0_posts 310 = .ok (.aload 5, 2) := dk_25 5 (dk_at dksX0_posts_13 12 rfl rfl)
theorem dX0_posts_312 : decode cX0_posts 312 = .ok (.iload 8, 2) := dk_21 8 (dk_at dksX0_posts_13 14 rfl rfl)
theorem dX0_posts_314 : decode cX0_posts 314 = .ok (.bipush 6, 2) := dk_16 6 (dk_at dksX0_posts_13 16 rfl rfl)
theorem dX0_posts_316 : decode cX0_posts 316 = .ok (.iadd, 1) := dk_96 (dk_at dksX0_posts_13 18 rfl rfl)
theorem dX0_posts_317 : decode cX0_posts 317 = .ok (.invokevirtual 365, 3) := dk_182 1 109 (dk_at dksX0_posts_13 19 rfl rfl)
theorem dX0_posts_320 : decode cX0_posts 320 = .ok (.aload 5, 2) := dk_25 5 (dk_at dksX0_posts_13 22 rfl rfl)
theorem dX0_posts_322 : decode cX0_posts 322 = .ok (.iload 8, 2) := dk_21 8 (dk_at dksX0_posts_14 0 rfl rfl)
theorem dX0_posts_324 : decode cX0_posts 324 = .ok (.bipush 7, 2) := dk_16 7 (dk_at dksX0_posts_14 2 rfl rfl)
theorem dX0_posts_326 : decode cX0_posts 326 = .ok (.iadd, 1) := dk_96 (dk_at dksX0_posts_14 4 rfl rfl)
theorem dX0_posts_327 : decode cX0_posts 327 = .ok (.invokevirtual 365, 3) := dk_182 1 109 (dk_at dksX0_posts_14 5 rfl rfl)
theorem dX0_posts_330 : decode cX0_posts 330 = .ok (.invokespecial 310, 3) := dk_183 1 54 (dk_at dksX0_posts_14 8 rfl rfl)
theorem dX0_posts_333 : decode cX0_posts 333 = .ok (.invokevirtual 347, 3) := dk_182 1 91 (dk_at dksX0_posts_14 11 rfl rfl)
theorem dX0_posts_336 : decode cX0_posts 336 = .ok (.iadd, 1) := dk_96 (dk_at dksX0_posts_14 14 rfl rfl)
theorem dX0_posts_337 : decode cX0_posts 337 = .ok (.istore 7, 2) := dk_54 7 (dk_at dksX0_posts_14 15 rfl rfl)
theorem dX0_posts_339 : decode cX0_posts 339 = .ok (.iinc 8 8, 3) := dk_132 8 8 (dk_at dksX0_posts_14 17 rfl rfl)
theorem dX0_posts_342 : decode cX0_posts 342 = .ok (.goto (-122), 3) := dk_167 255 134 (dk_at dksX0_posts_14 20 rfl rfl)
theorem dX0_posts_345 : decode cX0_posts 345 = .ok (.iload 7, 2) := dk_21 7 (dk_at dksX0_posts_15 0 rfl rfl)
theorem dX0_posts_347 : decode cX0_posts 347 = .ok (.ireturn, 1) := dk_172 (dk_at dksX0_posts_15 2 rfl rfl)
abbrev cX0_isSheet : ByteArray := prog_1_method_52_code
def yX0_isSheet : MethodName := ⟨RX0, "isSheet", "(I)Z"⟩
def dkwX0_isSheet_0 : List UInt8 := [26, 3, 4, 184, 0, 3, 172]
abbrev dktX0_isSheet_0 : List UInt8 := dkwX0_isSheet_0 ++ []
theorem dksX0_isSheet_0 : cX0_isSheet.data.toList.drop 0 = dktX0_isSheet_0 := by decide +kernel
theorem dX0_isSheet_0 : decode cX0_isSheet 0 = .ok (.iload_n 0, 1) := dk_26 (dk_at dksX0_isSheet_0 0 rfl rfl)
theorem dX0_isSheet_1 : decode cX0_isSheet 1 = .ok (.iconst 0, 1) := dk_3 (dk_at dksX0_isSheet_0 1 rfl rfl)
theorem dX0_isSheet_2 : decode cX0_isSheet 2 = .ok (.iconst 1, 1) := dk_4 (dk_at dksX0_isSheet_0 2 rfl rfl)
theorem dX0_isSheet_3 : decode cX0_isSheet 3 = .ok (.invokestatic 3, 3) := dk_184 0 3 (dk_at dksX0_isSheet_0 3 rfl rfl)
theorem dX0_isSheet_6 : decode cX0_isSheet 6 = .ok (.ireturn, 1) := dk_172 (dk_at dksX0_isSheet_0 6 rfl rfl)
abbrev cX0_isLane : ByteArray := prog_1_method_53_code
def yX0_isLane : MethodName := ⟨RX0, "isLane", "(I)Z"⟩
def dkwX0_isLane_0 : List UInt8 := [26, 3, 4, 184, 0, 3, 172]
abbrev dktX0_isLane_0 : List UInt8 := dkwX0_isLane_0 ++ []
theorem dksX0_isLane_0 : cX0_isLane.data.toList.drop 0 = dktX0_isLane_0 := by decide +kernel
theorem dX0_isLane_0 : decode cX0_isLane 0 = .ok (.iload_n 0, 1) := dk_26 (dk_at dksX0_isLane_0 0 rfl rfl)
theorem dX0_isLane_1 : decode cX0_isLane 1 = .ok (.iconst 0, 1) := dk_3 (dk_at dksX0_isLane_0 1 rfl rfl)
theorem dX0_isLane_2 : decode cX0_isLane 2 = .ok (.iconst 1, 1) := dk_4 (dk_at dksX0_isLane_0 2 rfl rfl)
theorem dX0_isLane_3 : decode cX0_isLane 3 = .ok (.invokestatic 3, 3) := dk_184 0 3 (dk_at dksX0_isLane_0 3 rfl rfl)
theorem dX0_isLane_6 : decode cX0_isLane 6 = .ok (.ireturn, 1) := dk_172 (dk_at dksX0_isLane_0 6 rfl rfl)
abbrev cX0_letter : ByteArray := prog_1_method_31_code
def yX0_letter : MethodName := ⟨RX0, "letter", "(II)I"⟩
def dkwX0_letter_5 : List UInt8 := [4, 167, 0, 4, 3, 172, 16, 155, 172]
abbrev dktX0_letter_5 : List UInt8 := dkwX0_letter_5 ++ []
def dkwX0_letter_4 : List UInt8 := [172, 45, 180, 1, 12, 172, 45, 180, 1, 121, 172, 45, 180, 1, 51, 172, 42, 45, 182, 1, 124, 153, 0, 7]
abbrev dktX0_letter_4 : List UInt8 := dkwX0_letter_4 ++ dktX0_letter_5
def dkwX0_letter_3 : List UInt8 := [45, 180, 1, 48, 172, 45, 180, 1, 111, 172, 45, 180, 1, 114, 172, 45, 180, 1, 116, 172, 45, 180, 1, 118]
abbrev dktX0_letter_3 : List UInt8 := dkwX0_letter_3 ++ dktX0_letter_4
def dkwX0_letter_2 : List UInt8 := [170, 0, 0, 0, 0, 0, 105, 0, 0, 0, 0, 0, 0, 0, 8, 0, 0, 0, 51, 0, 0, 0, 56, 0, 0, 0, 61, 0, 0, 0, 66, 0, 0, 0, 71, 0, 0, 0, 76, 0, 0, 0, 81, 0, 0, 0, 86, 0, 0, 0, 91]
abbrev dktX0_letter_2 : List UInt8 := dkwX0_letter_2 ++ dktX0_letter_3
def dkwX0_letter_1 : List UInt8 := [180, 0, 169, 27, 185, 0, 105, 2, 0, 192, 0, 176, 78, 28]
abbrev dktX0_letter_1 : List UInt8 := dkwX0_letter_1 ++ dktX0_letter_2
def dkwX0_letter_0 : List UInt8 := [27, 3, 42, 180, 0, 169, 185, 0, 100, 1, 0, 4, 100, 184, 0, 3, 154, 0, 6, 16, 155, 172, 42]
abbrev dktX0_letter_0 : List UInt8 := dkwX0_letter_0 ++ dktX0_letter_1
theorem dksX0_letter_0 : cX0_letter.data.toList.drop 0 = dktX0_letter_0 := by decide +kernel
theorem dksX0_letter_1 : cX0_letter.data.toList.drop 23 = dktX0_letter_1 := dk_seg dksX0_letter_0 23 rfl rfl
theorem dksX0_letter_2 : cX0_letter.data.toList.drop 37 = dktX0_letter_2 := dk_seg dksX0_letter_1 14 rfl rfl
theorem dksX0_letter_3 : cX0_letter.data.toList.drop 88 = dktX0_letter_3 := dk_seg dksX0_letter_2 51 rfl rfl
theorem dksX0_letter_4 : cX0_letter.data.toList.drop 112 = dktX0_letter_4 := dk_seg dksX0_letter_3 24 rfl rfl
theorem dksX0_letter_5 : cX0_letter.data.toList.drop 136 = dktX0_letter_5 := dk_seg dksX0_letter_4 24 rfl rfl
theorem dX0_letter_0 : decode cX0_letter 0 = .ok (.iload_n 1, 1) := dk_27 (dk_at dksX0_letter_0 0 rfl rfl)
theorem dX0_letter_1 : decode cX0_letter 1 = .ok (.iconst 0, 1) := dk_3 (dk_at dksX0_letter_0 1 rfl rfl)
theorem dX0_letter_2 : decode cX0_letter 2 = .ok (.aload_n 0, 1) := dk_42 (dk_at dksX0_letter_0 2 rfl rfl)
theorem dX0_letter_3 : decode cX0_letter 3 = .ok (.getfield 169, 3) := dk_180 0 169 (dk_at dksX0_letter_0 3 rfl rfl)
theorem dX0_letter_6 : decode cX0_letter 6 = .ok (.invokeinterface 100 1, 5) := by decide +kernel
theorem dX0_letter_11 : decode cX0_letter 11 = .ok (.iconst 1, 1) := dk_4 (dk_at dksX0_letter_0 11 rfl rfl)
theorem dX0_letter_12 : decode cX0_letter 12 = .ok (.isub, 1) := dk_100 (dk_at dksX0_letter_0 12 rfl rfl)
theorem dX0_letter_13 : decode cX0_letter 13 = .ok (.invokestatic 3, 3) := dk_184 0 3 (dk_at dksX0_letter_0 13 rfl rfl)
theorem dX0_letter_16 : decode cX0_letter 16 = .ok (.ifCond .ne 6, 3) := dk_154 0 6 (dk_at dksX0_letter_0 16 rfl rfl)
theorem dX0_letter_19 : decode cX0_letter 19 = .ok (.bipush (-101), 2) := dk_16 155 (dk_at dksX0_letter_0 19 rfl rfl)
theorem dX0_letter_21 : decode cX0_letter 21 = .ok (.ireturn, 1) := dk_172 (dk_at dksX0_letter_0 21 rfl rfl)
theorem dX0_letter_22 : decode cX0_letter 22 = .ok (.aload_n 0, 1) := dk_42 (dk_at dksX0_letter_0 22 rfl rfl)
theorem dX0_letter_23 : decode cX0_letter 23 = .ok (.getfield 169, 3) := dk_180 0 169 (dk_at dksX0_letter_1 0 rfl rfl)
theorem dX0_letter_26 : decode cX0_letter 26 = .ok (.iload_n 1, 1) := dk_27 (dk_at dksX0_letter_1 3 rfl rfl)
theorem dX0_letter_27 : decode cX0_letter 27 = .ok (.invokeinterface 105 2, 5) := by decide +kernel
theorem dX0_letter_32 : decode cX0_letter 32 = .ok (.checkcast 176, 3) := dk_192 0 176 (dk_at dksX0_letter_1 9 rfl rfl)
theorem dX0_letter_35 : decode cX0_letter 35 = .ok (.astore_n 3, 1) := dk_78 (dk_at dksX0_letter_1 12 rfl rfl)
theorem dX0_letter_36 : decode cX0_letter 36 = .ok (.iload_n 2, 1) := dk_28 (dk_at dksX0_letter_1 13 rfl rfl)
theorem dX0_letter_37 : decode cX0_letter 37 = .ok (.tableswitch 105 0 8 #[51, 56, 61, 66, 71, 76, 81, 86, 91], 51) := by decide +kernel
theorem dX0_letter_88 : decode cX0_letter 88 = .ok (.aload_n 3, 1) := dk_45 (dk_at dksX0_letter_3 0 rfl rfl)
theorem dX0_letter_89 : decode cX0_letter 89 = .ok (.getfield 304, 3) := dk_180 1 48 (dk_at dksX0_letter_3 1 rfl rfl)
theorem dX0_letter_92 : decode cX0_letter 92 = .ok (.ireturn, 1) := dk_172 (dk_at dksX0_letter_3 4 rfl rfl)
theorem dX0_letter_93 : decode cX0_letter 93 = .ok (.aload_n 3, 1) := dk_45 (dk_at dksX0_letter_3 5 rfl rfl)
theorem dX0_letter_94 : decode cX0_letter 94 = .ok (.getfield 367, 3) := dk_180 1 111 (dk_at dksX0_letter_3 6 rfl rfl)
theorem dX0_letter_97 : decode cX0_letter 97 = .ok (.ireturn, 1) := dk_172 (dk_at dksX0_letter_3 9 rfl rfl)
theorem dX0_letter_98 : decode cX0_letter 98 = .ok (.aload_n 3, 1) := dk_45 (dk_at dksX0_letter_3 10 rfl rfl)
theorem dX0_letter_99 : decode cX0_letter 99 = .ok (.getfield 370, 3) := dk_180 1 114 (dk_at dksX0_letter_3 11 rfl rfl)
theorem dX0_letter_102 : decode cX0_letter 102 = .ok (.ireturn, 1) := dk_172 (dk_at dksX0_letter_3 14 rfl rfl)
theorem dX0_letter_103 : decode cX0_letter 103 = .ok (.aload_n 3, 1) := dk_45 (dk_at dksX0_letter_3 15 rfl rfl)
theorem dX0_letter_104 : decode cX0_letter 104 = .ok (.getfield 372, 3) := dk_180 1 116 (dk_at dksX0_letter_3 16 rfl rfl)
theorem dX0_letter_107 : decode cX0_letter 107 = .ok (.ireturn, 1) := dk_172 (dk_at dksX0_letter_3 19 rfl rfl)
theorem dX0_letter_108 : decode cX0_letter 108 = .ok (.aload_n 3, 1) := dk_45 (dk_at dksX0_letter_3 20 rfl rfl)
theorem dX0_letter_109 : decode cX0_letter 109 = .ok (.getfield 374, 3) := dk_180 1 118 (dk_at dksX0_letter_3 21 rfl rfl)
theorem dX0_letter_112 : decode cX0_letter 112 = .ok (.ireturn, 1) := dk_172 (dk_at dksX0_letter_4 0 rfl rfl)
theorem dX0_letter_113 : decode cX0_letter 113 = .ok (.aload_n 3, 1) := dk_45 (dk_at dksX0_letter_4 1 rfl rfl)
theorem dX0_letter_114 : decode cX0_letter 114 = .ok (.getfield 268, 3) := dk_180 1 12 (dk_at dksX0_letter_4 2 rfl rfl)
theorem dX0_letter_117 : decode cX0_letter 117 = .ok (.ireturn, 1) := dk_172 (dk_at dksX0_letter_4 5 rfl rfl)
theorem dX0_letter_118 : decode cX0_letter 118 = .ok (.aload_n 3, 1) := dk_45 (dk_at dksX0_letter_4 6 rfl rfl)
theorem dX0_letter_119 : decode cX0_letter 119 = .ok (.getfield 377, 3) := dk_180 1 121 (dk_at dksX0_letter_4 7 rfl rfl)
theorem dX0_letter_122 : decode cX0_letter 122 = .ok (.ireturn, 1) := dk_172 (dk_at dksX0_letter_4 10 rfl rfl)
theorem dX0_letter_123 : decode cX0_letter 123 = .ok (.aload_n 3, 1) := dk_45 (dk_at dksX0_letter_4 11 rfl rfl)
theorem dX0_letter_124 : decode cX0_letter 124 = .ok (.getfield 307, 3) := dk_180 1 51 (dk_at dksX0_letter_4 12 rfl rfl)
theorem dX0_letter_127 : decode cX0_letter 127 = .ok (.ireturn, 1) := dk_172 (dk_at dksX0_letter_4 15 rfl rfl)
theorem dX0_letter_128 : decode cX0_letter 128 = .ok (.aload_n 0, 1) := dk_42 (dk_at dksX0_letter_4 16 rfl rfl)
theorem dX0_letter_129 : decode cX0_letter 129 = .ok (.aload_n 3, 1) := dk_45 (dk_at dksX0_letter_4 17 rfl rfl)
theorem dX0_letter_130 : decode cX0_letter 130 = .ok (.invokevirtual 380, 3) := dk_182 1 124 (dk_at dksX0_letter_4 18 rfl rfl)
theorem dX0_letter_133 : decode cX0_letter 133 = .ok (.ifCond .eq 7, 3) := dk_153 0 7 (dk_at dksX0_letter_4 21 rfl rfl)
theorem dX0_letter_136 : decode cX0_letter 136 = .ok (.iconst 1, 1) := dk_4 (dk_at dksX0_letter_5 0 rfl rfl)
theorem dX0_letter_137 : decode cX0_letter 137 = .ok (.goto 4, 3) := dk_167 0 4 (dk_at dksX0_letter_5 1 rfl rfl)
theorem dX0_letter_140 : decode cX0_letter 140 = .ok (.iconst 0, 1) := dk_3 (dk_at dksX0_letter_5 4 rfl rfl)
theorem dX0_letter_141 : decode cX0_letter 141 = .ok (.ireturn, 1) := dk_172 (dk_at dksX0_letter_5 5 rfl rfl)
theorem dX0_letter_142 : decode cX0_letter 142 = .ok (.bipush (-101), 2) := dk_16 155 (dk_at dksX0_letter_5 6 rfl rfl)
theorem dX0_letter_144 : decode cX0_letter 144 = .ok (.ireturn, 1) := dk_172 (dk_at dksX0_letter_5 8 rfl rfl)
abbrev cX0_size : ByteArray := prog_1_method_32_code
def yX0_size : MethodName := ⟨RX0, "size", "(II)I"⟩
def dkwX0_size_1 : List UInt8 := [50, 180, 1, 26, 185, 0, 100, 1, 0, 167, 0, 4, 2, 172]
abbrev dktX0_size_1 : List UInt8 := dkwX0_size_1 ++ []
def dkwX0_size_0 : List UInt8 := [27, 184, 0, 148, 153, 0, 32, 28, 184, 0, 217, 153, 0, 25, 42, 180, 0, 154, 27, 50, 180, 0, 220, 28]
abbrev dktX0_size_0 : List UInt8 := dkwX0_size_0 ++ dktX0_size_1
theorem dksX0_size_0 : cX0_size.data.toList.drop 0 = dktX0_size_0 := by decide +kernel
theorem dksX0_size_1 : cX0_size.data.toList.drop 24 = dktX0_size_1 := dk_seg dksX0_size_0 24 rfl rfl
theorem dX0_size_0 : decode cX0_size 0 = .ok (.iload_n 1, 1) := dk_27 (dk_at dksX0_size_0 0 rfl rfl)
theorem dX0_size_1 : decode cX0_size 1 = .ok (.invokestatic 148, 3) := dk_184 0 148 (dk_at dksX0_size_0 1 rfl rfl)
theorem dX0_size_4 : decode cX0_size 4 = .ok (.ifCond .eq 32, 3) := dk_153 0 32 (dk_at dksX0_size_0 4 rfl rfl)
theorem dX0_size_7 : decode cX0_size 7 = .ok (.iload_n 2, 1) := dk_28 (dk_at dksX0_size_0 7 rfl rfl)
theorem dX0_size_8 : decode cX0_size 8 = .ok (.invokestatic 217, 3) := dk_184 0 217 (dk_at dksX0_size_0 8 rfl rfl)
theorem dX0_size_11 : decode cX0_size 11 = .ok (.ifCond .eq 25, 3) := dk_153 0 25 (dk_at dksX0_size_0 11 rfl rfl)
theorem dX0_size_14 : decode cX0_size 14 = .ok (.aload_n 0, 1) := dk_42 (dk_at dksX0_size_0 14 rfl rfl)
theorem dX0_size_15 : decode cX0_size 15 = .ok (.getfield 154, 3) := dk_180 0 154 (dk_at dksX0_size_0 15 rfl rfl)
theorem dX0_size_18 : decode cX0_size 18 = .ok (.iload_n 1, 1) := dk_27 (dk_at dksX0_size_0 18 rfl rfl)
theorem dX0_size_19 : decode cX0_size 19 = .ok (.aaload, 1) := dk_50 (dk_at dksX0_size_0 19 rfl rfl)
theorem dX0_size_20 : decode cX0_size 20 = .ok (.getfield 220, 3) := dk_180 0 220 (dk_at dksX0_size_0 20 rfl rfl)
theorem dX0_size_23 : decode cX0_size 23 = .ok (.iload_n 2, 1) := dk_28 (dk_at dksX0_size_0 23 rfl rfl)
theorem dX0_size_24 : decode cX0_size 24 = .ok (.aaload, 1) := dk_50 (dk_at dksX0_size_1 0 rfl rfl)
theorem dX0_size_25 : decode cX0_size 25 = .ok (.getfield 282, 3) := dk_180 1 26 (dk_at dksX0_size_1 1 rfl rfl)
theorem dX0_size_28 : decode cX0_size 28 = .ok (.invokeinterface 100 1, 5) := by decide +kernel
theorem dX0_size_33 : decode cX0_size 33 = .ok (.goto 4, 3) := dk_167 0 4 (dk_at dksX0_size_1 9 rfl rfl)
theorem dX0_size_36 : decode cX0_size 36 = .ok (.iconst (-1), 1) := dk_2 (dk_at dksX0_size_1 12 rfl rfl)
theorem dX0_size_37 : decode cX0_size 37 = .ok (.ireturn, 1) := dk_172 (dk_at dksX0_size_1 13 rfl rfl)
abbrev cX0_copy : ByteArray := prog_1_method_34_code
def yX0_copy : MethodName := ⟨RX0, "copy", "(IIII)I"⟩
def dkwX0_copy_2 : List UInt8 := [167, 0, 22, 3, 167, 0, 18, 21, 4, 5, 160, 0, 11, 25, 5, 180, 1, 137, 167, 0, 4, 2, 172]
abbrev dktX0_copy_2 : List UInt8 := dkwX0_copy_2 ++ []
def dkwX0_copy_1 : List UInt8 := [180, 1, 132, 180, 1, 133, 167, 0, 40, 21, 4, 4, 160, 0, 19, 25, 5, 180, 1, 134, 153, 0, 7, 4]
abbrev dktX0_copy_1 : List UInt8 := dkwX0_copy_1 ++ dktX0_copy_2
def dkwX0_copy_0 : List UInt8 := [42, 27, 28, 29, 182, 1, 128, 58, 5, 25, 5, 199, 0, 5, 2, 172, 21, 4, 154, 0, 14, 25, 5]
abbrev dktX0_copy_0 : List UInt8 := dkwX0_copy_0 ++ dktX0_copy_1
theorem dksX0_copy_0 : cX0_copy.data.toList.drop 0 = dktX0_copy_0 := by decide +kernel
theorem dksX0_copy_1 : cX0_copy.data.toList.drop 23 = dktX0_copy_1 := dk_seg dksX0_copy_0 23 rfl rfl
theorem dksX0_copy_2 : cX0_copy.data.toList.drop 47 = dktX0_copy_2 := dk_seg dksX0_copy_1 24 rfl rfl
theorem dX0_copy_0 : decode cX0_copy 0 = .ok (.aload_n 0, 1) := dk_42 (dk_at dksX0_copy_0 0 rfl rfl)
theorem dX0_copy_1 : decode cX0_copy 1 = .ok (.iload_n 1, 1) := dk_27 (dk_at dksX0_copy_0 1 rfl rfl)
theorem dX0_copy_2 : decode cX0_copy 2 = .ok (.iload_n 2, 1) := dk_28 (dk_at dksX0_copy_0 2 rfl rfl)
theorem dX0_copy_3 : decode cX0_copy 3 = .ok (.iload_n 3, 1) := dk_29 (dk_at dksX0_copy_0 3 rfl rfl)
theorem dX0_copy_4 : decode cX0_copy 4 = .ok (.invokevirtual 384, 3) := dk_182 1 128 (dk_at dksX0_copy_0 4 rfl rfl)
theorem dX0_copy_7 : decode cX0_copy 7 = .ok (.astore 5, 2) := dk_58 5 (dk_at dksX0_copy_0 7 rfl rfl)
theorem dX0_copy_9 : decode cX0_copy 9 = .ok (.aload 5, 2) := dk_25 5 (dk_at dksX0_copy_0 9 rfl rfl)
theorem dX0_copy_11 : decode cX0_copy 11 = .ok (.ifnonnull 5, 3) := dk_199 0 5 (dk_at dksX0_copy_0 11 rfl rfl)
theorem dX0_copy_14 : decode cX0_copy 14 = .ok (.iconst (-1), 1) := dk_2 (dk_at dksX0_copy_0 14 rfl rfl)
theorem dX0_copy_15 : decode cX0_copy 15 = .ok (.ireturn, 1) := dk_172 (dk_at dksX0_copy_0 15 rfl rfl)
theorem dX0_copy_16 : decode cX0_copy 16 = .ok (.iload 4, 2) := dk_21 4 (dk_at dksX0_copy_0 16 rfl rfl)
theorem dX0_copy_18 : decode cX0_copy 18 = .ok (.ifCond .ne 14, 3) := dk_154 0 14 (dk_at dksX0_copy_0 18 rfl rfl)
theorem dX0_copy_21 : decode cX0_copy 21 = .ok (.aload 5, 2) := dk_25 5 (dk_at dksX0_copy_0 21 rfl rfl)
theorem dX0_copy_23 : decode cX0_copy 23 = .ok (.getfield 388, 3) := dk_180 1 132 (dk_at dksX0_copy_1 0 rfl rfl)
theorem dX0_copy_26 : decode cX0_copy 26 = .ok (.getfield 389, 3) := dk_180 1 133 (dk_at dksX0_copy_1 3 rfl rfl)
theorem dX0_copy_29 : decode cX0_copy 29 = .ok (.goto 40, 3) := dk_167 0 40 (dk_at dksX0_copy_1 6 rfl rfl)
theorem dX0_copy_32 : decode cX0_copy 32 = .ok (.iload 4, 2) := dk_21 4 (dk_at dksX0_copy_1 9 rfl rfl)
theorem dX0_copy_34 : decode cX0_copy 34 = .ok (.iconst 1, 1) := dk_4 (dk_at dksX0_copy_1 11 rfl rfl)
theorem dX0_copy_35 : decode cX0_copy 35 = .ok (.if_icmp .ne 19, 3) := dk_160 0 19 (dk_at dksX0_copy_1 12 rfl rfl)
theorem dX0_copy_38 : decode cX0_copy 38 = .ok (.aload 5, 2) := dk_25 5 (dk_at dksX0_copy_1 15 rfl rfl)
theorem dX0_copy_40 : decode cX0_copy 40 = .ok (.getfield 390, 3) := dk_180 1 134 (dk_at dksX0_copy_1 17 rfl rfl)
theorem dX0_copy_43 : decode cX0_copy 43 = .ok (.ifCond .eq 7, 3) := dk_153 0 7 (dk_at dksX0_copy_1 20 rfl rfl)
theorem dX0_copy_46 : decode cX0_copy 46 = .ok (.iconst 1, 1) := dk_4 (dk_at dksX0_copy_1 23 rfl rfl)
theorem dX0_copy_47 : decode cX0_copy 47 = .ok (.goto 22, 3) := dk_167 0 22 (dk_at dksX0_copy_2 0 rfl rfl)
theorem dX0_copy_50 : decode cX0_copy 50 = .ok (.iconst 0, 1) := dk_3 (dk_at dksX0_copy_2 3 rfl rfl)
theorem dX0_copy_51 : decode cX0_copy 51 = .ok (.goto 18, 3) := dk_167 0 18 (dk_at dksX0_copy_2 4 rfl rfl)
theorem dX0_copy_54 : decode cX0_copy 54 = .ok (.iload 4, 2) := dk_21 4 (dk_at dksX0_copy_2 7 rfl rfl)
theorem dX0_copy_56 : decode cX0_copy 56 = .ok (.iconst 2, 1) := dk_5 (dk_at dksX0_copy_2 9 rfl rfl)
theorem dX0_copy_57 : decode cX0_copy 57 = .ok (.if_icmp .ne 11, 3) := dk_160 0 11 (dk_at dksX0_copy_2 10 rfl rfl)
theorem dX0_copy_60 : decode cX0_copy 60 = .ok (.aload 5, 2) := dk_25 5 (dk_at dksX0_copy_2 13 rfl rfl)
theorem dX0_copy_62 : decode cX0_copy 62 = .ok (.getfield 393, 3) := dk_180 1 137 (dk_at dksX0_copy_2 15 rfl rfl)
theorem dX0_copy_65 : decode cX0_copy 65 = .ok (.goto 4, 3) := dk_167 0 4 (dk_at dksX0_copy_2 18 rfl rfl)
theorem dX0_copy_68 : decode cX0_copy 68 = .ok (.iconst (-1), 1) := dk_2 (dk_at dksX0_copy_2 21 rfl rfl)
theorem dX0_copy_69 : decode cX0_copy 69 = .ok (.ireturn, 1) := dk_172 (dk_at dksX0_copy_2 22 rfl rfl)
abbrev cX0_copyAt : ByteArray := prog_1_method_33_code
def yX0_copyAt : MethodName := ⟨RX0, "copyAt", "(III)LSortedPost$Copy;"⟩
def dkwX0_copyAt_2 : List UInt8 := [153, 0, 17, 25, 4, 29, 185, 0, 105, 2, 0, 192, 1, 32, 167, 0, 4, 1, 176]
abbrev dktX0_copyAt_2 : List UInt8 := dkwX0_copyAt_2 ++ []
def dkwX0_copyAt_1 : List UInt8 := [180, 0, 220, 28, 50, 180, 1, 26, 58, 4, 29, 3, 25, 4, 185, 0, 100, 1, 0, 4, 100, 184, 0, 3]
abbrev dktX0_copyAt_1 : List UInt8 := dkwX0_copyAt_1 ++ dktX0_copyAt_2
def dkwX0_copyAt_0 : List UInt8 := [27, 184, 0, 148, 153, 0, 10, 28, 184, 0, 217, 154, 0, 5, 1, 176, 42, 180, 0, 154, 27, 50]
abbrev dktX0_copyAt_0 : List UInt8 := dkwX0_copyAt_0 ++ dktX0_copyAt_1
theorem dksX0_copyAt_0 : cX0_copyAt.data.toList.drop 0 = dktX0_copyAt_0 := by decide +kernel
theorem dksX0_copyAt_1 : cX0_copyAt.data.toList.drop 22 = dktX0_copyAt_1 := dk_seg dksX0_copyAt_0 22 rfl rfl
theorem dksX0_copyAt_2 : cX0_copyAt.data.toList.drop 46 = dktX0_copyAt_2 := dk_seg dksX0_copyAt_1 24 rfl rfl
theorem dX0_copyAt_0 : decode cX0_copyAt 0 = .ok (.iload_n 1, 1) := dk_27 (dk_at dksX0_copyAt_0 0 rfl rfl)
theorem dX0_copyAt_1 : decode cX0_copyAt 1 = .ok (.invokestatic 148, 3) := dk_184 0 148 (dk_at dksX0_copyAt_0 1 rfl rfl)
theorem dX0_copyAt_4 : decode cX0_copyAt 4 = .ok (.ifCond .eq 10, 3) := dk_153 0 10 (dk_at dksX0_copyAt_0 4 rfl rfl)
theorem dX0_copyAt_7 : decode cX0_copyAt 7 = .ok (.iload_n 2, 1) := dk_28 (dk_at dksX0_copyAt_0 7 rfl rfl)
theorem dX0_copyAt_8 : decode cX0_copyAt 8 = .ok (.invokestatic 217, 3) := dk_184 0 217 (dk_at dksX0_copyAt_0 8 rfl rfl)
theorem dX0_copyAt_11 : decode cX0_copyAt 11 = .ok (.ifCond .ne 5, 3) := dk_154 0 5 (dk_at dksX0_copyAt_0 11 rfl rfl)
theorem dX0_copyAt_14 : decode cX0_copyAt 14 = .ok (.aconst_null, 1) := dk_1 (dk_at dksX0_copyAt_0 14 rfl rfl)
theorem dX0_copyAt_15 : decode cX0_copyAt 15 = .ok (.areturn, 1) := dk_176 (dk_at dksX0_copyAt_0 15 rfl rfl)
theorem dX0_copyAt_16 : decode cX0_copyAt 16 = .ok (.aload_n 0, 1) := dk_42 (dk_at dksX0_copyAt_0 16 rfl rfl)
theorem dX0_copyAt_17 : decode cX0_copyAt 17 = .ok (.getfield 154, 3) := dk_180 0 154 (dk_at dksX0_copyAt_0 17 rfl rfl)
theorem dX0_copyAt_20 : decode cX0_copyAt 20 = .ok (.iload_n 1, 1) := dk_27 (dk_at dksX0_copyAt_0 20 rfl rfl)
theorem dX0_copyAt_21 : decode cX0_copyAt 21 = .ok (.aaload, 1) := dk_50 (dk_at dksX0_copyAt_0 21 rfl rfl)
theorem dX0_copyAt_22 : decode cX0_copyAt 22 = .ok (.getfield 220, 3) := dk_180 0 220 (dk_at dksX0_copyAt_1 0 rfl rfl)
theorem dX0_copyAt_25 : decode cX0_copyAt 25 = .ok (.iload_n 2, 1) := dk_28 (dk_at dksX0_copyAt_1 3 rfl rfl)
theorem dX0_copyAt_26 : decode cX0_copyAt 26 = .ok (.aaload, 1) := dk_50 (dk_at dksX0_copyAt_1 4 rfl rfl)
theorem dX0_copyAt_27 : decode cX0_copyAt 27 = .ok (.getfield 282, 3) := dk_180 1 26 (dk_at dksX0_copyAt_1 5 rfl rfl)
theorem dX0_copyAt_30 : decode cX0_copyAt 30 = .ok (.astore 4, 2) := dk_58 4 (dk_at dksX0_copyAt_1 8 rfl rfl)
theorem dX0_copyAt_32 : decode cX0_copyAt 32 = .ok (.iload_n 3, 1) := dk_29 (dk_at dksX0_copyAt_1 10 rfl rfl)
theorem dX0_copyAt_33 : decode cX0_copyAt 33 = .ok (.iconst 0, 1) := dk_3 (dk_at dksX0_copyAt_1 11 rfl rfl)
theorem dX0_copyAt_34 : decode cX0_copyAt 34 = .ok (.aload 4, 2) := dk_25 4 (dk_at dksX0_copyAt_1 12 rfl rfl)
theorem dX0_copyAt_36 : decode cX0_copyAt 36 = .ok (.invokeinterface 100 1, 5) := by decide +kernel
theorem dX0_copyAt_41 : decode cX0_copyAt 41 = .ok (.iconst 1, 1) := dk_4 (dk_at dksX0_copyAt_1 19 rfl rfl)
theorem dX0_copyAt_42 : decode cX0_copyAt 42 = .ok (.isub, 1) := dk_100 (dk_at dksX0_copyAt_1 20 rfl rfl)
theorem dX0_copyAt_43 : decode cX0_copyAt 43 = .ok (.invokestatic 3, 3) := dk_184 0 3 (dk_at dksX0_copyAt_1 21 rfl rfl)
theorem dX0_copyAt_46 : decode cX0_copyAt 46 = .ok (.ifCond .eq 17, 3) := dk_153 0 17 (dk_at dksX0_copyAt_2 0 rfl rfl)
theorem dX0_copyAt_49 : decode cX0_copyAt 49 = .ok (.aload 4, 2) := dk_25 4 (dk_at dksX0_copyAt_2 3 rfl rfl)
theorem dX0_copyAt_51 : decode cX0_copyAt 51 = .ok (.iload_n 3, 1) := dk_29 (dk_at dksX0_copyAt_2 5 rfl rfl)
theorem dX0_copyAt_52 : decode cX0_copyAt 52 = .ok (.invokeinterface 105 2, 5) := by decide +kernel
theorem dX0_copyAt_57 : decode cX0_copyAt 57 = .ok (.checkcast 288, 3) := dk_192 1 32 (dk_at dksX0_copyAt_2 11 rfl rfl)
theorem dX0_copyAt_60 : decode cX0_copyAt 60 = .ok (.goto 4, 3) := dk_167 0 4 (dk_at dksX0_copyAt_2 14 rfl rfl)
theorem dX0_copyAt_63 : decode cX0_copyAt 63 = .ok (.aconst_null, 1) := dk_1 (dk_at dksX0_copyAt_2 17 rfl rfl)
theorem dX0_copyAt_64 : decode cX0_copyAt 64 = .ok (.areturn, 1) := dk_176 (dk_at dksX0_copyAt_2 18 rfl rfl)
abbrev cX0_move : ByteArray := prog_1_method_35_code
def yX0_move : MethodName := ⟨RX0, "move", "(IIII)I"⟩
def dkwX0_move_4 : List UInt8 := [180, 1, 26, 25, 5, 185, 0, 116, 2, 0, 87, 25, 6, 180, 1, 26, 185, 0, 100, 1, 0, 172]
abbrev dktX0_move_4 : List UInt8 := dkwX0_move_4 ++ []
def dkwX0_move_3 : List UInt8 := [42, 180, 0, 154, 27, 50, 180, 0, 220, 28, 50, 180, 1, 26, 29, 185, 1, 140, 2, 0, 87, 25, 6]
abbrev dktX0_move_3 : List UInt8 := dkwX0_move_3 ++ dktX0_move_4
def dkwX0_move_2 : List UInt8 := [159, 0, 24, 25, 6, 180, 1, 26, 185, 0, 100, 1, 0, 25, 6, 180, 0, 224, 161, 0, 6, 16, 253, 172]
abbrev dktX0_move_2 : List UInt8 := dkwX0_move_2 ++ dktX0_move_3
def dkwX0_move_1 : List UInt8 := [42, 180, 0, 154, 27, 50, 180, 0, 220, 21, 4, 50, 58, 6, 21, 4, 158, 0, 30, 21, 4, 28]
abbrev dktX0_move_1 : List UInt8 := dkwX0_move_1 ++ dktX0_move_2
def dkwX0_move_0 : List UInt8 := [42, 27, 28, 29, 182, 1, 128, 58, 5, 25, 5, 198, 0, 11, 21, 4, 184, 0, 217, 154, 0, 5, 2, 172]
abbrev dktX0_move_0 : List UInt8 := dkwX0_move_0 ++ dktX0_move_1
theorem dksX0_move_0 : cX0_move.data.toList.drop 0 = dktX0_move_0 := by decide +kernel
theorem dksX0_move_1 : cX0_move.data.toList.drop 24 = dktX0_move_1 := dk_seg dksX0_move_0 24 rfl rfl
theorem dksX0_move_2 : cX0_move.data.toList.drop 46 = dktX0_move_2 := dk_seg dksX0_move_1 22 rfl rfl
theorem dksX0_move_3 : cX0_move.data.toList.drop 70 = dktX0_move_3 := dk_seg dksX0_move_2 24 rfl rfl
theorem dksX0_move_4 : cX0_move.data.toList.drop 93 = dktX0_move_4 := dk_seg dksX0_move_3 23 rfl rfl
theorem dX0_move_0 : decode cX0_move 0 = .ok (.aload_n 0, 1) := dk_42 (dk_at dksX0_move_0 0 rfl rfl)
theorem dX0_move_1 : decode cX0_move 1 = .ok (.iload_n 1, 1) := dk_27 (dk_at dksX0_move_0 1 rfl rfl)
theorem dX0_move_2 : decode cX0_move 2 = .ok (.iload_n 2, 1) := dk_28 (dk_at dksX0_move_0 2 rfl rfl)
theorem dX0_move_3 : decode cX0_move 3 = .ok (.iload_n 3, 1) := dk_29 (dk_at dksX0_move_0 3 rfl rfl)
theorem dX0_move_4 : decode cX0_move 4 = .ok (.invokevirtual 384, 3) := dk_182 1 128 (dk_at dksX0_move_0 4 rfl rfl)
theorem dX0_move_7 : decode cX0_move 7 = .ok (.astore 5, 2) := dk_58 5 (dk_at dksX0_move_0 7 rfl rfl)
theorem dX0_move_9 : decode cX0_move 9 = .ok (.aload 5, 2) := dk_25 5 (dk_at dksX0_move_0 9 rfl rfl)
theorem dX0_move_11 : decode cX0_move 11 = .ok (.ifnull 11, 3) := dk_198 0 11 (dk_at dksX0_move_0 11 rfl rfl)
theorem dX0_move_14 : decode cX0_move 14 = .ok (.iload 4, 2) := dk_21 4 (dk_at dksX0_move_0 14 rfl rfl)
theorem dX0_move_16 : decode cX0_move 16 = .ok (.invokestatic 217, 3) := dk_184 0 217 (dk_at dksX0_move_0 16 rfl rfl)
theorem dX0_move_19 : decode cX0_move 19 = .ok (.ifCond .ne 5, 3) := dk_154 0 5 (dk_at dksX0_move_0 19 rfl rfl)
theorem dX0_move_22 : decode cX0_move 22 = .ok (.iconst (-1), 1) := dk_2 (dk_at dksX0_move_0 22 rfl rfl)
theorem dX0_move_23 : decode cX0_move 23 = .ok (.ireturn, 1) := dk_172 (dk_at dksX0_move_0 23 rfl rfl)
theorem dX0_move_24 : decode cX0_move 24 = .ok (.aload_n 0, 1) := dk_42 (dk_at dksX0_move_1 0 rfl rfl)
theorem dX0_move_25 : decode cX0_move 25 = .ok (.getfield 154, 3) := dk_180 0 154 (dk_at dksX0_move_1 1 rfl rfl)
theorem dX0_move_28 : decode cX0_move 28 = .ok (.iload_n 1, 1) := dk_27 (dk_at dksX0_move_1 4 rfl rfl)
theorem dX0_move_29 : decode cX0_move 29 = .ok (.aaload, 1) := dk_50 (dk_at dksX0_move_1 5 rfl rfl)
theorem dX0_move_30 : decode cX0_move 30 = .ok (.getfield 220, 3) := dk_180 0 220 (dk_at dksX0_move_1 6 rfl rfl)
theorem dX0_move_33 : decode cX0_move 33 = .ok (.iload 4, 2) := dk_21 4 (dk_at dksX0_move_1 9 rfl rfl)
theorem dX0_move_35 : decode cX0_move 35 = .ok (.aaload, 1) := dk_50 (dk_at dksX0_move_1 11 rfl rfl)
theorem dX0_move_36 : decode cX0_move 36 = .ok (.astore 6, 2) := dk_58 6 (dk_at dksX0_move_1 12 rfl rfl)
theorem dX0_move_38 : decode cX0_move 38 = .ok (.iload 4, 2) := dk_21 4 (dk_at dksX0_move_1 14 rfl rfl)
theorem dX0_move_40 : decode cX0_move 40 = .ok (.ifCond .le 30, 3) := dk_158 0 30 (dk_at dksX0_move_1 16 rfl rfl)
theorem dX0_move_43 : decode cX0_move 43 = .ok (.iload 4, 2) := dk_21 4 (dk_at dksX0_move_1 19 rfl rfl)
theorem dX0_move_45 : decode cX0_move 45 = .ok (.iload_n 2, 1) := dk_28 (dk_at dksX0_move_1 21 rfl rfl)
theorem dX0_move_46 : decode cX0_move 46 = .ok (.if_icmp .eq 24, 3) := dk_159 0 24 (dk_at dksX0_move_2 0 rfl rfl)
theorem dX0_move_49 : decode cX0_move 49 = .ok (.aload 6, 2) := dk_25 6 (dk_at dksX0_move_2 3 rfl rfl)
theorem dX0_move_51 : decode cX0_move 51 = .ok (.getfield 282, 3) := dk_180 1 26 (dk_at dksX0_move_2 5 rfl rfl)
theorem dX0_move_54 : decode cX0_move 54 = .ok (.invokeinterface 100 1, 5) := by decide +kernel
theorem dX0_move_59 : decode cX0_move 59 = .ok (.aload 6, 2) := dk_25 6 (dk_at dksX0_move_2 13 rfl rfl)
theorem dX0_move_61 : decode cX0_move 61 = .ok (.getfield 224, 3) := dk_180 0 224 (dk_at dksX0_move_2 15 rfl rfl)
theorem dX0_move_64 : decode cX0_move 64 = .ok (.if_icmp .lt 6, 3) := dk_161 0 6 (dk_at dksX0_move_2 18 rfl rfl)
theorem dX0_move_67 : decode cX0_move 67 = .ok (.bipush (-3), 2) := dk_16 253 (dk_at dksX0_move_2 21 rfl rfl)
theorem dX0_move_69 : decode cX0_move 69 = .ok (.ireturn, 1) := dk_172 (dk_at dksX0_move_2 23 rfl rfl)
theorem dX0_move_70 : decode cX0_move 70 = .ok (.aload_n 0, 1) := dk_42 (dk_at dksX0_move_3 0 rfl rfl)
theorem dX0_move_71 : decode cX0_move 71 = .ok (.getfield 154, 3) := dk_180 0 154 (dk_at dksX0_move_3 1 rfl rfl)
theorem dX0_move_74 : decode cX0_move 74 = .ok (.iload_n 1, 1) := dk_27 (dk_at dksX0_move_3 4 rfl rfl)
theorem dX0_move_75 : decode cX0_move 75 = .ok (.aaload, 1) := dk_50 (dk_at dksX0_move_3 5 rfl rfl)
theorem dX0_move_76 : decode cX0_move 76 = .ok (.getfield 220, 3) := dk_180 0 220 (dk_at dksX0_move_3 6 rfl rfl)
theorem dX0_move_79 : decode cX0_move 79 = .ok (.iload_n 2, 1) := dk_28 (dk_at dksX0_move_3 9 rfl rfl)
theorem dX0_move_80 : decode cX0_move 80 = .ok (.aaload, 1) := dk_50 (dk_at dksX0_move_3 10 rfl rfl)
theorem dX0_move_81 : decode cX0_move 81 = .ok (.getfield 282, 3) := dk_180 1 26 (dk_at dksX0_move_3 11 rfl rfl)
theorem dX0_move_84 : decode cX0_move 84 = .ok (.iload_n 3, 1) := dk_29 (dk_at dksX0_move_3 14 rfl rfl)
theorem dX0_move_85 : decode cX0_move 85 = .ok (.invokeinterface 396 2, 5) := by decide +kernel
theorem dX0_move_90 : decode cX0_move 90 = .ok (.pop, 1) := dk_87 (dk_at dksX0_move_3 20 rfl rfl)
theorem dX0_move_91 : decode cX0_move 91 = .ok (.aload 6, 2) := dk_25 6 (dk_at dksX0_move_3 21 rfl rfl)
theorem dX0_move_93 : decode cX0_move 93 = .ok (.getfield 282, 3) := dk_180 1 26 (dk_at dksX0_move_4 0 rfl rfl)
theorem dX0_move_96 : decode cX0_move 96 = .ok (.aload 5, 2) := dk_25 5 (dk_at dksX0_move_4 3 rfl rfl)
theorem dX0_move_98 : decode cX0_move 98 = .ok (.invokeinterface 116 2, 5) := by decide +kernel
theorem dX0_move_103 : decode cX0_move 103 = .ok (.pop, 1) := dk_87 (dk_at dksX0_move_4 10 rfl rfl)
theorem dX0_move_104 : decode cX0_move 104 = .ok (.aload 6, 2) := dk_25 6 (dk_at dksX0_move_4 11 rfl rfl)
theorem dX0_move_106 : decode cX0_move 106 = .ok (.getfield 282, 3) := dk_180 1 26 (dk_at dksX0_move_4 13 rfl rfl)
theorem dX0_move_109 : decode cX0_move 109 = .ok (.invokeinterface 100 1, 5) := by decide +kernel
theorem dX0_move_114 : decode cX0_move 114 = .ok (.ireturn, 1) := dk_172 (dk_at dksX0_move_4 21 rfl rfl)
abbrev cX0_clear : ByteArray := prog_1_method_36_code
def yX0_clear : MethodName := ⟨RX0, "clear", "(II)I"⟩
def dkwX0_clear_2 : List UInt8 := [50, 180, 1, 26, 185, 1, 143, 1, 0, 42, 89, 180, 1, 44, 29, 100, 181, 1, 44, 29, 172]
abbrev dktX0_clear_2 : List UInt8 := dkwX0_clear_2 ++ []
def dkwX0_clear_1 : List UInt8 := [180, 0, 220, 28, 50, 180, 1, 26, 185, 0, 100, 1, 0, 62, 42, 180, 0, 154, 27, 50, 180, 0, 220, 28]
abbrev dktX0_clear_1 : List UInt8 := dkwX0_clear_1 ++ dktX0_clear_2
def dkwX0_clear_0 : List UInt8 := [27, 184, 0, 148, 153, 0, 10, 28, 184, 0, 217, 154, 0, 5, 2, 172, 42, 180, 0, 154, 27, 50]
abbrev dktX0_clear_0 : List UInt8 := dkwX0_clear_0 ++ dktX0_clear_1
theorem dksX0_clear_0 : cX0_clear.data.toList.drop 0 = dktX0_clear_0 := by decide +kernel
theorem dksX0_clear_1 : cX0_clear.data.toList.drop 22 = dktX0_clear_1 := dk_seg dksX0_clear_0 22 rfl rfl
theorem dksX0_clear_2 : cX0_clear.data.toList.drop 46 = dktX0_clear_2 := dk_seg dksX0_clear_1 24 rfl rfl
theorem dX0_clear_0 : decode cX0_clear 0 = .ok (.iload_n 1, 1) := dk_27 (dk_at dksX0_clear_0 0 rfl rfl)
theorem dX0_clear_1 : decode cX0_clear 1 = .ok (.invokestatic 148, 3) := dk_184 0 148 (dk_at dksX0_clear_0 1 rfl rfl)
theorem dX0_clear_4 : decode cX0_clear 4 = .ok (.ifCond .eq 10, 3) := dk_153 0 10 (dk_at dksX0_clear_0 4 rfl rfl)
theorem dX0_clear_7 : decode cX0_clear 7 = .ok (.iload_n 2, 1) := dk_28 (dk_at dksX0_clear_0 7 rfl rfl)
theorem dX0_clear_8 : decode cX0_clear 8 = .ok (.invokestatic 217, 3) := dk_184 0 217 (dk_at dksX0_clear_0 8 rfl rfl)
theorem dX0_clear_11 : decode cX0_clear 11 = .ok (.ifCond .ne 5, 3) := dk_154 0 5 (dk_at dksX0_clear_0 11 rfl rfl)
theorem dX0_clear_14 : decode cX0_clear 14 = .ok (.iconst (-1), 1) := dk_2 (dk_at dksX0_clear_0 14 rfl rfl)
theorem dX0_clear_15 : decode cX0_clear 15 = .ok (.ireturn, 1) := dk_172 (dk_at dksX0_clear_0 15 rfl rfl)
theorem dX0_clear_16 : decode cX0_clear 16 = .ok (.aload_n 0, 1) := dk_42 (dk_at dksX0_clear_0 16 rfl rfl)
theorem dX0_clear_17 : decode cX0_clear 17 = .ok (.getfield 154, 3) := dk_180 0 154 (dk_at dksX0_clear_0 17 rfl rfl)
theorem dX0_clear_20 : decode cX0_clear 20 = .ok (.iload_n 1, 1) := dk_27 (dk_at dksX0_clear_0 20 rfl rfl)
theorem dX0_clear_21 : decode cX0_clear 21 = .ok (.aaload, 1) := dk_50 (dk_at dksX0_clear_0 21 rfl rfl)
theorem dX0_clear_22 : decode cX0_clear 22 = .ok (.getfield 220, 3) := dk_180 0 220 (dk_at dksX0_clear_1 0 rfl rfl)
theorem dX0_clear_25 : decode cX0_clear 25 = .ok (.iload_n 2, 1) := dk_28 (dk_at dksX0_clear_1 3 rfl rfl)
theorem dX0_clear_26 : decode cX0_clear 26 = .ok (.aaload, 1) := dk_50 (dk_at dksX0_clear_1 4 rfl rfl)
theorem dX0_clear_27 : decode cX0_clear 27 = .ok (.getfield 282, 3) := dk_180 1 26 (dk_at dksX0_clear_1 5 rfl rfl)
theorem dX0_clear_30 : decode cX0_clear 30 = .ok (.invokeinterface 100 1, 5) := by decide +kernel
theorem dX0_clear_35 : decode cX0_clear 35 = .ok (.istore_n 3, 1) := dk_62 (dk_at dksX0_clear_1 13 rfl rfl)
theorem dX0_clear_36 : decode cX0_clear 36 = .ok (.aload_n 0, 1) := dk_42 (dk_at dksX0_clear_1 14 rfl rfl)
theorem dX0_clear_37 : decode cX0_clear 37 = .ok (.getfield 154, 3) := dk_180 0 154 (dk_at dksX0_clear_1 15 rfl rfl)
theorem dX0_clear_40 : decode cX0_clear 40 = .ok (.iload_n 1, 1) := dk_27 (dk_at dksX0_clear_1 18 rfl rfl)
theorem dX0_clear_41 : decode cX0_clear 41 = .ok (.aaload, 1) := dk_50 (dk_at dksX0_clear_1 19 rfl rfl)
theorem dX0_clear_42 : decode cX0_clear 42 = .ok (.getfield 220, 3) := dk_180 0 220 (dk_at dksX0_clear_1 20 rfl rfl)
theorem dX0_clear_45 : decode cX0_clear 45 = .ok (.iload_n 2, 1) := dk_28 (dk_at dksX0_clear_1 23 rfl rfl)
theorem dX0_clear_46 : decode cX0_clear 46 = .ok (.aaload, 1) := dk_50 (dk_at dksX0_clear_2 0 rfl rfl)
theorem dX0_clear_47 : decode cX0_clear 47 = .ok (.getfield 282, 3) := dk_180 1 26 (dk_at dksX0_clear_2 1 rfl rfl)
theorem dX0_clear_50 : decode cX0_clear 50 = .ok (.invokeinterface 399 1, 5) := by decide +kernel
theorem dX0_clear_55 : decode cX0_clear 55 = .ok (.aload_n 0, 1) := dk_42 (dk_at dksX0_clear_2 9 rfl rfl)
theorem dX0_clear_56 : decode cX0_clear 56 = .ok (.dup, 1) := dk_89 (dk_at dksX0_clear_2 10 rfl rfl)
theorem dX0_clear_57 : decode cX0_clear 57 = .ok (.getfield 300, 3) := dk_180 1 44 (dk_at dksX0_clear_2 11 rfl rfl)
theorem dX0_clear_60 : decode cX0_clear 60 = .ok (.iload_n 3, 1) := dk_29 (dk_at dksX0_clear_2 14 rfl rfl)
theorem dX0_clear_61 : decode cX0_clear 61 = .ok (.isub, 1) := dk_100 (dk_at dksX0_clear_2 15 rfl rfl)
theorem dX0_clear_62 : decode cX0_clear 62 = .ok (.putfield 300, 3) := dk_181 1 44 (dk_at dksX0_clear_2 16 rfl rfl)
theorem dX0_clear_65 : decode cX0_clear 65 = .ok (.iload_n 3, 1) := dk_29 (dk_at dksX0_clear_2 19 rfl rfl)
theorem dX0_clear_66 : decode cX0_clear 66 = .ok (.ireturn, 1) := dk_172 (dk_at dksX0_clear_2 20 rfl rfl)
abbrev cX0_count : ByteArray := prog_1_method_37_code
def yX0_count : MethodName := ⟨RX0, "count", "(I)I"⟩
def dkwX0_count_4 : List UInt8 := [172, 2, 172]
abbrev dktX0_count_4 : List UInt8 := dkwX0_count_4 ++ []
def dkwX0_count_3 : List UInt8 := [172, 42, 180, 1, 57, 172, 42, 180, 1, 29, 172, 42, 180, 0, 197, 3, 46, 172, 42, 180, 0, 197, 4, 46]
abbrev dktX0_count_3 : List UInt8 := dkwX0_count_3 ++ dktX0_count_4
def dkwX0_count_2 : List UInt8 := [42, 180, 0, 169, 185, 0, 100, 1, 0, 172, 42, 180, 1, 44, 172, 42, 180, 1, 146, 172, 42, 180, 0, 254]
abbrev dktX0_count_2 : List UInt8 := dkwX0_count_2 ++ dktX0_count_3
def dkwX0_count_1 : List UInt8 := [170, 0, 0, 0, 0, 0, 96, 0, 0, 0, 0, 0, 0, 0, 7, 0, 0, 0, 47, 0, 0, 0, 57, 0, 0, 0, 62, 0, 0, 0, 67, 0, 0, 0, 72, 0, 0, 0, 77, 0, 0, 0, 82, 0, 0, 0, 89]
abbrev dktX0_count_1 : List UInt8 := dkwX0_count_1 ++ dktX0_count_2
def dkwX0_count_0 : List UInt8 := [27]
abbrev dktX0_count_0 : List UInt8 := dkwX0_count_0 ++ dktX0_count_1
theorem dksX0_count_0 : cX0_count.data.toList.drop 0 = dktX0_count_0 := by decide +kernel
theorem dksX0_count_1 : cX0_count.data.toList.drop 1 = dktX0_count_1 := dk_seg dksX0_count_0 1 rfl rfl
theorem dksX0_count_2 : cX0_count.data.toList.drop 48 = dktX0_count_2 := dk_seg dksX0_count_1 47 rfl rfl
theorem dksX0_count_3 : cX0_count.data.toList.drop 72 = dktX0_count_3 := dk_seg dksX0_count_2 24 rfl rfl
theorem dksX0_count_4 : cX0_count.data.toList.drop 96 = dktX0_count_4 := dk_seg dksX0_count_3 24 rfl rfl
theorem dX0_count_0 : decode cX0_count 0 = .ok (.iload_n 1, 1) := dk_27 (dk_at dksX0_count_0 0 rfl rfl)
theorem dX0_count_1 : decode cX0_count 1 = .ok (.tableswitch 96 0 7 #[47, 57, 62, 67, 72, 77, 82, 89], 47) := by decide +kernel
theorem dX0_count_48 : decode cX0_count 48 = .ok (.aload_n 0, 1) := dk_42 (dk_at dksX0_count_2 0 rfl rfl)
theorem dX0_count_49 : decode cX0_count 49 = .ok (.getfield 169, 3) := dk_180 0 169 (dk_at dksX0_count_2 1 rfl rfl)
theorem dX0_count_52 : decode cX0_count 52 = .ok (.invokeinterface 100 1, 5) := by decide +kernel
theorem dX0_count_57 : decode cX0_count 57 = .ok (.ireturn, 1) := dk_172 (dk_at dksX0_count_2 9 rfl rfl)
theorem dX0_count_58 : decode cX0_count 58 = .ok (.aload_n 0, 1) := dk_42 (dk_at dksX0_count_2 10 rfl rfl)
theorem dX0_count_59 : decode cX0_count 59 = .ok (.getfield 300, 3) := dk_180 1 44 (dk_at dksX0_count_2 11 rfl rfl)
theorem dX0_count_62 : decode cX0_count 62 = .ok (.ireturn, 1) := dk_172 (dk_at dksX0_count_2 14 rfl rfl)
theorem dX0_count_63 : decode cX0_count 63 = .ok (.aload_n 0, 1) := dk_42 (dk_at dksX0_count_2 15 rfl rfl)
theorem dX0_count_64 : decode cX0_count 64 = .ok (.getfield 402, 3) := dk_180 1 146 (dk_at dksX0_count_2 16 rfl rfl)
theorem dX0_count_67 : decode cX0_count 67 = .ok (.ireturn, 1) := dk_172 (dk_at dksX0_count_2 19 rfl rfl)
theorem dX0_count_68 : decode cX0_count 68 = .ok (.aload_n 0, 1) := dk_42 (dk_at dksX0_count_2 20 rfl rfl)
theorem dX0_count_69 : decode cX0_count 69 = .ok (.getfield 254, 3) := dk_180 0 254 (dk_at dksX0_count_2 21 rfl rfl)
theorem dX0_count_72 : decode cX0_count 72 = .ok (.ireturn, 1) := dk_172 (dk_at dksX0_count_3 0 rfl rfl)
theorem dX0_count_73 : decode cX0_count 73 = .ok (.aload_n 0, 1) := dk_42 (dk_at dksX0_count_3 1 rfl rfl)
theorem dX0_count_74 : decode cX0_count 74 = .ok (.getfield 313, 3) := dk_180 1 57 (dk_at dksX0_count_3 2 rfl rfl)
theorem dX0_count_77 : decode cX0_count 77 = .ok (.ireturn, 1) := dk_172 (dk_at dksX0_count_3 5 rfl rfl)
theorem dX0_count_78 : decode cX0_count 78 = .ok (.aload_n 0, 1) := dk_42 (dk_at dksX0_count_3 6 rfl rfl)
theorem dX0_count_79 : decode cX0_count 79 = .ok (.getfield 285, 3) := dk_180 1 29 (dk_at dksX0_count_3 7 rfl rfl)
theorem dX0_count_82 : decode cX0_count 82 = .ok (.ireturn, 1) := dk_172 (dk_at dksX0_count_3 10 rfl rfl)
theorem dX0_count_83 : decode cX0_count 83 = .ok (.aload_n 0, 1) := dk_42 (dk_at dksX0_count_3 11 rfl rfl)
theorem dX0_count_84 : decode cX0_count 84 = .ok (.getfield 197, 3) := dk_180 0 197 (dk_at dksX0_count_3 12 rfl rfl)
theorem dX0_count_87 : decode cX0_count 87 = .ok (.iconst 0, 1) := dk_3 (dk_at dksX0_count_3 15 rfl rfl)
theorem dX0_count_88 : decode cX0_count 88 = .ok (.iaload, 1) := dk_46 (dk_at dksX0_count_3 16 rfl rfl)
theorem dX0_count_89 : decode cX0_count 89 = .ok (.ireturn, 1) := dk_172 (dk_at dksX0_count_3 17 rfl rfl)
theorem dX0_count_90 : decode cX0_count 90 = .ok (.aload_n 0, 1) := dk_42 (dk_at dksX0_count_3 18 rfl rfl)
theorem dX0_count_91 : decode cX0_count 91 = .ok (.getfield 197, 3) := dk_180 0 197 (dk_at dksX0_count_3 19 rfl rfl)
theorem dX0_count_94 : decode cX0_count 94 = .ok (.iconst 1, 1) := dk_4 (dk_at dksX0_count_3 22 rfl rfl)
theorem dX0_count_95 : decode cX0_count 95 = .ok (.iaload, 1) := dk_46 (dk_at dksX0_count_3 23 rfl rfl)
theorem dX0_count_96 : decode cX0_count 96 = .ok (.ireturn, 1) := dk_172 (dk_at dksX0_count_4 0 rfl rfl)
theorem dX0_count_97 : decode cX0_count 97 = .ok (.iconst (-1), 1) := dk_2 (dk_at dksX0_count_4 1 rfl rfl)
theorem dX0_count_98 : decode cX0_count 98 = .ok (.ireturn, 1) := dk_172 (dk_at dksX0_count_4 2 rfl rfl)
abbrev cX0_thread : ByteArray := prog_1_method_39_code
def yX0_thread : MethodName := ⟨RX0, "thread", "(I)I"⟩
def dkwX0_thread_3 : List UInt8 := [172]
abbrev dktX0_thread_3 : List UInt8 := dkwX0_thread_3 ++ []
def dkwX0_thread_2 : List UInt8 := [42, 21, 4, 182, 1, 149, 28, 160, 0, 7, 4, 167, 0, 4, 3, 96, 62, 132, 4, 1, 167, 255, 221, 29]
abbrev dktX0_thread_2 : List UInt8 := dkwX0_thread_2 ++ dktX0_thread_3
def dkwX0_thread_1 : List UInt8 := [182, 1, 149, 61, 3, 62, 28, 54, 4, 21, 4, 42, 180, 0, 169, 185, 0, 100, 1, 0, 162, 0, 27, 29]
abbrev dktX0_thread_1 : List UInt8 := dkwX0_thread_1 ++ dktX0_thread_2
def dkwX0_thread_0 : List UInt8 := [27, 3, 42, 180, 0, 169, 185, 0, 100, 1, 0, 4, 100, 184, 0, 3, 154, 0, 5, 2, 172, 42, 27]
abbrev dktX0_thread_0 : List UInt8 := dkwX0_thread_0 ++ dktX0_thread_1
theorem dksX0_thread_0 : cX0_thread.data.toList.drop 0 = dktX0_thread_0 := by decide +kernel
theorem dksX0_thread_1 : cX0_thread.data.toList.drop 23 = dktX0_thread_1 := dk_seg dksX0_thread_0 23 rfl rfl
theorem dksX0_thread_2 : cX0_thread.data.toList.drop 47 = dktX0_thread_2 := dk_seg dksX0_thread_1 24 rfl rfl
theorem dksX0_thread_3 : cX0_thread.data.toList.drop 71 = dktX0_thread_3 := dk_seg dksX0_thread_2 24 rfl rfl
theorem dX0_thread_0 : decode cX0_thread 0 = .ok (.iload_n 1, 1) := dk_27 (dk_at dksX0_thread_0 0 rfl rfl)
theorem dX0_thread_1 : decode cX0_thread 1 = .ok (.iconst 0, 1) := dk_3 (dk_at dksX0_thread_0 1 rfl rfl)
theorem dX0_thread_2 : decode cX0_thread 2 = .ok (.aload_n 0, 1) := dk_42 (dk_at dksX0_thread_0 2 rfl rfl)
theorem dX0_thread_3 : decode cX0_thread 3 = .ok (.getfield 169, 3) := dk_180 0 169 (dk_at dksX0_thread_0 3 rfl rfl)
theorem dX0_thread_6 : decode cX0_thread 6 = .ok (.invokeinterface 100 1, 5) := by decide +kernel
theorem dX0_thread_11 : decode cX0_thread 11 = .ok (.iconst 1, 1) := dk_4 (dk_at dksX0_thread_0 11 rfl rfl)
theorem dX0_thread_12 : decode cX0_thread 12 = .ok (.isub, 1) := dk_100 (dk_at dksX0_thread_0 12 rfl rfl)
theorem dX0_thread_13 : decode cX0_thread 13 = .ok (.invokestatic 3, 3) := dk_184 0 3 (dk_at dksX0_thread_0 13 rfl rfl)
theorem dX0_thread_16 : decode cX0_thread 16 = .ok (.ifCond .ne 5, 3) := dk_154 0 5 (dk_at dksX0_thread_0 16 rfl rfl)
theorem dX0_thread_19 : decode cX0_thread 19 = .ok (.iconst (-1), 1) := dk_2 (dk_at dksX0_thread_0 19 rfl rfl)
theorem dX0_thread_20 : decode cX0_thread 20 = .ok (.ireturn, 1) := dk_172 (dk_at dksX0_thread_0 20 rfl rfl)
theorem dX0_thread_21 : decode cX0_thread 21 = .ok (.aload_n 0, 1) := dk_42 (dk_at dksX0_thread_0 21 rfl rfl)
theorem dX0_thread_22 : decode cX0_thread 22 = .ok (.iload_n 1, 1) := dk_27 (dk_at dksX0_thread_0 22 rfl rfl)
theorem dX0_thread_23 : decode cX0_thread 23 = .ok (.invokevirtual 405, 3) := dk_182 1 149 (dk_at dksX0_thread_1 0 rfl rfl)
theorem dX0_thread_26 : decode cX0_thread 26 = .ok (.istore_n 2, 1) := dk_61 (dk_at dksX0_thread_1 3 rfl rfl)
theorem dX0_thread_27 : decode cX0_thread 27 = .ok (.iconst 0, 1) := dk_3 (dk_at dksX0_thread_1 4 rfl rfl)
theorem dX0_thread_28 : decode cX0_thread 28 = .ok (.istore_n 3, 1) := dk_62 (dk_at dksX0_thread_1 5 rfl rfl)
theorem dX0_thread_29 : decode cX0_thread 29 = .ok (.iload_n 2, 1) := dk_28 (dk_at dksX0_thread_1 6 rfl rfl)
theorem dX0_thread_30 : decode cX0_thread 30 = .ok (.istore 4, 2) := dk_54 4 (dk_at dksX0_thread_1 7 rfl rfl)
theorem dX0_thread_32 : decode cX0_thread 32 = .ok (.iload 4, 2) := dk_21 4 (dk_at dksX0_thread_1 9 rfl rfl)
theorem dX0_thread_34 : decode cX0_thread 34 = .ok (.aload_n 0, 1) := dk_42 (dk_at dksX0_thread_1 11 rfl rfl)
theorem dX0_thread_35 : decode cX0_thread 35 = .ok (.getfield 169, 3) := dk_180 0 169 (dk_at dksX0_thread_1 12 rfl rfl)
theorem dX0_thread_38 : decode cX0_thread 38 = .ok (.invokeinterface 100 1, 5) := by decide +kernel
theorem dX0_thread_43 : decode cX0_thread 43 = .ok (.if_icmp .ge 27, 3) := dk_162 0 27 (dk_at dksX0_thread_1 20 rfl rfl)
theorem dX0_thread_46 : decode cX0_thread 46 = .ok (.iload_n 3, 1) := dk_29 (dk_at dksX0_thread_1 23 rfl rfl)
theorem dX0_thread_47 : decode cX0_thread 47 = .ok (.aload_n 0, 1) := dk_42 (dk_at dksX0_thread_2 0 rfl rfl)
theorem dX0_thread_48 : decode cX0_thread 48 = .ok (.iload 4, 2) := dk_21 4 (dk_at dksX0_thread_2 1 rfl rfl)
theorem dX0_thread_50 : decode cX0_thread 50 = .ok (.invokevirtual 405, 3) := dk_182 1 149 (dk_at dksX0_thread_2 3 rfl rfl)
theorem dX0_thread_53 : decode cX0_thread 53 = .ok (.iload_n 2, 1) := dk_28 (dk_at dksX0_thread_2 6 rfl rfl)
theorem dX0_thread_54 : decode cX0_thread 54 = .ok (.if_icmp .ne 7, 3) := dk_160 0 7 (dk_at dksX0_thread_2 7 rfl rfl)
theorem dX0_thread_57 : decode cX0_thread 57 = .ok (.iconst 1, 1) := dk_4 (dk_at dksX0_thread_2 10 rfl rfl)
theorem dX0_thread_58 : decode cX0_thread 58 = .ok (.goto 4, 3) := dk_167 0 4 (dk_at dksX0_thread_2 11 rfl rfl)
theorem dX0_thread_61 : decode cX0_thread 61 = .ok (.iconst 0, 1) := dk_3 (dk_at dksX0_thread_2 14 rfl rfl)
theorem dX0_thread_62 : decode cX0_thread 62 = .ok (.iadd, 1) := dk_96 (dk_at dksX0_thread_2 15 rfl rfl)
theorem dX0_thread_63 : decode cX0_thread 63 = .ok (.istore_n 3, 1) := dk_62 (dk_at dksX0_thread_2 16 rfl rfl)
theorem dX0_thread_64 : decode cX0_thread 64 = .ok (.iinc 4 1, 3) := dk_132 4 1 (dk_at dksX0_thread_2 17 rfl rfl)
theorem dX0_thread_67 : decode cX0_thread 67 = .ok (.goto (-35), 3) := dk_167 255 221 (dk_at dksX0_thread_2 20 rfl rfl)
theorem dX0_thread_70 : decode cX0_thread 70 = .ok (.iload_n 3, 1) := dk_29 (dk_at dksX0_thread_2 23 rfl rfl)
theorem dX0_thread_71 : decode cX0_thread 71 = .ok (.ireturn, 1) := dk_172 (dk_at dksX0_thread_3 0 rfl rfl)
abbrev cX0_rootOf : ByteArray := prog_1_method_38_code
def yX0_rootOf : MethodName := ⟨RX0, "rootOf", "(I)I"⟩
def dkwX0_rootOf_3 : List UInt8 := [28, 162, 0, 7, 4, 167, 0, 4, 3, 62, 21, 4, 61, 167, 255, 177, 28, 172]
abbrev dktX0_rootOf_3 : List UInt8 := dkwX0_rootOf_3 ++ []
def dkwX0_rootOf_2 : List UInt8 := [185, 0, 105, 2, 0, 192, 0, 176, 180, 1, 12, 21, 5, 159, 0, 9, 132, 4, 1, 167, 255, 220, 21, 4]
abbrev dktX0_rootOf_2 : List UInt8 := dkwX0_rootOf_2 ++ dktX0_rootOf_3
def dkwX0_rootOf_1 : List UInt8 := [180, 1, 121, 54, 5, 21, 4, 28, 162, 0, 36, 21, 5, 155, 0, 25, 42, 180, 0, 169, 21, 4]
abbrev dktX0_rootOf_1 : List UInt8 := dkwX0_rootOf_1 ++ dktX0_rootOf_2
def dkwX0_rootOf_0 : List UInt8 := [27, 61, 4, 62, 29, 153, 0, 81, 3, 54, 4, 42, 180, 0, 169, 28, 185, 0, 105, 2, 0, 192, 0, 176]
abbrev dktX0_rootOf_0 : List UInt8 := dkwX0_rootOf_0 ++ dktX0_rootOf_1
theorem dksX0_rootOf_0 : cX0_rootOf.data.toList.drop 0 = dktX0_rootOf_0 := by decide +kernel
theorem dksX0_rootOf_1 : cX0_rootOf.data.toList.drop 24 = dktX0_rootOf_1 := dk_seg dksX0_rootOf_0 24 rfl rfl
theorem dksX0_rootOf_2 : cX0_rootOf.data.toList.drop 46 = dktX0_rootOf_2 := dk_seg dksX0_rootOf_1 22 rfl rfl
theorem dksX0_rootOf_3 : cX0_rootOf.data.toList.drop 70 = dktX0_rootOf_3 := dk_seg dksX0_rootOf_2 24 rfl rfl
theorem dX0_rootOf_0 : decode cX0_rootOf 0 = .ok (.iload_n 1, 1) := dk_27 (dk_at dksX0_rootOf_0 0 rfl rfl)
theorem dX0_rootOf_1 : decode cX0_rootOf 1 = .ok (.istore_n 2, 1) := dk_61 (dk_at dksX0_rootOf_0 1 rfl rfl)
theorem dX0_rootOf_2 : decode cX0_rootOf 2 = .ok (.iconst 1, 1) := dk_4 (dk_at dksX0_rootOf_0 2 rfl rfl)
theorem dX0_rootOf_3 : decode cX0_rootOf 3 = .ok (.istore_n 3, 1) := dk_62 (dk_at dksX0_rootOf_0 3 rfl rfl)
theorem dX0_rootOf_4 : decode cX0_rootOf 4 = .ok (.iload_n 3, 1) := dk_29 (dk_at dksX0_rootOf_0 4 rfl rfl)
theorem dX0_rootOf_5 : decode cX0_rootOf 5 = .ok (.ifCond .eq 81, 3) := dk_153 0 81 (dk_at dksX0_rootOf_0 5 rfl rfl)
theorem dX0_rootOf_8 : decode cX0_rootOf 8 = .ok (.iconst 0, 1) := dk_3 (dk_at dksX0_rootOf_0 8 rfl rfl)
theorem dX0_rootOf_9 : decode cX0_rootOf 9 = .ok (.istore 4, 2) := dk_54 4 (dk_at dksX0_rootOf_0 9 rfl rfl)
theorem dX0_rootOf_11 : decode cX0_rootOf 11 = .ok (.aload_n 0, 1) := dk_42 (dk_at dksX0_rootOf_0 11 rfl rfl)
theorem dX0_rootOf_12 : decode cX0_rootOf 12 = .ok (.getfield 169, 3) := dk_180 0 169 (dk_at dksX0_rootOf_0 12 rfl rfl)
theorem dX0_rootOf_15 : decode cX0_rootOf 15 = .ok (.iload_n 2, 1) := dk_28 (dk_at dksX0_rootOf_0 15 rfl rfl)
theorem dX0_rootOf_16 : decode cX0_rootOf 16 = .ok (.invokeinterface 105 2, 5) := by decide +kernel
theorem dX0_rootOf_21 : decode cX0_rootOf 21 = .ok (.checkcast 176, 3) := dk_192 0 176 (dk_at dksX0_rootOf_0 21 rfl rfl)
theorem dX0_rootOf_24 : decode cX0_rootOf 24 = .ok (.getfield 377, 3) := dk_180 1 121 (dk_at dksX0_rootOf_1 0 rfl rfl)
theorem dX0_rootOf_27 : decode cX0_rootOf 27 = .ok (.istore 5, 2) := dk_54 5 (dk_at dksX0_rootOf_1 3 rfl rfl)
theorem dX0_rootOf_29 : decode cX0_rootOf 29 = .ok (.iload 4, 2) := dk_21 4 (dk_at dksX0_rootOf_1 5 rfl rfl)
theorem dX0_rootOf_31 : decode cX0_rootOf 31 = .ok (.iload_n 2, 1) := dk_28 (dk_at dksX0_rootOf_1 7 rfl rfl)
theorem dX0_rootOf_32 : decode cX0_rootOf 32 = .ok (.if_icmp .ge 36, 3) := dk_162 0 36 (dk_at dksX0_rootOf_1 8 rfl rfl)
theorem dX0_rootOf_35 : decode cX0_rootOf 35 = .ok (.iload 5, 2) := dk_21 5 (dk_at dksX0_rootOf_1 11 rfl rfl)
theorem dX0_rootOf_37 : decode cX0_rootOf 37 = .ok (.ifCond .lt 25, 3) := dk_155 0 25 (dk_at dksX0_rootOf_1 13 rfl rfl)
theorem dX0_rootOf_40 : decode cX0_rootOf 40 = .ok (.aload_n 0, 1) := dk_42 (dk_at dksX0_rootOf_1 16 rfl rfl)
theorem dX0_rootOf_41 : decode cX0_rootOf 41 = .ok (.getfield 169, 3) := dk_180 0 169 (dk_at dksX0_rootOf_1 17 rfl rfl)
theorem dX0_rootOf_44 : decode cX0_rootOf 44 = .ok (.iload 4, 2) := dk_21 4 (dk_at dksX0_rootOf_1 20 rfl rfl)
theorem dX0_rootOf_46 : decode cX0_rootOf 46 = .ok (.invokeinterface 105 2, 5) := by decide +kernel
theorem dX0_rootOf_51 : decode cX0_rootOf 51 = .ok (.checkcast 176, 3) := dk_192 0 176 (dk_at dksX0_rootOf_2 5 rfl rfl)
theorem dX0_rootOf_54 : decode cX0_rootOf 54 = .ok (.getfield 268, 3) := dk_180 1 12 (dk_at dksX0_rootOf_2 8 rfl rfl)
theorem dX0_rootOf_57 : decode cX0_rootOf 57 = .ok (.iload 5, 2) := dk_21 5 (dk_at dksX0_rootOf_2 11 rfl rfl)
theorem dX0_rootOf_59 : decode cX0_rootOf 59 = .ok (.if_icmp .eq 9, 3) := dk_159 0 9 (dk_at dksX0_rootOf_2 13 rfl rfl)
theorem dX0_rootOf_62 : decode cX0_rootOf 62 = .ok (.iinc 4 1, 3) := dk_132 4 1 (dk_at dksX0_rootOf_2 16 rfl rfl)
theorem dX0_rootOf_65 : decode cX0_rootOf 65 = .ok (.goto (-36), 3) := dk_167 255 220 (dk_at dksX0_rootOf_2 19 rfl rfl)
theorem dX0_rootOf_68 : decode cX0_rootOf 68 = .ok (.iload 4, 2) := dk_21 4 (dk_at dksX0_rootOf_2 22 rfl rfl)
theorem dX0_rootOf_70 : decode cX0_rootOf 70 = .ok (.iload_n 2, 1) := dk_28 (dk_at dksX0_rootOf_3 0 rfl rfl)
theorem dX0_rootOf_71 : decode cX0_rootOf 71 = .ok (.if_icmp .ge 7, 3) := dk_162 0 7 (dk_at dksX0_rootOf_3 1 rfl rfl)
theorem dX0_rootOf_74 : decode cX0_rootOf 74 = .ok (.iconst 1, 1) := dk_4 (dk_at dksX0_rootOf_3 4 rfl rfl)
theorem dX0_rootOf_75 : decode cX0_rootOf 75 = .ok (.goto 4, 3) := dk_167 0 4 (dk_at dksX0_rootOf_3 5 rfl rfl)
theorem dX0_rootOf_78 : decode cX0_rootOf 78 = .ok (.iconst 0, 1) := dk_3 (dk_at dksX0_rootOf_3 8 rfl rfl)
theorem dX0_rootOf_79 : decode cX0_rootOf 79 = .ok (.istore_n 3, 1) := dk_62 (dk_at dksX0_rootOf_3 9 rfl rfl)
theorem dX0_rootOf_80 : decode cX0_rootOf 80 = .ok (.iload 4, 2) := dk_21 4 (dk_at dksX0_rootOf_3 10 rfl rfl)
theorem dX0_rootOf_82 : decode cX0_rootOf 82 = .ok (.istore_n 2, 1) := dk_61 (dk_at dksX0_rootOf_3 12 rfl rfl)
theorem dX0_rootOf_83 : decode cX0_rootOf 83 = .ok (.goto (-79), 3) := dk_167 255 177 (dk_at dksX0_rootOf_3 13 rfl rfl)
theorem dX0_rootOf_86 : decode cX0_rootOf 86 = .ok (.iload_n 2, 1) := dk_28 (dk_at dksX0_rootOf_3 16 rfl rfl)
theorem dX0_rootOf_87 : decode cX0_rootOf 87 = .ok (.ireturn, 1) := dk_172 (dk_at dksX0_rootOf_3 17 rfl rfl)
abbrev cX0_learn : ByteArray := prog_1_method_42_code
def yX0_learn : MethodName := ⟨RX0, "learn", "(IIIZ)I"⟩
def dkwX0_learn_3 : List UInt8 := [21, 6, 4, 182, 1, 157, 172]
abbrev dktX0_learn_3 : List UInt8 := dkwX0_learn_3 ++ []
def dkwX0_learn_2 : List UInt8 := [16, 60, 160, 0, 6, 16, 253, 172, 25, 5, 21, 6, 4, 96, 181, 1, 137, 42, 25, 5, 180, 1, 132]
abbrev dktX0_learn_2 : List UInt8 := dkwX0_learn_2 ++ dktX0_learn_3
def dkwX0_learn_1 : List UInt8 := [167, 0, 4, 4, 54, 6, 25, 5, 180, 1, 137, 153, 0, 6, 16, 254, 172, 42, 180, 0, 197, 21, 6, 46]
abbrev dktX0_learn_1 : List UInt8 := dkwX0_learn_1 ++ dktX0_learn_2
def dkwX0_learn_0 : List UInt8 := [42, 27, 28, 29, 182, 1, 128, 58, 5, 25, 5, 199, 0, 5, 2, 172, 21, 4, 153, 0, 7, 3]
abbrev dktX0_learn_0 : List UInt8 := dkwX0_learn_0 ++ dktX0_learn_1
theorem dksX0_learn_0 : cX0_learn.data.toList.drop 0 = dktX0_learn_0 := by decide +kernel
theorem dksX0_learn_1 : cX0_learn.data.toList.drop 22 = dktX0_learn_1 := dk_seg dksX0_learn_0 22 rfl rfl
theorem dksX0_learn_2 : cX0_learn.data.toList.drop 46 = dktX0_learn_2 := dk_seg dksX0_learn_1 24 rfl rfl
theorem dksX0_learn_3 : cX0_learn.data.toList.drop 69 = dktX0_learn_3 := dk_seg dksX0_learn_2 23 rfl rfl
theorem dX0_learn_0 : decode cX0_learn 0 = .ok (.aload_n 0, 1) := dk_42 (dk_at dksX0_learn_0 0 rfl rfl)
theorem dX0_learn_1 : decode cX0_learn 1 = .ok (.iload_n 1, 1) := dk_27 (dk_at dksX0_learn_0 1 rfl rfl)
theorem dX0_learn_2 : decode cX0_learn 2 = .ok (.iload_n 2, 1) := dk_28 (dk_at dksX0_learn_0 2 rfl rfl)
theorem dX0_learn_3 : decode cX0_learn 3 = .ok (.iload_n 3, 1) := dk_29 (dk_at dksX0_learn_0 3 rfl rfl)
theorem dX0_learn_4 : decode cX0_learn 4 = .ok (.invokevirtual 384, 3) := dk_182 1 128 (dk_at dksX0_learn_0 4 rfl rfl)
theorem dX0_learn_7 : decode cX0_learn 7 = .ok (.astore 5, 2) := dk_58 5 (dk_at dksX0_learn_0 7 rfl rfl)
theorem dX0_learn_9 : decode cX0_learn 9 = .ok (.aload 5, 2) := dk_25 5 (dk_at dksX0_learn_0 9 rfl rfl)
theorem dX0_learn_11 : decode cX0_learn 11 = .ok (.ifnonnull 5, 3) := dk_199 0 5 (dk_at dksX0_learn_0 11 rfl rfl)
theorem dX0_learn_14 : decode cX0_learn 14 = .ok (.iconst (-1), 1) := dk_2 (dk_at dksX0_learn_0 14 rfl rfl)
theorem dX0_learn_15 : decode cX0_learn 15 = .ok (.ireturn, 1) := dk_172 (dk_at dksX0_learn_0 15 rfl rfl)
theorem dX0_learn_16 : decode cX0_learn 16 = .ok (.iload 4, 2) := dk_21 4 (dk_at dksX0_learn_0 16 rfl rfl)
theorem dX0_learn_18 : decode cX0_learn 18 = .ok (.ifCond .eq 7, 3) := dk_153 0 7 (dk_at dksX0_learn_0 18 rfl rfl)
theorem dX0_learn_21 : decode cX0_learn 21 = .ok (.iconst 0, 1) := dk_3 (dk_at dksX0_learn_0 21 rfl rfl)
theorem dX0_learn_22 : decode cX0_learn 22 = .ok (.goto 4, 3) := dk_167 0 4 (dk_at dksX0_learn_1 0 rfl rfl)
theorem dX0_learn_25 : decode cX0_learn 25 = .ok (.iconst 1, 1) := dk_4 (dk_at dksX0_learn_1 3 rfl rfl)
theorem dX0_learn_26 : decode cX0_learn 26 = .ok (.istore 6, 2) := dk_54 6 (dk_at dksX0_learn_1 4 rfl rfl)
theorem dX0_learn_28 : decode cX0_learn 28 = .ok (.aload 5, 2) := dk_25 5 (dk_at dksX0_learn_1 6 rfl rfl)
theorem dX0_learn_30 : decode cX0_learn 30 = .ok (.getfield 393, 3) := dk_180 1 137 (dk_at dksX0_learn_1 8 rfl rfl)
theorem dX0_learn_33 : decode cX0_learn 33 = .ok (.ifCond .eq 6, 3) := dk_153 0 6 (dk_at dksX0_learn_1 11 rfl rfl)
theorem dX0_learn_36 : decode cX0_learn 36 = .ok (.bipush (-2), 2) := dk_16 254 (dk_at dksX0_learn_1 14 rfl rfl)
theorem dX0_learn_38 : decode cX0_learn 38 = .ok (.ireturn, 1) := dk_172 (dk_at dksX0_learn_1 16 rfl rfl)
theorem dX0_learn_39 : decode cX0_learn 39 = .ok (.aload_n 0, 1) := dk_42 (dk_at dksX0_learn_1 17 rfl rfl)
theorem dX0_learn_40 : decode cX0_learn 40 = .ok (.getfield 197, 3) := dk_180 0 197 (dk_at dksX0_learn_1 18 rfl rfl)
theorem dX0_learn_43 : decode cX0_learn 43 = .ok (.iload 6, 2) := dk_21 6 (dk_at dksX0_learn_1 21 rfl rfl)
theorem dX0_learn_45 : decode cX0_learn 45 = .ok (.iaload, 1) := dk_46 (dk_at dksX0_learn_1 23 rfl rfl)
theorem dX0_learn_46 : decode cX0_learn 46 = .ok (.bipush 60, 2) := dk_16 60 (dk_at dksX0_learn_2 0 rfl rfl)
theorem dX0_learn_48 : decode cX0_learn 48 = .ok (.if_icmp .ne 6, 3) := dk_160 0 6 (dk_at dksX0_learn_2 2 rfl rfl)
theorem dX0_learn_51 : decode cX0_learn 51 = .ok (.bipush (-3), 2) := dk_16 253 (dk_at dksX0_learn_2 5 rfl rfl)
theorem dX0_learn_53 : decode cX0_learn 53 = .ok (.ireturn, 1) := dk_172 (dk_at dksX0_learn_2 7 rfl rfl)
theorem dX0_learn_54 : decode cX0_learn 54 = .ok (.aload 5, 2) := dk_25 5 (dk_at dksX0_learn_2 8 rfl rfl)
theorem dX0_learn_56 : decode cX0_learn 56 = .ok (.iload 6, 2) := dk_21 6 (dk_at dksX0_learn_2 10 rfl rfl)
theorem dX0_learn_58 : decode cX0_learn 58 = .ok (.iconst 1, 1) := dk_4 (dk_at dksX0_learn_2 12 rfl rfl)
theorem dX0_learn_59 : decode cX0_learn 59 = .ok (.iadd, 1) := dk_96 (dk_at dksX0_learn_2 13 rfl rfl)
theorem dX0_learn_60 : decode cX0_learn 60 = .ok (.putfield 393, 3) := dk_181 1 137 (dk_at dksX0_learn_2 14 rfl rfl)
theorem dX0_learn_63 : decode cX0_learn 63 = .ok (.aload_n 0, 1) := dk_42 (dk_at dksX0_learn_2 17 rfl rfl)
theorem dX0_learn_64 : decode cX0_learn 64 = .ok (.aload 5, 2) := dk_25 5 (dk_at dksX0_learn_2 18 rfl rfl)
theorem dX0_learn_66 : decode cX0_learn 66 = .ok (.getfield 388, 3) := dk_180 1 132 (dk_at dksX0_learn_2 20 rfl rfl)
theorem dX0_learn_69 : decode cX0_learn 69 = .ok (.iload 6, 2) := dk_21 6 (dk_at dksX0_learn_3 0 rfl rfl)
theorem dX0_learn_71 : decode cX0_learn 71 = .ok (.iconst 1, 1) := dk_4 (dk_at dksX0_learn_3 2 rfl rfl)
theorem dX0_learn_72 : decode cX0_learn 72 = .ok (.invokevirtual 413, 3) := dk_182 1 157 (dk_at dksX0_learn_3 3 rfl rfl)
theorem dX0_learn_75 : decode cX0_learn 75 = .ok (.ireturn, 1) := dk_172 (dk_at dksX0_learn_3 6 rfl rfl)
abbrev cX0_tally : ByteArray := prog_1_method_41_code
def yX0_tally : MethodName := ⟨RX0, "tally", "(LSortedPost$Letter;II)I"⟩
def dkwX0_tally_2 : List UInt8 := [79, 132, 4, 1, 167, 255, 217, 42, 180, 0, 197, 28, 46, 172]
abbrev dktX0_tally_2 : List UInt8 := dkwX0_tally_2 ++ []
def dkwX0_tally_1 : List UInt8 := [16, 12, 28, 104, 21, 4, 96, 92, 46, 43, 21, 4, 182, 1, 152, 153, 0, 7, 29, 167, 0, 4, 3, 96]
abbrev dktX0_tally_1 : List UInt8 := dkwX0_tally_1 ++ dktX0_tally_2
def dkwX0_tally_0 : List UInt8 := [42, 180, 0, 197, 28, 92, 46, 29, 96, 79, 3, 54, 4, 21, 4, 16, 12, 162, 0, 38, 42, 180, 0, 200]
abbrev dktX0_tally_0 : List UInt8 := dkwX0_tally_0 ++ dktX0_tally_1
theorem dksX0_tally_0 : cX0_tally.data.toList.drop 0 = dktX0_tally_0 := by decide +kernel
theorem dksX0_tally_1 : cX0_tally.data.toList.drop 24 = dktX0_tally_1 := dk_seg dksX0_tally_0 24 rfl rfl
theorem dksX0_tally_2 : cX0_tally.data.toList.drop 48 = dktX0_tally_2 := dk_seg dksX0_tally_1 24 rfl rfl
theorem dX0_tally_0 : decode cX0_tally 0 = .ok (.aload_n 0, 1) := dk_42 (dk_at dksX0_tally_0 0 rfl rfl)
theorem dX0_tally_1 : decode cX0_tally 1 = .ok (.getfield 197, 3) := dk_180 0 197 (dk_at dksX0_tally_0 1 rfl rfl)
theorem dX0_tally_4 : decode cX0_tally 4 = .ok (.iload_n 2, 1) := dk_28 (dk_at dksX0_tally_0 4 rfl rfl)
theorem dX0_tally_5 : decode cX0_tally 5 = .ok (.dup2, 1) := dk_92 (dk_at dksX0_tally_0 5 rfl rfl)
theorem dX0_tally_6 : decode cX0_tally 6 = .ok (.iaload, 1) := dk_46 (dk_at dksX0_tally_0 6 rfl rfl)
theorem dX0_tally_7 : decode cX0_tally 7 = .ok (.iload_n 3, 1) := dk_29 (dk_at dksX0_tally_0 7 rfl rfl)
theorem dX0_tally_8 : decode cX0_tally 8 = .ok (.iadd, 1) := dk_96 (dk_at dksX0_tally_0 8 rfl rfl)
theorem dX0_tally_9 : decode cX0_tally 9 = .ok (.iastore, 1) := dk_79 (dk_at dksX0_tally_0 9 rfl rfl)
theorem dX0_tally_10 : decode cX0_tally 10 = .ok (.iconst 0, 1) := dk_3 (dk_at dksX0_tally_0 10 rfl rfl)
theorem dX0_tally_11 : decode cX0_tally 11 = .ok (.istore 4, 2) := dk_54 4 (dk_at dksX0_tally_0 11 rfl rfl)
theorem dX0_tally_13 : decode cX0_tally 13 = .ok (.iload 4, 2) := dk_21 4 (dk_at dksX0_tally_0 13 rfl rfl)
theorem dX0_tally_15 : decode cX0_tally 15 = .ok (.bipush 12, 2) := dk_16 12 (dk_at dksX0_tally_0 15 rfl rfl)
theorem dX0_tally_17 : decode cX0_tally 17 = .ok (.if_icmp .ge 38, 3) := dk_162 0 38 (dk_at dksX0_tally_0 17 rfl rfl)
theorem dX0_tally_20 : decode cX0_tally 20 = .ok (.aload_n 0, 1) := dk_42 (dk_at dksX0_tally_0 20 rfl rfl)
theorem dX0_tally_21 : decode cX0_tally 21 = .ok (.getfield 200, 3) := dk_180 0 200 (dk_at dksX0_tally_0 21 rfl rfl)
theorem dX0_tally_24 : decode cX0_tally 24 = .ok (.bipush 12, 2) := dk_16 12 (dk_at dksX0_tally_1 0 rfl rfl)
theorem dX0_tally_26 : decode cX0_tally 26 = .ok (.iload_n 2, 1) := dk_28 (dk_at dksX0_tally_1 2 rfl rfl)
theorem dX0_tally_27 : decode cX0_tally 27 = .ok (.imul, 1) := dk_104 (dk_at dksX0_tally_1 3 rfl rfl)
theorem dX0_tally_28 : decode cX0_tally 28 = .ok (.iload 4, 2) := dk_21 4 (dk_at dksX0_tally_1 4 rfl rfl)
theorem dX0_tally_30 : decode cX0_tally 30 = .ok (.iadd, 1) := dk_96 (dk_at dksX0_tally_1 6 rfl rfl)
theorem dX0_tally_31 : decode cX0_tally 31 = .ok (.dup2, 1) := dk_92 (dk_at dksX0_tally_1 7 rfl rfl)
theorem dX0_tally_32 : decode cX0_tally 32 = .ok (.iaload, 1) := dk_46 (dk_at dksX0_tally_1 8 rfl rfl)
theorem dX0_tally_33 : decode cX0_tally 33 = .ok (.aload_n 1, 1) := dk_43 (dk_at dksX0_tally_1 9 rfl rfl)
theorem dX0_tally_34 : decode cX0_tally 34 = .ok (.iload 4, 2) := dk_21 4 (dk_at dksX0_tally_1 10 rfl rfl)
theorem dX0_tally_36 : decode cX0_tally 36 = .ok (.invokevirtual 408, 3) := dk_182 1 152 (dk_at dksX0_tally_1 12 rfl rfl)
theorem dX0_tally_39 : decode cX0_tally 39 = .ok (.ifCond .eq 7, 3) := dk_153 0 7 (dk_at dksX0_tally_1 15 rfl rfl)
theorem dX0_tally_42 : decode cX0_tally 42 = .ok (.iload_n 3, 1) := dk_29 (dk_at dksX0_tally_1 18 rfl rfl)
theorem dX0_tally_43 : decode cX0_tally 43 = .ok (.goto 4, 3) := dk_167 0 4 (dk_at dksX0_tally_1 19 rfl rfl)
theorem dX0_tally_46 : decode cX0_tally 46 = .ok (.iconst 0, 1) := dk_3 (dk_at dksX0_tally_1 22 rfl rfl)
theorem dX0_tally_47 : decode cX0_tally 47 = .ok (.iadd, 1) := dk_96 (dk_at dksX0_tally_1 23 rfl rfl)
theorem dX0_tally_48 : decode cX0_tally 48 = .ok (.iastore, 1) := dk_79 (dk_at dksX0_tally_2 0 rfl rfl)
theorem dX0_tally_49 : decode cX0_tally 49 = .ok (.iinc 4 1, 3) := dk_132 4 1 (dk_at dksX0_tally_2 1 rfl rfl)
theorem dX0_tally_52 : decode cX0_tally 52 = .ok (.goto (-39), 3) := dk_167 255 217 (dk_at dksX0_tally_2 4 rfl rfl)
theorem dX0_tally_55 : decode cX0_tally 55 = .ok (.aload_n 0, 1) := dk_42 (dk_at dksX0_tally_2 7 rfl rfl)
theorem dX0_tally_56 : decode cX0_tally 56 = .ok (.getfield 197, 3) := dk_180 0 197 (dk_at dksX0_tally_2 8 rfl rfl)
theorem dX0_tally_59 : decode cX0_tally 59 = .ok (.iload_n 2, 1) := dk_28 (dk_at dksX0_tally_2 11 rfl rfl)
theorem dX0_tally_60 : decode cX0_tally 60 = .ok (.iaload, 1) := dk_46 (dk_at dksX0_tally_2 12 rfl rfl)
theorem dX0_tally_61 : decode cX0_tally 61 = .ok (.ireturn, 1) := dk_172 (dk_at dksX0_tally_2 13 rfl rfl)
abbrev cX0_unlearn : ByteArray := prog_1_method_43_code
def yX0_unlearn : MethodName := ⟨RX0, "unlearn", "(III)I"⟩
def dkwX0_unlearn_2 : List UInt8 := [21, 5, 2, 182, 1, 157, 172]
abbrev dktX0_unlearn_2 : List UInt8 := dkwX0_unlearn_2 ++ []
def dkwX0_unlearn_1 : List UInt8 := [16, 254, 172, 25, 4, 180, 1, 137, 4, 100, 54, 5, 25, 4, 3, 181, 1, 137, 42, 25, 4, 180, 1, 132]
abbrev dktX0_unlearn_1 : List UInt8 := dkwX0_unlearn_1 ++ dktX0_unlearn_2
def dkwX0_unlearn_0 : List UInt8 := [42, 27, 28, 29, 182, 1, 128, 58, 4, 25, 4, 199, 0, 5, 2, 172, 25, 4, 180, 1, 137, 154, 0, 6]
abbrev dktX0_unlearn_0 : List UInt8 := dkwX0_unlearn_0 ++ dktX0_unlearn_1
theorem dksX0_unlearn_0 : cX0_unlearn.data.toList.drop 0 = dktX0_unlearn_0 := by decide +kernel
theorem dksX0_unlearn_1 : cX0_unlearn.data.toList.drop 24 = dktX0_unlearn_1 := dk_seg dksX0_unlearn_0 24 rfl rfl
theorem dksX0_unlearn_2 : cX0_unlearn.data.toList.drop 48 = dktX0_unlearn_2 := dk_seg dksX0_unlearn_1 24 rfl rfl
theorem dX0_unlearn_0 : decode cX0_unlearn 0 = .ok (.aload_n 0, 1) := dk_42 (dk_at dksX0_unlearn_0 0 rfl rfl)
theorem dX0_unlearn_1 : decode cX0_unlearn 1 = .ok (.iload_n 1, 1) := dk_27 (dk_at dksX0_unlearn_0 1 rfl rfl)
theorem dX0_unlearn_2 : decode cX0_unlearn 2 = .ok (.iload_n 2, 1) := dk_28 (dk_at dksX0_unlearn_0 2 rfl rfl)
theorem dX0_unlearn_3 : decode cX0_unlearn 3 = .ok (.iload_n 3, 1) := dk_29 (dk_at dksX0_unlearn_0 3 rfl rfl)
theorem dX0_unlearn_4 : decode cX0_unlearn 4 = .ok (.invokevirtual 384, 3) := dk_182 1 128 (dk_at dksX0_unlearn_0 4 rfl rfl)
theorem dX0_unlearn_7 : decode cX0_unlearn 7 = .ok (.astore 4, 2) := dk_58 4 (dk_at dksX0_unlearn_0 7 rfl rfl)
theorem dX0_unlearn_9 : decode cX0_unlearn 9 = .ok (.aload 4, 2) := dk_25 4 (dk_at dksX0_unlearn_0 9 rfl rfl)
theorem dX0_unlearn_11 : decode cX0_unlearn 11 = .ok (.ifnonnull 5, 3) := dk_199 0 5 (dk_at dksX0_unlearn_0 11 rfl rfl)
theorem dX0_unlearn_14 : decode cX0_unlearn 14 = .ok (.iconst (-1), 1) := dk_2 (dk_at dksX0_unlearn_0 14 rfl rfl)
theorem dX0_unlearn_15 : decode cX0_unlearn 15 = .ok (.ireturn, 1) := dk_172 (dk_at dksX0_unlearn_0 15 rfl rfl)
theorem dX0_unlearn_16 : decode cX0_unlearn 16 = .ok (.aload 4, 2) := dk_25 4 (dk_at dksX0_unlearn_0 16 rfl rfl)
theorem dX0_unlearn_18 : decode cX0_unlearn 18 = .ok (.getfield 393, 3) := dk_180 1 137 (dk_at dksX0_unlearn_0 18 rfl rfl)
theorem dX0_unlearn_21 : decode cX0_unlearn 21 = .ok (.ifCond .ne 6, 3) := dk_154 0 6 (dk_at dksX0_unlearn_0 21 rfl rfl)
theorem dX0_unlearn_24 : decode cX0_unlearn 24 = .ok (.bipush (-2), 2) := dk_16 254 (dk_at dksX0_unlearn_1 0 rfl rfl)
theorem dX0_unlearn_26 : decode cX0_unlearn 26 = .ok (.ireturn, 1) := dk_172 (dk_at dksX0_unlearn_1 2 rfl rfl)
theorem dX0_unlearn_27 : decode cX0_unlearn 27 = .ok (.aload 4, 2) := dk_25 4 (dk_at dksX0_unlearn_1 3 rfl rfl)
theorem dX0_unlearn_29 : decode cX0_unlearn 29 = .ok (.getfield 393, 3) := dk_180 1 137 (dk_at dksX0_unlearn_1 5 rfl rfl)
theorem dX0_unlearn_32 : decode cX0_unlearn 32 = .ok (.iconst 1, 1) := dk_4 (dk_at dksX0_unlearn_1 8 rfl rfl)
theorem dX0_unlearn_33 : decode cX0_unlearn 33 = .ok (.isub, 1) := dk_100 (dk_at dksX0_unlearn_1 9 rfl rfl)
theorem dX0_unlearn_34 : decode cX0_unlearn 34 = .ok (.istore 5, 2) := dk_54 5 (dk_at dksX0_unlearn_1 10 rfl rfl)
theorem dX0_unlearn_36 : decode cX0_unlearn 36 = .ok (.aload 4, 2) := dk_25 4 (dk_at dksX0_unlearn_1 12 rfl rfl)
theorem dX0_unlearn_38 : decode cX0_unlearn 38 = .ok (.iconst 0, 1) := dk_3 (dk_at dksX0_unlearn_1 14 rfl rfl)
theorem dX0_unlearn_39 : decode cX0_unlearn 39 = .ok (.putfield 393, 3) := dk_181 1 137 (dk_at dksX0_unlearn_1 15 rfl rfl)
theorem dX0_unlearn_42 : decode cX0_unlearn 42 = .ok (.aload_n 0, 1) := dk_42 (dk_at dksX0_unlearn_1 18 rfl rfl)
theorem dX0_unlearn_43 : decode cX0_unlearn 43 = .ok (.aload 4, 2) := dk_25 4 (dk_at dksX0_unlearn_1 19 rfl rfl)
theorem dX0_unlearn_45 : decode cX0_unlearn 45 = .ok (.getfield 388, 3) := dk_180 1 132 (dk_at dksX0_unlearn_1 21 rfl rfl)
theorem dX0_unlearn_48 : decode cX0_unlearn 48 = .ok (.iload 5, 2) := dk_21 5 (dk_at dksX0_unlearn_2 0 rfl rfl)
theorem dX0_unlearn_50 : decode cX0_unlearn 50 = .ok (.iconst (-1), 1) := dk_2 (dk_at dksX0_unlearn_2 2 rfl rfl)
theorem dX0_unlearn_51 : decode cX0_unlearn 51 = .ok (.invokevirtual 413, 3) := dk_182 1 157 (dk_at dksX0_unlearn_2 3 rfl rfl)
theorem dX0_unlearn_54 : decode cX0_unlearn 54 = .ok (.ireturn, 1) := dk_172 (dk_at dksX0_unlearn_2 6 rfl rfl)
abbrev cX0_known : ByteArray := prog_1_method_44_code
def yX0_known : MethodName := ⟨RX0, "known", "(IZ)I"⟩
def dkwX0_known_1 : List UInt8 := [27, 96, 46, 167, 0, 4, 2, 172]
abbrev dktX0_known_1 : List UInt8 := dkwX0_known_1 ++ []
def dkwX0_known_0 : List UInt8 := [27, 3, 16, 11, 184, 0, 3, 153, 0, 23, 42, 180, 0, 200, 28, 153, 0, 7, 27, 167, 0, 7, 16, 12]
abbrev dktX0_known_0 : List UInt8 := dkwX0_known_0 ++ dktX0_known_1
theorem dksX0_known_0 : cX0_known.data.toList.drop 0 = dktX0_known_0 := by decide +kernel
theorem dksX0_known_1 : cX0_known.data.toList.drop 24 = dktX0_known_1 := dk_seg dksX0_known_0 24 rfl rfl
theorem dX0_known_0 : decode cX0_known 0 = .ok (.iload_n 1, 1) := dk_27 (dk_at dksX0_known_0 0 rfl rfl)
theorem dX0_known_1 : decode cX0_known 1 = .ok (.iconst 0, 1) := dk_3 (dk_at dksX0_known_0 1 rfl rfl)
theorem dX0_known_2 : decode cX0_known 2 = .ok (.bipush 11, 2) := dk_16 11 (dk_at dksX0_known_0 2 rfl rfl)
theorem dX0_known_4 : decode cX0_known 4 = .ok (.invokestatic 3, 3) := dk_184 0 3 (dk_at dksX0_known_0 4 rfl rfl)
theorem dX0_known_7 : decode cX0_known 7 = .ok (.ifCond .eq 23, 3) := dk_153 0 23 (dk_at dksX0_known_0 7 rfl rfl)
theorem dX0_known_10 : decode cX0_known 10 = .ok (.aload_n 0, 1) := dk_42 (dk_at dksX0_known_0 10 rfl rfl)
theorem dX0_known_11 : decode cX0_known 11 = .ok (.getfield 200, 3) := dk_180 0 200 (dk_at dksX0_known_0 11 rfl rfl)
theorem dX0_known_14 : decode cX0_known 14 = .ok (.iload_n 2, 1) := dk_28 (dk_at dksX0_known_0 14 rfl rfl)
theorem dX0_known_15 : decode cX0_known 15 = .ok (.ifCond .eq 7, 3) := dk_153 0 7 (dk_at dksX0_known_0 15 rfl rfl)
theorem dX0_known_18 : decode cX0_known 18 = .ok (.iload_n 1, 1) := dk_27 (dk_at dksX0_known_0 18 rfl rfl)
theorem dX0_known_19 : decode cX0_known 19 = .ok (.goto 7, 3) := dk_167 0 7 (dk_at dksX0_known_0 19 rfl rfl)
theorem dX0_known_22 : decode cX0_known 22 = .ok (.bipush 12, 2) := dk_16 12 (dk_at dksX0_known_0 22 rfl rfl)
theorem dX0_known_24 : decode cX0_known 24 = .ok (.iload_n 1, 1) := dk_27 (dk_at dksX0_known_1 0 rfl rfl)
theorem dX0_known_25 : decode cX0_known 25 = .ok (.iadd, 1) := dk_96 (dk_at dksX0_known_1 1 rfl rfl)
theorem dX0_known_26 : decode cX0_known 26 = .ok (.iaload, 1) := dk_46 (dk_at dksX0_known_1 2 rfl rfl)
theorem dX0_known_27 : decode cX0_known 27 = .ok (.goto 4, 3) := dk_167 0 4 (dk_at dksX0_known_1 3 rfl rfl)
theorem dX0_known_30 : decode cX0_known 30 = .ok (.iconst (-1), 1) := dk_2 (dk_at dksX0_known_1 6 rfl rfl)
theorem dX0_known_31 : decode cX0_known 31 = .ok (.ireturn, 1) := dk_172 (dk_at dksX0_known_1 7 rfl rfl)
abbrev cX0_atoms : ByteArray := prog_1_method_47_code
def yX0_atoms : MethodName := ⟨RX0, "atoms", "(I)I"⟩
def dkwX0_atoms_2 : List UInt8 := [180, 0, 94, 185, 0, 100, 1, 0, 172]
abbrev dktX0_atoms_2 : List UInt8 := dkwX0_atoms_2 ++ []
def dkwX0_atoms_1 : List UInt8 := [185, 1, 70, 1, 0, 153, 0, 8, 16, 252, 167, 0, 20, 42, 180, 0, 154, 27, 50, 180, 0, 158]
abbrev dktX0_atoms_1 : List UInt8 := dkwX0_atoms_1 ++ dktX0_atoms_2
def dkwX0_atoms_0 : List UInt8 := [27, 184, 0, 148, 154, 0, 5, 2, 172, 42, 180, 0, 154, 27, 50, 180, 0, 158, 180, 0, 141]
abbrev dktX0_atoms_0 : List UInt8 := dkwX0_atoms_0 ++ dktX0_atoms_1
theorem dksX0_atoms_0 : cX0_atoms.data.toList.drop 0 = dktX0_atoms_0 := by decide +kernel
theorem dksX0_atoms_1 : cX0_atoms.data.toList.drop 21 = dktX0_atoms_1 := dk_seg dksX0_atoms_0 21 rfl rfl
theorem dksX0_atoms_2 : cX0_atoms.data.toList.drop 43 = dktX0_atoms_2 := dk_seg dksX0_atoms_1 22 rfl rfl
theorem dX0_atoms_0 : decode cX0_atoms 0 = .ok (.iload_n 1, 1) := dk_27 (dk_at dksX0_atoms_0 0 rfl rfl)
theorem dX0_atoms_1 : decode cX0_atoms 1 = .ok (.invokestatic 148, 3) := dk_184 0 148 (dk_at dksX0_atoms_0 1 rfl rfl)
theorem dX0_atoms_4 : decode cX0_atoms 4 = .ok (.ifCond .ne 5, 3) := dk_154 0 5 (dk_at dksX0_atoms_0 4 rfl rfl)
theorem dX0_atoms_7 : decode cX0_atoms 7 = .ok (.iconst (-1), 1) := dk_2 (dk_at dksX0_atoms_0 7 rfl rfl)
theorem dX0_atoms_8 : decode cX0_atoms 8 = .ok (.ireturn, 1) := dk_172 (dk_at dksX0_atoms_0 8 rfl rfl)
theorem dX0_atoms_9 : decode cX0_atoms 9 = .ok (.aload_n 0, 1) := dk_42 (dk_at dksX0_atoms_0 9 rfl rfl)
theorem dX0_atoms_10 : decode cX0_atoms 10 = .ok (.getfield 154, 3) := dk_180 0 154 (dk_at dksX0_atoms_0 10 rfl rfl)
theorem dX0_atoms_13 : decode cX0_atoms 13 = .ok (.iload_n 1, 1) := dk_27 (dk_at dksX0_atoms_0 13 rfl rfl)
theorem dX0_atoms_14 : decode cX0_atoms 14 = .ok (.aaload, 1) := dk_50 (dk_at dksX0_atoms_0 14 rfl rfl)
theorem dX0_atoms_15 : decode cX0_atoms 15 = .ok (.getfield 158, 3) := dk_180 0 158 (dk_at dksX0_atoms_0 15 rfl rfl)
theorem dX0_atoms_18 : decode cX0_atoms 18 = .ok (.getfield 141, 3) := dk_180 0 141 (dk_at dksX0_atoms_0 18 rfl rfl)
theorem dX0_atoms_21 : decode cX0_atoms 21 = .ok (.invokeinterface 326 1, 5) := by decide +kernel
theorem dX0_atoms_26 : decode cX0_atoms 26 = .ok (.ifCond .eq 8, 3) := dk_153 0 8 (dk_at dksX0_atoms_1 5 rfl rfl)
theorem dX0_atoms_29 : decode cX0_atoms 29 = .ok (.bipush (-4), 2) := dk_16 252 (dk_at dksX0_atoms_1 8 rfl rfl)
theorem dX0_atoms_31 : decode cX0_atoms 31 = .ok (.goto 20, 3) := dk_167 0 20 (dk_at dksX0_atoms_1 10 rfl rfl)
theorem dX0_atoms_34 : decode cX0_atoms 34 = .ok (.aload_n 0, 1) := dk_42 (dk_at dksX0_atoms_1 13 rfl rfl)
theorem dX0_atoms_35 : decode cX0_atoms 35 = .ok (.getfield 154, 3) := dk_180 0 154 (dk_at dksX0_atoms_1 14 rfl rfl)
theorem dX0_atoms_38 : decode cX0_atoms 38 = .ok (.iload_n 1, 1) := dk_27 (dk_at dksX0_atoms_1 17 rfl rfl)
theorem dX0_atoms_39 : decode cX0_atoms 39 = .ok (.aaload, 1) := dk_50 (dk_at dksX0_atoms_1 18 rfl rfl)
theorem dX0_atoms_40 : decode cX0_atoms 40 = .ok (.getfield 158, 3) := dk_180 0 158 (dk_at dksX0_atoms_1 19 rfl rfl)
theorem dX0_atoms_43 : decode cX0_atoms 43 = .ok (.getfield 94, 3) := dk_180 0 94 (dk_at dksX0_atoms_2 0 rfl rfl)
theorem dX0_atoms_46 : decode cX0_atoms 46 = .ok (.invokeinterface 100 1, 5) := by decide +kernel
theorem dX0_atoms_51 : decode cX0_atoms 51 = .ok (.ireturn, 1) := dk_172 (dk_at dksX0_atoms_2 8 rfl rfl)
abbrev cX0_shown : ByteArray := prog_1_method_49_code
def yX0_shown : MethodName := ⟨RX0, "shown", "(II)I"⟩
def dkwX0_shown_1 : List UInt8 := [182, 1, 178, 167, 0, 4, 2, 172]
abbrev dktX0_shown_1 : List UInt8 := dkwX0_shown_1 ++ []
def dkwX0_shown_0 : List UInt8 := [42, 27, 28, 182, 1, 174, 153, 0, 22, 42, 42, 180, 0, 154, 27, 50, 180, 0, 158, 4, 28, 120]
abbrev dktX0_shown_0 : List UInt8 := dkwX0_shown_0 ++ dktX0_shown_1
theorem dksX0_shown_0 : cX0_shown.data.toList.drop 0 = dktX0_shown_0 := by decide +kernel
theorem dksX0_shown_1 : cX0_shown.data.toList.drop 22 = dktX0_shown_1 := dk_seg dksX0_shown_0 22 rfl rfl
theorem dX0_shown_0 : decode cX0_shown 0 = .ok (.aload_n 0, 1) := dk_42 (dk_at dksX0_shown_0 0 rfl rfl)
theorem dX0_shown_1 : decode cX0_shown 1 = .ok (.iload_n 1, 1) := dk_27 (dk_at dksX0_shown_0 1 rfl rfl)
theorem dX0_shown_2 : decode cX0_shown 2 = .ok (.iload_n 2, 1) := dk_28 (dk_at dksX0_shown_0 2 rfl rfl)
theorem dX0_shown_3 : decode cX0_shown 3 = .ok (.invokevirtual 430, 3) := dk_182 1 174 (dk_at dksX0_shown_0 3 rfl rfl)
theorem dX0_shown_6 : decode cX0_shown 6 = .ok (.ifCond .eq 22, 3) := dk_153 0 22 (dk_at dksX0_shown_0 6 rfl rfl)
theorem dX0_shown_9 : decode cX0_shown 9 = .ok (.aload_n 0, 1) := dk_42 (dk_at dksX0_shown_0 9 rfl rfl)
theorem dX0_shown_10 : decode cX0_shown 10 = .ok (.aload_n 0, 1) := dk_42 (dk_at dksX0_shown_0 10 rfl rfl)
theorem dX0_shown_11 : decode cX0_shown 11 = .ok (.getfield 154, 3) := dk_180 0 154 (dk_at dksX0_shown_0 11 rfl rfl)
theorem dX0_shown_14 : decode cX0_shown 14 = .ok (.iload_n 1, 1) := dk_27 (dk_at dksX0_shown_0 14 rfl rfl)
theorem dX0_shown_15 : decode cX0_shown 15 = .ok (.aaload, 1) := dk_50 (dk_at dksX0_shown_0 15 rfl rfl)
theorem dX0_shown_16 : decode cX0_shown 16 = .ok (.getfield 158, 3) := dk_180 0 158 (dk_at dksX0_shown_0 16 rfl rfl)
theorem dX0_shown_19 : decode cX0_shown 19 = .ok (.iconst 1, 1) := dk_4 (dk_at dksX0_shown_0 19 rfl rfl)
theorem dX0_shown_20 : decode cX0_shown 20 = .ok (.iload_n 2, 1) := dk_28 (dk_at dksX0_shown_0 20 rfl rfl)
theorem dX0_shown_21 : decode cX0_shown 21 = .ok (.ishl, 1) := dk_120 (dk_at dksX0_shown_0 21 rfl rfl)
theorem dX0_shown_22 : decode cX0_shown 22 = .ok (.invokevirtual 434, 3) := dk_182 1 178 (dk_at dksX0_shown_1 0 rfl rfl)
theorem dX0_shown_25 : decode cX0_shown 25 = .ok (.goto 4, 3) := dk_167 0 4 (dk_at dksX0_shown_1 3 rfl rfl)
theorem dX0_shown_28 : decode cX0_shown 28 = .ok (.iconst (-1), 1) := dk_2 (dk_at dksX0_shown_1 6 rfl rfl)
theorem dX0_shown_29 : decode cX0_shown 29 = .ok (.ireturn, 1) := dk_172 (dk_at dksX0_shown_1 7 rfl rfl)
abbrev cX0_isRule : ByteArray := prog_1_method_48_code
def yX0_isRule : MethodName := ⟨RX0, "isRule", "(II)Z"⟩
def dkwX0_isRule_1 : List UInt8 := [185, 0, 100, 1, 0, 4, 100, 184, 0, 3, 153, 0, 7, 4, 167, 0, 4, 3, 172]
abbrev dktX0_isRule_1 : List UInt8 := dkwX0_isRule_1 ++ []
def dkwX0_isRule_0 : List UInt8 := [27, 184, 0, 148, 153, 0, 34, 28, 3, 42, 180, 0, 154, 27, 50, 180, 0, 158, 180, 0, 141]
abbrev dktX0_isRule_0 : List UInt8 := dkwX0_isRule_0 ++ dktX0_isRule_1
theorem dksX0_isRule_0 : cX0_isRule.data.toList.drop 0 = dktX0_isRule_0 := by decide +kernel
theorem dksX0_isRule_1 : cX0_isRule.data.toList.drop 21 = dktX0_isRule_1 := dk_seg dksX0_isRule_0 21 rfl rfl
theorem dX0_isRule_0 : decode cX0_isRule 0 = .ok (.iload_n 1, 1) := dk_27 (dk_at dksX0_isRule_0 0 rfl rfl)
theorem dX0_isRule_1 : decode cX0_isRule 1 = .ok (.invokestatic 148, 3) := dk_184 0 148 (dk_at dksX0_isRule_0 1 rfl rfl)
theorem dX0_isRule_4 : decode cX0_isRule 4 = .ok (.ifCond .eq 34, 3) := dk_153 0 34 (dk_at dksX0_isRule_0 4 rfl rfl)
theorem dX0_isRule_7 : decode cX0_isRule 7 = .ok (.iload_n 2, 1) := dk_28 (dk_at dksX0_isRule_0 7 rfl rfl)
theorem dX0_isRule_8 : decode cX0_isRule 8 = .ok (.iconst 0, 1) := dk_3 (dk_at dksX0_isRule_0 8 rfl rfl)
theorem dX0_isRule_9 : decode cX0_isRule 9 = .ok (.aload_n 0, 1) := dk_42 (dk_at dksX0_isRule_0 9 rfl rfl)
theorem dX0_isRule_10 : decode cX0_isRule 10 = .ok (.getfield 154, 3) := dk_180 0 154 (dk_at dksX0_isRule_0 10 rfl rfl)
theorem dX0_isRule_13 : decode cX0_isRule 13 = .ok (.iload_n 1, 1) := dk_27 (dk_at dksX0_isRule_0 13 rfl rfl)
theorem dX0_isRule_14 : decode cX0_isRule 14 = .ok (.aaload, 1) := dk_50 (dk_at dksX0_isRule_0 14 rfl rfl)
theorem dX0_isRule_15 : decode cX0_isRule 15 = .ok (.getfield 158, 3) := dk_180 0 158 (dk_at dksX0_isRule_0 15 rfl rfl)
theorem dX0_isRule_18 : decode cX0_isRule 18 = .ok (.getfield 141, 3) := dk_180 0 141 (dk_at dksX0_isRule_0 18 rfl rfl)
theorem dX0_isRule_21 : decode cX0_isRule 21 = .ok (.invokeinterface 100 1, 5) := by decide +kernel
theorem dX0_isRule_26 : decode cX0_isRule 26 = .ok (.iconst 1, 1) := dk_4 (dk_at dksX0_isRule_1 5 rfl rfl)
theorem dX0_isRule_27 : decode cX0_isRule 27 = .ok (.isub, 1) := dk_100 (dk_at dksX0_isRule_1 6 rfl rfl)
theorem dX0_isRule_28 : decode cX0_isRule 28 = .ok (.invokestatic 3, 3) := dk_184 0 3 (dk_at dksX0_isRule_1 7 rfl rfl)
theorem dX0_isRule_31 : decode cX0_isRule 31 = .ok (.ifCond .eq 7, 3) := dk_153 0 7 (dk_at dksX0_isRule_1 10 rfl rfl)
theorem dX0_isRule_34 : decode cX0_isRule 34 = .ok (.iconst 1, 1) := dk_4 (dk_at dksX0_isRule_1 13 rfl rfl)
theorem dX0_isRule_35 : decode cX0_isRule 35 = .ok (.goto 4, 3) := dk_167 0 4 (dk_at dksX0_isRule_1 14 rfl rfl)
theorem dX0_isRule_38 : decode cX0_isRule 38 = .ok (.iconst 0, 1) := dk_3 (dk_at dksX0_isRule_1 17 rfl rfl)
theorem dX0_isRule_39 : decode cX0_isRule 39 = .ok (.ireturn, 1) := dk_172 (dk_at dksX0_isRule_1 18 rfl rfl)
abbrev cX0_leastFor : ByteArray := prog_1_method_46_code
def yX0_leastFor : MethodName := ⟨RX0, "leastFor", "(LSortedPost$Rules;I)I"⟩
def dkwX0_leastFor_4 : List UInt8 := [172]
abbrev dktX0_leastFor_4 : List UInt8 := dkwX0_leastFor_4 ++ []
def dkwX0_leastFor_3 : List UInt8 := [154, 0, 16, 167, 0, 11, 21, 4, 28, 126, 28, 160, 0, 5, 29, 172, 132, 3, 1, 167, 255, 187, 16, 252]
abbrev dktX0_leastFor_3 : List UInt8 := dkwX0_leastFor_3 ++ dktX0_leastFor_4
def dkwX0_leastFor_2 : List UInt8 := [43, 180, 0, 94, 182, 1, 166, 153, 0, 32, 42, 43, 182, 1, 170, 54, 4, 28, 154, 0, 11, 21, 4]
abbrev dktX0_leastFor_2 : List UInt8 := dkwX0_leastFor_2 ++ dktX0_leastFor_3
def dkwX0_leastFor_1 : List UInt8 := [180, 0, 94, 185, 0, 100, 1, 0, 120, 162, 0, 60, 42, 180, 0, 206, 29, 181, 1, 163, 42, 180, 0, 206]
abbrev dktX0_leastFor_1 : List UInt8 := dkwX0_leastFor_1 ++ dktX0_leastFor_2
def dkwX0_leastFor_0 : List UInt8 := [43, 180, 0, 94, 185, 0, 100, 1, 0, 16, 10, 164, 0, 6, 16, 253, 172, 3, 62, 29, 4, 43]
abbrev dktX0_leastFor_0 : List UInt8 := dkwX0_leastFor_0 ++ dktX0_leastFor_1
theorem dksX0_leastFor_0 : cX0_leastFor.data.toList.drop 0 = dktX0_leastFor_0 := by decide +kernel
theorem dksX0_leastFor_1 : cX0_leastFor.data.toList.drop 22 = dktX0_leastFor_1 := dk_seg dksX0_leastFor_0 22 rfl rfl
theorem dksX0_leastFor_2 : cX0_leastFor.data.toList.drop 46 = dktX0_leastFor_2 := dk_seg dksX0_leastFor_1 24 rfl rfl
theorem dksX0_leastFor_3 : cX0_leastFor.data.toList.drop 69 = dktX0_leastFor_3 := dk_seg dksX0_leastFor_2 23 rfl rfl
theorem dksX0_leastFor_4 : cX0_leastFor.data.toList.drop 93 = dktX0_leastFor_4 := dk_seg dksX0_leastFor_3 24 rfl rfl
theorem dX0_leastFor_0 : decode cX0_leastFor 0 = .ok (.aload_n 1, 1) := dk_43 (dk_at dksX0_leastFor_0 0 rfl rfl)
theorem dX0_leastFor_1 : decode cX0_leastFor 1 = .ok (.getfield 94, 3) := dk_180 0 94 (dk_at dksX0_leastFor_0 1 rfl rfl)
theorem dX0_leastFor_4 : decode cX0_leastFor 4 = .ok (.invokeinterface 100 1, 5) := by decide +kernel
theorem dX0_leastFor_9 : decode cX0_leastFor 9 = .ok (.bipush 10, 2) := dk_16 10 (dk_at dksX0_leastFor_0 9 rfl rfl)
theorem dX0_leastFor_11 : decode cX0_leastFor 11 = .ok (.if_icmp .le 6, 3) := dk_164 0 6 (dk_at dksX0_leastFor_0 11 rfl rfl)
theorem dX0_leastFor_14 : decode cX0_leastFor 14 = .ok (.bipush (-3), 2) := dk_16 253 (dk_at dksX0_leastFor_0 14 rfl rfl)
theorem dX0_leastFor_16 : decode cX0_leastFor 16 = .ok (.ireturn, 1) := dk_172 (dk_at dksX0_leastFor_0 16 rfl rfl)
theorem dX0_leastFor_17 : decode cX0_leastFor 17 = .ok (.iconst 0, 1) := dk_3 (dk_at dksX0_leastFor_0 17 rfl rfl)
theorem dX0_leastFor_18 : decode cX0_leastFor 18 = .ok (.istore_n 3, 1) := dk_62 (dk_at dksX0_leastFor_0 18 rfl rfl)
theorem dX0_leastFor_19 : decode cX0_leastFor 19 = .ok (.iload_n 3, 1) := dk_29 (dk_at dksX0_leastFor_0 19 rfl rfl)
theorem dX0_leastFor_20 : decode cX0_leastFor 20 = .ok (.iconst 1, 1) := dk_4 (dk_at dksX0_leastFor_0 20 rfl rfl)
theorem dX0_leastFor_21 : decode cX0_leastFor 21 = .ok (.aload_n 1, 1) := dk_43 (dk_at dksX0_leastFor_0 21 rfl rfl)
theorem dX0_leastFor_22 : decode cX0_leastFor 22 = .ok (.getfield 94, 3) := dk_180 0 94 (dk_at dksX0_leastFor_1 0 rfl rfl)
theorem dX0_leastFor_25 : decode cX0_leastFor 25 = .ok (.invokeinterface 100 1, 5) := by decide +kernel
theorem dX0_leastFor_30 : decode cX0_leastFor 30 = .ok (.ishl, 1) := dk_120 (dk_at dksX0_leastFor_1 8 rfl rfl)
theorem dX0_leastFor_31 : decode cX0_leastFor 31 = .ok (.if_icmp .ge 60, 3) := dk_162 0 60 (dk_at dksX0_leastFor_1 9 rfl rfl)
theorem dX0_leastFor_34 : decode cX0_leastFor 34 = .ok (.aload_n 0, 1) := dk_42 (dk_at dksX0_leastFor_1 12 rfl rfl)
theorem dX0_leastFor_35 : decode cX0_leastFor 35 = .ok (.getfield 206, 3) := dk_180 0 206 (dk_at dksX0_leastFor_1 13 rfl rfl)
theorem dX0_leastFor_38 : decode cX0_leastFor 38 = .ok (.iload_n 3, 1) := dk_29 (dk_at dksX0_leastFor_1 16 rfl rfl)
theorem dX0_leastFor_39 : decode cX0_leastFor 39 = .ok (.putfield 419, 3) := dk_181 1 163 (dk_at dksX0_leastFor_1 17 rfl rfl)
theorem dX0_leastFor_42 : decode cX0_leastFor 42 = .ok (.aload_n 0, 1) := dk_42 (dk_at dksX0_leastFor_1 20 rfl rfl)
theorem dX0_leastFor_43 : decode cX0_leastFor 43 = .ok (.getfield 206, 3) := dk_180 0 206 (dk_at dksX0_leastFor_1 21 rfl rfl)
theorem dX0_leastFor_46 : decode cX0_leastFor 46 = .ok (.aload_n 1, 1) := dk_43 (dk_at dksX0_leastFor_2 0 rfl rfl)
theorem dX0_leastFor_47 : decode cX0_leastFor 47 = .ok (.getfield 94, 3) := dk_180 0 94 (dk_at dksX0_leastFor_2 1 rfl rfl)
theorem dX0_leastFor_50 : decode cX0_leastFor 50 = .ok (.invokevirtual 422, 3) := dk_182 1 166 (dk_at dksX0_leastFor_2 4 rfl rfl)
theorem dX0_leastFor_53 : decode cX0_leastFor 53 = .ok (.ifCond .eq 32, 3) := dk_153 0 32 (dk_at dksX0_leastFor_2 7 rfl rfl)
theorem dX0_leastFor_56 : decode cX0_leastFor 56 = .ok (.aload_n 0, 1) := dk_42 (dk_at dksX0_leastFor_2 10 rfl rfl)
theorem dX0_leastFor_57 : decode cX0_leastFor 57 = .ok (.aload_n 1, 1) := dk_43 (dk_at dksX0_leastFor_2 11 rfl rfl)
theorem dX0_leastFor_58 : decode cX0_leastFor 58 = .ok (.invokevirtual 426, 3) := dk_182 1 170 (dk_at dksX0_leastFor_2 12 rfl rfl)
theorem dX0_leastFor_61 : decode cX0_leastFor 61 = .ok (.istore 4, 2) := dk_54 4 (dk_at dksX0_leastFor_2 15 rfl rfl)
theorem dX0_leastFor_63 : decode cX0_leastFor 63 = .ok (.iload_n 2, 1) := dk_28 (dk_at dksX0_leastFor_2 17 rfl rfl)
theorem dX0_leastFor_64 : decode cX0_leastFor 64 = .ok (.ifCond .ne 11, 3) := dk_154 0 11 (dk_at dksX0_leastFor_2 18 rfl rfl)
theorem dX0_leastFor_67 : decode cX0_leastFor 67 = .ok (.iload 4, 2) := dk_21 4 (dk_at dksX0_leastFor_2 21 rfl rfl)
theorem dX0_leastFor_69 : decode cX0_leastFor 69 = .ok (.ifCond .ne 16, 3) := dk_154 0 16 (dk_at dksX0_leastFor_3 0 rfl rfl)
theorem dX0_leastFor_72 : decode cX0_leastFor 72 = .ok (.goto 11, 3) := dk_167 0 11 (dk_at dksX0_leastFor_3 3 rfl rfl)
theorem dX0_leastFor_75 : decode cX0_leastFor 75 = .ok (.iload 4, 2) := dk_21 4 (dk_at dksX0_leastFor_3 6 rfl rfl)
theorem dX0_leastFor_77 : decode cX0_leastFor 77 = .ok (.iload_n 2, 1) := dk_28 (dk_at dksX0_leastFor_3 8 rfl rfl)
theorem dX0_leastFor_78 : decode cX0_leastFor 78 = .ok (.iand, 1) := dk_126 (dk_at dksX0_leastFor_3 9 rfl rfl)
theorem dX0_leastFor_79 : decode cX0_leastFor 79 = .ok (.iload_n 2, 1) := dk_28 (dk_at dksX0_leastFor_3 10 rfl rfl)
theorem dX0_leastFor_80 : decode cX0_leastFor 80 = .ok (.if_icmp .ne 5, 3) := dk_160 0 5 (dk_at dksX0_leastFor_3 11 rfl rfl)
theorem dX0_leastFor_83 : decode cX0_leastFor 83 = .ok (.iload_n 3, 1) := dk_29 (dk_at dksX0_leastFor_3 14 rfl rfl)
theorem dX0_leastFor_84 : decode cX0_leastFor 84 = .ok (.ireturn, 1) := dk_172 (dk_at dksX0_leastFor_3 15 rfl rfl)
theorem dX0_leastFor_85 : decode cX0_leastFor 85 = .ok (.iinc 3 1, 3) := dk_132 3 1 (dk_at dksX0_leastFor_3 16 rfl rfl)
theorem dX0_leastFor_88 : decode cX0_leastFor 88 = .ok (.goto (-69), 3) := dk_167 255 187 (dk_at dksX0_leastFor_3 19 rfl rfl)
theorem dX0_leastFor_91 : decode cX0_leastFor 91 = .ok (.bipush (-4), 2) := dk_16 252 (dk_at dksX0_leastFor_3 22 rfl rfl)
theorem dX0_leastFor_93 : decode cX0_leastFor 93 = .ok (.ireturn, 1) := dk_172 (dk_at dksX0_leastFor_4 0 rfl rfl)
abbrev cX0_acting : ByteArray := prog_1_method_45_code
def yX0_acting : MethodName := ⟨RX0, "acting", "(LSortedPost$Rules;)I"⟩
def dkwX0_acting_3 : List UInt8 := [62, 132, 4, 1, 167, 255, 189, 28, 172]
abbrev dktX0_acting_3 : List UInt8 := dkwX0_acting_3 ++ []
def dkwX0_acting_2 : List UInt8 := [42, 180, 0, 206, 185, 0, 243, 2, 0, 153, 0, 16, 28, 4, 21, 4, 120, 128, 61, 25, 5, 182, 1, 161]
abbrev dktX0_acting_2 : List UInt8 := dkwX0_acting_2 ++ dktX0_acting_3
def dkwX0_acting_1 : List UInt8 := [154, 0, 55, 43, 180, 0, 141, 21, 4, 185, 0, 105, 2, 0, 192, 0, 121, 58, 5, 25, 5, 180, 0, 133]
abbrev dktX0_acting_1 : List UInt8 := dkwX0_acting_1 ++ dktX0_acting_2
def dkwX0_acting_0 : List UInt8 := [3, 61, 3, 62, 3, 54, 4, 21, 4, 43, 180, 0, 141, 185, 0, 100, 1, 0, 162, 0, 59, 29]
abbrev dktX0_acting_0 : List UInt8 := dkwX0_acting_0 ++ dktX0_acting_1
theorem dksX0_acting_0 : cX0_acting.data.toList.drop 0 = dktX0_acting_0 := by decide +kernel
theorem dksX0_acting_1 : cX0_acting.data.toList.drop 22 = dktX0_acting_1 := dk_seg dksX0_acting_0 22 rfl rfl
theorem dksX0_acting_2 : cX0_acting.data.toList.drop 46 = dktX0_acting_2 := dk_seg dksX0_acting_1 24 rfl rfl
theorem dksX0_acting_3 : cX0_acting.data.toList.drop 70 = dktX0_acting_3 := dk_seg dksX0_acting_2 24 rfl rfl
theorem dX0_acting_0 : decode cX0_acting 0 = .ok (.iconst 0, 1) := dk_3 (dk_at dksX0_acting_0 0 rfl rfl)
theorem dX0_acting_1 : decode cX0_acting 1 = .ok (.istore_n 2, 1) := dk_61 (dk_at dksX0_acting_0 1 rfl rfl)
theorem dX0_acting_2 : decode cX0_acting 2 = .ok (.iconst 0, 1) := dk_3 (dk_at dksX0_acting_0 2 rfl rfl)
theorem dX0_acting_3 : decode cX0_acting 3 = .ok (.istore_n 3, 1) := dk_62 (dk_at dksX0_acting_0 3 rfl rfl)
theorem dX0_acting_4 : decode cX0_acting 4 = .ok (.iconst 0, 1) := dk_3 (dk_at dksX0_acting_0 4 rfl rfl)
theorem dX0_acting_5 : decode cX0_acting 5 = .ok (.istore 4, 2) := dk_54 4 (dk_at dksX0_acting_0 5 rfl rfl)
theorem dX0_acting_7 : decode cX0_acting 7 = .ok (.iload 4, 2) := dk_21 4 (dk_at dksX0_acting_0 7 rfl rfl)
theorem dX0_acting_9 : decode cX0_acting 9 = .ok (.aload_n 1, 1) := dk_43 (dk_at dksX0_acting_0 9 rfl rfl)
theorem dX0_acting_10 : decode cX0_acting 10 = .ok (.getfield 141, 3) := dk_180 0 141 (dk_at dksX0_acting_0 10 rfl rfl)
theorem dX0_acting_13 : decode cX0_acting 13 = .ok (.invokeinterface 100 1, 5) := by decide +kernel
theorem dX0_acting_18 : decode cX0_acting 18 = .ok (.if_icmp .ge 59, 3) := dk_162 0 59 (dk_at dksX0_acting_0 18 rfl rfl)
theorem dX0_acting_21 : decode cX0_acting 21 = .ok (.iload_n 3, 1) := dk_29 (dk_at dksX0_acting_0 21 rfl rfl)
theorem dX0_acting_22 : decode cX0_acting 22 = .ok (.ifCond .ne 55, 3) := dk_154 0 55 (dk_at dksX0_acting_1 0 rfl rfl)
theorem dX0_acting_25 : decode cX0_acting 25 = .ok (.aload_n 1, 1) := dk_43 (dk_at dksX0_acting_1 3 rfl rfl)
theorem dX0_acting_26 : decode cX0_acting 26 = .ok (.getfield 141, 3) := dk_180 0 141 (dk_at dksX0_acting_1 4 rfl rfl)
theorem dX0_acting_29 : decode cX0_acting 29 = .ok (.iload 4, 2) := dk_21 4 (dk_at dksX0_acting_1 7 rfl rfl)
theorem dX0_acting_31 : decode cX0_acting 31 = .ok (.invokeinterface 105 2, 5) := by decide +kernel
theorem dX0_acting_36 : decode cX0_acting 36 = .ok (.checkcast 121, 3) := dk_192 0 121 (dk_at dksX0_acting_1 14 rfl rfl)
theorem dX0_acting_39 : decode cX0_acting 39 = .ok (.astore 5, 2) := dk_58 5 (dk_at dksX0_acting_1 17 rfl rfl)
theorem dX0_acting_41 : decode cX0_acting 41 = .ok (.aload 5, 2) := dk_25 5 (dk_at dksX0_acting_1 19 rfl rfl)
theorem dX0_acting_43 : decode cX0_acting 43 = .ok (.getfield 133, 3) := dk_180 0 133 (dk_at dksX0_acting_1 21 rfl rfl)
theorem dX0_acting_46 : decode cX0_acting 46 = .ok (.aload_n 0, 1) := dk_42 (dk_at dksX0_acting_2 0 rfl rfl)
theorem dX0_acting_47 : decode cX0_acting 47 = .ok (.getfield 206, 3) := dk_180 0 206 (dk_at dksX0_acting_2 1 rfl rfl)
theorem dX0_acting_50 : decode cX0_acting 50 = .ok (.invokeinterface 243 2, 5) := by decide +kernel
theorem dX0_acting_55 : decode cX0_acting 55 = .ok (.ifCond .eq 16, 3) := dk_153 0 16 (dk_at dksX0_acting_2 9 rfl rfl)
theorem dX0_acting_58 : decode cX0_acting 58 = .ok (.iload_n 2, 1) := dk_28 (dk_at dksX0_acting_2 12 rfl rfl)
theorem dX0_acting_59 : decode cX0_acting 59 = .ok (.iconst 1, 1) := dk_4 (dk_at dksX0_acting_2 13 rfl rfl)
theorem dX0_acting_60 : decode cX0_acting 60 = .ok (.iload 4, 2) := dk_21 4 (dk_at dksX0_acting_2 14 rfl rfl)
theorem dX0_acting_62 : decode cX0_acting 62 = .ok (.ishl, 1) := dk_120 (dk_at dksX0_acting_2 16 rfl rfl)
theorem dX0_acting_63 : decode cX0_acting 63 = .ok (.ior, 1) := dk_128 (dk_at dksX0_acting_2 17 rfl rfl)
theorem dX0_acting_64 : decode cX0_acting 64 = .ok (.istore_n 2, 1) := dk_61 (dk_at dksX0_acting_2 18 rfl rfl)
theorem dX0_acting_65 : decode cX0_acting 65 = .ok (.aload 5, 2) := dk_25 5 (dk_at dksX0_acting_2 19 rfl rfl)
theorem dX0_acting_67 : decode cX0_acting 67 = .ok (.invokevirtual 417, 3) := dk_182 1 161 (dk_at dksX0_acting_2 21 rfl rfl)
theorem dX0_acting_70 : decode cX0_acting 70 = .ok (.istore_n 3, 1) := dk_62 (dk_at dksX0_acting_3 0 rfl rfl)
theorem dX0_acting_71 : decode cX0_acting 71 = .ok (.iinc 4 1, 3) := dk_132 4 1 (dk_at dksX0_acting_3 1 rfl rfl)
theorem dX0_acting_74 : decode cX0_acting 74 = .ok (.goto (-67), 3) := dk_167 255 189 (dk_at dksX0_acting_3 4 rfl rfl)
theorem dX0_acting_77 : decode cX0_acting 77 = .ok (.iload_n 2, 1) := dk_28 (dk_at dksX0_acting_3 7 rfl rfl)
theorem dX0_acting_78 : decode cX0_acting 78 = .ok (.ireturn, 1) := dk_172 (dk_at dksX0_acting_3 8 rfl rfl)
abbrev cX0_bare : ByteArray := prog_1_method_50_code
def yX0_bare : MethodName := ⟨RX0, "bare", "(I)I"⟩
def dkwX0_bare_1 : List UInt8 := [167, 0, 4, 2, 172]
abbrev dktX0_bare_1 : List UInt8 := dkwX0_bare_1 ++ []
def dkwX0_bare_0 : List UInt8 := [42, 27, 3, 182, 1, 174, 153, 0, 20, 42, 42, 180, 0, 154, 27, 50, 180, 0, 158, 3, 182, 1, 178]
abbrev dktX0_bare_0 : List UInt8 := dkwX0_bare_0 ++ dktX0_bare_1
theorem dksX0_bare_0 : cX0_bare.data.toList.drop 0 = dktX0_bare_0 := by decide +kernel
theorem dksX0_bare_1 : cX0_bare.data.toList.drop 23 = dktX0_bare_1 := dk_seg dksX0_bare_0 23 rfl rfl
theorem dX0_bare_0 : decode cX0_bare 0 = .ok (.aload_n 0, 1) := dk_42 (dk_at dksX0_bare_0 0 rfl rfl)
theorem dX0_bare_1 : decode cX0_bare 1 = .ok (.iload_n 1, 1) := dk_27 (dk_at dksX0_bare_0 1 rfl rfl)
theorem dX0_bare_2 : decode cX0_bare 2 = .ok (.iconst 0, 1) := dk_3 (dk_at dksX0_bare_0 2 rfl rfl)
theorem dX0_bare_3 : decode cX0_bare 3 = .ok (.invokevirtual 430, 3) := dk_182 1 174 (dk_at dksX0_bare_0 3 rfl rfl)
theorem dX0_bare_6 : decode cX0_bare 6 = .ok (.ifCond .eq 20, 3) := dk_153 0 20 (dk_at dksX0_bare_0 6 rfl rfl)
theorem dX0_bare_9 : decode cX0_bare 9 = .ok (.aload_n 0, 1) := dk_42 (dk_at dksX0_bare_0 9 rfl rfl)
theorem dX0_bare_10 : decode cX0_bare 10 = .ok (.aload_n 0, 1) := dk_42 (dk_at dksX0_bare_0 10 rfl rfl)
theorem dX0_bare_11 : decode cX0_bare 11 = .ok (.getfield 154, 3) := dk_180 0 154 (dk_at dksX0_bare_0 11 rfl rfl)
theorem dX0_bare_14 : decode cX0_bare 14 = .ok (.iload_n 1, 1) := dk_27 (dk_at dksX0_bare_0 14 rfl rfl)
theorem dX0_bare_15 : decode cX0_bare 15 = .ok (.aaload, 1) := dk_50 (dk_at dksX0_bare_0 15 rfl rfl)
theorem dX0_bare_16 : decode cX0_bare 16 = .ok (.getfield 158, 3) := dk_180 0 158 (dk_at dksX0_bare_0 16 rfl rfl)
theorem dX0_bare_19 : decode cX0_bare 19 = .ok (.iconst 0, 1) := dk_3 (dk_at dksX0_bare_0 19 rfl rfl)
theorem dX0_bare_20 : decode cX0_bare 20 = .ok (.invokevirtual 434, 3) := dk_182 1 178 (dk_at dksX0_bare_0 20 rfl rfl)
theorem dX0_bare_23 : decode cX0_bare 23 = .ok (.goto 4, 3) := dk_167 0 4 (dk_at dksX0_bare_1 0 rfl rfl)
theorem dX0_bare_26 : decode cX0_bare 26 = .ok (.iconst (-1), 1) := dk_2 (dk_at dksX0_bare_1 3 rfl rfl)
theorem dX0_bare_27 : decode cX0_bare 27 = .ok (.ireturn, 1) := dk_172 (dk_at dksX0_bare_1 4 rfl rfl)
abbrev cX0_quarrel : ByteArray := prog_1_method_51_code
def yX0_quarrel : MethodName := ⟨RX0, "quarrel", "(III)I"⟩
def dkwX0_quarrel_5 : List UInt8 := [25, 4, 4, 28, 120, 4, 29, 120, 128, 182, 1, 178, 172]
abbrev dktX0_quarrel_5 : List UInt8 := dkwX0_quarrel_5 ++ []
def dkwX0_quarrel_4 : List UInt8 := [21, 5, 153, 0, 15, 21, 6, 153, 0, 10, 21, 5, 21, 6, 160, 0, 8, 16, 252, 167, 0, 16, 42]
abbrev dktX0_quarrel_4 : List UInt8 := dkwX0_quarrel_4 ++ dktX0_quarrel_5
def dkwX0_quarrel_3 : List UInt8 := [182, 1, 182, 54, 6, 25, 4, 180, 0, 94, 185, 0, 100, 1, 0, 16, 10, 164, 0, 6, 16, 253, 172]
abbrev dktX0_quarrel_3 : List UInt8 := dkwX0_quarrel_3 ++ dktX0_quarrel_4
def dkwX0_quarrel_2 : List UInt8 := [192, 0, 121, 182, 1, 182, 54, 5, 25, 4, 180, 0, 141, 29, 185, 0, 105, 2, 0, 192, 0, 121]
abbrev dktX0_quarrel_2 : List UInt8 := dkwX0_quarrel_2 ++ dktX0_quarrel_3
def dkwX0_quarrel_1 : List UInt8 := [172, 42, 180, 0, 154, 27, 50, 180, 0, 158, 58, 4, 25, 4, 180, 0, 141, 28, 185, 0, 105, 2, 0]
abbrev dktX0_quarrel_1 : List UInt8 := dkwX0_quarrel_1 ++ dktX0_quarrel_2
def dkwX0_quarrel_0 : List UInt8 := [42, 27, 28, 182, 1, 174, 153, 0, 17, 42, 27, 29, 182, 1, 174, 153, 0, 8, 28, 29, 161, 0, 5, 2]
abbrev dktX0_quarrel_0 : List UInt8 := dkwX0_quarrel_0 ++ dktX0_quarrel_1
theorem dksX0_quarrel_0 : cX0_quarrel.data.toList.drop 0 = dktX0_quarrel_0 := by decide +kernel
theorem dksX0_quarrel_1 : cX0_quarrel.data.toList.drop 24 = dktX0_quarrel_1 := dk_seg dksX0_quarrel_0 24 rfl rfl
theorem dksX0_quarrel_2 : cX0_quarrel.data.toList.drop 47 = dktX0_quarrel_2 := dk_seg dksX0_quarrel_1 23 rfl rfl
theorem dksX0_quarrel_3 : cX0_quarrel.data.toList.drop 69 = dktX0_quarrel_3 := dk_seg dksX0_quarrel_2 22 rfl rfl
theorem dksX0_quarrel_4 : cX0_quarrel.data.toList.drop 92 = dktX0_quarrel_4 := dk_seg dksX0_quarrel_3 23 rfl rfl
theorem dksX0_quarrel_5 : cX0_quarrel.data.toList.drop 115 = dktX0_quarrel_5 := dk_seg dksX0_quarrel_4 23 rfl rfl
theorem dX0_quarrel_0 : decode cX0_quarrel 0 = .ok (.aload_n 0, 1) := dk_42 (dk_at dksX0_quarrel_0 0 rfl rfl)
theorem dX0_quarrel_1 : decode cX0_quarrel 1 = .ok (.iload_n 1, 1) := dk_27 (dk_at dksX0_quarrel_0 1 rfl rfl)
theorem dX0_quarrel_2 : decode cX0_quarrel 2 = .ok (.iload_n 2, 1) := dk_28 (dk_at dksX0_quarrel_0 2 rfl rfl)
theorem dX0_quarrel_3 : decode cX0_quarrel 3 = .ok (.invokevirtual 430, 3) := dk_182 1 174 (dk_at dksX0_quarrel_0 3 rfl rfl)
theorem dX0_quarrel_6 : decode cX0_quarrel 6 = .ok (.ifCond .eq 17, 3) := dk_153 0 17 (dk_at dksX0_quarrel_0 6 rfl rfl)
theorem dX0_quarrel_9 : decode cX0_quarrel 9 = .ok (.aload_n 0, 1) := dk_42 (dk_at dksX0_quarrel_0 9 rfl rfl)
theorem dX0_quarrel_10 : decode cX0_quarrel 10 = .ok (.iload_n 1, 1) := dk_27 (dk_at dksX0_quarrel_0 10 rfl rfl)
theorem dX0_quarrel_11 : decode cX0_quarrel 11 = .ok (.iload_n 3, 1) := dk_29 (dk_at dksX0_quarrel_0 11 rfl rfl)
theorem dX0_quarrel_12 : decode cX0_quarrel 12 = .ok (.invokevirtual 430, 3) := dk_182 1 174 (dk_at dksX0_quarrel_0 12 rfl rfl)
theorem dX0_quarrel_15 : decode cX0_quarrel 15 = .ok (.ifCond .eq 8, 3) := dk_153 0 8 (dk_at dksX0_quarrel_0 15 rfl rfl)
theorem dX0_quarrel_18 : decode cX0_quarrel 18 = .ok (.iload_n 2, 1) := dk_28 (dk_at dksX0_quarrel_0 18 rfl rfl)
theorem dX0_quarrel_19 : decode cX0_quarrel 19 = .ok (.iload_n 3, 1) := dk_29 (dk_at dksX0_quarrel_0 19 rfl rfl)
theorem dX0_quarrel_20 : decode cX0_quarrel 20 = .ok (.if_icmp .lt 5, 3) := dk_161 0 5 (dk_at dksX0_quarrel_0 20 rfl rfl)
theorem dX0_quarrel_23 : decode cX0_quarrel 23 = .ok (.iconst (-1), 1) := dk_2 (dk_at dksX0_quarrel_0 23 rfl rfl)
theorem dX0_quarrel_24 : decode cX0_quarrel 24 = .ok (.ireturn, 1) := dk_172 (dk_at dksX0_quarrel_1 0 rfl rfl)
theorem dX0_quarrel_25 : decode cX0_quarrel 25 = .ok (.aload_n 0, 1) := dk_42 (dk_at dksX0_quarrel_1 1 rfl rfl)
theorem dX0_quarrel_26 : decode cX0_quarrel 26 = .ok (.getfield 154, 3) := dk_180 0 154 (dk_at dksX0_quarrel_1 2 rfl rfl)
theorem dX0_quarrel_29 : decode cX0_quarrel 29 = .ok (.iload_n 1, 1) := dk_27 (dk_at dksX0_quarrel_1 5 rfl rfl)
theorem dX0_quarrel_30 : decode cX0_quarrel 30 = .ok (.aaload, 1) := dk_50 (dk_at dksX0_quarrel_1 6 rfl rfl)
theorem dX0_quarrel_31 : decode cX0_quarrel 31 = .ok (.getfield 158, 3) := dk_180 0 158 (dk_at dksX0_quarrel_1 7 rfl rfl)
theorem dX0_quarrel_34 : decode cX0_quarrel 34 = .ok (.astore 4, 2) := dk_58 4 (dk_at dksX0_quarrel_1 10 rfl rfl)
theorem dX0_quarrel_36 : decode cX0_quarrel 36 = .ok (.aload 4, 2) := dk_25 4 (dk_at dksX0_quarrel_1 12 rfl rfl)
theorem dX0_quarrel_38 : decode cX0_quarrel 38 = .ok (.getfield 141, 3) := dk_180 0 141 (dk_at dksX0_quarrel_1 14 rfl rfl)
theorem dX0_quarrel_41 : decode cX0_quarrel 41 = .ok (.iload_n 2, 1) := dk_28 (dk_at dksX0_quarrel_1 17 rfl rfl)
theorem dX0_quarrel_42 : decode cX0_quarrel 42 = .ok (.invokeinterface 105 2, 5) := by decide +kernel
theorem dX0_quarrel_47 : decode cX0_quarrel 47 = .ok (.checkcast 121, 3) := dk_192 0 121 (dk_at dksX0_quarrel_2 0 rfl rfl)
theorem dX0_quarrel_50 : decode cX0_quarrel 50 = .ok (.invokevirtual 438, 3) := dk_182 1 182 (dk_at dksX0_quarrel_2 3 rfl rfl)
theorem dX0_quarrel_53 : decode cX0_quarrel 53 = .ok (.istore 5, 2) := dk_54 5 (dk_at dksX0_quarrel_2 6 rfl rfl)
theorem dX0_quarrel_55 : decode cX0_quarrel 55 = .ok (.aload 4, 2) := dk_25 4 (dk_at dksX0_quarrel_2 8 rfl rfl)
theorem dX0_quarrel_57 : decode cX0_quarrel 57 = .ok (.getfield 141, 3) := dk_180 0 141 (dk_at dksX0_quarrel_2 10 rfl rfl)
theorem dX0_quarrel_60 : decode cX0_quarrel 60 = .ok (.iload_n 3, 1) := dk_29 (dk_at dksX0_quarrel_2 13 rfl rfl)
theorem dX0_quarrel_61 : decode cX0_quarrel 61 = .ok (.invokeinterface 105 2, 5) := by decide +kernel
theorem dX0_quarrel_66 : decode cX0_quarrel 66 = .ok (.checkcast 121, 3) := dk_192 0 121 (dk_at dksX0_quarrel_2 19 rfl rfl)
theorem dX0_quarrel_69 : decode cX0_quarrel 69 = .ok (.invokevirtual 438, 3) := dk_182 1 182 (dk_at dksX0_quarrel_3 0 rfl rfl)
theorem dX0_quarrel_72 : decode cX0_quarrel 72 = .ok (.istore 6, 2) := dk_54 6 (dk_at dksX0_quarrel_3 3 rfl rfl)
theorem dX0_quarrel_74 : decode cX0_quarrel 74 = .ok (.aload 4, 2) := dk_25 4 (dk_at dksX0_quarrel_3 5 rfl rfl)
theorem dX0_quarrel_76 : decode cX0_quarrel 76 = .ok (.getfield 94, 3) := dk_180 0 94 (dk_at dksX0_quarrel_3 7 rfl rfl)
theorem dX0_quarrel_79 : decode cX0_quarrel 79 = .ok (.invokeinterface 100 1, 5) := by decide +kernel
theorem dX0_quarrel_84 : decode cX0_quarrel 84 = .ok (.bipush 10, 2) := dk_16 10 (dk_at dksX0_quarrel_3 15 rfl rfl)
theorem dX0_quarrel_86 : decode cX0_quarrel 86 = .ok (.if_icmp .le 6, 3) := dk_164 0 6 (dk_at dksX0_quarrel_3 17 rfl rfl)
theorem dX0_quarrel_89 : decode cX0_quarrel 89 = .ok (.bipush (-3), 2) := dk_16 253 (dk_at dksX0_quarrel_3 20 rfl rfl)
theorem dX0_quarrel_91 : decode cX0_quarrel 91 = .ok (.ireturn, 1) := dk_172 (dk_at dksX0_quarrel_3 22 rfl rfl)
theorem dX0_quarrel_92 : decode cX0_quarrel 92 = .ok (.iload 5, 2) := dk_21 5 (dk_at dksX0_quarrel_4 0 rfl rfl)
theorem dX0_quarrel_94 : decode cX0_quarrel 94 = .ok (.ifCond .eq 15, 3) := dk_153 0 15 (dk_at dksX0_quarrel_4 2 rfl rfl)
theorem dX0_quarrel_97 : decode cX0_quarrel 97 = .ok (.iload 6, 2) := dk_21 6 (dk_at dksX0_quarrel_4 5 rfl rfl)
theorem dX0_quarrel_99 : decode cX0_quarrel 99 = .ok (.ifCond .eq 10, 3) := dk_153 0 10 (dk_at dksX0_quarrel_4 7 rfl rfl)
theorem dX0_quarrel_102 : decode cX0_quarrel 102 = .ok (.iload 5, 2) := dk_21 5 (dk_at dksX0_quarrel_4 10 rfl rfl)
theorem dX0_quarrel_104 : decode cX0_quarrel 104 = .ok (.iload 6, 2) := dk_21 6 (dk_at dksX0_quarrel_4 12 rfl rfl)
theorem dX0_quarrel_106 : decode cX0_quarrel 106 = .ok (.if_icmp .ne 8, 3) := dk_160 0 8 (dk_at dksX0_quarrel_4 14 rfl rfl)
theorem dX0_quarrel_109 : decode cX0_quarrel 109 = .ok (.bipush (-4), 2) := dk_16 252 (dk_at dksX0_quarrel_4 17 rfl rfl)
theorem dX0_quarrel_111 : decode cX0_quarrel 111 = .ok (.goto 16, 3) := dk_167 0 16 (dk_at dksX0_quarrel_4 19 rfl rfl)
theorem dX0_quarrel_114 : decode cX0_quarrel 114 = .ok (.aload_n 0, 1) := dk_42 (dk_at dksX0_quarrel_4 22 rfl rfl)
theorem dX0_quarrel_115 : decode cX0_quarrel 115 = .ok (.aload 4, 2) := dk_25 4 (dk_at dksX0_quarrel_5 0 rfl rfl)
theorem dX0_quarrel_117 : decode cX0_quarrel 117 = .ok (.iconst 1, 1) := dk_4 (dk_at dksX0_quarrel_5 2 rfl rfl)
theorem dX0_quarrel_118 : decode cX0_quarrel 118 = .ok (.iload_n 2, 1) := dk_28 (dk_at dksX0_quarrel_5 3 rfl rfl)
theorem dX0_quarrel_119 : decode cX0_quarrel 119 = .ok (.ishl, 1) := dk_120 (dk_at dksX0_quarrel_5 4 rfl rfl)
theorem dX0_quarrel_120 : decode cX0_quarrel 120 = .ok (.iconst 1, 1) := dk_4 (dk_at dksX0_quarrel_5 5 rfl rfl)
theorem dX0_quarrel_121 : decode cX0_quarrel 121 = .ok (.iload_n 3, 1) := dk_29 (dk_at dksX0_quarrel_5 6 rfl rfl)
theorem dX0_quarrel_122 : decode cX0_quarrel 122 = .ok (.ishl, 1) := dk_120 (dk_at dksX0_quarrel_5 7 rfl rfl)
theorem dX0_quarrel_123 : decode cX0_quarrel 123 = .ok (.ior, 1) := dk_128 (dk_at dksX0_quarrel_5 8 rfl rfl)
theorem dX0_quarrel_124 : decode cX0_quarrel 124 = .ok (.invokevirtual 434, 3) := dk_182 1 178 (dk_at dksX0_quarrel_5 9 rfl rfl)
theorem dX0_quarrel_127 : decode cX0_quarrel 127 = .ok (.ireturn, 1) := dk_172 (dk_at dksX0_quarrel_5 12 rfl rfl)
abbrev cX0_sheet : ByteArray := prog_1_method_54_code
def yX0_sheet : MethodName := ⟨RX0, "sheet", "(III)I"⟩
def dkwX0_sheet_2 : List UInt8 := [58, 4, 16, 242, 172, 29, 172]
abbrev dktX0_sheet_2 : List UInt8 := dkwX0_sheet_2 ++ []
def dkwX0_sheet_1 : List UInt8 := [180, 0, 212, 27, 50, 28, 154, 0, 9, 29, 188, 9, 167, 0, 6, 29, 188, 10, 181, 1, 101, 167, 0, 8]
abbrev dktX0_sheet_1 : List UInt8 := dkwX0_sheet_1 ++ dktX0_sheet_2
def dkwX0_sheet_0 : List UInt8 := [27, 184, 1, 95, 153, 0, 16, 28, 184, 1, 98, 153, 0, 9, 29, 16, 40, 164, 0, 5, 2, 172, 42]
abbrev dktX0_sheet_0 : List UInt8 := dkwX0_sheet_0 ++ dktX0_sheet_1
theorem dksX0_sheet_0 : cX0_sheet.data.toList.drop 0 = dktX0_sheet_0 := by decide +kernel
theorem dksX0_sheet_1 : cX0_sheet.data.toList.drop 23 = dktX0_sheet_1 := dk_seg dksX0_sheet_0 23 rfl rfl
theorem dksX0_sheet_2 : cX0_sheet.data.toList.drop 47 = dktX0_sheet_2 := dk_seg dksX0_sheet_1 24 rfl rfl
theorem dX0_sheet_0 : decode cX0_sheet 0 = .ok (.iload_n 1, 1) := dk_27 (dk_at dksX0_sheet_0 0 rfl rfl)
theorem dX0_sheet_1 : decode cX0_sheet 1 = .ok (.invokestatic 351, 3) := dk_184 1 95 (dk_at dksX0_sheet_0 1 rfl rfl)
theorem dX0_sheet_4 : decode cX0_sheet 4 = .ok (.ifCond .eq 16, 3) := dk_153 0 16 (dk_at dksX0_sheet_0 4 rfl rfl)
theorem dX0_sheet_7 : decode cX0_sheet 7 = .ok (.iload_n 2, 1) := dk_28 (dk_at dksX0_sheet_0 7 rfl rfl)
theorem dX0_sheet_8 : decode cX0_sheet 8 = .ok (.invokestatic 354, 3) := dk_184 1 98 (dk_at dksX0_sheet_0 8 rfl rfl)
theorem dX0_sheet_11 : decode cX0_sheet 11 = .ok (.ifCond .eq 9, 3) := dk_153 0 9 (dk_at dksX0_sheet_0 11 rfl rfl)
theorem dX0_sheet_14 : decode cX0_sheet 14 = .ok (.iload_n 3, 1) := dk_29 (dk_at dksX0_sheet_0 14 rfl rfl)
theorem dX0_sheet_15 : decode cX0_sheet 15 = .ok (.bipush 40, 2) := dk_16 40 (dk_at dksX0_sheet_0 15 rfl rfl)
theorem dX0_sheet_17 : decode cX0_sheet 17 = .ok (.if_icmp .le 5, 3) := dk_164 0 5 (dk_at dksX0_sheet_0 17 rfl rfl)
theorem dX0_sheet_20 : decode cX0_sheet 20 = .ok (.iconst (-1), 1) := dk_2 (dk_at dksX0_sheet_0 20 rfl rfl)
theorem dX0_sheet_21 : decode cX0_sheet 21 = .ok (.ireturn, 1) := dk_172 (dk_at dksX0_sheet_0 21 rfl rfl)
theorem dX0_sheet_22 : decode cX0_sheet 22 = .ok (.aload_n 0, 1) := dk_42 (dk_at dksX0_sheet_0 22 rfl rfl)
theorem dX0_sheet_23 : decode cX0_sheet 23 = .ok (.getfield 212, 3) := dk_180 0 212 (dk_at dksX0_sheet_1 0 rfl rfl)
theorem dX0_sheet_26 : decode cX0_sheet 26 = .ok (.iload_n 1, 1) := dk_27 (dk_at dksX0_sheet_1 3 rfl rfl)
theorem dX0_sheet_27 : decode cX0_sheet 27 = .ok (.aaload, 1) := dk_50 (dk_at dksX0_sheet_1 4 rfl rfl)
theorem dX0_sheet_28 : decode cX0_sheet 28 = .ok (.iload_n 2, 1) := dk_28 (dk_at dksX0_sheet_1 5 rfl rfl)
theorem dX0_sheet_29 : decode cX0_sheet 29 = .ok (.ifCond .ne 9, 3) := dk_154 0 9 (dk_at dksX0_sheet_1 6 rfl rfl)
theorem dX0_sheet_32 : decode cX0_sheet 32 = .ok (.iload_n 3, 1) := dk_29 (dk_at dksX0_sheet_1 9 rfl rfl)
theorem dX0_sheet_33 : decode cX0_sheet 33 = .ok (.newarray .short, 2) := dk_188_9 (dk_at dksX0_sheet_1 10 rfl rfl)
theorem dX0_sheet_35 : decode cX0_sheet 35 = .ok (.goto 6, 3) := dk_167 0 6 (dk_at dksX0_sheet_1 12 rfl rfl)
theorem dX0_sheet_38 : decode cX0_sheet 38 = .ok (.iload_n 3, 1) := dk_29 (dk_at dksX0_sheet_1 15 rfl rfl)
theorem dX0_sheet_39 : decode cX0_sheet 39 = .ok (.newarray .int, 2) := dk_188_10 (dk_at dksX0_sheet_1 16 rfl rfl)
theorem dX0_sheet_41 : decode cX0_sheet 41 = .ok (.putfield 357, 3) := dk_181 1 101 (dk_at dksX0_sheet_1 18 rfl rfl)
theorem dX0_sheet_44 : decode cX0_sheet 44 = .ok (.goto 8, 3) := dk_167 0 8 (dk_at dksX0_sheet_1 21 rfl rfl)
theorem dX0_sheet_47 : decode cX0_sheet 47 = .ok (.astore 4, 2) := dk_58 4 (dk_at dksX0_sheet_2 0 rfl rfl)
theorem dX0_sheet_49 : decode cX0_sheet 49 = .ok (.bipush (-14), 2) := dk_16 242 (dk_at dksX0_sheet_2 2 rfl rfl)
theorem dX0_sheet_51 : decode cX0_sheet 51 = .ok (.ireturn, 1) := dk_172 (dk_at dksX0_sheet_2 4 rfl rfl)
theorem dX0_sheet_52 : decode cX0_sheet 52 = .ok (.iload_n 3, 1) := dk_29 (dk_at dksX0_sheet_2 5 rfl rfl)
theorem dX0_sheet_53 : decode cX0_sheet 53 = .ok (.ireturn, 1) := dk_172 (dk_at dksX0_sheet_2 6 rfl rfl)
abbrev cX0_drop : ByteArray := prog_1_method_55_code
def yX0_drop : MethodName := ⟨RX0, "drop", "(I)I"⟩
def dkwX0_drop_1 : List UInt8 := [42, 180, 0, 212, 27, 50, 182, 1, 108, 61, 42, 180, 0, 212, 27, 50, 1, 181, 1, 101, 28, 172]
abbrev dktX0_drop_1 : List UInt8 := dkwX0_drop_1 ++ []
def dkwX0_drop_0 : List UInt8 := [27, 184, 1, 95, 154, 0, 5, 2, 172, 42, 180, 0, 212, 27, 50, 180, 1, 101, 199, 0, 6, 16, 245, 172]
abbrev dktX0_drop_0 : List UInt8 := dkwX0_drop_0 ++ dktX0_drop_1
theorem dksX0_drop_0 : cX0_drop.data.toList.drop 0 = dktX0_drop_0 := by decide +kernel
theorem dksX0_drop_1 : cX0_drop.data.toList.drop 24 = dktX0_drop_1 := dk_seg dksX0_drop_0 24 rfl rfl
theorem dX0_drop_0 : decode cX0_drop 0 = .ok (.iload_n 1, 1) := dk_27 (dk_at dksX0_drop_0 0 rfl rfl)
theorem dX0_drop_1 : decode cX0_drop 1 = .ok (.invokestatic 351, 3) := dk_184 1 95 (dk_at dksX0_drop_0 1 rfl rfl)
theorem dX0_drop_4 : decode cX0_drop 4 = .ok (.ifCond .ne 5, 3) := dk_154 0 5 (dk_at dksX0_drop_0 4 rfl rfl)
theorem dX0_drop_7 : decode cX0_drop 7 = .ok (.iconst (-1), 1) := dk_2 (dk_at dksX0_drop_0 7 rfl rfl)
theorem dX0_drop_8 : decode cX0_drop 8 = .ok (.ireturn, 1) := dk_172 (dk_at dksX0_drop_0 8 rfl rfl)
theorem dX0_drop_9 : decode cX0_drop 9 = .ok (.aload_n 0, 1) := dk_42 (dk_at dksX0_drop_0 9 rfl rfl)
theorem dX0_drop_10 : decode cX0_drop 10 = .ok (.getfield 212, 3) := dk_180 0 212 (dk_at dksX0_drop_0 10 rfl rfl)
theorem dX0_drop_13 : decode cX0_drop 13 = .ok (.iload_n 1, 1) := dk_27 (dk_at dksX0_drop_0 13 rfl rfl)
theorem dX0_drop_14 : decode cX0_drop 14 = .ok (.aaload, 1) := dk_50 (dk_at dksX0_drop_0 14 rfl rfl)
theorem dX0_drop_15 : decode cX0_drop 15 = .ok (.getfield 357, 3) := dk_180 1 101 (dk_at dksX0_drop_0 15 rfl rfl)
theorem dX0_drop_18 : decode cX0_drop 18 = .ok (.ifnonnull 6, 3) := dk_199 0 6 (dk_at dksX0_drop_0 18 rfl rfl)
theorem dX0_drop_21 : decode cX0_drop 21 = .ok (.bipush (-11), 2) := dk_16 245 (dk_at dksX0_drop_0 21 rfl rfl)
theorem dX0_drop_23 : decode cX0_drop 23 = .ok (.ireturn, 1) := dk_172 (dk_at dksX0_drop_0 23 rfl rfl)
theorem dX0_drop_24 : decode cX0_drop 24 = .ok (.aload_n 0, 1) := dk_42 (dk_at dksX0_drop_1 0 rfl rfl)
theorem dX0_drop_25 : decode cX0_drop 25 = .ok (.getfield 212, 3) := dk_180 0 212 (dk_at dksX0_drop_1 1 rfl rfl)
theorem dX0_drop_28 : decode cX0_drop 28 = .ok (.iload_n 1, 1) := dk_27 (dk_at dksX0_drop_1 4 rfl rfl)
theorem dX0_drop_29 : decode cX0_drop 29 = .ok (.aaload, 1) := dk_50 (dk_at dksX0_drop_1 5 rfl rfl)
theorem dX0_drop_30 : decode cX0_drop 30 = .ok (.invokevirtual 364, 3) := dk_182 1 108 (dk_at dksX0_drop_1 6 rfl rfl)
theorem dX0_drop_33 : decode cX0_drop 33 = .ok (.istore_n 2, 1) := dk_61 (dk_at dksX0_drop_1 9 rfl rfl)
theorem dX0_drop_34 : decode cX0_drop 34 = .ok (.aload_n 0, 1) := dk_42 (dk_at dksX0_drop_1 10 rfl rfl)
theorem dX0_drop_35 : decode cX0_drop 35 = .ok (.getfield 212, 3) := dk_180 0 212 (dk_at dksX0_drop_1 11 rfl rfl)
theorem dX0_drop_38 : decode cX0_drop 38 = .ok (.iload_n 1, 1) := dk_27 (dk_at dksX0_drop_1 14 rfl rfl)
theorem dX0_drop_39 : decode cX0_drop 39 = .ok (.aaload, 1) := dk_50 (dk_at dksX0_drop_1 15 rfl rfl)
theorem dX0_drop_40 : decode cX0_drop 40 = .ok (.aconst_null, 1) := dk_1 (dk_at dksX0_drop_1 16 rfl rfl)
theorem dX0_drop_41 : decode cX0_drop 41 = .ok (.putfield 357, 3) := dk_181 1 101 (dk_at dksX0_drop_1 17 rfl rfl)
theorem dX0_drop_44 : decode cX0_drop 44 = .ok (.iload_n 2, 1) := dk_28 (dk_at dksX0_drop_1 20 rfl rfl)
theorem dX0_drop_45 : decode cX0_drop 45 = .ok (.ireturn, 1) := dk_172 (dk_at dksX0_drop_1 21 rfl rfl)
abbrev cX0_item : ByteArray := prog_1_method_56_code
def yX0_item : MethodName := ⟨RX0, "item", "(IIII)I"⟩
def dkwX0_item_3 : List UInt8 := [58, 5, 16, 243, 172, 4, 172]
abbrev dktX0_item_3 : List UInt8 := dkwX0_item_3 ++ []
def dkwX0_item_2 : List UInt8 := [180, 1, 101, 192, 1, 189, 29, 21, 4, 79, 167, 0, 18, 58, 5, 16, 245, 172, 58, 5, 16, 244, 172]
abbrev dktX0_item_2 : List UInt8 := dkwX0_item_2 ++ dktX0_item_3
def dkwX0_item_1 : List UInt8 := [27, 50, 180, 1, 101, 192, 1, 187, 29, 21, 4, 147, 86, 167, 0, 19, 42, 180, 0, 212, 27, 50]
abbrev dktX0_item_1 : List UInt8 := dkwX0_item_1 ++ dktX0_item_2
def dkwX0_item_0 : List UInt8 := [27, 184, 1, 95, 153, 0, 10, 28, 184, 1, 98, 154, 0, 5, 2, 172, 28, 154, 0, 23, 42, 180, 0, 212]
abbrev dktX0_item_0 : List UInt8 := dkwX0_item_0 ++ dktX0_item_1
theorem dksX0_item_0 : cX0_item.data.toList.drop 0 = dktX0_item_0 := by decide +kernel
theorem dksX0_item_1 : cX0_item.data.toList.drop 24 = dktX0_item_1 := dk_seg dksX0_item_0 24 rfl rfl
theorem dksX0_item_2 : cX0_item.data.toList.drop 46 = dktX0_item_2 := dk_seg dksX0_item_1 22 rfl rfl
theorem dksX0_item_3 : cX0_item.data.toList.drop 69 = dktX0_item_3 := dk_seg dksX0_item_2 23 rfl rfl
theorem dX0_item_0 : decode cX0_item 0 = .ok (.iload_n 1, 1) := dk_27 (dk_at dksX0_item_0 0 rfl rfl)
theorem dX0_item_1 : decode cX0_item 1 = .ok (.invokestatic 351, 3) := dk_184 1 95 (dk_at dksX0_item_0 1 rfl rfl)
theorem dX0_item_4 : decode cX0_item 4 = .ok (.ifCond .eq 10, 3) := dk_153 0 10 (dk_at dksX0_item_0 4 rfl rfl)
theorem dX0_item_7 : decode cX0_item 7 = .ok (.iload_n 2, 1) := dk_28 (dk_at dksX0_item_0 7 rfl rfl)
theorem dX0_item_8 : decode cX0_item 8 = .ok (.invokestatic 354, 3) := dk_184 1 98 (dk_at dksX0_item_0 8 rfl rfl)
theorem dX0_item_11 : decode cX0_item 11 = .ok (.ifCond .ne 5, 3) := dk_154 0 5 (dk_at dksX0_item_0 11 rfl rfl)
theorem dX0_item_14 : decode cX0_item 14 = .ok (.iconst (-1), 1) := dk_2 (dk_at dksX0_item_0 14 rfl rfl)
theorem dX0_item_15 : decode cX0_item 15 = .ok (.ireturn, 1) := dk_172 (dk_at dksX0_item_0 15 rfl rfl)
theorem dX0_item_16 : decode cX0_item 16 = .ok (.iload_n 2, 1) := dk_28 (dk_at dksX0_item_0 16 rfl rfl)
theorem dX0_item_17 : decode cX0_item 17 = .ok (.ifCond .ne 23, 3) := dk_154 0 23 (dk_at dksX0_item_0 17 rfl rfl)
theorem dX0_item_20 : decode cX0_item 20 = .ok (.aload_n 0, 1) := dk_42 (dk_at dksX0_item_0 20 rfl rfl)
theorem dX0_item_21 : decode cX0_item 21 = .ok (.getfield 212, 3) := dk_180 0 212 (dk_at dksX0_item_0 21 rfl rfl)
theorem dX0_item_24 : decode cX0_item 24 = .ok (.iload_n 1, 1) := dk_27 (dk_at dksX0_item_1 0 rfl rfl)
theorem dX0_item_25 : decode cX0_item 25 = .ok (.aaload, 1) := dk_50 (dk_at dksX0_item_1 1 rfl rfl)
theorem dX0_item_26 : decode cX0_item 26 = .ok (.getfield 357, 3) := dk_180 1 101 (dk_at dksX0_item_1 2 rfl rfl)
theorem dX0_item_29 : decode cX0_item 29 = .ok (.checkcast 443, 3) := dk_192 1 187 (dk_at dksX0_item_1 5 rfl rfl)
theorem dX0_item_32 : decode cX0_item 32 = .ok (.iload_n 3, 1) := dk_29 (dk_at dksX0_item_1 8 rfl rfl)
theorem dX0_item_33 : decode cX0_item 33 = .ok (.iload 4, 2) := dk_21 4 (dk_at dksX0_item_1 9 rfl rfl)
theorem dX0_item_35 : decode cX0_item 35 = .ok (.i2s, 1) := dk_147 (dk_at dksX0_item_1 11 rfl rfl)
theorem dX0_item_36 : decode cX0_item 36 = .ok (.sastore, 1) := dk_86 (dk_at dksX0_item_1 12 rfl rfl)
theorem dX0_item_37 : decode cX0_item 37 = .ok (.goto 19, 3) := dk_167 0 19 (dk_at dksX0_item_1 13 rfl rfl)
theorem dX0_item_40 : decode cX0_item 40 = .ok (.aload_n 0, 1) := dk_42 (dk_at dksX0_item_1 16 rfl rfl)
theorem dX0_item_41 : decode cX0_item 41 = .ok (.getfield 212, 3) := dk_180 0 212 (dk_at dksX0_item_1 17 rfl rfl)
theorem dX0_item_44 : decode cX0_item 44 = .ok (.iload_n 1, 1) := dk_27 (dk_at dksX0_item_1 20 rfl rfl)
theorem dX0_item_45 : decode cX0_item 45 = .ok (.aaload, 1) := dk_50 (dk_at dksX0_item_1 21 rfl rfl)
theorem dX0_item_46 : decode cX0_item 46 = .ok (.getfield 357, 3) := dk_180 1 101 (dk_at dksX0_item_2 0 rfl rfl)
theorem dX0_item_49 : decode cX0_item 49 = .ok (.checkcast 445, 3) := dk_192 1 189 (dk_at dksX0_item_2 3 rfl rfl)
theorem dX0_item_52 : decode cX0_item 52 = .ok (.iload_n 3, 1) := dk_29 (dk_at dksX0_item_2 6 rfl rfl)
theorem dX0_item_53 : decode cX0_item 53 = .ok (.iload 4, 2) := dk_21 4 (dk_at dksX0_item_2 7 rfl rfl)
theorem dX0_item_55 : decode cX0_item 55 = .ok (.iastore, 1) := dk_79 (dk_at dksX0_item_2 9 rfl rfl)
theorem dX0_item_56 : decode cX0_item 56 = .ok (.goto 18, 3) := dk_167 0 18 (dk_at dksX0_item_2 10 rfl rfl)
theorem dX0_item_59 : decode cX0_item 59 = .ok (.astore 5, 2) := dk_58 5 (dk_at dksX0_item_2 13 rfl rfl)
theorem dX0_item_61 : decode cX0_item 61 = .ok (.bipush (-11), 2) := dk_16 245 (dk_at dksX0_item_2 15 rfl rfl)
theorem dX0_item_63 : decode cX0_item 63 = .ok (.ireturn, 1) := dk_172 (dk_at dksX0_item_2 17 rfl rfl)
theorem dX0_item_64 : decode cX0_item 64 = .ok (.astore 5, 2) := dk_58 5 (dk_at dksX0_item_2 18 rfl rfl)
theorem dX0_item_66 : decode cX0_item 66 = .ok (.bipush (-12), 2) := dk_16 244 (dk_at dksX0_item_2 20 rfl rfl)
theorem dX0_item_68 : decode cX0_item 68 = .ok (.ireturn, 1) := dk_172 (dk_at dksX0_item_2 22 rfl rfl)
theorem dX0_item_69 : decode cX0_item 69 = .ok (.astore 5, 2) := dk_58 5 (dk_at dksX0_item_3 0 rfl rfl)
theorem dX0_item_71 : decode cX0_item 71 = .ok (.bipush (-13), 2) := dk_16 243 (dk_at dksX0_item_3 2 rfl rfl)
theorem dX0_item_73 : decode cX0_item 73 = .ok (.ireturn, 1) := dk_172 (dk_at dksX0_item_3 4 rfl rfl)
theorem dX0_item_74 : decode cX0_item 74 = .ok (.iconst 1, 1) := dk_4 (dk_at dksX0_item_3 5 rfl rfl)
theorem dX0_item_75 : decode cX0_item 75 = .ok (.ireturn, 1) := dk_172 (dk_at dksX0_item_3 6 rfl rfl)
theorem q69 : (Jvm.Cond.initialized "SortedPost") ∈ lw_all := lw_g (lw_at lw_m1 1 rfl) rfl
theorem q107 : (Jvm.Cond.instanceMethod ({ cls := "SortedPost", name := "type", desc := "(JI)I" } : Jvm.MethodName)) ∈ lw_all := lw_g (lw_at lw_m1 39 rfl) rfl
theorem q108 : (Jvm.Cond.selects "SortedPost" ({ cls := "SortedPost", name := "type", desc := "(JI)I" } : Jvm.MethodName) ({ cls := "SortedPost", name := "type", desc := "(JI)I" } : Jvm.MethodName)) ∈ lw_all := lw_g (lw_at lw_m1 40 rfl) rfl
theorem q109 : (Jvm.Cond.code ({ cls := "SortedPost", name := "type", desc := "(JI)I" } : Jvm.MethodName) prog_1_method_4_code (5 : Nat) (Option.some Jvm.ClassFile.FieldType.int)) ∈ lw_all := lw_g (lw_at lw_m1 41 rfl) rfl
theorem q110 : (Jvm.Cond.methodLink "SortedPost" (3 : Nat) ({ cls := "SortedPost", name := "isIn", desc := "(III)Z" } : Jvm.MethodName)) ∈ lw_all := lw_g (lw_at lw_m1 42 rfl) rfl
theorem q111 : (Jvm.Cond.static ({ cls := "SortedPost", name := "isIn", desc := "(III)Z" } : Jvm.MethodName)) ∈ lw_all := lw_g (lw_at lw_m1 43 rfl) rfl
theorem q112 : (Jvm.Cond.code ({ cls := "SortedPost", name := "isIn", desc := "(III)Z" } : Jvm.MethodName) prog_1_method_1_code (3 : Nat) (Option.some Jvm.ClassFile.FieldType.boolean)) ∈ lw_all := lw_g (lw_at lw_m1 44 rfl) rfl
theorem q113 : (Jvm.Cond.constantLong "SortedPost" (7 : Nat) (255 : Int64)) ∈ lw_all := lw_g (lw_at lw_m1 45 rfl) rfl
theorem q115 : (Jvm.Cond.instanceMethod ({ cls := "SortedPost", name := "rules", desc := "(I)I" } : Jvm.MethodName)) ∈ lw_all := lw_g (lw_at lw_m1 47 rfl) rfl
theorem q116 : (Jvm.Cond.selects "SortedPost" ({ cls := "SortedPost", name := "rules", desc := "(I)I" } : Jvm.MethodName) ({ cls := "SortedPost", name := "rules", desc := "(I)I" } : Jvm.MethodName)) ∈ lw_all := lw_g (lw_at lw_m1 48 rfl) rfl
theorem q117 : (Jvm.Cond.codeWith ({ cls := "SortedPost", name := "rules", desc := "(I)I" } : Jvm.MethodName) prog_1_method_17_code (3 : Nat) (Option.some Jvm.ClassFile.FieldType.int) [((9 : Nat), (13 : Nat), (16 : Nat), (25 : Nat))]) ∈ lw_all := lw_g (lw_at lw_m1 49 rfl) rfl
theorem q118 : (Jvm.Cond.classLink "SortedPost" (25 : Nat) "SortedPost$Fault") ∈ lw_all := lw_g (lw_at lw_m1 50 rfl) rfl
theorem q119 : (Jvm.Cond.methodLink "SortedPost" (148 : Nat) ({ cls := "SortedPost", name := "isBox", desc := "(I)Z" } : Jvm.MethodName)) ∈ lw_all := lw_g (lw_at lw_m1 51 rfl) rfl
theorem q120 : (Jvm.Cond.static ({ cls := "SortedPost", name := "isBox", desc := "(I)Z" } : Jvm.MethodName)) ∈ lw_all := lw_g (lw_at lw_m1 52 rfl) rfl
theorem q121 : (Jvm.Cond.code ({ cls := "SortedPost", name := "isBox", desc := "(I)Z" } : Jvm.MethodName) prog_1_method_2_code (1 : Nat) (Option.some Jvm.ClassFile.FieldType.boolean)) ∈ lw_all := lw_g (lw_at lw_m1 53 rfl) rfl
theorem q122 : (Jvm.Cond.methodLink "SortedPost" (151 : Nat) ({ cls := "SortedPost", name := "readRules", desc := "()V" } : Jvm.MethodName)) ∈ lw_all := lw_g (lw_at lw_m1 54 rfl) rfl
theorem q123 : (Jvm.Cond.privateMethod ({ cls := "SortedPost", name := "readRules", desc := "()V" } : Jvm.MethodName)) ∈ lw_tbl := lw_at lw_m1 55 rfl
theorem q124 : (Jvm.Cond.instanceMethod ({ cls := "SortedPost", name := "readRules", desc := "()V" } : Jvm.MethodName)) ∈ lw_all := lw_g (lw_at lw_m1 56 rfl) rfl
theorem q125 : (Jvm.Cond.instantiable "SortedPost" (22 : Nat)) ∈ lw_all := lw_g (lw_at lw_m1 57 rfl) rfl
theorem q126 : (Jvm.Cond.code ({ cls := "SortedPost", name := "readRules", desc := "()V" } : Jvm.MethodName) prog_1_method_16_code (1 : Nat) (Option.none : Option Jvm.ClassFile.FieldType)) ∈ lw_all := lw_g (lw_at lw_m1 58 rfl) rfl
theorem q127 : (Jvm.Cond.classLink "SortedPost" (95 : Nat) "SortedPost$Rules") ∈ lw_all := lw_g (lw_at lw_m1 59 rfl) rfl
theorem q129 : (Jvm.Cond.methodLinkNest "SortedPost" (144 : Nat) ({ cls := "SortedPost$Rules", name := "<init>", desc := "()V" } : Jvm.MethodName) "SortedPost") ∈ lw_tbl := lw_at lw_m1 61 rfl
theorem q162 : (Jvm.Cond.fieldLinkNest "SortedPost" (141 : Nat) "SortedPost$Rules" "all" "Ljava/util/List;" "SortedPost") ∈ lw_tbl := lw_at lw_m1 94 rfl
theorem q164 : (Jvm.Cond.fieldLinkNest "SortedPost" (94 : Nat) "SortedPost$Rules" "atoms" "Ljava/util/List;" "SortedPost") ∈ lw_tbl := lw_at lw_m1 96 rfl
theorem q170 : (Jvm.Cond.methodLink "SortedPost" (145 : Nat) ({ cls := "SortedPost", name := "rule", desc := "()V" } : Jvm.MethodName)) ∈ lw_all := lw_g (lw_at lw_m1 102 rfl) rfl
theorem q171 : (Jvm.Cond.privateMethod ({ cls := "SortedPost", name := "rule", desc := "()V" } : Jvm.MethodName)) ∈ lw_tbl := lw_at lw_m1 103 rfl
theorem q172 : (Jvm.Cond.instanceMethod ({ cls := "SortedPost", name := "rule", desc := "()V" } : Jvm.MethodName)) ∈ lw_all := lw_g (lw_at lw_m1 104 rfl) rfl
theorem q173 : (Jvm.Cond.code ({ cls := "SortedPost", name := "rule", desc := "()V" } : Jvm.MethodName) prog_1_method_15_code (2 : Nat) (Option.none : Option Jvm.ClassFile.FieldType)) ∈ lw_all := lw_g (lw_at lw_m1 105 rfl) rfl
theorem q174 : (Jvm.Cond.classLink "SortedPost" (121 : Nat) "SortedPost$Rule") ∈ lw_all := lw_g (lw_at lw_m1 106 rfl) rfl
theorem q176 : (Jvm.Cond.methodLinkNest "SortedPost" (132 : Nat) ({ cls := "SortedPost$Rule", name := "<init>", desc := "()V" } : Jvm.MethodName) "SortedPost") ∈ lw_tbl := lw_at lw_m1 108 rfl
theorem q180 : (Jvm.Cond.fieldLinkNest "SortedPost" (133 : Nat) "SortedPost$Rule" "test" "LSortedPost$Test;" "SortedPost") ∈ lw_tbl := lw_at lw_m1 112 rfl
theorem q182 : (Jvm.Cond.fieldLinkNest "SortedPost" (120 : Nat) "SortedPost$Rule" "acts" "[I" "SortedPost") ∈ lw_tbl := lw_at lw_m1 114 rfl
theorem q184 : (Jvm.Cond.fieldLinkNest "SortedPost" (129 : Nat) "SortedPost$Rule" "numbers" "[I" "SortedPost") ∈ lw_tbl := lw_at lw_m1 116 rfl
theorem q186 : (Jvm.Cond.fieldLinkNest "SortedPost" (126 : Nat) "SortedPost$Rule" "many" "I" "SortedPost") ∈ lw_tbl := lw_at lw_m1 118 rfl
theorem q197 : (Jvm.Cond.methodLink "SortedPost" (69 : Nat) ({ cls := "SortedPost", name := "either", desc := "()LSortedPost$Test;" } : Jvm.MethodName)) ∈ lw_all := lw_g (lw_at lw_m1 129 rfl) rfl
theorem q198 : (Jvm.Cond.privateMethod ({ cls := "SortedPost", name := "either", desc := "()LSortedPost$Test;" } : Jvm.MethodName)) ∈ lw_tbl := lw_at lw_m1 130 rfl
theorem q199 : (Jvm.Cond.instanceMethod ({ cls := "SortedPost", name := "either", desc := "()LSortedPost$Test;" } : Jvm.MethodName)) ∈ lw_all := lw_g (lw_at lw_m1 131 rfl) rfl
theorem q200 : (Jvm.Cond.code ({ cls := "SortedPost", name := "either", desc := "()LSortedPost$Test;" } : Jvm.MethodName) prog_1_method_9_code (2 : Nat) (Option.some (Jvm.ClassFile.FieldType.object "SortedPost$Test"))) ∈ lw_all := lw_g (lw_at lw_m1 132 rfl) rfl
theorem q201 : (Jvm.Cond.methodLink "SortedPost" (37 : Nat) ({ cls := "SortedPost", name := "both", desc := "()LSortedPost$Test;" } : Jvm.MethodName)) ∈ lw_all := lw_g (lw_at lw_m1 133 rfl) rfl
theorem q202 : (Jvm.Cond.privateMethod ({ cls := "SortedPost", name := "both", desc := "()LSortedPost$Test;" } : Jvm.MethodName)) ∈ lw_tbl := lw_at lw_m1 134 rfl
theorem q203 : (Jvm.Cond.instanceMethod ({ cls := "SortedPost", name := "both", desc := "()LSortedPost$Test;" } : Jvm.MethodName)) ∈ lw_all := lw_g (lw_at lw_m1 135 rfl) rfl
theorem q204 : (Jvm.Cond.code ({ cls := "SortedPost", name := "both", desc := "()LSortedPost$Test;" } : Jvm.MethodName) prog_1_method_10_code (2 : Nat) (Option.some (Jvm.ClassFile.FieldType.object "SortedPost$Test"))) ∈ lw_all := lw_g (lw_at lw_m1 136 rfl) rfl
theorem q205 : (Jvm.Cond.methodLink "SortedPost" (51 : Nat) ({ cls := "SortedPost", name := "part", desc := "()LSortedPost$Test;" } : Jvm.MethodName)) ∈ lw_all := lw_g (lw_at lw_m1 137 rfl) rfl
theorem q206 : (Jvm.Cond.privateMethod ({ cls := "SortedPost", name := "part", desc := "()LSortedPost$Test;" } : Jvm.MethodName)) ∈ lw_tbl := lw_at lw_m1 138 rfl
theorem q207 : (Jvm.Cond.instanceMethod ({ cls := "SortedPost", name := "part", desc := "()LSortedPost$Test;" } : Jvm.MethodName)) ∈ lw_all := lw_g (lw_at lw_m1 139 rfl) rfl
theorem q208 : (Jvm.Cond.code ({ cls := "SortedPost", name := "part", desc := "()LSortedPost$Test;" } : Jvm.MethodName) prog_1_method_12_code (3 : Nat) (Option.some (Jvm.ClassFile.FieldType.object "SortedPost$Test"))) ∈ lw_all := lw_g (lw_at lw_m1 140 rfl) rfl
theorem q209 : (Jvm.Cond.methodLink "SortedPost" (29 : Nat) ({ cls := "SortedPost", name := "next", desc := "()I" } : Jvm.MethodName)) ∈ lw_all := lw_g (lw_at lw_m1 141 rfl) rfl
theorem q210 : (Jvm.Cond.privateMethod ({ cls := "SortedPost", name := "next", desc := "()I" } : Jvm.MethodName)) ∈ lw_tbl := lw_at lw_m1 142 rfl
theorem q211 : (Jvm.Cond.instanceMethod ({ cls := "SortedPost", name := "next", desc := "()I" } : Jvm.MethodName)) ∈ lw_all := lw_g (lw_at lw_m1 143 rfl) rfl
theorem q212 : (Jvm.Cond.code ({ cls := "SortedPost", name := "next", desc := "()I" } : Jvm.MethodName) prog_1_method_5_code (1 : Nat) (Option.some Jvm.ClassFile.FieldType.int)) ∈ lw_all := lw_g (lw_at lw_m1 144 rfl) rfl
theorem q213 : (Jvm.Cond.methodLink "SortedPost" (60 : Nat) ({ cls := "SortedPost", name := "open", desc := "()V" } : Jvm.MethodName)) ∈ lw_all := lw_g (lw_at lw_m1 145 rfl) rfl
theorem q214 : (Jvm.Cond.privateMethod ({ cls := "SortedPost", name := "open", desc := "()V" } : Jvm.MethodName)) ∈ lw_tbl := lw_at lw_m1 146 rfl
theorem q215 : (Jvm.Cond.instanceMethod ({ cls := "SortedPost", name := "open", desc := "()V" } : Jvm.MethodName)) ∈ lw_all := lw_g (lw_at lw_m1 147 rfl) rfl
theorem q216 : (Jvm.Cond.code ({ cls := "SortedPost", name := "open", desc := "()V" } : Jvm.MethodName) prog_1_method_11_code (1 : Nat) (Option.none : Option Jvm.ClassFile.FieldType)) ∈ lw_all := lw_g (lw_at lw_m1 148 rfl) rfl
theorem q217 : (Jvm.Cond.methodLink "SortedPost" (33 : Nat) ({ cls := "SortedPost", name := "wrong", desc := "(I)LSortedPost$Fault;" } : Jvm.MethodName)) ∈ lw_all := lw_g (lw_at lw_m1 149 rfl) rfl
theorem q218 : (Jvm.Cond.privateMethod ({ cls := "SortedPost", name := "wrong", desc := "(I)LSortedPost$Fault;" } : Jvm.MethodName)) ∈ lw_tbl := lw_at lw_m1 150 rfl
theorem q219 : (Jvm.Cond.instanceMethod ({ cls := "SortedPost", name := "wrong", desc := "(I)LSortedPost$Fault;" } : Jvm.MethodName)) ∈ lw_all := lw_g (lw_at lw_m1 151 rfl) rfl
theorem q220 : (Jvm.Cond.code ({ cls := "SortedPost", name := "wrong", desc := "(I)LSortedPost$Fault;" } : Jvm.MethodName) prog_1_method_6_code (2 : Nat) (Option.some (Jvm.ClassFile.FieldType.object "SortedPost$Fault"))) ∈ lw_all := lw_g (lw_at lw_m1 152 rfl) rfl
theorem q221 : (Jvm.Cond.classLink "SortedPost" (64 : Nat) "SortedPost$Not") ∈ lw_all := lw_g (lw_at lw_m1 153 rfl) rfl
theorem q223 : (Jvm.Cond.methodLink "SortedPost" (66 : Nat) ({ cls := "SortedPost$Not", name := "<init>", desc := "(LSortedPost$Test;)V" } : Jvm.MethodName)) ∈ lw_all := lw_g (lw_at lw_m1 155 rfl) rfl
theorem q231 : (Jvm.Cond.methodLink "SortedPost" (41 : Nat) ({ cls := "SortedPost", name := "takes", desc := "(I)Z" } : Jvm.MethodName)) ∈ lw_all := lw_g (lw_at lw_m1 163 rfl) rfl
theorem q232 : (Jvm.Cond.privateMethod ({ cls := "SortedPost", name := "takes", desc := "(I)Z" } : Jvm.MethodName)) ∈ lw_tbl := lw_at lw_m1 164 rfl
theorem q233 : (Jvm.Cond.instanceMethod ({ cls := "SortedPost", name := "takes", desc := "(I)Z" } : Jvm.MethodName)) ∈ lw_all := lw_g (lw_at lw_m1 165 rfl) rfl
theorem q234 : (Jvm.Cond.code ({ cls := "SortedPost", name := "takes", desc := "(I)Z" } : Jvm.MethodName) prog_1_method_8_code (3 : Nat) (Option.some Jvm.ClassFile.FieldType.boolean)) ∈ lw_all := lw_g (lw_at lw_m1 166 rfl) rfl
theorem q235 : (Jvm.Cond.methodLink "SortedPost" (72 : Nat) ({ cls := "SortedPost", name := "atom", desc := "(I)LSortedPost$Test;" } : Jvm.MethodName)) ∈ lw_all := lw_g (lw_at lw_m1 167 rfl) rfl
theorem q236 : (Jvm.Cond.privateMethod ({ cls := "SortedPost", name := "atom", desc := "(I)LSortedPost$Test;" } : Jvm.MethodName)) ∈ lw_tbl := lw_at lw_m1 168 rfl
theorem q237 : (Jvm.Cond.instanceMethod ({ cls := "SortedPost", name := "atom", desc := "(I)LSortedPost$Test;" } : Jvm.MethodName)) ∈ lw_all := lw_g (lw_at lw_m1 169 rfl) rfl
theorem q238 : (Jvm.Cond.code ({ cls := "SortedPost", name := "atom", desc := "(I)LSortedPost$Test;" } : Jvm.MethodName) prog_1_method_13_code (5 : Nat) (Option.some (Jvm.ClassFile.FieldType.object "SortedPost$Test"))) ∈ lw_all := lw_g (lw_at lw_m1 170 rfl) rfl
theorem q239 : (Jvm.Cond.constant "SortedPost" (76 : Nat) (60000 : Int32)) ∈ lw_all := lw_g (lw_at lw_m1 171 rfl) rfl
theorem q240 : (Jvm.Cond.classLink "SortedPost" (77 : Nat) "SortedPost$Always") ∈ lw_all := lw_g (lw_at lw_m1 172 rfl) rfl
theorem q242 : (Jvm.Cond.methodLinkNest "SortedPost" (79 : Nat) ({ cls := "SortedPost$Always", name := "<init>", desc := "()V" } : Jvm.MethodName) "SortedPost") ∈ lw_tbl := lw_at lw_m1 174 rfl
theorem q247 : (Jvm.Cond.classLink "SortedPost" (81 : Nat) "SortedPost$Atom") ∈ lw_all := lw_g (lw_at lw_m1 179 rfl) rfl
theorem q249 : (Jvm.Cond.methodLink "SortedPost" (83 : Nat) ({ cls := "SortedPost", name := "number", desc := "(I)I" } : Jvm.MethodName)) ∈ lw_all := lw_g (lw_at lw_m1 181 rfl) rfl
theorem q250 : (Jvm.Cond.privateMethod ({ cls := "SortedPost", name := "number", desc := "(I)I" } : Jvm.MethodName)) ∈ lw_tbl := lw_at lw_m1 182 rfl
theorem q251 : (Jvm.Cond.instanceMethod ({ cls := "SortedPost", name := "number", desc := "(I)I" } : Jvm.MethodName)) ∈ lw_all := lw_g (lw_at lw_m1 183 rfl) rfl
theorem q252 : (Jvm.Cond.code ({ cls := "SortedPost", name := "number", desc := "(I)I" } : Jvm.MethodName) prog_1_method_7_code (5 : Nat) (Option.some Jvm.ClassFile.FieldType.int)) ∈ lw_all := lw_g (lw_at lw_m1 184 rfl) rfl
theorem q253 : (Jvm.Cond.methodLink "SortedPost" (87 : Nat) ({ cls := "SortedPost$Atom", name := "<init>", desc := "(II)V" } : Jvm.MethodName)) ∈ lw_all := lw_g (lw_at lw_m1 185 rfl) rfl
theorem q264 : (Jvm.Cond.fieldLinkNest "SortedPost" (115 : Nat) "SortedPost$Atom" "place" "I" "SortedPost") ∈ lw_tbl := lw_at lw_m1 196 rfl
theorem q272 : (Jvm.Cond.interfaceEntry "SortedPost" (100 : Nat)) ∈ lw_tbl := lw_at lw_m1 204 rfl
theorem q273 : (Jvm.Cond.methodLink "SortedPost" (100 : Nat) ({ cls := "java/util/List", name := "size", desc := "()I" } : Jvm.MethodName)) ∈ lw_all := lw_g (lw_at lw_m1 205 rfl) rfl
theorem q282 : (Jvm.Cond.interfaceEntry "SortedPost" (105 : Nat)) ∈ lw_tbl := lw_at lw_m1 214 rfl
theorem q283 : (Jvm.Cond.methodLink "SortedPost" (105 : Nat) ({ cls := "java/util/List", name := "get", desc := "(I)Ljava/lang/Object;" } : Jvm.MethodName)) ∈ lw_all := lw_g (lw_at lw_m1 215 rfl) rfl
theorem q301 : (Jvm.Cond.methodLink "SortedPost" (109 : Nat) ({ cls := "SortedPost$Atom", name := "isLike", desc := "(LSortedPost$Atom;)Z" } : Jvm.MethodName)) ∈ lw_all := lw_g (lw_at lw_m1 233 rfl) rfl
theorem q305 : (Jvm.Cond.classLink "SortedPost" (113 : Nat) "SortedPost$Test") ∈ lw_all := lw_g (lw_at lw_m1 237 rfl) rfl
theorem q306 : (Jvm.Cond.interfaceEntry "SortedPost" (116 : Nat)) ∈ lw_tbl := lw_at lw_m1 238 rfl
theorem q307 : (Jvm.Cond.methodLink "SortedPost" (116 : Nat) ({ cls := "java/util/List", name := "add", desc := "(Ljava/lang/Object;)Z" } : Jvm.MethodName)) ∈ lw_all := lw_g (lw_at lw_m1 239 rfl) rfl
theorem q343 : (Jvm.Cond.selects "SortedPost" ({ cls := "java/lang/Object", name := "getClass", desc := "()Ljava/lang/Class;" } : Jvm.MethodName) ({ cls := "java/lang/Object", name := "getClass", desc := "()Ljava/lang/Class;" } : Jvm.MethodName)) ∈ lw_all := lw_g (lw_at lw_m2 35 rfl) rfl
theorem q380 : (Jvm.Cond.classLink "SortedPost" (54 : Nat) "SortedPost$Both") ∈ lw_all := lw_g (lw_at lw_m2 72 rfl) rfl
theorem q382 : (Jvm.Cond.methodLink "SortedPost" (56 : Nat) ({ cls := "SortedPost$Both", name := "<init>", desc := "(LSortedPost$Test;LSortedPost$Test;)V" } : Jvm.MethodName)) ∈ lw_all := lw_g (lw_at lw_m2 74 rfl) rfl
theorem q404 : (Jvm.Cond.classLink "SortedPost" (45 : Nat) "SortedPost$Either") ∈ lw_all := lw_g (lw_at lw_m2 96 rfl) rfl
theorem q406 : (Jvm.Cond.methodLink "SortedPost" (47 : Nat) ({ cls := "SortedPost$Either", name := "<init>", desc := "(LSortedPost$Test;LSortedPost$Test;)V" } : Jvm.MethodName)) ∈ lw_all := lw_g (lw_at lw_m2 98 rfl) rfl
theorem q413 : (Jvm.Cond.methodLink "SortedPost" (137 : Nat) ({ cls := "SortedPost", name := "act", desc := "(LSortedPost$Rule;)V" } : Jvm.MethodName)) ∈ lw_all := lw_g (lw_at lw_m2 105 rfl) rfl
theorem q414 : (Jvm.Cond.privateMethod ({ cls := "SortedPost", name := "act", desc := "(LSortedPost$Rule;)V" } : Jvm.MethodName)) ∈ lw_tbl := lw_at lw_m2 106 rfl
theorem q415 : (Jvm.Cond.instanceMethod ({ cls := "SortedPost", name := "act", desc := "(LSortedPost$Rule;)V" } : Jvm.MethodName)) ∈ lw_all := lw_g (lw_at lw_m2 107 rfl) rfl
theorem q416 : (Jvm.Cond.code ({ cls := "SortedPost", name := "act", desc := "(LSortedPost$Rule;)V" } : Jvm.MethodName) prog_1_method_14_code (3 : Nat) (Option.none : Option Jvm.ClassFile.FieldType)) ∈ lw_all := lw_g (lw_at lw_m2 108 rfl) rfl
theorem q419 : (Jvm.Cond.instanceMethod ({ cls := "SortedPost", name := "<init>", desc := "()V" } : Jvm.MethodName)) ∈ lw_all := lw_g (lw_at lw_m2 111 rfl) rfl
theorem q420 : (Jvm.Cond.code ({ cls := "SortedPost", name := "<init>", desc := "()V" } : Jvm.MethodName) prog_1_method_18_code (2 : Nat) (Option.none : Option Jvm.ClassFile.FieldType)) ∈ lw_all := lw_g (lw_at lw_m2 112 rfl) rfl
theorem q421 : (Jvm.Cond.methodLink "SortedPost" (163 : Nat) ({ cls := "java/lang/Object", name := "<init>", desc := "()V" } : Jvm.MethodName)) ∈ lw_all := lw_g (lw_at lw_m2 113 rfl) rfl
theorem q422 : (Jvm.Cond.classLink "SortedPost" (166 : Nat) "java/util/ArrayList") ∈ lw_all := lw_g (lw_at lw_m2 114 rfl) rfl
theorem q423 : (Jvm.Cond.methodLink "SortedPost" (168 : Nat) ({ cls := "java/util/ArrayList", name := "<init>", desc := "()V" } : Jvm.MethodName)) ∈ lw_all := lw_g (lw_at lw_m2 115 rfl) rfl
theorem q477 : (Jvm.Cond.methodLink "SortedPost" (172 : Nat) ({ cls := "SortedPost$Fault", name := "<init>", desc := "()V" } : Jvm.MethodName)) ∈ lw_all := lw_g (lw_at lw_m2 169 rfl) rfl
theorem q486 : (Jvm.Cond.fieldLinkNest "SortedPost" (24 : Nat) "SortedPost$Fault" "place" "I" "SortedPost") ∈ lw_tbl := lw_at lw_m2 178 rfl
theorem q502 : (Jvm.Cond.classLink "SortedPost" (159 : Nat) "SortedPost$Box") ∈ lw_all := lw_g (lw_at lw_m2 194 rfl) rfl
theorem q505 : (Jvm.Cond.methodLink "SortedPost" (173 : Nat) ({ cls := "SortedPost$Box", name := "<init>", desc := "(I)V" } : Jvm.MethodName)) ∈ lw_all := lw_g (lw_at lw_m2 197 rfl) rfl
theorem q519 : (Jvm.Cond.fieldLinkNest "SortedPost" (282 : Nat) "SortedPost$Tray" "copies" "Ljava/util/List;" "SortedPost") ∈ lw_tbl := lw_at lw_m2 211 rfl
theorem q521 : (Jvm.Cond.fieldLinkNest "SortedPost" (224 : Nat) "SortedPost$Tray" "quota" "I" "SortedPost") ∈ lw_tbl := lw_at lw_m2 213 rfl
theorem q532 : (Jvm.Cond.fieldLinkNest "SortedPost" (302 : Nat) "SortedPost$Box" "number" "I" "SortedPost") ∈ lw_tbl := lw_at lw_m2 224 rfl
theorem q534 : (Jvm.Cond.fieldLinkNest "SortedPost" (220 : Nat) "SortedPost$Box" "trays" "[LSortedPost$Tray;" "SortedPost") ∈ lw_tbl := lw_at lw_m2 226 rfl
theorem q537 : (Jvm.Cond.fieldLinkNest "SortedPost" (264 : Nat) "SortedPost$Box" "had" "[Z" "SortedPost") ∈ lw_tbl := lw_at lw_m2 229 rfl
theorem q542 : (Jvm.Cond.fieldLinkNest "SortedPost" (229 : Nat) "SortedPost$Box" "days" "I" "SortedPost") ∈ lw_tbl := lw_at lw_m2 234 rfl
theorem q544 : (Jvm.Cond.fieldLinkNest "SortedPost" (158 : Nat) "SortedPost$Box" "rules" "LSortedPost$Rules;" "SortedPost") ∈ lw_tbl := lw_at lw_m2 236 rfl
theorem q559 : (Jvm.Cond.classLink "SortedPost" (176 : Nat) "SortedPost$Letter") ∈ lw_all := lw_g (lw_at lw_m3 11 rfl) rfl
theorem q561 : (Jvm.Cond.classLink "SortedPost" (188 : Nat) "SortedPost$Arrival") ∈ lw_all := lw_g (lw_at lw_m3 13 rfl) rfl
theorem q563 : (Jvm.Cond.methodLink "SortedPost" (190 : Nat) ({ cls := "SortedPost$Arrival", name := "<init>", desc := "(LSortedPost;)V" } : Jvm.MethodName)) ∈ lw_all := lw_g (lw_at lw_m3 15 rfl) rfl
theorem q569 : (Jvm.Cond.fieldLinkNest "SortedPost" (290 : Nat) "SortedPost$Arrival" "letter" "LSortedPost$Letter;" "SortedPost") ∈ lw_tbl := lw_at lw_m3 21 rfl
theorem q571 : (Jvm.Cond.fieldLinkNest "SortedPost" (278 : Nat) "SortedPost$Arrival" "box" "LSortedPost$Box;" "SortedPost") ∈ lw_tbl := lw_at lw_m3 23 rfl
theorem q574 : (Jvm.Cond.fieldLinkNest "SortedPost" (249 : Nat) "SortedPost$Arrival" "trays" "I" "SortedPost") ∈ lw_tbl := lw_at lw_m3 26 rfl
theorem q576 : (Jvm.Cond.fieldLinkNest "SortedPost" (251 : Nat) "SortedPost$Arrival" "sent" "I" "SortedPost") ∈ lw_tbl := lw_at lw_m3 28 rfl
theorem q578 : (Jvm.Cond.fieldLinkNest "SortedPost" (257 : Nat) "SortedPost$Arrival" "isDropped" "Z" "SortedPost") ∈ lw_tbl := lw_at lw_m3 30 rfl
theorem q580 : (Jvm.Cond.fieldLinkNest "SortedPost" (294 : Nat) "SortedPost$Arrival" "isMarked" "Z" "SortedPost") ∈ lw_tbl := lw_at lw_m3 32 rfl
theorem q582 : (Jvm.Cond.fieldLinkNest "SortedPost" (271 : Nat) "SortedPost$Arrival" "isAnswered" "Z" "SortedPost") ∈ lw_tbl := lw_at lw_m3 34 rfl
theorem q584 : (Jvm.Cond.fieldLinkNest "SortedPost" (239 : Nat) "SortedPost$Arrival" "stops" "Z" "SortedPost") ∈ lw_tbl := lw_at lw_m3 36 rfl
theorem q606 : (Jvm.Cond.classLink "SortedPost" (203 : Nat) "SortedPost$Case") ∈ lw_all := lw_g (lw_at lw_m3 58 rfl) rfl
theorem q608 : (Jvm.Cond.methodLinkNest "SortedPost" (205 : Nat) ({ cls := "SortedPost$Case", name := "<init>", desc := "()V" } : Jvm.MethodName) "SortedPost") ∈ lw_tbl := lw_at lw_m3 60 rfl
theorem q613 : (Jvm.Cond.fieldLinkNest "SortedPost" (419 : Nat) "SortedPost$Case" "bits" "I" "SortedPost") ∈ lw_tbl := lw_at lw_m3 65 rfl
theorem q617 : (Jvm.Cond.classLink "SortedPost" (210 : Nat) "SortedPost$Sheet") ∈ lw_all := lw_g (lw_at lw_m3 69 rfl) rfl
theorem q620 : (Jvm.Cond.methodLinkNest "SortedPost" (216 : Nat) ({ cls := "SortedPost$Sheet", name := "<init>", desc := "()V" } : Jvm.MethodName) "SortedPost") ∈ lw_tbl := lw_at lw_m3 72 rfl
theorem q625 : (Jvm.Cond.fieldLinkNest "SortedPost" (357 : Nat) "SortedPost$Sheet" "row" "Ljava/lang/Object;" "SortedPost") ∈ lw_tbl := lw_at lw_m3 77 rfl
theorem q629 : (Jvm.Cond.fieldLink "SortedPost" (169 : Nat) "SortedPost" "letters" "Ljava/util/List;") ∈ lw_all := lw_g (lw_at lw_m3 81 rfl) rfl
theorem q630 : (Jvm.Cond.fieldLink "SortedPost" (20 : Nat) "SortedPost" "fault" "LSortedPost$Fault;") ∈ lw_all := lw_g (lw_at lw_m3 82 rfl) rfl
theorem q631 : (Jvm.Cond.fieldLink "SortedPost" (13 : Nat) "SortedPost" "tape" "[B") ∈ lw_all := lw_g (lw_at lw_m3 83 rfl) rfl
theorem q632 : (Jvm.Cond.fieldLink "SortedPost" (9 : Nat) "SortedPost" "taped" "I") ∈ lw_all := lw_g (lw_at lw_m3 84 rfl) rfl
theorem q633 : (Jvm.Cond.fieldLink "SortedPost" (17 : Nat) "SortedPost" "at" "I") ∈ lw_all := lw_g (lw_at lw_m3 85 rfl) rfl
theorem q634 : (Jvm.Cond.fieldLink "SortedPost" (57 : Nat) "SortedPost" "opens" "I") ∈ lw_all := lw_g (lw_at lw_m3 86 rfl) rfl
theorem q635 : (Jvm.Cond.fieldLink "SortedPost" (90 : Nat) "SortedPost" "read" "LSortedPost$Rules;") ∈ lw_all := lw_g (lw_at lw_m3 87 rfl) rfl
theorem q636 : (Jvm.Cond.fieldLink "SortedPost" (154 : Nat) "SortedPost" "boxes" "[LSortedPost$Box;") ∈ lw_all := lw_g (lw_at lw_m3 88 rfl) rfl
theorem q637 : (Jvm.Cond.fieldLink "SortedPost" (178 : Nat) "SortedPost" "comingLetter" "[LSortedPost$Letter;") ∈ lw_all := lw_g (lw_at lw_m3 89 rfl) rfl
theorem q638 : (Jvm.Cond.fieldLink "SortedPost" (182 : Nat) "SortedPost" "comingTo" "[I") ∈ lw_all := lw_g (lw_at lw_m3 90 rfl) rfl
theorem q639 : (Jvm.Cond.fieldLink "SortedPost" (185 : Nat) "SortedPost" "comingTrace" "[I") ∈ lw_all := lw_g (lw_at lw_m3 91 rfl) rfl
theorem q640 : (Jvm.Cond.fieldLink "SortedPost" (232 : Nat) "SortedPost" "comingMany" "I") ∈ lw_all := lw_g (lw_at lw_m3 92 rfl) rfl
theorem q641 : (Jvm.Cond.fieldLink "SortedPost" (300 : Nat) "SortedPost" "copies" "I") ∈ lw_all := lw_g (lw_at lw_m3 93 rfl) rfl
theorem q643 : (Jvm.Cond.fieldLink "SortedPost" (402 : Nat) "SortedPost" "sentOn" "I") ∈ lw_all := lw_g (lw_at lw_m3 95 rfl) rfl
theorem q644 : (Jvm.Cond.fieldLink "SortedPost" (254 : Nat) "SortedPost" "dropped" "I") ∈ lw_all := lw_g (lw_at lw_m3 96 rfl) rfl
theorem q645 : (Jvm.Cond.fieldLink "SortedPost" (313 : Nat) "SortedPost" "answers" "I") ∈ lw_all := lw_g (lw_at lw_m3 97 rfl) rfl
theorem q646 : (Jvm.Cond.fieldLink "SortedPost" (285 : Nat) "SortedPost" "crowded" "I") ∈ lw_all := lw_g (lw_at lw_m3 98 rfl) rfl
theorem q647 : (Jvm.Cond.fieldLink "SortedPost" (193 : Nat) "SortedPost" "arrival" "LSortedPost$Arrival;") ∈ lw_all := lw_g (lw_at lw_m3 99 rfl) rfl
theorem q648 : (Jvm.Cond.fieldLink "SortedPost" (197 : Nat) "SortedPost" "known" "[I") ∈ lw_all := lw_g (lw_at lw_m3 100 rfl) rfl
theorem q649 : (Jvm.Cond.fieldLink "SortedPost" (200 : Nat) "SortedPost" "words" "[I") ∈ lw_all := lw_g (lw_at lw_m3 101 rfl) rfl
theorem q650 : (Jvm.Cond.fieldLink "SortedPost" (206 : Nat) "SortedPost" "tried" "LSortedPost$Case;") ∈ lw_all := lw_g (lw_at lw_m3 102 rfl) rfl
theorem q651 : (Jvm.Cond.fieldLink "SortedPost" (212 : Nat) "SortedPost" "sheets" "[LSortedPost$Sheet;") ∈ lw_all := lw_g (lw_at lw_m3 103 rfl) rfl
theorem q652 : (Jvm.Cond.laysFinal "SortedPost" "SortedPost" "letters" "Ljava/util/List;") ∈ lw_all := lw_g (lw_at lw_m3 104 rfl) rfl
theorem q653 : (Jvm.Cond.soleField "SortedPost" "letters") ∈ lw_all := lw_g (lw_at lw_m3 105 rfl) rfl
theorem q654 : (Jvm.Cond.laysFinal "SortedPost" "SortedPost" "fault" "LSortedPost$Fault;") ∈ lw_all := lw_g (lw_at lw_m3 106 rfl) rfl
theorem q655 : (Jvm.Cond.soleField "SortedPost" "fault") ∈ lw_all := lw_g (lw_at lw_m3 107 rfl) rfl
theorem q656 : (Jvm.Cond.laysFinal "SortedPost" "SortedPost" "tape" "[B") ∈ lw_all := lw_g (lw_at lw_m3 108 rfl) rfl
theorem q657 : (Jvm.Cond.soleField "SortedPost" "tape") ∈ lw_all := lw_g (lw_at lw_m3 109 rfl) rfl
theorem q658 : (Jvm.Cond.lays "SortedPost" "SortedPost" "taped" "I") ∈ lw_all := lw_g (lw_at lw_m3 110 rfl) rfl
theorem q659 : (Jvm.Cond.soleField "SortedPost" "taped") ∈ lw_all := lw_g (lw_at lw_m3 111 rfl) rfl
theorem q660 : (Jvm.Cond.lays "SortedPost" "SortedPost" "at" "I") ∈ lw_all := lw_g (lw_at lw_m3 112 rfl) rfl
theorem q661 : (Jvm.Cond.soleField "SortedPost" "at") ∈ lw_all := lw_g (lw_at lw_m3 113 rfl) rfl
theorem q662 : (Jvm.Cond.lays "SortedPost" "SortedPost" "opens" "I") ∈ lw_all := lw_g (lw_at lw_m3 114 rfl) rfl
theorem q663 : (Jvm.Cond.soleField "SortedPost" "opens") ∈ lw_all := lw_g (lw_at lw_m3 115 rfl) rfl
theorem q664 : (Jvm.Cond.lays "SortedPost" "SortedPost" "read" "LSortedPost$Rules;") ∈ lw_all := lw_g (lw_at lw_m3 116 rfl) rfl
theorem q665 : (Jvm.Cond.soleField "SortedPost" "read") ∈ lw_all := lw_g (lw_at lw_m3 117 rfl) rfl
theorem q666 : (Jvm.Cond.laysFinal "SortedPost" "SortedPost" "boxes" "[LSortedPost$Box;") ∈ lw_all := lw_g (lw_at lw_m3 118 rfl) rfl
theorem q667 : (Jvm.Cond.soleField "SortedPost" "boxes") ∈ lw_all := lw_g (lw_at lw_m3 119 rfl) rfl
theorem q668 : (Jvm.Cond.laysFinal "SortedPost" "SortedPost" "comingLetter" "[LSortedPost$Letter;") ∈ lw_all := lw_g (lw_at lw_m3 120 rfl) rfl
theorem q669 : (Jvm.Cond.soleField "SortedPost" "comingLetter") ∈ lw_all := lw_g (lw_at lw_m3 121 rfl) rfl
theorem q670 : (Jvm.Cond.laysFinal "SortedPost" "SortedPost" "comingTo" "[I") ∈ lw_all := lw_g (lw_at lw_m3 122 rfl) rfl
theorem q671 : (Jvm.Cond.soleField "SortedPost" "comingTo") ∈ lw_all := lw_g (lw_at lw_m3 123 rfl) rfl
theorem q672 : (Jvm.Cond.laysFinal "SortedPost" "SortedPost" "comingTrace" "[I") ∈ lw_all := lw_g (lw_at lw_m3 124 rfl) rfl
theorem q673 : (Jvm.Cond.soleField "SortedPost" "comingTrace") ∈ lw_all := lw_g (lw_at lw_m3 125 rfl) rfl
theorem q674 : (Jvm.Cond.lays "SortedPost" "SortedPost" "comingMany" "I") ∈ lw_all := lw_g (lw_at lw_m3 126 rfl) rfl
theorem q675 : (Jvm.Cond.soleField "SortedPost" "comingMany") ∈ lw_all := lw_g (lw_at lw_m3 127 rfl) rfl
theorem q676 : (Jvm.Cond.lays "SortedPost" "SortedPost" "copies" "I") ∈ lw_all := lw_g (lw_at lw_m3 128 rfl) rfl
theorem q677 : (Jvm.Cond.soleField "SortedPost" "copies") ∈ lw_all := lw_g (lw_at lw_m3 129 rfl) rfl
theorem q678 : (Jvm.Cond.lays "SortedPost" "SortedPost" "sentOn" "I") ∈ lw_all := lw_g (lw_at lw_m3 130 rfl) rfl
theorem q679 : (Jvm.Cond.soleField "SortedPost" "sentOn") ∈ lw_all := lw_g (lw_at lw_m3 131 rfl) rfl
theorem q680 : (Jvm.Cond.lays "SortedPost" "SortedPost" "dropped" "I") ∈ lw_all := lw_g (lw_at lw_m3 132 rfl) rfl
theorem q681 : (Jvm.Cond.soleField "SortedPost" "dropped") ∈ lw_all := lw_g (lw_at lw_m3 133 rfl) rfl
theorem q682 : (Jvm.Cond.lays "SortedPost" "SortedPost" "answers" "I") ∈ lw_all := lw_g (lw_at lw_m3 134 rfl) rfl
theorem q683 : (Jvm.Cond.soleField "SortedPost" "answers") ∈ lw_all := lw_g (lw_at lw_m3 135 rfl) rfl
theorem q684 : (Jvm.Cond.lays "SortedPost" "SortedPost" "crowded" "I") ∈ lw_all := lw_g (lw_at lw_m3 136 rfl) rfl
theorem q685 : (Jvm.Cond.soleField "SortedPost" "crowded") ∈ lw_all := lw_g (lw_at lw_m3 137 rfl) rfl
theorem q686 : (Jvm.Cond.laysFinal "SortedPost" "SortedPost" "arrival" "LSortedPost$Arrival;") ∈ lw_all := lw_g (lw_at lw_m3 138 rfl) rfl
theorem q687 : (Jvm.Cond.soleField "SortedPost" "arrival") ∈ lw_all := lw_g (lw_at lw_m3 139 rfl) rfl
theorem q688 : (Jvm.Cond.laysFinal "SortedPost" "SortedPost" "known" "[I") ∈ lw_all := lw_g (lw_at lw_m3 140 rfl) rfl
theorem q689 : (Jvm.Cond.soleField "SortedPost" "known") ∈ lw_all := lw_g (lw_at lw_m3 141 rfl) rfl
theorem q690 : (Jvm.Cond.laysFinal "SortedPost" "SortedPost" "words" "[I") ∈ lw_all := lw_g (lw_at lw_m3 142 rfl) rfl
theorem q691 : (Jvm.Cond.soleField "SortedPost" "words") ∈ lw_all := lw_g (lw_at lw_m3 143 rfl) rfl
theorem q692 : (Jvm.Cond.laysFinal "SortedPost" "SortedPost" "tried" "LSortedPost$Case;") ∈ lw_all := lw_g (lw_at lw_m3 144 rfl) rfl
theorem q693 : (Jvm.Cond.soleField "SortedPost" "tried") ∈ lw_all := lw_g (lw_at lw_m3 145 rfl) rfl
theorem q694 : (Jvm.Cond.laysFinal "SortedPost" "SortedPost" "sheets" "[LSortedPost$Sheet;") ∈ lw_all := lw_g (lw_at lw_m3 146 rfl) rfl
theorem q695 : (Jvm.Cond.soleField "SortedPost" "sheets") ∈ lw_all := lw_g (lw_at lw_m3 147 rfl) rfl
theorem q696 : (Jvm.Cond.superclass "SortedPost" "java/lang/Object") ∈ lw_all := lw_g (lw_at lw_m3 148 rfl) rfl
theorem q698 : (Jvm.Cond.instanceMethod ({ cls := "SortedPost", name := "quota", desc := "(III)I" } : Jvm.MethodName)) ∈ lw_all := lw_g (lw_at lw_m3 150 rfl) rfl
theorem q699 : (Jvm.Cond.selects "SortedPost" ({ cls := "SortedPost", name := "quota", desc := "(III)I" } : Jvm.MethodName) ({ cls := "SortedPost", name := "quota", desc := "(III)I" } : Jvm.MethodName)) ∈ lw_all := lw_g (lw_at lw_m3 151 rfl) rfl
theorem q700 : (Jvm.Cond.code ({ cls := "SortedPost", name := "quota", desc := "(III)I" } : Jvm.MethodName) prog_1_method_19_code (5 : Nat) (Option.some Jvm.ClassFile.FieldType.int)) ∈ lw_all := lw_g (lw_at lw_m3 152 rfl) rfl
theorem q701 : (Jvm.Cond.methodLink "SortedPost" (217 : Nat) ({ cls := "SortedPost", name := "isTray", desc := "(I)Z" } : Jvm.MethodName)) ∈ lw_all := lw_g (lw_at lw_m3 153 rfl) rfl
theorem q702 : (Jvm.Cond.static ({ cls := "SortedPost", name := "isTray", desc := "(I)Z" } : Jvm.MethodName)) ∈ lw_all := lw_g (lw_at lw_m3 154 rfl) rfl
theorem q703 : (Jvm.Cond.code ({ cls := "SortedPost", name := "isTray", desc := "(I)Z" } : Jvm.MethodName) prog_1_method_3_code (1 : Nat) (Option.some Jvm.ClassFile.FieldType.boolean)) ∈ lw_all := lw_g (lw_at lw_m3 155 rfl) rfl
theorem q705 : (Jvm.Cond.instanceMethod ({ cls := "SortedPost", name := "days", desc := "(II)I" } : Jvm.MethodName)) ∈ lw_all := lw_g (lw_at lw_m3 157 rfl) rfl
theorem q706 : (Jvm.Cond.selects "SortedPost" ({ cls := "SortedPost", name := "days", desc := "(II)I" } : Jvm.MethodName) ({ cls := "SortedPost", name := "days", desc := "(II)I" } : Jvm.MethodName)) ∈ lw_all := lw_g (lw_at lw_m3 158 rfl) rfl
theorem q707 : (Jvm.Cond.code ({ cls := "SortedPost", name := "days", desc := "(II)I" } : Jvm.MethodName) prog_1_method_20_code (4 : Nat) (Option.some Jvm.ClassFile.FieldType.int)) ∈ lw_all := lw_g (lw_at lw_m3 159 rfl) rfl
theorem q709 : (Jvm.Cond.instanceMethod ({ cls := "SortedPost", name := "post", desc := "(IIIIIIII)I" } : Jvm.MethodName)) ∈ lw_all := lw_g (lw_at lw_m3 161 rfl) rfl
theorem q710 : (Jvm.Cond.selects "SortedPost" ({ cls := "SortedPost", name := "post", desc := "(IIIIIIII)I" } : Jvm.MethodName) ({ cls := "SortedPost", name := "post", desc := "(IIIIIIII)I" } : Jvm.MethodName)) ∈ lw_all := lw_g (lw_at lw_m3 162 rfl) rfl
theorem q711 : (Jvm.Cond.code ({ cls := "SortedPost", name := "post", desc := "(IIIIIIII)I" } : Jvm.MethodName) prog_1_method_29_code (9 : Nat) (Option.some Jvm.ClassFile.FieldType.int)) ∈ lw_all := lw_g (lw_at lw_m3 163 rfl) rfl
theorem q712 : (Jvm.Cond.methodLink "SortedPost" (337 : Nat) ({ cls := "SortedPost", name := "isLetter", desc := "(IIIIIIII)Z" } : Jvm.MethodName)) ∈ lw_all := lw_g (lw_at lw_m3 164 rfl) rfl
theorem q713 : (Jvm.Cond.static ({ cls := "SortedPost", name := "isLetter", desc := "(IIIIIIII)Z" } : Jvm.MethodName)) ∈ lw_all := lw_g (lw_at lw_m3 165 rfl) rfl
theorem q714 : (Jvm.Cond.code ({ cls := "SortedPost", name := "isLetter", desc := "(IIIIIIII)Z" } : Jvm.MethodName) prog_1_method_25_code (9 : Nat) (Option.some Jvm.ClassFile.FieldType.boolean)) ∈ lw_all := lw_g (lw_at lw_m3 166 rfl) rfl
theorem q715 : (Jvm.Cond.constant "SortedPost" (320 : Nat) (65535 : Int32)) ∈ lw_all := lw_g (lw_at lw_m3 167 rfl) rfl
theorem q716 : (Jvm.Cond.methodLink "SortedPost" (321 : Nat) ({ cls := "java/lang/Integer", name := "bitCount", desc := "(I)I" } : Jvm.MethodName)) ∈ lw_all := lw_g (lw_at lw_m3 168 rfl) rfl
theorem q722 : (Jvm.Cond.methodLink "SortedPost" (341 : Nat) ({ cls := "SortedPost", name := "latestDay", desc := "()I" } : Jvm.MethodName)) ∈ lw_all := lw_g (lw_at lw_m3 174 rfl) rfl
theorem q723 : (Jvm.Cond.privateMethod ({ cls := "SortedPost", name := "latestDay", desc := "()I" } : Jvm.MethodName)) ∈ lw_tbl := lw_at lw_m3 175 rfl
theorem q724 : (Jvm.Cond.instanceMethod ({ cls := "SortedPost", name := "latestDay", desc := "()I" } : Jvm.MethodName)) ∈ lw_all := lw_g (lw_at lw_m3 176 rfl) rfl
theorem q725 : (Jvm.Cond.code ({ cls := "SortedPost", name := "latestDay", desc := "()I" } : Jvm.MethodName) prog_1_method_26_code (1 : Nat) (Option.some Jvm.ClassFile.FieldType.int)) ∈ lw_all := lw_g (lw_at lw_m3 177 rfl) rfl
theorem q726 : (Jvm.Cond.interfaceEntry "SortedPost" (326 : Nat)) ∈ lw_tbl := lw_at lw_m3 178 rfl
theorem q727 : (Jvm.Cond.methodLink "SortedPost" (326 : Nat) ({ cls := "java/util/List", name := "isEmpty", desc := "()Z" } : Jvm.MethodName)) ∈ lw_all := lw_g (lw_at lw_m3 179 rfl) rfl
theorem q735 : (Jvm.Cond.methodLink "SortedPost" (344 : Nat) ({ cls := "SortedPost", name := "isFull", desc := "()Z" } : Jvm.MethodName)) ∈ lw_all := lw_g (lw_at lw_m3 187 rfl) rfl
theorem q736 : (Jvm.Cond.privateMethod ({ cls := "SortedPost", name := "isFull", desc := "()Z" } : Jvm.MethodName)) ∈ lw_tbl := lw_at lw_m3 188 rfl
theorem q737 : (Jvm.Cond.instanceMethod ({ cls := "SortedPost", name := "isFull", desc := "()Z" } : Jvm.MethodName)) ∈ lw_all := lw_g (lw_at lw_m3 189 rfl) rfl
theorem q738 : (Jvm.Cond.code ({ cls := "SortedPost", name := "isFull", desc := "()Z" } : Jvm.MethodName) prog_1_method_27_code (1 : Nat) (Option.some Jvm.ClassFile.FieldType.boolean)) ∈ lw_all := lw_g (lw_at lw_m3 190 rfl) rfl
theorem q740 : (Jvm.Cond.methodLink "SortedPost" (310 : Nat) ({ cls := "SortedPost$Letter", name := "<init>", desc := "(IIIIIIIII)V" } : Jvm.MethodName)) ∈ lw_all := lw_g (lw_at lw_m3 192 rfl) rfl
theorem q745 : (Jvm.Cond.fieldLinkNest "SortedPost" (389 : Nat) "SortedPost$Letter" "number" "I" "SortedPost") ∈ lw_tbl := lw_at lw_m3 197 rfl
theorem q748 : (Jvm.Cond.fieldLinkNest "SortedPost" (304 : Nat) "SortedPost$Letter" "from" "I" "SortedPost") ∈ lw_tbl := lw_at lw_m3 200 rfl
theorem q750 : (Jvm.Cond.fieldLinkNest "SortedPost" (367 : Nat) "SortedPost$Letter" "to" "I" "SortedPost") ∈ lw_tbl := lw_at lw_m3 202 rfl
theorem q752 : (Jvm.Cond.fieldLinkNest "SortedPost" (370 : Nat) "SortedPost$Letter" "words" "I" "SortedPost") ∈ lw_tbl := lw_at lw_m3 204 rfl
theorem q755 : (Jvm.Cond.fieldLinkNest "SortedPost" (372 : Nat) "SortedPost$Letter" "size" "I" "SortedPost") ∈ lw_tbl := lw_at lw_m3 207 rfl
theorem q758 : (Jvm.Cond.fieldLinkNest "SortedPost" (374 : Nat) "SortedPost$Letter" "flags" "I" "SortedPost") ∈ lw_tbl := lw_at lw_m3 210 rfl
theorem q761 : (Jvm.Cond.fieldLinkNest "SortedPost" (268 : Nat) "SortedPost$Letter" "id" "I" "SortedPost") ∈ lw_tbl := lw_at lw_m3 213 rfl
theorem q764 : (Jvm.Cond.fieldLinkNest "SortedPost" (377 : Nat) "SortedPost$Letter" "ref" "I" "SortedPost") ∈ lw_tbl := lw_at lw_m3 216 rfl
theorem q767 : (Jvm.Cond.fieldLinkNest "SortedPost" (307 : Nat) "SortedPost$Letter" "day" "I" "SortedPost") ∈ lw_tbl := lw_at lw_m3 219 rfl
theorem q787 : (Jvm.Cond.methodLink "SortedPost" (347 : Nat) ({ cls := "SortedPost", name := "send", desc := "(LSortedPost$Letter;)I" } : Jvm.MethodName)) ∈ lw_all := lw_g (lw_at lw_m3 239 rfl) rfl
theorem q788 : (Jvm.Cond.privateMethod ({ cls := "SortedPost", name := "send", desc := "(LSortedPost$Letter;)I" } : Jvm.MethodName)) ∈ lw_tbl := lw_at lw_m4 0 rfl
theorem q789 : (Jvm.Cond.instanceMethod ({ cls := "SortedPost", name := "send", desc := "(LSortedPost$Letter;)I" } : Jvm.MethodName)) ∈ lw_all := lw_g (lw_at lw_m4 1 rfl) rfl
theorem q790 : (Jvm.Cond.code ({ cls := "SortedPost", name := "send", desc := "(LSortedPost$Letter;)I" } : Jvm.MethodName) prog_1_method_28_code (4 : Nat) (Option.some Jvm.ClassFile.FieldType.int)) ∈ lw_all := lw_g (lw_at lw_m4 2 rfl) rfl
theorem q791 : (Jvm.Cond.methodLink "SortedPost" (330 : Nat) ({ cls := "SortedPost$Letter", name := "isFor", desc := "(I)Z" } : Jvm.MethodName)) ∈ lw_all := lw_g (lw_at lw_m4 3 rfl) rfl
theorem q795 : (Jvm.Cond.methodLink "SortedPost" (316 : Nat) ({ cls := "SortedPost", name := "willCome", desc := "(LSortedPost$Letter;II)V" } : Jvm.MethodName)) ∈ lw_all := lw_g (lw_at lw_m4 7 rfl) rfl
theorem q796 : (Jvm.Cond.privateMethod ({ cls := "SortedPost", name := "willCome", desc := "(LSortedPost$Letter;II)V" } : Jvm.MethodName)) ∈ lw_tbl := lw_at lw_m4 8 rfl
theorem q797 : (Jvm.Cond.instanceMethod ({ cls := "SortedPost", name := "willCome", desc := "(LSortedPost$Letter;II)V" } : Jvm.MethodName)) ∈ lw_all := lw_g (lw_at lw_m4 9 rfl) rfl
theorem q798 : (Jvm.Cond.code ({ cls := "SortedPost", name := "willCome", desc := "(LSortedPost$Letter;II)V" } : Jvm.MethodName) prog_1_method_21_code (4 : Nat) (Option.none : Option Jvm.ClassFile.FieldType)) ∈ lw_all := lw_g (lw_at lw_m4 10 rfl) rfl
theorem q799 : (Jvm.Cond.methodLink "SortedPost" (333 : Nat) ({ cls := "SortedPost", name := "arrive", desc := "(LSortedPost$Letter;LSortedPost$Box;I)I" } : Jvm.MethodName)) ∈ lw_all := lw_g (lw_at lw_m4 11 rfl) rfl
theorem q800 : (Jvm.Cond.privateMethod ({ cls := "SortedPost", name := "arrive", desc := "(LSortedPost$Letter;LSortedPost$Box;I)I" } : Jvm.MethodName)) ∈ lw_tbl := lw_at lw_m4 12 rfl
theorem q801 : (Jvm.Cond.instanceMethod ({ cls := "SortedPost", name := "arrive", desc := "(LSortedPost$Letter;LSortedPost$Box;I)I" } : Jvm.MethodName)) ∈ lw_all := lw_g (lw_at lw_m4 13 rfl) rfl
theorem q802 : (Jvm.Cond.code ({ cls := "SortedPost", name := "arrive", desc := "(LSortedPost$Letter;LSortedPost$Box;I)I" } : Jvm.MethodName) prog_1_method_22_code (8 : Nat) (Option.some Jvm.ClassFile.FieldType.int)) ∈ lw_all := lw_g (lw_at lw_m4 14 rfl) rfl
theorem q803 : (Jvm.Cond.methodLink "SortedPost" (235 : Nat) ({ cls := "SortedPost$Arrival", name := "begin", desc := "(LSortedPost$Letter;LSortedPost$Box;I)V" } : Jvm.MethodName)) ∈ lw_all := lw_g (lw_at lw_m4 15 rfl) rfl
theorem q807 : (Jvm.Cond.interfaceEntry "SortedPost" (243 : Nat)) ∈ lw_tbl := lw_at lw_m4 19 rfl
theorem q808 : (Jvm.Cond.methodLink "SortedPost" (243 : Nat) ({ cls := "SortedPost$Test", name := "holds", desc := "(LSortedPost$Truths;)Z" } : Jvm.MethodName)) ∈ lw_all := lw_g (lw_at lw_m4 20 rfl) rfl
theorem q839 : (Jvm.Cond.privateMethod ({ cls := "SortedPost", name := "isJunk", desc := "(LSortedPost$Letter;)Z" } : Jvm.MethodName)) ∈ lw_tbl := lw_at lw_m4 51 rfl
theorem q840 : (Jvm.Cond.instanceMethod ({ cls := "SortedPost", name := "isJunk", desc := "(LSortedPost$Letter;)Z" } : Jvm.MethodName)) ∈ lw_all := lw_g (lw_at lw_m4 52 rfl) rfl
theorem q841 : (Jvm.Cond.code ({ cls := "SortedPost", name := "isJunk", desc := "(LSortedPost$Letter;)Z" } : Jvm.MethodName) prog_1_method_40_code (7 : Nat) (Option.some Jvm.ClassFile.FieldType.boolean)) ∈ lw_all := lw_g (lw_at lw_m4 53 rfl) rfl
theorem q842 : (Jvm.Cond.methodLink "SortedPost" (408 : Nat) ({ cls := "SortedPost$Letter", name := "hasWord", desc := "(I)Z" } : Jvm.MethodName)) ∈ lw_all := lw_g (lw_at lw_m4 54 rfl) rfl
theorem q843 : (Jvm.Cond.constantLong "SortedPost" (411 : Nat) (2 : Int64)) ∈ lw_all := lw_g (lw_at lw_m4 55 rfl) rfl
theorem q874 : (Jvm.Cond.methodLink "SortedPost" (247 : Nat) ({ cls := "SortedPost$Arrival", name := "act", desc := "(II)V" } : Jvm.MethodName)) ∈ lw_all := lw_g (lw_at lw_m4 86 rfl) rfl
theorem q883 : (Jvm.Cond.methodLink "SortedPost" (260 : Nat) ({ cls := "SortedPost", name := "file", desc := "(LSortedPost$Arrival;)I" } : Jvm.MethodName)) ∈ lw_all := lw_g (lw_at lw_m4 95 rfl) rfl
theorem q884 : (Jvm.Cond.privateMethod ({ cls := "SortedPost", name := "file", desc := "(LSortedPost$Arrival;)I" } : Jvm.MethodName)) ∈ lw_tbl := lw_at lw_m4 96 rfl
theorem q885 : (Jvm.Cond.instanceMethod ({ cls := "SortedPost", name := "file", desc := "(LSortedPost$Arrival;)I" } : Jvm.MethodName)) ∈ lw_all := lw_g (lw_at lw_m4 97 rfl) rfl
theorem q886 : (Jvm.Cond.code ({ cls := "SortedPost", name := "file", desc := "(LSortedPost$Arrival;)I" } : Jvm.MethodName) prog_1_method_23_code (5 : Nat) (Option.some Jvm.ClassFile.FieldType.int)) ∈ lw_all := lw_g (lw_at lw_m4 98 rfl) rfl
theorem q887 : (Jvm.Cond.classLink "SortedPost" (288 : Nat) "SortedPost$Copy") ∈ lw_all := lw_g (lw_at lw_m4 99 rfl) rfl
theorem q889 : (Jvm.Cond.methodLink "SortedPost" (297 : Nat) ({ cls := "SortedPost$Copy", name := "<init>", desc := "(LSortedPost$Letter;Z)V" } : Jvm.MethodName)) ∈ lw_all := lw_g (lw_at lw_m4 101 rfl) rfl
theorem q894 : (Jvm.Cond.fieldLinkNest "SortedPost" (388 : Nat) "SortedPost$Copy" "letter" "LSortedPost$Letter;" "SortedPost") ∈ lw_tbl := lw_at lw_m4 106 rfl
theorem q896 : (Jvm.Cond.fieldLinkNest "SortedPost" (390 : Nat) "SortedPost$Copy" "marked" "Z" "SortedPost") ∈ lw_tbl := lw_at lw_m4 108 rfl
theorem q897 : (Jvm.Cond.fieldLinkNest "SortedPost" (393 : Nat) "SortedPost$Copy" "learnt" "I" "SortedPost") ∈ lw_tbl := lw_at lw_m4 109 rfl
theorem q905 : (Jvm.Cond.methodLink "SortedPost" (274 : Nat) ({ cls := "SortedPost", name := "sendBack", desc := "(LSortedPost$Letter;LSortedPost$Box;)V" } : Jvm.MethodName)) ∈ lw_all := lw_g (lw_at lw_m4 117 rfl) rfl
theorem q906 : (Jvm.Cond.privateMethod ({ cls := "SortedPost", name := "sendBack", desc := "(LSortedPost$Letter;LSortedPost$Box;)V" } : Jvm.MethodName)) ∈ lw_tbl := lw_at lw_m4 118 rfl
theorem q907 : (Jvm.Cond.instanceMethod ({ cls := "SortedPost", name := "sendBack", desc := "(LSortedPost$Letter;LSortedPost$Box;)V" } : Jvm.MethodName)) ∈ lw_all := lw_g (lw_at lw_m4 119 rfl) rfl
theorem q908 : (Jvm.Cond.code ({ cls := "SortedPost", name := "sendBack", desc := "(LSortedPost$Letter;LSortedPost$Box;)V" } : Jvm.MethodName) prog_1_method_24_code (5 : Nat) (Option.none : Option Jvm.ClassFile.FieldType)) ∈ lw_all := lw_g (lw_at lw_m4 120 rfl) rfl
theorem q910 : (Jvm.Cond.instanceMethod ({ cls := "SortedPost", name := "posts", desc := "(IIII)I" } : Jvm.MethodName)) ∈ lw_all := lw_g (lw_at lw_m4 122 rfl) rfl
theorem q911 : (Jvm.Cond.selects "SortedPost" ({ cls := "SortedPost", name := "posts", desc := "(IIII)I" } : Jvm.MethodName) ({ cls := "SortedPost", name := "posts", desc := "(IIII)I" } : Jvm.MethodName)) ∈ lw_all := lw_g (lw_at lw_m4 123 rfl) rfl
theorem q912 : (Jvm.Cond.code ({ cls := "SortedPost", name := "posts", desc := "(IIII)I" } : Jvm.MethodName) prog_1_method_30_code (9 : Nat) (Option.some Jvm.ClassFile.FieldType.int)) ∈ lw_all := lw_g (lw_at lw_m4 124 rfl) rfl
theorem q913 : (Jvm.Cond.methodLink "SortedPost" (351 : Nat) ({ cls := "SortedPost", name := "isSheet", desc := "(I)Z" } : Jvm.MethodName)) ∈ lw_all := lw_g (lw_at lw_m4 125 rfl) rfl
theorem q914 : (Jvm.Cond.static ({ cls := "SortedPost", name := "isSheet", desc := "(I)Z" } : Jvm.MethodName)) ∈ lw_all := lw_g (lw_at lw_m4 126 rfl) rfl
theorem q915 : (Jvm.Cond.code ({ cls := "SortedPost", name := "isSheet", desc := "(I)Z" } : Jvm.MethodName) prog_1_method_52_code (1 : Nat) (Option.some Jvm.ClassFile.FieldType.boolean)) ∈ lw_all := lw_g (lw_at lw_m4 127 rfl) rfl
theorem q916 : (Jvm.Cond.methodLink "SortedPost" (354 : Nat) ({ cls := "SortedPost", name := "isLane", desc := "(I)Z" } : Jvm.MethodName)) ∈ lw_all := lw_g (lw_at lw_m4 128 rfl) rfl
theorem q917 : (Jvm.Cond.static ({ cls := "SortedPost", name := "isLane", desc := "(I)Z" } : Jvm.MethodName)) ∈ lw_all := lw_g (lw_at lw_m4 129 rfl) rfl
theorem q918 : (Jvm.Cond.code ({ cls := "SortedPost", name := "isLane", desc := "(I)Z" } : Jvm.MethodName) prog_1_method_53_code (1 : Nat) (Option.some Jvm.ClassFile.FieldType.boolean)) ∈ lw_all := lw_g (lw_at lw_m4 130 rfl) rfl
theorem q919 : (Jvm.Cond.methodLink "SortedPost" (361 : Nat) ({ cls := "SortedPost$Sheet", name := "lane", desc := "()I" } : Jvm.MethodName)) ∈ lw_all := lw_g (lw_at lw_m4 131 rfl) rfl
theorem q924 : (Jvm.Cond.methodLink "SortedPost" (364 : Nat) ({ cls := "SortedPost$Sheet", name := "size", desc := "()I" } : Jvm.MethodName)) ∈ lw_all := lw_g (lw_at lw_m4 136 rfl) rfl
theorem q929 : (Jvm.Cond.methodLink "SortedPost" (365 : Nat) ({ cls := "SortedPost$Sheet", name := "get", desc := "(I)I" } : Jvm.MethodName)) ∈ lw_all := lw_g (lw_at lw_m4 141 rfl) rfl
theorem q934 : (Jvm.Cond.instanceMethod ({ cls := "SortedPost", name := "letter", desc := "(II)I" } : Jvm.MethodName)) ∈ lw_all := lw_g (lw_at lw_m4 146 rfl) rfl
theorem q935 : (Jvm.Cond.selects "SortedPost" ({ cls := "SortedPost", name := "letter", desc := "(II)I" } : Jvm.MethodName) ({ cls := "SortedPost", name := "letter", desc := "(II)I" } : Jvm.MethodName)) ∈ lw_all := lw_g (lw_at lw_m4 147 rfl) rfl
theorem q936 : (Jvm.Cond.code ({ cls := "SortedPost", name := "letter", desc := "(II)I" } : Jvm.MethodName) prog_1_method_31_code (4 : Nat) (Option.some Jvm.ClassFile.FieldType.int)) ∈ lw_all := lw_g (lw_at lw_m4 148 rfl) rfl
theorem q937 : (Jvm.Cond.methodLink "SortedPost" (380 : Nat) ({ cls := "SortedPost", name := "isJunk", desc := "(LSortedPost$Letter;)Z" } : Jvm.MethodName)) ∈ lw_all := lw_g (lw_at lw_m4 149 rfl) rfl
theorem q939 : (Jvm.Cond.instanceMethod ({ cls := "SortedPost", name := "size", desc := "(II)I" } : Jvm.MethodName)) ∈ lw_all := lw_g (lw_at lw_m4 151 rfl) rfl
theorem q940 : (Jvm.Cond.selects "SortedPost" ({ cls := "SortedPost", name := "size", desc := "(II)I" } : Jvm.MethodName) ({ cls := "SortedPost", name := "size", desc := "(II)I" } : Jvm.MethodName)) ∈ lw_all := lw_g (lw_at lw_m4 152 rfl) rfl
theorem q941 : (Jvm.Cond.code ({ cls := "SortedPost", name := "size", desc := "(II)I" } : Jvm.MethodName) prog_1_method_32_code (3 : Nat) (Option.some Jvm.ClassFile.FieldType.int)) ∈ lw_all := lw_g (lw_at lw_m4 153 rfl) rfl
theorem q943 : (Jvm.Cond.instanceMethod ({ cls := "SortedPost", name := "copy", desc := "(IIII)I" } : Jvm.MethodName)) ∈ lw_all := lw_g (lw_at lw_m4 155 rfl) rfl
theorem q944 : (Jvm.Cond.selects "SortedPost" ({ cls := "SortedPost", name := "copy", desc := "(IIII)I" } : Jvm.MethodName) ({ cls := "SortedPost", name := "copy", desc := "(IIII)I" } : Jvm.MethodName)) ∈ lw_all := lw_g (lw_at lw_m4 156 rfl) rfl
theorem q945 : (Jvm.Cond.code ({ cls := "SortedPost", name := "copy", desc := "(IIII)I" } : Jvm.MethodName) prog_1_method_34_code (6 : Nat) (Option.some Jvm.ClassFile.FieldType.int)) ∈ lw_all := lw_g (lw_at lw_m4 157 rfl) rfl
theorem q946 : (Jvm.Cond.methodLink "SortedPost" (384 : Nat) ({ cls := "SortedPost", name := "copyAt", desc := "(III)LSortedPost$Copy;" } : Jvm.MethodName)) ∈ lw_all := lw_g (lw_at lw_m4 158 rfl) rfl
theorem q947 : (Jvm.Cond.privateMethod ({ cls := "SortedPost", name := "copyAt", desc := "(III)LSortedPost$Copy;" } : Jvm.MethodName)) ∈ lw_tbl := lw_at lw_m4 159 rfl
theorem q948 : (Jvm.Cond.instanceMethod ({ cls := "SortedPost", name := "copyAt", desc := "(III)LSortedPost$Copy;" } : Jvm.MethodName)) ∈ lw_all := lw_g (lw_at lw_m4 160 rfl) rfl
theorem q949 : (Jvm.Cond.code ({ cls := "SortedPost", name := "copyAt", desc := "(III)LSortedPost$Copy;" } : Jvm.MethodName) prog_1_method_33_code (5 : Nat) (Option.some (Jvm.ClassFile.FieldType.object "SortedPost$Copy"))) ∈ lw_all := lw_g (lw_at lw_m4 161 rfl) rfl
theorem q951 : (Jvm.Cond.instanceMethod ({ cls := "SortedPost", name := "move", desc := "(IIII)I" } : Jvm.MethodName)) ∈ lw_all := lw_g (lw_at lw_m4 163 rfl) rfl
theorem q952 : (Jvm.Cond.selects "SortedPost" ({ cls := "SortedPost", name := "move", desc := "(IIII)I" } : Jvm.MethodName) ({ cls := "SortedPost", name := "move", desc := "(IIII)I" } : Jvm.MethodName)) ∈ lw_all := lw_g (lw_at lw_m4 164 rfl) rfl
theorem q953 : (Jvm.Cond.code ({ cls := "SortedPost", name := "move", desc := "(IIII)I" } : Jvm.MethodName) prog_1_method_35_code (7 : Nat) (Option.some Jvm.ClassFile.FieldType.int)) ∈ lw_all := lw_g (lw_at lw_m4 165 rfl) rfl
theorem q954 : (Jvm.Cond.interfaceEntry "SortedPost" (396 : Nat)) ∈ lw_tbl := lw_at lw_m4 166 rfl
theorem q955 : (Jvm.Cond.methodLink "SortedPost" (396 : Nat) ({ cls := "java/util/List", name := "remove", desc := "(I)Ljava/lang/Object;" } : Jvm.MethodName)) ∈ lw_all := lw_g (lw_at lw_m4 167 rfl) rfl
theorem q969 : (Jvm.Cond.instanceMethod ({ cls := "SortedPost", name := "clear", desc := "(II)I" } : Jvm.MethodName)) ∈ lw_all := lw_g (lw_at lw_m4 181 rfl) rfl
theorem q970 : (Jvm.Cond.selects "SortedPost" ({ cls := "SortedPost", name := "clear", desc := "(II)I" } : Jvm.MethodName) ({ cls := "SortedPost", name := "clear", desc := "(II)I" } : Jvm.MethodName)) ∈ lw_all := lw_g (lw_at lw_m4 182 rfl) rfl
theorem q971 : (Jvm.Cond.code ({ cls := "SortedPost", name := "clear", desc := "(II)I" } : Jvm.MethodName) prog_1_method_36_code (4 : Nat) (Option.some Jvm.ClassFile.FieldType.int)) ∈ lw_all := lw_g (lw_at lw_m4 183 rfl) rfl
theorem q972 : (Jvm.Cond.interfaceEntry "SortedPost" (399 : Nat)) ∈ lw_tbl := lw_at lw_m4 184 rfl
theorem q973 : (Jvm.Cond.methodLink "SortedPost" (399 : Nat) ({ cls := "java/util/List", name := "clear", desc := "()V" } : Jvm.MethodName)) ∈ lw_all := lw_g (lw_at lw_m4 185 rfl) rfl
theorem q982 : (Jvm.Cond.instanceMethod ({ cls := "SortedPost", name := "count", desc := "(I)I" } : Jvm.MethodName)) ∈ lw_all := lw_g (lw_at lw_m4 194 rfl) rfl
theorem q983 : (Jvm.Cond.selects "SortedPost" ({ cls := "SortedPost", name := "count", desc := "(I)I" } : Jvm.MethodName) ({ cls := "SortedPost", name := "count", desc := "(I)I" } : Jvm.MethodName)) ∈ lw_all := lw_g (lw_at lw_m4 195 rfl) rfl
theorem q984 : (Jvm.Cond.code ({ cls := "SortedPost", name := "count", desc := "(I)I" } : Jvm.MethodName) prog_1_method_37_code (2 : Nat) (Option.some Jvm.ClassFile.FieldType.int)) ∈ lw_all := lw_g (lw_at lw_m4 196 rfl) rfl
theorem q986 : (Jvm.Cond.instanceMethod ({ cls := "SortedPost", name := "thread", desc := "(I)I" } : Jvm.MethodName)) ∈ lw_all := lw_g (lw_at lw_m4 198 rfl) rfl
theorem q987 : (Jvm.Cond.selects "SortedPost" ({ cls := "SortedPost", name := "thread", desc := "(I)I" } : Jvm.MethodName) ({ cls := "SortedPost", name := "thread", desc := "(I)I" } : Jvm.MethodName)) ∈ lw_all := lw_g (lw_at lw_m4 199 rfl) rfl
theorem q988 : (Jvm.Cond.code ({ cls := "SortedPost", name := "thread", desc := "(I)I" } : Jvm.MethodName) prog_1_method_39_code (5 : Nat) (Option.some Jvm.ClassFile.FieldType.int)) ∈ lw_all := lw_g (lw_at lw_m4 200 rfl) rfl
theorem q989 : (Jvm.Cond.methodLink "SortedPost" (405 : Nat) ({ cls := "SortedPost", name := "rootOf", desc := "(I)I" } : Jvm.MethodName)) ∈ lw_all := lw_g (lw_at lw_m4 201 rfl) rfl
theorem q990 : (Jvm.Cond.privateMethod ({ cls := "SortedPost", name := "rootOf", desc := "(I)I" } : Jvm.MethodName)) ∈ lw_tbl := lw_at lw_m4 202 rfl
theorem q991 : (Jvm.Cond.instanceMethod ({ cls := "SortedPost", name := "rootOf", desc := "(I)I" } : Jvm.MethodName)) ∈ lw_all := lw_g (lw_at lw_m4 203 rfl) rfl
theorem q992 : (Jvm.Cond.code ({ cls := "SortedPost", name := "rootOf", desc := "(I)I" } : Jvm.MethodName) prog_1_method_38_code (6 : Nat) (Option.some Jvm.ClassFile.FieldType.int)) ∈ lw_all := lw_g (lw_at lw_m4 204 rfl) rfl
theorem q994 : (Jvm.Cond.instanceMethod ({ cls := "SortedPost", name := "learn", desc := "(IIIZ)I" } : Jvm.MethodName)) ∈ lw_all := lw_g (lw_at lw_m4 206 rfl) rfl
theorem q995 : (Jvm.Cond.selects "SortedPost" ({ cls := "SortedPost", name := "learn", desc := "(IIIZ)I" } : Jvm.MethodName) ({ cls := "SortedPost", name := "learn", desc := "(IIIZ)I" } : Jvm.MethodName)) ∈ lw_all := lw_g (lw_at lw_m4 207 rfl) rfl
theorem q996 : (Jvm.Cond.code ({ cls := "SortedPost", name := "learn", desc := "(IIIZ)I" } : Jvm.MethodName) prog_1_method_42_code (7 : Nat) (Option.some Jvm.ClassFile.FieldType.int)) ∈ lw_all := lw_g (lw_at lw_m4 208 rfl) rfl
theorem q997 : (Jvm.Cond.methodLink "SortedPost" (413 : Nat) ({ cls := "SortedPost", name := "tally", desc := "(LSortedPost$Letter;II)I" } : Jvm.MethodName)) ∈ lw_all := lw_g (lw_at lw_m4 209 rfl) rfl
theorem q998 : (Jvm.Cond.privateMethod ({ cls := "SortedPost", name := "tally", desc := "(LSortedPost$Letter;II)I" } : Jvm.MethodName)) ∈ lw_tbl := lw_at lw_m4 210 rfl
theorem q999 : (Jvm.Cond.instanceMethod ({ cls := "SortedPost", name := "tally", desc := "(LSortedPost$Letter;II)I" } : Jvm.MethodName)) ∈ lw_all := lw_g (lw_at lw_m4 211 rfl) rfl
theorem q1000 : (Jvm.Cond.code ({ cls := "SortedPost", name := "tally", desc := "(LSortedPost$Letter;II)I" } : Jvm.MethodName) prog_1_method_41_code (5 : Nat) (Option.some Jvm.ClassFile.FieldType.int)) ∈ lw_all := lw_g (lw_at lw_m4 212 rfl) rfl
theorem q1002 : (Jvm.Cond.instanceMethod ({ cls := "SortedPost", name := "unlearn", desc := "(III)I" } : Jvm.MethodName)) ∈ lw_all := lw_g (lw_at lw_m4 214 rfl) rfl
theorem q1003 : (Jvm.Cond.selects "SortedPost" ({ cls := "SortedPost", name := "unlearn", desc := "(III)I" } : Jvm.MethodName) ({ cls := "SortedPost", name := "unlearn", desc := "(III)I" } : Jvm.MethodName)) ∈ lw_all := lw_g (lw_at lw_m4 215 rfl) rfl
theorem q1004 : (Jvm.Cond.code ({ cls := "SortedPost", name := "unlearn", desc := "(III)I" } : Jvm.MethodName) prog_1_method_43_code (6 : Nat) (Option.some Jvm.ClassFile.FieldType.int)) ∈ lw_all := lw_g (lw_at lw_m4 216 rfl) rfl
theorem q1006 : (Jvm.Cond.instanceMethod ({ cls := "SortedPost", name := "known", desc := "(IZ)I" } : Jvm.MethodName)) ∈ lw_all := lw_g (lw_at lw_m4 218 rfl) rfl
theorem q1007 : (Jvm.Cond.selects "SortedPost" ({ cls := "SortedPost", name := "known", desc := "(IZ)I" } : Jvm.MethodName) ({ cls := "SortedPost", name := "known", desc := "(IZ)I" } : Jvm.MethodName)) ∈ lw_all := lw_g (lw_at lw_m4 219 rfl) rfl
theorem q1008 : (Jvm.Cond.code ({ cls := "SortedPost", name := "known", desc := "(IZ)I" } : Jvm.MethodName) prog_1_method_44_code (3 : Nat) (Option.some Jvm.ClassFile.FieldType.int)) ∈ lw_all := lw_g (lw_at lw_m4 220 rfl) rfl
theorem q1010 : (Jvm.Cond.instanceMethod ({ cls := "SortedPost", name := "atoms", desc := "(I)I" } : Jvm.MethodName)) ∈ lw_all := lw_g (lw_at lw_m4 222 rfl) rfl
theorem q1011 : (Jvm.Cond.selects "SortedPost" ({ cls := "SortedPost", name := "atoms", desc := "(I)I" } : Jvm.MethodName) ({ cls := "SortedPost", name := "atoms", desc := "(I)I" } : Jvm.MethodName)) ∈ lw_all := lw_g (lw_at lw_m4 223 rfl) rfl
theorem q1012 : (Jvm.Cond.code ({ cls := "SortedPost", name := "atoms", desc := "(I)I" } : Jvm.MethodName) prog_1_method_47_code (2 : Nat) (Option.some Jvm.ClassFile.FieldType.int)) ∈ lw_all := lw_g (lw_at lw_m4 224 rfl) rfl
theorem q1014 : (Jvm.Cond.instanceMethod ({ cls := "SortedPost", name := "shown", desc := "(II)I" } : Jvm.MethodName)) ∈ lw_all := lw_g (lw_at lw_m4 226 rfl) rfl
theorem q1015 : (Jvm.Cond.selects "SortedPost" ({ cls := "SortedPost", name := "shown", desc := "(II)I" } : Jvm.MethodName) ({ cls := "SortedPost", name := "shown", desc := "(II)I" } : Jvm.MethodName)) ∈ lw_all := lw_g (lw_at lw_m4 227 rfl) rfl
theorem q1016 : (Jvm.Cond.code ({ cls := "SortedPost", name := "shown", desc := "(II)I" } : Jvm.MethodName) prog_1_method_49_code (3 : Nat) (Option.some Jvm.ClassFile.FieldType.int)) ∈ lw_all := lw_g (lw_at lw_m4 228 rfl) rfl
theorem q1017 : (Jvm.Cond.methodLink "SortedPost" (430 : Nat) ({ cls := "SortedPost", name := "isRule", desc := "(II)Z" } : Jvm.MethodName)) ∈ lw_all := lw_g (lw_at lw_m4 229 rfl) rfl
theorem q1018 : (Jvm.Cond.privateMethod ({ cls := "SortedPost", name := "isRule", desc := "(II)Z" } : Jvm.MethodName)) ∈ lw_tbl := lw_at lw_m4 230 rfl
theorem q1019 : (Jvm.Cond.instanceMethod ({ cls := "SortedPost", name := "isRule", desc := "(II)Z" } : Jvm.MethodName)) ∈ lw_all := lw_g (lw_at lw_m4 231 rfl) rfl
theorem q1020 : (Jvm.Cond.code ({ cls := "SortedPost", name := "isRule", desc := "(II)Z" } : Jvm.MethodName) prog_1_method_48_code (3 : Nat) (Option.some Jvm.ClassFile.FieldType.boolean)) ∈ lw_all := lw_g (lw_at lw_m4 232 rfl) rfl
theorem q1021 : (Jvm.Cond.methodLink "SortedPost" (434 : Nat) ({ cls := "SortedPost", name := "leastFor", desc := "(LSortedPost$Rules;I)I" } : Jvm.MethodName)) ∈ lw_all := lw_g (lw_at lw_m4 233 rfl) rfl
theorem q1022 : (Jvm.Cond.privateMethod ({ cls := "SortedPost", name := "leastFor", desc := "(LSortedPost$Rules;I)I" } : Jvm.MethodName)) ∈ lw_tbl := lw_at lw_m4 234 rfl
theorem q1023 : (Jvm.Cond.instanceMethod ({ cls := "SortedPost", name := "leastFor", desc := "(LSortedPost$Rules;I)I" } : Jvm.MethodName)) ∈ lw_all := lw_g (lw_at lw_m4 235 rfl) rfl
theorem q1024 : (Jvm.Cond.code ({ cls := "SortedPost", name := "leastFor", desc := "(LSortedPost$Rules;I)I" } : Jvm.MethodName) prog_1_method_46_code (5 : Nat) (Option.some Jvm.ClassFile.FieldType.int)) ∈ lw_all := lw_g (lw_at lw_m4 236 rfl) rfl
theorem q1025 : (Jvm.Cond.methodLink "SortedPost" (422 : Nat) ({ cls := "SortedPost$Case", name := "canBe", desc := "(Ljava/util/List;)Z" } : Jvm.MethodName)) ∈ lw_all := lw_g (lw_at lw_m4 237 rfl) rfl
theorem q1035 : (Jvm.Cond.methodLink "SortedPost" (426 : Nat) ({ cls := "SortedPost", name := "acting", desc := "(LSortedPost$Rules;)I" } : Jvm.MethodName)) ∈ lw_all := lw_g (lw_at lw_m5 7 rfl) rfl
theorem q1036 : (Jvm.Cond.privateMethod ({ cls := "SortedPost", name := "acting", desc := "(LSortedPost$Rules;)I" } : Jvm.MethodName)) ∈ lw_tbl := lw_at lw_m5 8 rfl
theorem q1037 : (Jvm.Cond.instanceMethod ({ cls := "SortedPost", name := "acting", desc := "(LSortedPost$Rules;)I" } : Jvm.MethodName)) ∈ lw_all := lw_g (lw_at lw_m5 9 rfl) rfl
theorem q1038 : (Jvm.Cond.code ({ cls := "SortedPost", name := "acting", desc := "(LSortedPost$Rules;)I" } : Jvm.MethodName) prog_1_method_45_code (6 : Nat) (Option.some Jvm.ClassFile.FieldType.int)) ∈ lw_all := lw_g (lw_at lw_m5 10 rfl) rfl
theorem q1039 : (Jvm.Cond.methodLink "SortedPost" (417 : Nat) ({ cls := "SortedPost$Rule", name := "stops", desc := "()Z" } : Jvm.MethodName)) ∈ lw_all := lw_g (lw_at lw_m5 11 rfl) rfl
theorem q1044 : (Jvm.Cond.instanceMethod ({ cls := "SortedPost", name := "bare", desc := "(I)I" } : Jvm.MethodName)) ∈ lw_all := lw_g (lw_at lw_m5 16 rfl) rfl
theorem q1045 : (Jvm.Cond.selects "SortedPost" ({ cls := "SortedPost", name := "bare", desc := "(I)I" } : Jvm.MethodName) ({ cls := "SortedPost", name := "bare", desc := "(I)I" } : Jvm.MethodName)) ∈ lw_all := lw_g (lw_at lw_m5 17 rfl) rfl
theorem q1046 : (Jvm.Cond.code ({ cls := "SortedPost", name := "bare", desc := "(I)I" } : Jvm.MethodName) prog_1_method_50_code (2 : Nat) (Option.some Jvm.ClassFile.FieldType.int)) ∈ lw_all := lw_g (lw_at lw_m5 18 rfl) rfl
theorem q1048 : (Jvm.Cond.instanceMethod ({ cls := "SortedPost", name := "quarrel", desc := "(III)I" } : Jvm.MethodName)) ∈ lw_all := lw_g (lw_at lw_m5 20 rfl) rfl
theorem q1049 : (Jvm.Cond.selects "SortedPost" ({ cls := "SortedPost", name := "quarrel", desc := "(III)I" } : Jvm.MethodName) ({ cls := "SortedPost", name := "quarrel", desc := "(III)I" } : Jvm.MethodName)) ∈ lw_all := lw_g (lw_at lw_m5 21 rfl) rfl
theorem q1050 : (Jvm.Cond.code ({ cls := "SortedPost", name := "quarrel", desc := "(III)I" } : Jvm.MethodName) prog_1_method_51_code (7 : Nat) (Option.some Jvm.ClassFile.FieldType.int)) ∈ lw_all := lw_g (lw_at lw_m5 22 rfl) rfl
theorem q1051 : (Jvm.Cond.methodLink "SortedPost" (438 : Nat) ({ cls := "SortedPost$Rule", name := "files", desc := "()I" } : Jvm.MethodName)) ∈ lw_all := lw_g (lw_at lw_m5 23 rfl) rfl
theorem q1056 : (Jvm.Cond.instanceMethod ({ cls := "SortedPost", name := "sheet", desc := "(III)I" } : Jvm.MethodName)) ∈ lw_all := lw_g (lw_at lw_m5 28 rfl) rfl
theorem q1057 : (Jvm.Cond.selects "SortedPost" ({ cls := "SortedPost", name := "sheet", desc := "(III)I" } : Jvm.MethodName) ({ cls := "SortedPost", name := "sheet", desc := "(III)I" } : Jvm.MethodName)) ∈ lw_all := lw_g (lw_at lw_m5 29 rfl) rfl
theorem q1058 : (Jvm.Cond.codeWith ({ cls := "SortedPost", name := "sheet", desc := "(III)I" } : Jvm.MethodName) prog_1_method_54_code (5 : Nat) (Option.some Jvm.ClassFile.FieldType.int) [((22 : Nat), (44 : Nat), (47 : Nat), (441 : Nat))]) ∈ lw_all := lw_g (lw_at lw_m5 30 rfl) rfl
theorem q1059 : (Jvm.Cond.classLink "SortedPost" (441 : Nat) "java/lang/NegativeArraySizeException") ∈ lw_all := lw_g (lw_at lw_m5 31 rfl) rfl
theorem q1090 : (Jvm.Cond.instanceMethod ({ cls := "SortedPost", name := "drop", desc := "(I)I" } : Jvm.MethodName)) ∈ lw_all := lw_g (lw_at lw_m5 62 rfl) rfl
theorem q1091 : (Jvm.Cond.selects "SortedPost" ({ cls := "SortedPost", name := "drop", desc := "(I)I" } : Jvm.MethodName) ({ cls := "SortedPost", name := "drop", desc := "(I)I" } : Jvm.MethodName)) ∈ lw_all := lw_g (lw_at lw_m5 63 rfl) rfl
theorem q1092 : (Jvm.Cond.code ({ cls := "SortedPost", name := "drop", desc := "(I)I" } : Jvm.MethodName) prog_1_method_55_code (3 : Nat) (Option.some Jvm.ClassFile.FieldType.int)) ∈ lw_all := lw_g (lw_at lw_m5 64 rfl) rfl
theorem q1094 : (Jvm.Cond.instanceMethod ({ cls := "SortedPost", name := "item", desc := "(IIII)I" } : Jvm.MethodName)) ∈ lw_all := lw_g (lw_at lw_m5 66 rfl) rfl
theorem q1095 : (Jvm.Cond.selects "SortedPost" ({ cls := "SortedPost", name := "item", desc := "(IIII)I" } : Jvm.MethodName) ({ cls := "SortedPost", name := "item", desc := "(IIII)I" } : Jvm.MethodName)) ∈ lw_all := lw_g (lw_at lw_m5 67 rfl) rfl
theorem q1096 : (Jvm.Cond.codeWith ({ cls := "SortedPost", name := "item", desc := "(IIII)I" } : Jvm.MethodName) prog_1_method_56_code (6 : Nat) (Option.some Jvm.ClassFile.FieldType.int) [((16 : Nat), (56 : Nat), (59 : Nat), (446 : Nat)), ((16 : Nat), (56 : Nat), (64 : Nat), (448 : Nat)), ((16 : Nat), (56 : Nat), (69 : Nat), (450 : Nat))]) ∈ lw_all := lw_g (lw_at lw_m5 68 rfl) rfl
theorem q1097 : (Jvm.Cond.classLink "SortedPost" (446 : Nat) "java/lang/NullPointerException") ∈ lw_all := lw_g (lw_at lw_m5 69 rfl) rfl
theorem q1122 : (Jvm.Cond.classLink "SortedPost" (448 : Nat) "java/lang/ClassCastException") ∈ lw_all := lw_g (lw_at lw_m5 94 rfl) rfl
theorem q1136 : (Jvm.Cond.classLink "SortedPost" (450 : Nat) "java/lang/ArrayIndexOutOfBoundsException") ∈ lw_all := lw_g (lw_at lw_m5 108 rfl) rfl
theorem q1155 : (Jvm.Cond.classLink "SortedPost" (443 : Nat) "[S") ∈ lw_all := lw_g (lw_at lw_m5 127 rfl) rfl
theorem q1156 : (Jvm.Cond.classLink "SortedPost" (445 : Nat) "[I") ∈ lw_all := lw_g (lw_at lw_m5 128 rfl) rfl
theorem q1616 : (Jvm.Cond.castable "SortedPost" "java/lang/Object") ∈ lw_tbl := lw_at lw_m7 108 rfl
theorem in_X0 : ∀ w ∈ wsX00, w ∈ lw_all := lw_in wsX00 [652, 654, 656, 658, 660, 662, 664, 666, 668, 670, 672, 674, 676, 678, 680, 682, 684, 686, 688, 690, 692, 694] (by decide +kernel) (by decide +kernel)
