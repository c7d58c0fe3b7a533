/-! SpillslotWorksModel$Plan -/
set_option maxRecDepth 100000
def RX19 : String := "SpillslotWorksModel$Plan"
def TX19 : u_T := fun k => match k with
  | 0 => ("SpillslotWorksModel$Plan", "program", "LSpillslotWorksModel$Program;", true)
  | 1 => ("SpillslotWorksModel$Plan", "machine", "LSpillslotWorksModel$Machine;", true)
  | 2 => ("SpillslotWorksModel$Plan", "ops", "Ljava/util/ArrayList;", true)
  | 3 => ("SpillslotWorksModel$Plan", "lives", "[LSpillslotWorksModel$Life;", true)
  | 4 => ("SpillslotWorksModel$Plan", "order", "Ljava/util/ArrayList;", true)
  | 5 => ("SpillslotWorksModel$Plan", "calls", "Ljava/util/ArrayList;", true)
  | 6 => ("SpillslotWorksModel$Plan", "slots", "I", false)
  | 7 => ("SpillslotWorksModel$Plan", "code", "Ljava/util/ArrayList;", true)
  | 8 => ("SpillslotWorksModel$Plan", "ran", "I", false)
  | 9 => ("SpillslotWorksModel$Plan", "cycles", "I", false)
  | 10 => ("SpillslotWorksModel$Plan", "stalls", "I", false)
  | 11 => ("SpillslotWorksModel$Plan", "registers", "[I", false)
  | 12 => ("SpillslotWorksModel$Plan", "memory", "[I", false)
  | _ => ("SpillslotWorksModel$Plan", "begins", "[I", false)
def tyX19 : Nat → FieldType := fun k => match k with
  | 0 => .object "SpillslotWorksModel$Program"
  | 1 => .object "SpillslotWorksModel$Machine"
  | 2 => .object "java/util/ArrayList"
  | 3 => .array (.object "SpillslotWorksModel$Life")
  | 4 => .object "java/util/ArrayList"
  | 5 => .object "java/util/ArrayList"
  | 6 => .int
  | 7 => .object "java/util/ArrayList"
  | 8 => .int
  | 9 => .int
  | 10 => .int
  | 11 => .array .int
  | 12 => .array .int
  | _ => .array .int
abbrev wsX190 : List Cond := u_ws RX19 TX19 14
set_option maxRecDepth 100000 in
theorem nmX19 : ∀ a, a < 14 → ∀ b, b < 14 → a ≠ b → (TX19 a).2.1 ≠ (TX19 b).2.1 := by decide +kernel
set_option maxRecDepth 100000 in
theorem tyX19_ok : ∀ k, k < 14 → parseFieldDescriptor (TX19 k).2.2.1 = some (tyX19 k) := by decide +kernel
abbrev cX19_init : ByteArray := prog_23_method_1_code
def yX19_init : MethodName := ⟨RX19, "<init>", "(LSpillslotWorksModel$Program;LSpillslotWorksModel$Machine;Z)V"⟩
def dkwX19_init_11 : List UInt8 := [183, 0, 103, 182, 0, 106, 177]
abbrev dktX19_init_11 : List UInt8 := dkwX19_init_11 ++ []
def dkwX19_init_10 : List UInt8 := [187, 0, 93, 89, 42, 21, 5, 183, 0, 95, 182, 0, 98, 132, 5, 1, 167, 255, 228, 187, 0, 101, 89, 42]
abbrev dktX19_init_10 : List UInt8 := dkwX19_init_10 ++ dktX19_init_11
def dkwX19_init_9 : List UInt8 := [25, 6, 182, 0, 85, 167, 255, 220, 3, 54, 5, 21, 5, 42, 180, 0, 40, 182, 0, 89, 162, 0, 22]
abbrev dktX19_init_9 : List UInt8 := dkwX19_init_9 ++ dktX19_init_10
def dkwX19_init_8 : List UInt8 := [153, 0, 32, 25, 5, 185, 0, 51, 1, 0, 192, 0, 67, 58, 6, 25, 6, 182, 0, 82, 153, 0, 9, 42]
abbrev dktX19_init_8 : List UInt8 := dkwX19_init_8 ++ dktX19_init_9
def dkwX19_init_7 : List UInt8 := [182, 0, 76, 42, 182, 0, 79, 42, 180, 0, 12, 182, 0, 41, 58, 5, 25, 5, 185, 0, 45, 1, 0]
abbrev dktX19_init_7 : List UInt8 := dkwX19_init_7 ++ dktX19_init_8
def dkwX19_init_6 : List UInt8 := [180, 0, 69, 21, 5, 187, 0, 67, 89, 21, 5, 183, 0, 73, 83, 132, 5, 1, 167, 255, 230, 42]
abbrev dktX19_init_6 : List UInt8 := dkwX19_init_6 ++ dktX19_init_7
def dkwX19_init_5 : List UInt8 := [167, 255, 220, 42, 21, 4, 189, 0, 67, 181, 0, 69, 3, 54, 5, 21, 5, 21, 4, 162, 0, 25, 42]
abbrev dktX19_init_5 : List UInt8 := dkwX19_init_5 ++ dktX19_init_6
def dkwX19_init_4 : List UInt8 := [185, 0, 51, 1, 0, 192, 0, 55, 58, 6, 21, 4, 25, 6, 180, 0, 57, 4, 96, 184, 0, 61, 54, 4]
abbrev dktX19_init_4 : List UInt8 := dkwX19_init_4 ++ dktX19_init_5
def dkwX19_init_3 : List UInt8 := [180, 0, 40, 182, 0, 41, 58, 5, 25, 5, 185, 0, 45, 1, 0, 153, 0, 32, 25, 5]
abbrev dktX19_init_3 : List UInt8 := dkwX19_init_3 ++ dktX19_init_4
def dkwX19_init_2 : List UInt8 := [42, 187, 0, 32, 89, 43, 44, 29, 183, 0, 34, 180, 0, 37, 181, 0, 40, 16, 8, 54, 4, 42]
abbrev dktX19_init_2 : List UInt8 := dkwX19_init_2 ++ dktX19_init_3
def dkwX19_init_1 : List UInt8 := [181, 0, 18, 42, 187, 0, 9, 89, 183, 0, 11, 181, 0, 21, 42, 43, 181, 0, 24, 42, 44, 181, 0, 28]
abbrev dktX19_init_1 : List UInt8 := dkwX19_init_1 ++ dktX19_init_2
def dkwX19_init_0 : List UInt8 := [42, 183, 0, 3, 42, 187, 0, 9, 89, 183, 0, 11, 181, 0, 12, 42, 187, 0, 9, 89, 183, 0, 11]
abbrev dktX19_init_0 : List UInt8 := dkwX19_init_0 ++ dktX19_init_1
theorem dksX19_init_0 : cX19_init.data.toList.drop 0 = dktX19_init_0 := by decide +kernel
theorem dksX19_init_1 : cX19_init.data.toList.drop 23 = dktX19_init_1 := dk_seg dksX19_init_0 23 rfl rfl
theorem dksX19_init_2 : cX19_init.data.toList.drop 47 = dktX19_init_2 := dk_seg dksX19_init_1 24 rfl rfl
theorem dksX19_init_3 : cX19_init.data.toList.drop 69 = dktX19_init_3 := dk_seg dksX19_init_2 22 rfl rfl
theorem dksX19_init_4 : cX19_init.data.toList.drop 89 = dktX19_init_4 := dk_seg dksX19_init_3 20 rfl rfl
theorem dksX19_init_5 : cX19_init.data.toList.drop 113 = dktX19_init_5 := dk_seg dksX19_init_4 24 rfl rfl
theorem dksX19_init_6 : cX19_init.data.toList.drop 136 = dktX19_init_6 := dk_seg dksX19_init_5 23 rfl rfl
theorem dksX19_init_7 : cX19_init.data.toList.drop 158 = dktX19_init_7 := dk_seg dksX19_init_6 22 rfl rfl
theorem dksX19_init_8 : cX19_init.data.toList.drop 181 = dktX19_init_8 := dk_seg dksX19_init_7 23 rfl rfl
theorem dksX19_init_9 : cX19_init.data.toList.drop 205 = dktX19_init_9 := dk_seg dksX19_init_8 24 rfl rfl
theorem dksX19_init_10 : cX19_init.data.toList.drop 228 = dktX19_init_10 := dk_seg dksX19_init_9 23 rfl rfl
theorem dksX19_init_11 : cX19_init.data.toList.drop 252 = dktX19_init_11 := dk_seg dksX19_init_10 24 rfl rfl
theorem dX19_init_0 : decode cX19_init 0 = .ok (.aload_n 0, 1) := dk_42 (dk_at dksX19_init_0 0 rfl rfl)
theorem dX19_init_1 : decode cX19_init 1 = .ok (.invokespecial 3, 3) := dk_183 0 3 (dk_at dksX19_init_0 1 rfl rfl)
theorem dX19_init_4 : decode cX19_init 4 = .ok (.aload_n 0, 1) := dk_42 (dk_at dksX19_init_0 4 rfl rfl)
theorem dX19_init_5 : decode cX19_init 5 = .ok (.new 9, 3) := dk_187 0 9 (dk_at dksX19_init_0 5 rfl rfl)
theorem dX19_init_8 : decode cX19_init 8 = .ok (.dup, 1) := dk_89 (dk_at dksX19_init_0 8 rfl rfl)
theorem dX19_init_9 : decode cX19_init 9 = .ok (.invokespecial 11, 3) := dk_183 0 11 (dk_at dksX19_init_0 9 rfl rfl)
theorem dX19_init_12 : decode cX19_init 12 = .ok (.putfield 12, 3) := dk_181 0 12 (dk_at dksX19_init_0 12 rfl rfl)
theorem dX19_init_15 : decode cX19_init 15 = .ok (.aload_n 0, 1) := dk_42 (dk_at dksX19_init_0 15 rfl rfl)
theorem dX19_init_16 : decode cX19_init 16 = .ok (.new 9, 3) := dk_187 0 9 (dk_at dksX19_init_0 16 rfl rfl)
theorem dX19_init_19 : decode cX19_init 19 = .ok (.dup, 1) := dk_89 (dk_at dksX19_init_0 19 rfl rfl)
theorem dX19_init_20 : decode cX19_init 20 = .ok (.invokespecial 11, 3) := dk_183 0 11 (dk_at dksX19_init_0 20 rfl rfl)
theorem dX19_init_23 : decode cX19_init 23 = .ok (.putfield 18, 3) := dk_181 0 18 (dk_at dksX19_init_1 0 rfl rfl)
theorem dX19_init_26 : decode cX19_init 26 = .ok (.aload_n 0, 1) := dk_42 (dk_at dksX19_init_1 3 rfl rfl)
theorem dX19_init_27 : decode cX19_init 27 = .ok (.new 9, 3) := dk_187 0 9 (dk_at dksX19_init_1 4 rfl rfl)
theorem dX19_init_30 : decode cX19_init 30 = .ok (.dup, 1) := dk_89 (dk_at dksX19_init_1 7 rfl rfl)
theorem dX19_init_31 : decode cX19_init 31 = .ok (.invokespecial 11, 3) := dk_183 0 11 (dk_at dksX19_init_1 8 rfl rfl)
theorem dX19_init_34 : decode cX19_init 34 = .ok (.putfield 21, 3) := dk_181 0 21 (dk_at dksX19_init_1 11 rfl rfl)
theorem dX19_init_37 : decode cX19_init 37 = .ok (.aload_n 0, 1) := dk_42 (dk_at dksX19_init_1 14 rfl rfl)
theorem dX19_init_38 : decode cX19_init 38 = .ok (.aload_n 1, 1) := dk_43 (dk_at dksX19_init_1 15 rfl rfl)
theorem dX19_init_39 : decode cX19_init 39 = .ok (.putfield 24, 3) := dk_181 0 24 (dk_at dksX19_init_1 16 rfl rfl)
theorem dX19_init_42 : decode cX19_init 42 = .ok (.aload_n 0, 1) := dk_42 (dk_at dksX19_init_1 19 rfl rfl)
theorem dX19_init_43 : decode cX19_init 43 = .ok (.aload_n 2, 1) := dk_44 (dk_at dksX19_init_1 20 rfl rfl)
theorem dX19_init_44 : decode cX19_init 44 = .ok (.putfield 28, 3) := dk_181 0 28 (dk_at dksX19_init_1 21 rfl rfl)
theorem dX19_init_47 : decode cX19_init 47 = .ok (.aload_n 0, 1) := dk_42 (dk_at dksX19_init_2 0 rfl rfl)
theorem dX19_init_48 : decode cX19_init 48 = .ok (.new 32, 3) := dk_187 0 32 (dk_at dksX19_init_2 1 rfl rfl)
theorem dX19_init_51 : decode cX19_init 51 = .ok (.dup, 1) := dk_89 (dk_at dksX19_init_2 4 rfl rfl)
theorem dX19_init_52 : decode cX19_init 52 = .ok (.aload_n 1, 1) := dk_43 (dk_at dksX19_init_2 5 rfl rfl)
theorem dX19_init_53 : decode cX19_init 53 = .ok (.aload_n 2, 1) := dk_44 (dk_at dksX19_init_2 6 rfl rfl)
theorem dX19_init_54 : decode cX19_init 54 = .ok (.iload_n 3, 1) := dk_29 (dk_at dksX19_init_2 7 rfl rfl)
theorem dX19_init_55 : decode cX19_init 55 = .ok (.invokespecial 34, 3) := dk_183 0 34 (dk_at dksX19_init_2 8 rfl rfl)
theorem dX19_init_58 : decode cX19_init 58 = .ok (.getfield 37, 3) := dk_180 0 37 (dk_at dksX19_init_2 11 rfl rfl)
theorem dX19_init_61 : decode cX19_init 61 = .ok (.putfield 40, 3) := dk_181 0 40 (dk_at dksX19_init_2 14 rfl rfl)
theorem dX19_init_64 : decode cX19_init 64 = .ok (.bipush 8, 2) := dk_16 8 (dk_at dksX19_init_2 17 rfl rfl)
theorem dX19_init_66 : decode cX19_init 66 = .ok (.istore 4, 2) := dk_54 4 (dk_at dksX19_init_2 19 rfl rfl)
theorem dX19_init_68 : decode cX19_init 68 = .ok (.aload_n 0, 1) := dk_42 (dk_at dksX19_init_2 21 rfl rfl)
theorem dX19_init_69 : decode cX19_init 69 = .ok (.getfield 40, 3) := dk_180 0 40 (dk_at dksX19_init_3 0 rfl rfl)
theorem dX19_init_72 : decode cX19_init 72 = .ok (.invokevirtual 41, 3) := dk_182 0 41 (dk_at dksX19_init_3 3 rfl rfl)
theorem dX19_init_75 : decode cX19_init 75 = .ok (.astore 5, 2) := dk_58 5 (dk_at dksX19_init_3 6 rfl rfl)
theorem dX19_init_77 : decode cX19_init 77 = .ok (.aload 5, 2) := dk_25 5 (dk_at dksX19_init_3 8 rfl rfl)
theorem dX19_init_79 : decode cX19_init 79 = .ok (.invokeinterface 45 1, 5) := by decide +kernel
theorem dX19_init_84 : decode cX19_init 84 = .ok (.ifCond .eq 32, 3) := dk_153 0 32 (dk_at dksX19_init_3 15 rfl rfl)
theorem dX19_init_87 : decode cX19_init 87 = .ok (.aload 5, 2) := dk_25 5 (dk_at dksX19_init_3 18 rfl rfl)
theorem dX19_init_89 : decode cX19_init 89 = .ok (.invokeinterface 51 1, 5) := by decide +kernel
theorem dX19_init_94 : decode cX19_init 94 = .ok (.checkcast 55, 3) := dk_192 0 55 (dk_at dksX19_init_4 5 rfl rfl)
theorem dX19_init_97 : decode cX19_init 97 = .ok (.astore 6, 2) := dk_58 6 (dk_at dksX19_init_4 8 rfl rfl)
theorem dX19_init_99 : decode cX19_init 99 = .ok (.iload 4, 2) := dk_21 4 (dk_at dksX19_init_4 10 rfl rfl)
theorem dX19_init_101 : decode cX19_init 101 = .ok (.aload 6, 2) := dk_25 6 (dk_at dksX19_init_4 12 rfl rfl)
theorem dX19_init_103 : decode cX19_init 103 = .ok (.getfield 57, 3) := dk_180 0 57 (dk_at dksX19_init_4 14 rfl rfl)
theorem dX19_init_106 : decode cX19_init 106 = .ok (.iconst 1, 1) := dk_4 (dk_at dksX19_init_4 17 rfl rfl)
theorem dX19_init_107 : decode cX19_init 107 = .ok (.iadd, 1) := dk_96 (dk_at dksX19_init_4 18 rfl rfl)
theorem dX19_init_108 : decode cX19_init 108 = .ok (.invokestatic 61, 3) := dk_184 0 61 (dk_at dksX19_init_4 19 rfl rfl)
theorem dX19_init_111 : decode cX19_init 111 = .ok (.istore 4, 2) := dk_54 4 (dk_at dksX19_init_4 22 rfl rfl)
theorem dX19_init_113 : decode cX19_init 113 = .ok (.goto (-36), 3) := dk_167 255 220 (dk_at dksX19_init_5 0 rfl rfl)
theorem dX19_init_116 : decode cX19_init 116 = .ok (.aload_n 0, 1) := dk_42 (dk_at dksX19_init_5 3 rfl rfl)
theorem dX19_init_117 : decode cX19_init 117 = .ok (.iload 4, 2) := dk_21 4 (dk_at dksX19_init_5 4 rfl rfl)
theorem dX19_init_119 : decode cX19_init 119 = .ok (.anewarray 67, 3) := dk_189 0 67 (dk_at dksX19_init_5 6 rfl rfl)
theorem dX19_init_122 : decode cX19_init 122 = .ok (.putfield 69, 3) := dk_181 0 69 (dk_at dksX19_init_5 9 rfl rfl)
theorem dX19_init_125 : decode cX19_init 125 = .ok (.iconst 0, 1) := dk_3 (dk_at dksX19_init_5 12 rfl rfl)
theorem dX19_init_126 : decode cX19_init 126 = .ok (.istore 5, 2) := dk_54 5 (dk_at dksX19_init_5 13 rfl rfl)
theorem dX19_init_128 : decode cX19_init 128 = .ok (.iload 5, 2) := dk_21 5 (dk_at dksX19_init_5 15 rfl rfl)
theorem dX19_init_130 : decode cX19_init 130 = .ok (.iload 4, 2) := dk_21 4 (dk_at dksX19_init_5 17 rfl rfl)
theorem dX19_init_132 : decode cX19_init 132 = .ok (.if_icmp .ge 25, 3) := dk_162 0 25 (dk_at dksX19_init_5 19 rfl rfl)
theorem dX19_init_135 : decode cX19_init 135 = .ok (.aload_n 0, 1) := dk_42 (dk_at dksX19_init_5 22 rfl rfl)
theorem dX19_init_136 : decode cX19_init 136 = .ok (.getfield 69, 3) := dk_180 0 69 (dk_at dksX19_init_6 0 rfl rfl)
theorem dX19_init_139 : decode cX19_init 139 = .ok (.iload 5, 2) := dk_21 5 (dk_at dksX19_init_6 3 rfl rfl)
theorem dX19_init_141 : decode cX19_init 141 = .ok (.new 67, 3) := dk_187 0 67 (dk_at dksX19_init_6 5 rfl rfl)
theorem dX19_init_144 : decode cX19_init 144 = .ok (.dup, 1) := dk_89 (dk_at dksX19_init_6 8 rfl rfl)
theorem dX19_init_145 : decode cX19_init 145 = .ok (.iload 5, 2) := dk_21 5 (dk_at dksX19_init_6 9 rfl rfl)
theorem dX19_init_147 : decode cX19_init 147 = .ok (.invokespecial 73, 3) := dk_183 0 73 (dk_at dksX19_init_6 11 rfl rfl)
theorem dX19_init_150 : decode cX19_init 150 = .ok (.aastore, 1) := dk_83 (dk_at dksX19_init_6 14 rfl rfl)
theorem dX19_init_151 : decode cX19_init 151 = .ok (.iinc 5 1, 3) := dk_132 5 1 (dk_at dksX19_init_6 15 rfl rfl)
theorem dX19_init_154 : decode cX19_init 154 = .ok (.goto (-26), 3) := dk_167 255 230 (dk_at dksX19_init_6 18 rfl rfl)
theorem dX19_init_157 : decode cX19_init 157 = .ok (.aload_n 0, 1) := dk_42 (dk_at dksX19_init_6 21 rfl rfl)
theorem dX19_init_158 : decode cX19_init 158 = .ok (.invokevirtual 76, 3) := dk_182 0 76 (dk_at dksX19_init_7 0 rfl rfl)
theorem dX19_init_161 : decode cX19_init 161 = .ok (.aload_n 0, 1) := dk_42 (dk_at dksX19_init_7 3 rfl rfl)
theorem dX19_init_162 : decode cX19_init 162 = .ok (.invokevirtual 79, 3) := dk_182 0 79 (dk_at dksX19_init_7 4 rfl rfl)
theorem dX19_init_165 : decode cX19_init 165 = .ok (.aload_n 0, 1) := dk_42 (dk_at dksX19_init_7 7 rfl rfl)
theorem dX19_init_166 : decode cX19_init 166 = .ok (.getfield 12, 3) := dk_180 0 12 (dk_at dksX19_init_7 8 rfl rfl)
theorem dX19_init_169 : decode cX19_init 169 = .ok (.invokevirtual 41, 3) := dk_182 0 41 (dk_at dksX19_init_7 11 rfl rfl)
theorem dX19_init_172 : decode cX19_init 172 = .ok (.astore 5, 2) := dk_58 5 (dk_at dksX19_init_7 14 rfl rfl)
theorem dX19_init_174 : decode cX19_init 174 = .ok (.aload 5, 2) := dk_25 5 (dk_at dksX19_init_7 16 rfl rfl)
theorem dX19_init_176 : decode cX19_init 176 = .ok (.invokeinterface 45 1, 5) := by decide +kernel
theorem dX19_init_181 : decode cX19_init 181 = .ok (.ifCond .eq 32, 3) := dk_153 0 32 (dk_at dksX19_init_8 0 rfl rfl)
theorem dX19_init_184 : decode cX19_init 184 = .ok (.aload 5, 2) := dk_25 5 (dk_at dksX19_init_8 3 rfl rfl)
theorem dX19_init_186 : decode cX19_init 186 = .ok (.invokeinterface 51 1, 5) := by decide +kernel
theorem dX19_init_191 : decode cX19_init 191 = .ok (.checkcast 67, 3) := dk_192 0 67 (dk_at dksX19_init_8 10 rfl rfl)
theorem dX19_init_194 : decode cX19_init 194 = .ok (.astore 6, 2) := dk_58 6 (dk_at dksX19_init_8 13 rfl rfl)
theorem dX19_init_196 : decode cX19_init 196 = .ok (.aload 6, 2) := dk_25 6 (dk_at dksX19_init_8 15 rfl rfl)
theorem dX19_init_198 : decode cX19_init 198 = .ok (.invokevirtual 82, 3) := dk_182 0 82 (dk_at dksX19_init_8 17 rfl rfl)
theorem dX19_init_201 : decode cX19_init 201 = .ok (.ifCond .eq 9, 3) := dk_153 0 9 (dk_at dksX19_init_8 20 rfl rfl)
theorem dX19_init_204 : decode cX19_init 204 = .ok (.aload_n 0, 1) := dk_42 (dk_at dksX19_init_8 23 rfl rfl)
theorem dX19_init_205 : decode cX19_init 205 = .ok (.aload 6, 2) := dk_25 6 (dk_at dksX19_init_9 0 rfl rfl)
theorem dX19_init_207 : decode cX19_init 207 = .ok (.invokevirtual 85, 3) := dk_182 0 85 (dk_at dksX19_init_9 2 rfl rfl)
theorem dX19_init_210 : decode cX19_init 210 = .ok (.goto (-36), 3) := dk_167 255 220 (dk_at dksX19_init_9 5 rfl rfl)
theorem dX19_init_213 : decode cX19_init 213 = .ok (.iconst 0, 1) := dk_3 (dk_at dksX19_init_9 8 rfl rfl)
theorem dX19_init_214 : decode cX19_init 214 = .ok (.istore 5, 2) := dk_54 5 (dk_at dksX19_init_9 9 rfl rfl)
theorem dX19_init_216 : decode cX19_init 216 = .ok (.iload 5, 2) := dk_21 5 (dk_at dksX19_init_9 11 rfl rfl)
theorem dX19_init_218 : decode cX19_init 218 = .ok (.aload_n 0, 1) := dk_42 (dk_at dksX19_init_9 13 rfl rfl)
theorem dX19_init_219 : decode cX19_init 219 = .ok (.getfield 40, 3) := dk_180 0 40 (dk_at dksX19_init_9 14 rfl rfl)
theorem dX19_init_222 : decode cX19_init 222 = .ok (.invokevirtual 89, 3) := dk_182 0 89 (dk_at dksX19_init_9 17 rfl rfl)
theorem dX19_init_225 : decode cX19_init 225 = .ok (.if_icmp .ge 22, 3) := dk_162 0 22 (dk_at dksX19_init_9 20 rfl rfl)
theorem dX19_init_228 : decode cX19_init 228 = .ok (.new 93, 3) := dk_187 0 93 (dk_at dksX19_init_10 0 rfl rfl)
theorem dX19_init_231 : decode cX19_init 231 = .ok (.dup, 1) := dk_89 (dk_at dksX19_init_10 3 rfl rfl)
theorem dX19_init_232 : decode cX19_init 232 = .ok (.aload_n 0, 1) := dk_42 (dk_at dksX19_init_10 4 rfl rfl)
theorem dX19_init_233 : decode cX19_init 233 = .ok (.iload 5, 2) := dk_21 5 (dk_at dksX19_init_10 5 rfl rfl)
theorem dX19_init_235 : decode cX19_init 235 = .ok (.invokespecial 95, 3) := dk_183 0 95 (dk_at dksX19_init_10 7 rfl rfl)
theorem dX19_init_238 : decode cX19_init 238 = .ok (.invokevirtual 98, 3) := dk_182 0 98 (dk_at dksX19_init_10 10 rfl rfl)
theorem dX19_init_241 : decode cX19_init 241 = .ok (.iinc 5 1, 3) := dk_132 5 1 (dk_at dksX19_init_10 13 rfl rfl)
theorem dX19_init_244 : decode cX19_init 244 = .ok (.goto (-28), 3) := dk_167 255 228 (dk_at dksX19_init_10 16 rfl rfl)
theorem dX19_init_247 : decode cX19_init 247 = .ok (.new 101, 3) := dk_187 0 101 (dk_at dksX19_init_10 19 rfl rfl)
theorem dX19_init_250 : decode cX19_init 250 = .ok (.dup, 1) := dk_89 (dk_at dksX19_init_10 22 rfl rfl)
theorem dX19_init_251 : decode cX19_init 251 = .ok (.aload_n 0, 1) := dk_42 (dk_at dksX19_init_10 23 rfl rfl)
theorem dX19_init_252 : decode cX19_init 252 = .ok (.invokespecial 103, 3) := dk_183 0 103 (dk_at dksX19_init_11 0 rfl rfl)
theorem dX19_init_255 : decode cX19_init 255 = .ok (.invokevirtual 106, 3) := dk_182 0 106 (dk_at dksX19_init_11 3 rfl rfl)
theorem dX19_init_258 : decode cX19_init 258 = .ok (.return_, 1) := dk_177 (dk_at dksX19_init_11 6 rfl rfl)
abbrev cX19_live : ByteArray := prog_23_method_4_code
def yX19_live : MethodName := ⟨RX19, "live", "()V"⟩
def dkwX19_live_9 : List UInt8 := [25, 5, 182, 0, 140, 87, 132, 4, 1, 167, 255, 222, 132, 1, 1, 167, 255, 194, 177]
abbrev dktX19_live_9 : List UInt8 := dkwX19_live_9 ++ []
def dkwX19_live_8 : List UInt8 := [29, 162, 0, 34, 44, 21, 4, 50, 58, 5, 25, 5, 180, 0, 165, 27, 160, 0, 13, 42, 180, 0, 12]
abbrev dktX19_live_8 : List UInt8 := dkwX19_live_8 ++ dktX19_live_9
def dkwX19_live_7 : List UInt8 := [27, 42, 180, 0, 40, 182, 0, 89, 162, 0, 57, 42, 180, 0, 69, 77, 44, 190, 62, 3, 54, 4, 21, 4]
abbrev dktX19_live_7 : List UInt8 := dkwX19_live_7 ++ dktX19_live_8
def dkwX19_live_6 : List UInt8 := [58, 4, 25, 4, 182, 0, 159, 153, 0, 9, 42, 25, 4, 182, 0, 162, 132, 3, 1, 167, 255, 229, 3, 60]
abbrev dktX19_live_6 : List UInt8 := dkwX19_live_6 ++ dktX19_live_7
def dkwX19_live_5 : List UInt8 := [132, 1, 1, 167, 255, 137, 42, 180, 0, 69, 76, 43, 190, 61, 3, 62, 29, 28, 162, 0, 28, 43, 29, 50]
abbrev dktX19_live_5 : List UInt8 := dkwX19_live_5 ++ dktX19_live_6
def dkwX19_live_4 : List UInt8 := [42, 44, 182, 0, 147, 182, 0, 151, 42, 42, 180, 0, 69, 44, 180, 0, 57, 50, 44, 27, 182, 0, 155]
abbrev dktX19_live_4 : List UInt8 := dkwX19_live_4 ++ dktX19_live_5
def dkwX19_live_3 : List UInt8 := [42, 21, 6, 27, 42, 44, 182, 0, 147, 182, 0, 151, 132, 5, 1, 167, 255, 228, 42, 44, 180, 0, 57, 27]
abbrev dktX19_live_3 : List UInt8 := dkwX19_live_3 ++ dktX19_live_4
def dkwX19_live_2 : List UInt8 := [180, 0, 144, 78, 45, 190, 54, 4, 3, 54, 5, 21, 5, 21, 4, 162, 0, 27, 45, 21, 5, 46, 54, 6]
abbrev dktX19_live_2 : List UInt8 := dkwX19_live_2 ++ dktX19_live_3
def dkwX19_live_1 : List UInt8 := [77, 44, 180, 0, 131, 16, 9, 160, 0, 15, 42, 180, 0, 18, 27, 184, 0, 134, 182, 0, 140, 87, 44]
abbrev dktX19_live_1 : List UInt8 := dkwX19_live_1 ++ dktX19_live_2
def dkwX19_live_0 : List UInt8 := [3, 60, 27, 42, 180, 0, 40, 182, 0, 89, 162, 0, 114, 42, 180, 0, 40, 27, 182, 0, 127, 192, 0, 55]
abbrev dktX19_live_0 : List UInt8 := dkwX19_live_0 ++ dktX19_live_1
theorem dksX19_live_0 : cX19_live.data.toList.drop 0 = dktX19_live_0 := by decide +kernel
theorem dksX19_live_1 : cX19_live.data.toList.drop 24 = dktX19_live_1 := dk_seg dksX19_live_0 24 rfl rfl
theorem dksX19_live_2 : cX19_live.data.toList.drop 47 = dktX19_live_2 := dk_seg dksX19_live_1 23 rfl rfl
theorem dksX19_live_3 : cX19_live.data.toList.drop 71 = dktX19_live_3 := dk_seg dksX19_live_2 24 rfl rfl
theorem dksX19_live_4 : cX19_live.data.toList.drop 95 = dktX19_live_4 := dk_seg dksX19_live_3 24 rfl rfl
theorem dksX19_live_5 : cX19_live.data.toList.drop 118 = dktX19_live_5 := dk_seg dksX19_live_4 23 rfl rfl
theorem dksX19_live_6 : cX19_live.data.toList.drop 142 = dktX19_live_6 := dk_seg dksX19_live_5 24 rfl rfl
theorem dksX19_live_7 : cX19_live.data.toList.drop 166 = dktX19_live_7 := dk_seg dksX19_live_6 24 rfl rfl
theorem dksX19_live_8 : cX19_live.data.toList.drop 190 = dktX19_live_8 := dk_seg dksX19_live_7 24 rfl rfl
theorem dksX19_live_9 : cX19_live.data.toList.drop 213 = dktX19_live_9 := dk_seg dksX19_live_8 23 rfl rfl
theorem dX19_live_0 : decode cX19_live 0 = .ok (.iconst 0, 1) := dk_3 (dk_at dksX19_live_0 0 rfl rfl)
theorem dX19_live_1 : decode cX19_live 1 = .ok (.istore_n 1, 1) := dk_60 (dk_at dksX19_live_0 1 rfl rfl)
theorem dX19_live_2 : decode cX19_live 2 = .ok (.iload_n 1, 1) := dk_27 (dk_at dksX19_live_0 2 rfl rfl)
theorem dX19_live_3 : decode cX19_live 3 = .ok (.aload_n 0, 1) := dk_42 (dk_at dksX19_live_0 3 rfl rfl)
theorem dX19_live_4 : decode cX19_live 4 = .ok (.getfield 40, 3) := dk_180 0 40 (dk_at dksX19_live_0 4 rfl rfl)
theorem dX19_live_7 : decode cX19_live 7 = .ok (.invokevirtual 89, 3) := dk_182 0 89 (dk_at dksX19_live_0 7 rfl rfl)
theorem dX19_live_10 : decode cX19_live 10 = .ok (.if_icmp .ge 114, 3) := dk_162 0 114 (dk_at dksX19_live_0 10 rfl rfl)
theorem dX19_live_13 : decode cX19_live 13 = .ok (.aload_n 0, 1) := dk_42 (dk_at dksX19_live_0 13 rfl rfl)
theorem dX19_live_14 : decode cX19_live 14 = .ok (.getfield 40, 3) := dk_180 0 40 (dk_at dksX19_live_0 14 rfl rfl)
theorem dX19_live_17 : decode cX19_live 17 = .ok (.iload_n 1, 1) := dk_27 (dk_at dksX19_live_0 17 rfl rfl)
theorem dX19_live_18 : decode cX19_live 18 = .ok (.invokevirtual 127, 3) := dk_182 0 127 (dk_at dksX19_live_0 18 rfl rfl)
theorem dX19_live_21 : decode cX19_live 21 = .ok (.checkcast 55, 3) := dk_192 0 55 (dk_at dksX19_live_0 21 rfl rfl)
theorem dX19_live_24 : decode cX19_live 24 = .ok (.astore_n 2, 1) := dk_77 (dk_at dksX19_live_1 0 rfl rfl)
theorem dX19_live_25 : decode cX19_live 25 = .ok (.aload_n 2, 1) := dk_44 (dk_at dksX19_live_1 1 rfl rfl)
theorem dX19_live_26 : decode cX19_live 26 = .ok (.getfield 131, 3) := dk_180 0 131 (dk_at dksX19_live_1 2 rfl rfl)
theorem dX19_live_29 : decode cX19_live 29 = .ok (.bipush 9, 2) := dk_16 9 (dk_at dksX19_live_1 5 rfl rfl)
theorem dX19_live_31 : decode cX19_live 31 = .ok (.if_icmp .ne 15, 3) := dk_160 0 15 (dk_at dksX19_live_1 7 rfl rfl)
theorem dX19_live_34 : decode cX19_live 34 = .ok (.aload_n 0, 1) := dk_42 (dk_at dksX19_live_1 10 rfl rfl)
theorem dX19_live_35 : decode cX19_live 35 = .ok (.getfield 18, 3) := dk_180 0 18 (dk_at dksX19_live_1 11 rfl rfl)
theorem dX19_live_38 : decode cX19_live 38 = .ok (.iload_n 1, 1) := dk_27 (dk_at dksX19_live_1 14 rfl rfl)
theorem dX19_live_39 : decode cX19_live 39 = .ok (.invokestatic 134, 3) := dk_184 0 134 (dk_at dksX19_live_1 15 rfl rfl)
theorem dX19_live_42 : decode cX19_live 42 = .ok (.invokevirtual 140, 3) := dk_182 0 140 (dk_at dksX19_live_1 18 rfl rfl)
theorem dX19_live_45 : decode cX19_live 45 = .ok (.pop, 1) := dk_87 (dk_at dksX19_live_1 21 rfl rfl)
theorem dX19_live_46 : decode cX19_live 46 = .ok (.aload_n 2, 1) := dk_44 (dk_at dksX19_live_1 22 rfl rfl)
theorem dX19_live_47 : decode cX19_live 47 = .ok (.getfield 144, 3) := dk_180 0 144 (dk_at dksX19_live_2 0 rfl rfl)
theorem dX19_live_50 : decode cX19_live 50 = .ok (.astore_n 3, 1) := dk_78 (dk_at dksX19_live_2 3 rfl rfl)
theorem dX19_live_51 : decode cX19_live 51 = .ok (.aload_n 3, 1) := dk_45 (dk_at dksX19_live_2 4 rfl rfl)
theorem dX19_live_52 : decode cX19_live 52 = .ok (.arraylength, 1) := dk_190 (dk_at dksX19_live_2 5 rfl rfl)
theorem dX19_live_53 : decode cX19_live 53 = .ok (.istore 4, 2) := dk_54 4 (dk_at dksX19_live_2 6 rfl rfl)
theorem dX19_live_55 : decode cX19_live 55 = .ok (.iconst 0, 1) := dk_3 (dk_at dksX19_live_2 8 rfl rfl)
theorem dX19_live_56 : decode cX19_live 56 = .ok (.istore 5, 2) := dk_54 5 (dk_at dksX19_live_2 9 rfl rfl)
theorem dX19_live_58 : decode cX19_live 58 = .ok (.iload 5, 2) := dk_21 5 (dk_at dksX19_live_2 11 rfl rfl)
theorem dX19_live_60 : decode cX19_live 60 = .ok (.iload 4, 2) := dk_21 4 (dk_at dksX19_live_2 13 rfl rfl)
theorem dX19_live_62 : decode cX19_live 62 = .ok (.if_icmp .ge 27, 3) := dk_162 0 27 (dk_at dksX19_live_2 15 rfl rfl)
theorem dX19_live_65 : decode cX19_live 65 = .ok (.aload_n 3, 1) := dk_45 (dk_at dksX19_live_2 18 rfl rfl)
theorem dX19_live_66 : decode cX19_live 66 = .ok (.iload 5, 2) := dk_21 5 (dk_at dksX19_live_2 19 rfl rfl)
theorem dX19_live_68 : decode cX19_live 68 = .ok (.iaload, 1) := dk_46 (dk_at dksX19_live_2 21 rfl rfl)
theorem dX19_live_69 : decode cX19_live 69 = .ok (.istore 6, 2) := dk_54 6 (dk_at dksX19_live_2 22 rfl rfl)
theorem dX19_live_71 : decode cX19_live 71 = .ok (.aload_n 0, 1) := dk_42 (dk_at dksX19_live_3 0 rfl rfl)
theorem dX19_live_72 : decode cX19_live 72 = .ok (.iload 6, 2) := dk_21 6 (dk_at dksX19_live_3 1 rfl rfl)
theorem dX19_live_74 : decode cX19_live 74 = .ok (.iload_n 1, 1) := dk_27 (dk_at dksX19_live_3 3 rfl rfl)
theorem dX19_live_75 : decode cX19_live 75 = .ok (.aload_n 0, 1) := dk_42 (dk_at dksX19_live_3 4 rfl rfl)
theorem dX19_live_76 : decode cX19_live 76 = .ok (.aload_n 2, 1) := dk_44 (dk_at dksX19_live_3 5 rfl rfl)
theorem dX19_live_77 : decode cX19_live 77 = .ok (.invokevirtual 147, 3) := dk_182 0 147 (dk_at dksX19_live_3 6 rfl rfl)
theorem dX19_live_80 : decode cX19_live 80 = .ok (.invokevirtual 151, 3) := dk_182 0 151 (dk_at dksX19_live_3 9 rfl rfl)
theorem dX19_live_83 : decode cX19_live 83 = .ok (.iinc 5 1, 3) := dk_132 5 1 (dk_at dksX19_live_3 12 rfl rfl)
theorem dX19_live_86 : decode cX19_live 86 = .ok (.goto (-28), 3) := dk_167 255 228 (dk_at dksX19_live_3 15 rfl rfl)
theorem dX19_live_89 : decode cX19_live 89 = .ok (.aload_n 0, 1) := dk_42 (dk_at dksX19_live_3 18 rfl rfl)
theorem dX19_live_90 : decode cX19_live 90 = .ok (.aload_n 2, 1) := dk_44 (dk_at dksX19_live_3 19 rfl rfl)
theorem dX19_live_91 : decode cX19_live 91 = .ok (.getfield 57, 3) := dk_180 0 57 (dk_at dksX19_live_3 20 rfl rfl)
theorem dX19_live_94 : decode cX19_live 94 = .ok (.iload_n 1, 1) := dk_27 (dk_at dksX19_live_3 23 rfl rfl)
theorem dX19_live_95 : decode cX19_live 95 = .ok (.aload_n 0, 1) := dk_42 (dk_at dksX19_live_4 0 rfl rfl)
theorem dX19_live_96 : decode cX19_live 96 = .ok (.aload_n 2, 1) := dk_44 (dk_at dksX19_live_4 1 rfl rfl)
theorem dX19_live_97 : decode cX19_live 97 = .ok (.invokevirtual 147, 3) := dk_182 0 147 (dk_at dksX19_live_4 2 rfl rfl)
theorem dX19_live_100 : decode cX19_live 100 = .ok (.invokevirtual 151, 3) := dk_182 0 151 (dk_at dksX19_live_4 5 rfl rfl)
theorem dX19_live_103 : decode cX19_live 103 = .ok (.aload_n 0, 1) := dk_42 (dk_at dksX19_live_4 8 rfl rfl)
theorem dX19_live_104 : decode cX19_live 104 = .ok (.aload_n 0, 1) := dk_42 (dk_at dksX19_live_4 9 rfl rfl)
theorem dX19_live_105 : decode cX19_live 105 = .ok (.getfield 69, 3) := dk_180 0 69 (dk_at dksX19_live_4 10 rfl rfl)
theorem dX19_live_108 : decode cX19_live 108 = .ok (.aload_n 2, 1) := dk_44 (dk_at dksX19_live_4 13 rfl rfl)
theorem dX19_live_109 : decode cX19_live 109 = .ok (.getfield 57, 3) := dk_180 0 57 (dk_at dksX19_live_4 14 rfl rfl)
theorem dX19_live_112 : decode cX19_live 112 = .ok (.aaload, 1) := dk_50 (dk_at dksX19_live_4 17 rfl rfl)
theorem dX19_live_113 : decode cX19_live 113 = .ok (.aload_n 2, 1) := dk_44 (dk_at dksX19_live_4 18 rfl rfl)
theorem dX19_live_114 : decode cX19_live 114 = .ok (.iload_n 1, 1) := dk_27 (dk_at dksX19_live_4 19 rfl rfl)
theorem dX19_live_115 : decode cX19_live 115 = .ok (.invokevirtual 155, 3) := dk_182 0 155 (dk_at dksX19_live_4 20 rfl rfl)
theorem dX19_live_118 : decode cX19_live 118 = .ok (.iinc 1 1, 3) := dk_132 1 1 (dk_at dksX19_live_5 0 rfl rfl)
theorem dX19_live_121 : decode cX19_live 121 = .ok (.goto (-119), 3) := dk_167 255 137 (dk_at dksX19_live_5 3 rfl rfl)
theorem dX19_live_124 : decode cX19_live 124 = .ok (.aload_n 0, 1) := dk_42 (dk_at dksX19_live_5 6 rfl rfl)
theorem dX19_live_125 : decode cX19_live 125 = .ok (.getfield 69, 3) := dk_180 0 69 (dk_at dksX19_live_5 7 rfl rfl)
theorem dX19_live_128 : decode cX19_live 128 = .ok (.astore_n 1, 1) := dk_76 (dk_at dksX19_live_5 10 rfl rfl)
theorem dX19_live_129 : decode cX19_live 129 = .ok (.aload_n 1, 1) := dk_43 (dk_at dksX19_live_5 11 rfl rfl)
theorem dX19_live_130 : decode cX19_live 130 = .ok (.arraylength, 1) := dk_190 (dk_at dksX19_live_5 12 rfl rfl)
theorem dX19_live_131 : decode cX19_live 131 = .ok (.istore_n 2, 1) := dk_61 (dk_at dksX19_live_5 13 rfl rfl)
theorem dX19_live_132 : decode cX19_live 132 = .ok (.iconst 0, 1) := dk_3 (dk_at dksX19_live_5 14 rfl rfl)
theorem dX19_live_133 : decode cX19_live 133 = .ok (.istore_n 3, 1) := dk_62 (dk_at dksX19_live_5 15 rfl rfl)
theorem dX19_live_134 : decode cX19_live 134 = .ok (.iload_n 3, 1) := dk_29 (dk_at dksX19_live_5 16 rfl rfl)
theorem dX19_live_135 : decode cX19_live 135 = .ok (.iload_n 2, 1) := dk_28 (dk_at dksX19_live_5 17 rfl rfl)
theorem dX19_live_136 : decode cX19_live 136 = .ok (.if_icmp .ge 28, 3) := dk_162 0 28 (dk_at dksX19_live_5 18 rfl rfl)
theorem dX19_live_139 : decode cX19_live 139 = .ok (.aload_n 1, 1) := dk_43 (dk_at dksX19_live_5 21 rfl rfl)
theorem dX19_live_140 : decode cX19_live 140 = .ok (.iload_n 3, 1) := dk_29 (dk_at dksX19_live_5 22 rfl rfl)
theorem dX19_live_141 : decode cX19_live 141 = .ok (.aaload, 1) := dk_50 (dk_at dksX19_live_5 23 rfl rfl)
theorem dX19_live_142 : decode cX19_live 142 = .ok (.astore 4, 2) := dk_58 4 (dk_at dksX19_live_6 0 rfl rfl)
theorem dX19_live_144 : decode cX19_live 144 = .ok (.aload 4, 2) := dk_25 4 (dk_at dksX19_live_6 2 rfl rfl)
theorem dX19_live_146 : decode cX19_live 146 = .ok (.invokevirtual 159, 3) := dk_182 0 159 (dk_at dksX19_live_6 4 rfl rfl)
theorem dX19_live_149 : decode cX19_live 149 = .ok (.ifCond .eq 9, 3) := dk_153 0 9 (dk_at dksX19_live_6 7 rfl rfl)
theorem dX19_live_152 : decode cX19_live 152 = .ok (.aload_n 0, 1) := dk_42 (dk_at dksX19_live_6 10 rfl rfl)
theorem dX19_live_153 : decode cX19_live 153 = .ok (.aload 4, 2) := dk_25 4 (dk_at dksX19_live_6 11 rfl rfl)
theorem dX19_live_155 : decode cX19_live 155 = .ok (.invokevirtual 162, 3) := dk_182 0 162 (dk_at dksX19_live_6 13 rfl rfl)
theorem dX19_live_158 : decode cX19_live 158 = .ok (.iinc 3 1, 3) := dk_132 3 1 (dk_at dksX19_live_6 16 rfl rfl)
theorem dX19_live_161 : decode cX19_live 161 = .ok (.goto (-27), 3) := dk_167 255 229 (dk_at dksX19_live_6 19 rfl rfl)
theorem dX19_live_164 : decode cX19_live 164 = .ok (.iconst 0, 1) := dk_3 (dk_at dksX19_live_6 22 rfl rfl)
theorem dX19_live_165 : decode cX19_live 165 = .ok (.istore_n 1, 1) := dk_60 (dk_at dksX19_live_6 23 rfl rfl)
theorem dX19_live_166 : decode cX19_live 166 = .ok (.iload_n 1, 1) := dk_27 (dk_at dksX19_live_7 0 rfl rfl)
theorem dX19_live_167 : decode cX19_live 167 = .ok (.aload_n 0, 1) := dk_42 (dk_at dksX19_live_7 1 rfl rfl)
theorem dX19_live_168 : decode cX19_live 168 = .ok (.getfield 40, 3) := dk_180 0 40 (dk_at dksX19_live_7 2 rfl rfl)
theorem dX19_live_171 : decode cX19_live 171 = .ok (.invokevirtual 89, 3) := dk_182 0 89 (dk_at dksX19_live_7 5 rfl rfl)
theorem dX19_live_174 : decode cX19_live 174 = .ok (.if_icmp .ge 57, 3) := dk_162 0 57 (dk_at dksX19_live_7 8 rfl rfl)
theorem dX19_live_177 : decode cX19_live 177 = .ok (.aload_n 0, 1) := dk_42 (dk_at dksX19_live_7 11 rfl rfl)
theorem dX19_live_178 : decode cX19_live 178 = .ok (.getfield 69, 3) := dk_180 0 69 (dk_at dksX19_live_7 12 rfl rfl)
theorem dX19_live_181 : decode cX19_live 181 = .ok (.astore_n 2, 1) := dk_77 (dk_at dksX19_live_7 15 rfl rfl)
theorem dX19_live_182 : decode cX19_live 182 = .ok (.aload_n 2, 1) := dk_44 (dk_at dksX19_live_7 16 rfl rfl)
theorem dX19_live_183 : decode cX19_live 183 = .ok (.arraylength, 1) := dk_190 (dk_at dksX19_live_7 17 rfl rfl)
theorem dX19_live_184 : decode cX19_live 184 = .ok (.istore_n 3, 1) := dk_62 (dk_at dksX19_live_7 18 rfl rfl)
theorem dX19_live_185 : decode cX19_live 185 = .ok (.iconst 0, 1) := dk_3 (dk_at dksX19_live_7 19 rfl rfl)
theorem dX19_live_186 : decode cX19_live 186 = .ok (.istore 4, 2) := dk_54 4 (dk_at dksX19_live_7 20 rfl rfl)
theorem dX19_live_188 : decode cX19_live 188 = .ok (.iload 4, 2) := dk_21 4 (dk_at dksX19_live_7 22 rfl rfl)
theorem dX19_live_190 : decode cX19_live 190 = .ok (.iload_n 3, 1) := dk_29 (dk_at dksX19_live_8 0 rfl rfl)
theorem dX19_live_191 : decode cX19_live 191 = .ok (.if_icmp .ge 34, 3) := dk_162 0 34 (dk_at dksX19_live_8 1 rfl rfl)
theorem dX19_live_194 : decode cX19_live 194 = .ok (.aload_n 2, 1) := dk_44 (dk_at dksX19_live_8 4 rfl rfl)
theorem dX19_live_195 : decode cX19_live 195 = .ok (.iload 4, 2) := dk_21 4 (dk_at dksX19_live_8 5 rfl rfl)
theorem dX19_live_197 : decode cX19_live 197 = .ok (.aaload, 1) := dk_50 (dk_at dksX19_live_8 7 rfl rfl)
theorem dX19_live_198 : decode cX19_live 198 = .ok (.astore 5, 2) := dk_58 5 (dk_at dksX19_live_8 8 rfl rfl)
theorem dX19_live_200 : decode cX19_live 200 = .ok (.aload 5, 2) := dk_25 5 (dk_at dksX19_live_8 10 rfl rfl)
theorem dX19_live_202 : decode cX19_live 202 = .ok (.getfield 165, 3) := dk_180 0 165 (dk_at dksX19_live_8 12 rfl rfl)
theorem dX19_live_205 : decode cX19_live 205 = .ok (.iload_n 1, 1) := dk_27 (dk_at dksX19_live_8 15 rfl rfl)
theorem dX19_live_206 : decode cX19_live 206 = .ok (.if_icmp .ne 13, 3) := dk_160 0 13 (dk_at dksX19_live_8 16 rfl rfl)
theorem dX19_live_209 : decode cX19_live 209 = .ok (.aload_n 0, 1) := dk_42 (dk_at dksX19_live_8 19 rfl rfl)
theorem dX19_live_210 : decode cX19_live 210 = .ok (.getfield 12, 3) := dk_180 0 12 (dk_at dksX19_live_8 20 rfl rfl)
theorem dX19_live_213 : decode cX19_live 213 = .ok (.aload 5, 2) := dk_25 5 (dk_at dksX19_live_9 0 rfl rfl)
theorem dX19_live_215 : decode cX19_live 215 = .ok (.invokevirtual 140, 3) := dk_182 0 140 (dk_at dksX19_live_9 2 rfl rfl)
theorem dX19_live_218 : decode cX19_live 218 = .ok (.pop, 1) := dk_87 (dk_at dksX19_live_9 5 rfl rfl)
theorem dX19_live_219 : decode cX19_live 219 = .ok (.iinc 4 1, 3) := dk_132 4 1 (dk_at dksX19_live_9 6 rfl rfl)
theorem dX19_live_222 : decode cX19_live 222 = .ok (.goto (-34), 3) := dk_167 255 222 (dk_at dksX19_live_9 9 rfl rfl)
theorem dX19_live_225 : decode cX19_live 225 = .ok (.iinc 1 1, 3) := dk_132 1 1 (dk_at dksX19_live_9 12 rfl rfl)
theorem dX19_live_228 : decode cX19_live 228 = .ok (.goto (-62), 3) := dk_167 255 194 (dk_at dksX19_live_9 15 rfl rfl)
theorem dX19_live_231 : decode cX19_live 231 = .ok (.return_, 1) := dk_177 (dk_at dksX19_live_9 18 rfl rfl)
abbrev cX19_timesOf : ByteArray := prog_23_method_2_code
def yX19_timesOf : MethodName := ⟨RX19, "timesOf", "(LSpillslotWorksModel$Op;)I"⟩
def dkwX19_timesOf_1 : List UInt8 := [172]
abbrev dktX19_timesOf_1 : List UInt8 := dkwX19_timesOf_1 ++ []
def dkwX19_timesOf_0 : List UInt8 := [43, 180, 0, 109, 2, 160, 0, 7, 4, 167, 0, 15, 42, 180, 0, 24, 180, 0, 112, 43, 180, 0, 109, 46]
abbrev dktX19_timesOf_0 : List UInt8 := dkwX19_timesOf_0 ++ dktX19_timesOf_1
theorem dksX19_timesOf_0 : cX19_timesOf.data.toList.drop 0 = dktX19_timesOf_0 := by decide +kernel
theorem dksX19_timesOf_1 : cX19_timesOf.data.toList.drop 24 = dktX19_timesOf_1 := dk_seg dksX19_timesOf_0 24 rfl rfl
theorem dX19_timesOf_0 : decode cX19_timesOf 0 = .ok (.aload_n 1, 1) := dk_43 (dk_at dksX19_timesOf_0 0 rfl rfl)
theorem dX19_timesOf_1 : decode cX19_timesOf 1 = .ok (.getfield 109, 3) := dk_180 0 109 (dk_at dksX19_timesOf_0 1 rfl rfl)
theorem dX19_timesOf_4 : decode cX19_timesOf 4 = .ok (.iconst (-1), 1) := dk_2 (dk_at dksX19_timesOf_0 4 rfl rfl)
theorem dX19_timesOf_5 : decode cX19_timesOf 5 = .ok (.if_icmp .ne 7, 3) := dk_160 0 7 (dk_at dksX19_timesOf_0 5 rfl rfl)
theorem dX19_timesOf_8 : decode cX19_timesOf 8 = .ok (.iconst 1, 1) := dk_4 (dk_at dksX19_timesOf_0 8 rfl rfl)
theorem dX19_timesOf_9 : decode cX19_timesOf 9 = .ok (.goto 15, 3) := dk_167 0 15 (dk_at dksX19_timesOf_0 9 rfl rfl)
theorem dX19_timesOf_12 : decode cX19_timesOf 12 = .ok (.aload_n 0, 1) := dk_42 (dk_at dksX19_timesOf_0 12 rfl rfl)
theorem dX19_timesOf_13 : decode cX19_timesOf 13 = .ok (.getfield 24, 3) := dk_180 0 24 (dk_at dksX19_timesOf_0 13 rfl rfl)
theorem dX19_timesOf_16 : decode cX19_timesOf 16 = .ok (.getfield 112, 3) := dk_180 0 112 (dk_at dksX19_timesOf_0 16 rfl rfl)
theorem dX19_timesOf_19 : decode cX19_timesOf 19 = .ok (.aload_n 1, 1) := dk_43 (dk_at dksX19_timesOf_0 19 rfl rfl)
theorem dX19_timesOf_20 : decode cX19_timesOf 20 = .ok (.getfield 109, 3) := dk_180 0 109 (dk_at dksX19_timesOf_0 20 rfl rfl)
theorem dX19_timesOf_23 : decode cX19_timesOf 23 = .ok (.iaload, 1) := dk_46 (dk_at dksX19_timesOf_0 23 rfl rfl)
theorem dX19_timesOf_24 : decode cX19_timesOf 24 = .ok (.ireturn, 1) := dk_172 (dk_at dksX19_timesOf_1 0 rfl rfl)
abbrev cX19_touch : ByteArray := prog_23_method_3_code
def yX19_touch : MethodName := ⟨RX19, "touch", "(III)V"⟩
def dkwX19_touch_1 : List UInt8 := [180, 0, 121, 29, 96, 181, 0, 121, 42, 180, 0, 69, 27, 50, 28, 181, 0, 124, 177]
abbrev dktX19_touch_1 : List UInt8 := dkwX19_touch_1 ++ []
def dkwX19_touch_0 : List UInt8 := [42, 180, 0, 69, 27, 50, 89, 180, 0, 118, 4, 96, 181, 0, 118, 42, 180, 0, 69, 27, 50, 89]
abbrev dktX19_touch_0 : List UInt8 := dkwX19_touch_0 ++ dktX19_touch_1
theorem dksX19_touch_0 : cX19_touch.data.toList.drop 0 = dktX19_touch_0 := by decide +kernel
theorem dksX19_touch_1 : cX19_touch.data.toList.drop 22 = dktX19_touch_1 := dk_seg dksX19_touch_0 22 rfl rfl
theorem dX19_touch_0 : decode cX19_touch 0 = .ok (.aload_n 0, 1) := dk_42 (dk_at dksX19_touch_0 0 rfl rfl)
theorem dX19_touch_1 : decode cX19_touch 1 = .ok (.getfield 69, 3) := dk_180 0 69 (dk_at dksX19_touch_0 1 rfl rfl)
theorem dX19_touch_4 : decode cX19_touch 4 = .ok (.iload_n 1, 1) := dk_27 (dk_at dksX19_touch_0 4 rfl rfl)
theorem dX19_touch_5 : decode cX19_touch 5 = .ok (.aaload, 1) := dk_50 (dk_at dksX19_touch_0 5 rfl rfl)
theorem dX19_touch_6 : decode cX19_touch 6 = .ok (.dup, 1) := dk_89 (dk_at dksX19_touch_0 6 rfl rfl)
theorem dX19_touch_7 : decode cX19_touch 7 = .ok (.getfield 118, 3) := dk_180 0 118 (dk_at dksX19_touch_0 7 rfl rfl)
theorem dX19_touch_10 : decode cX19_touch 10 = .ok (.iconst 1, 1) := dk_4 (dk_at dksX19_touch_0 10 rfl rfl)
theorem dX19_touch_11 : decode cX19_touch 11 = .ok (.iadd, 1) := dk_96 (dk_at dksX19_touch_0 11 rfl rfl)
theorem dX19_touch_12 : decode cX19_touch 12 = .ok (.putfield 118, 3) := dk_181 0 118 (dk_at dksX19_touch_0 12 rfl rfl)
theorem dX19_touch_15 : decode cX19_touch 15 = .ok (.aload_n 0, 1) := dk_42 (dk_at dksX19_touch_0 15 rfl rfl)
theorem dX19_touch_16 : decode cX19_touch 16 = .ok (.getfield 69, 3) := dk_180 0 69 (dk_at dksX19_touch_0 16 rfl rfl)
theorem dX19_touch_19 : decode cX19_touch 19 = .ok (.iload_n 1, 1) := dk_27 (dk_at dksX19_touch_0 19 rfl rfl)
theorem dX19_touch_20 : decode cX19_touch 20 = .ok (.aaload, 1) := dk_50 (dk_at dksX19_touch_0 20 rfl rfl)
theorem dX19_touch_21 : decode cX19_touch 21 = .ok (.dup, 1) := dk_89 (dk_at dksX19_touch_0 21 rfl rfl)
theorem dX19_touch_22 : decode cX19_touch 22 = .ok (.getfield 121, 3) := dk_180 0 121 (dk_at dksX19_touch_1 0 rfl rfl)
theorem dX19_touch_25 : decode cX19_touch 25 = .ok (.iload_n 3, 1) := dk_29 (dk_at dksX19_touch_1 3 rfl rfl)
theorem dX19_touch_26 : decode cX19_touch 26 = .ok (.iadd, 1) := dk_96 (dk_at dksX19_touch_1 4 rfl rfl)
theorem dX19_touch_27 : decode cX19_touch 27 = .ok (.putfield 121, 3) := dk_181 0 121 (dk_at dksX19_touch_1 5 rfl rfl)
theorem dX19_touch_30 : decode cX19_touch 30 = .ok (.aload_n 0, 1) := dk_42 (dk_at dksX19_touch_1 8 rfl rfl)
theorem dX19_touch_31 : decode cX19_touch 31 = .ok (.getfield 69, 3) := dk_180 0 69 (dk_at dksX19_touch_1 9 rfl rfl)
theorem dX19_touch_34 : decode cX19_touch 34 = .ok (.iload_n 1, 1) := dk_27 (dk_at dksX19_touch_1 12 rfl rfl)
theorem dX19_touch_35 : decode cX19_touch 35 = .ok (.aaload, 1) := dk_50 (dk_at dksX19_touch_1 13 rfl rfl)
theorem dX19_touch_36 : decode cX19_touch 36 = .ok (.iload_n 2, 1) := dk_28 (dk_at dksX19_touch_1 14 rfl rfl)
theorem dX19_touch_37 : decode cX19_touch 37 = .ok (.putfield 124, 3) := dk_181 0 124 (dk_at dksX19_touch_1 15 rfl rfl)
theorem dX19_touch_40 : decode cX19_touch 40 = .ok (.return_, 1) := dk_177 (dk_at dksX19_touch_1 18 rfl rfl)
abbrev cX19_note : ByteArray := prog_23_method_5_code
def yX19_note : MethodName := ⟨RX19, "note", "(LSpillslotWorksModel$Life;LSpillslotWorksModel$Op;I)V"⟩
def dkwX19_note_4 : List UInt8 := [21, 4, 153, 0, 13, 43, 44, 180, 0, 144, 3, 46, 181, 0, 184, 177]
abbrev dktX19_note_4 : List UInt8 := dkwX19_note_4 ++ []
def dkwX19_note_3 : List UInt8 := [44, 180, 0, 131, 5, 161, 0, 15, 44, 180, 0, 131, 7, 163, 0, 7, 4, 167, 0, 4, 3, 54, 4]
abbrev dktX19_note_3 : List UInt8 := dkwX19_note_3 ++ dktX19_note_4
def dkwX19_note_2 : List UInt8 := [180, 0, 173, 181, 0, 176, 44, 180, 0, 131, 4, 159, 0, 29, 42, 180, 0, 28, 180, 0, 179, 153, 0, 23]
abbrev dktX19_note_2 : List UInt8 := dkwX19_note_2 ++ dktX19_note_3
def dkwX19_note_1 : List UInt8 := [43, 29, 181, 0, 165, 43, 44, 180, 0, 131, 154, 0, 7, 4, 167, 0, 4, 3, 181, 0, 169, 43, 44]
abbrev dktX19_note_1 : List UInt8 := dkwX19_note_1 ++ dktX19_note_2
def dkwX19_note_0 : List UInt8 := [43, 89, 180, 0, 168, 4, 96, 181, 0, 168, 43, 180, 0, 165, 2, 159, 0, 9, 43, 3, 181, 0, 169, 177]
abbrev dktX19_note_0 : List UInt8 := dkwX19_note_0 ++ dktX19_note_1
theorem dksX19_note_0 : cX19_note.data.toList.drop 0 = dktX19_note_0 := by decide +kernel
theorem dksX19_note_1 : cX19_note.data.toList.drop 24 = dktX19_note_1 := dk_seg dksX19_note_0 24 rfl rfl
theorem dksX19_note_2 : cX19_note.data.toList.drop 47 = dktX19_note_2 := dk_seg dksX19_note_1 23 rfl rfl
theorem dksX19_note_3 : cX19_note.data.toList.drop 71 = dktX19_note_3 := dk_seg dksX19_note_2 24 rfl rfl
theorem dksX19_note_4 : cX19_note.data.toList.drop 94 = dktX19_note_4 := dk_seg dksX19_note_3 23 rfl rfl
theorem dX19_note_0 : decode cX19_note 0 = .ok (.aload_n 1, 1) := dk_43 (dk_at dksX19_note_0 0 rfl rfl)
theorem dX19_note_1 : decode cX19_note 1 = .ok (.dup, 1) := dk_89 (dk_at dksX19_note_0 1 rfl rfl)
theorem dX19_note_2 : decode cX19_note 2 = .ok (.getfield 168, 3) := dk_180 0 168 (dk_at dksX19_note_0 2 rfl rfl)
theorem dX19_note_5 : decode cX19_note 5 = .ok (.iconst 1, 1) := dk_4 (dk_at dksX19_note_0 5 rfl rfl)
theorem dX19_note_6 : decode cX19_note 6 = .ok (.iadd, 1) := dk_96 (dk_at dksX19_note_0 6 rfl rfl)
theorem dX19_note_7 : decode cX19_note 7 = .ok (.putfield 168, 3) := dk_181 0 168 (dk_at dksX19_note_0 7 rfl rfl)
theorem dX19_note_10 : decode cX19_note 10 = .ok (.aload_n 1, 1) := dk_43 (dk_at dksX19_note_0 10 rfl rfl)
theorem dX19_note_11 : decode cX19_note 11 = .ok (.getfield 165, 3) := dk_180 0 165 (dk_at dksX19_note_0 11 rfl rfl)
theorem dX19_note_14 : decode cX19_note 14 = .ok (.iconst (-1), 1) := dk_2 (dk_at dksX19_note_0 14 rfl rfl)
theorem dX19_note_15 : decode cX19_note 15 = .ok (.if_icmp .eq 9, 3) := dk_159 0 9 (dk_at dksX19_note_0 15 rfl rfl)
theorem dX19_note_18 : decode cX19_note 18 = .ok (.aload_n 1, 1) := dk_43 (dk_at dksX19_note_0 18 rfl rfl)
theorem dX19_note_19 : decode cX19_note 19 = .ok (.iconst 0, 1) := dk_3 (dk_at dksX19_note_0 19 rfl rfl)
theorem dX19_note_20 : decode cX19_note 20 = .ok (.putfield 169, 3) := dk_181 0 169 (dk_at dksX19_note_0 20 rfl rfl)
theorem dX19_note_23 : decode cX19_note 23 = .ok (.return_, 1) := dk_177 (dk_at dksX19_note_0 23 rfl rfl)
theorem dX19_note_24 : decode cX19_note 24 = .ok (.aload_n 1, 1) := dk_43 (dk_at dksX19_note_1 0 rfl rfl)
theorem dX19_note_25 : decode cX19_note 25 = .ok (.iload_n 3, 1) := dk_29 (dk_at dksX19_note_1 1 rfl rfl)
theorem dX19_note_26 : decode cX19_note 26 = .ok (.putfield 165, 3) := dk_181 0 165 (dk_at dksX19_note_1 2 rfl rfl)
theorem dX19_note_29 : decode cX19_note 29 = .ok (.aload_n 1, 1) := dk_43 (dk_at dksX19_note_1 5 rfl rfl)
theorem dX19_note_30 : decode cX19_note 30 = .ok (.aload_n 2, 1) := dk_44 (dk_at dksX19_note_1 6 rfl rfl)
theorem dX19_note_31 : decode cX19_note 31 = .ok (.getfield 131, 3) := dk_180 0 131 (dk_at dksX19_note_1 7 rfl rfl)
theorem dX19_note_34 : decode cX19_note 34 = .ok (.ifCond .ne 7, 3) := dk_154 0 7 (dk_at dksX19_note_1 10 rfl rfl)
theorem dX19_note_37 : decode cX19_note 37 = .ok (.iconst 1, 1) := dk_4 (dk_at dksX19_note_1 13 rfl rfl)
theorem dX19_note_38 : decode cX19_note 38 = .ok (.goto 4, 3) := dk_167 0 4 (dk_at dksX19_note_1 14 rfl rfl)
theorem dX19_note_41 : decode cX19_note 41 = .ok (.iconst 0, 1) := dk_3 (dk_at dksX19_note_1 17 rfl rfl)
theorem dX19_note_42 : decode cX19_note 42 = .ok (.putfield 169, 3) := dk_181 0 169 (dk_at dksX19_note_1 18 rfl rfl)
theorem dX19_note_45 : decode cX19_note 45 = .ok (.aload_n 1, 1) := dk_43 (dk_at dksX19_note_1 21 rfl rfl)
theorem dX19_note_46 : decode cX19_note 46 = .ok (.aload_n 2, 1) := dk_44 (dk_at dksX19_note_1 22 rfl rfl)
theorem dX19_note_47 : decode cX19_note 47 = .ok (.getfield 173, 3) := dk_180 0 173 (dk_at dksX19_note_2 0 rfl rfl)
theorem dX19_note_50 : decode cX19_note 50 = .ok (.putfield 176, 3) := dk_181 0 176 (dk_at dksX19_note_2 3 rfl rfl)
theorem dX19_note_53 : decode cX19_note 53 = .ok (.aload_n 2, 1) := dk_44 (dk_at dksX19_note_2 6 rfl rfl)
theorem dX19_note_54 : decode cX19_note 54 = .ok (.getfield 131, 3) := dk_180 0 131 (dk_at dksX19_note_2 7 rfl rfl)
theorem dX19_note_57 : decode cX19_note 57 = .ok (.iconst 1, 1) := dk_4 (dk_at dksX19_note_2 10 rfl rfl)
theorem dX19_note_58 : decode cX19_note 58 = .ok (.if_icmp .eq 29, 3) := dk_159 0 29 (dk_at dksX19_note_2 11 rfl rfl)
theorem dX19_note_61 : decode cX19_note 61 = .ok (.aload_n 0, 1) := dk_42 (dk_at dksX19_note_2 14 rfl rfl)
theorem dX19_note_62 : decode cX19_note 62 = .ok (.getfield 28, 3) := dk_180 0 28 (dk_at dksX19_note_2 15 rfl rfl)
theorem dX19_note_65 : decode cX19_note 65 = .ok (.getfield 179, 3) := dk_180 0 179 (dk_at dksX19_note_2 18 rfl rfl)
theorem dX19_note_68 : decode cX19_note 68 = .ok (.ifCond .eq 23, 3) := dk_153 0 23 (dk_at dksX19_note_2 21 rfl rfl)
theorem dX19_note_71 : decode cX19_note 71 = .ok (.aload_n 2, 1) := dk_44 (dk_at dksX19_note_3 0 rfl rfl)
theorem dX19_note_72 : decode cX19_note 72 = .ok (.getfield 131, 3) := dk_180 0 131 (dk_at dksX19_note_3 1 rfl rfl)
theorem dX19_note_75 : decode cX19_note 75 = .ok (.iconst 2, 1) := dk_5 (dk_at dksX19_note_3 4 rfl rfl)
theorem dX19_note_76 : decode cX19_note 76 = .ok (.if_icmp .lt 15, 3) := dk_161 0 15 (dk_at dksX19_note_3 5 rfl rfl)
theorem dX19_note_79 : decode cX19_note 79 = .ok (.aload_n 2, 1) := dk_44 (dk_at dksX19_note_3 8 rfl rfl)
theorem dX19_note_80 : decode cX19_note 80 = .ok (.getfield 131, 3) := dk_180 0 131 (dk_at dksX19_note_3 9 rfl rfl)
theorem dX19_note_83 : decode cX19_note 83 = .ok (.iconst 4, 1) := dk_7 (dk_at dksX19_note_3 12 rfl rfl)
theorem dX19_note_84 : decode cX19_note 84 = .ok (.if_icmp .gt 7, 3) := dk_163 0 7 (dk_at dksX19_note_3 13 rfl rfl)
theorem dX19_note_87 : decode cX19_note 87 = .ok (.iconst 1, 1) := dk_4 (dk_at dksX19_note_3 16 rfl rfl)
theorem dX19_note_88 : decode cX19_note 88 = .ok (.goto 4, 3) := dk_167 0 4 (dk_at dksX19_note_3 17 rfl rfl)
theorem dX19_note_91 : decode cX19_note 91 = .ok (.iconst 0, 1) := dk_3 (dk_at dksX19_note_3 20 rfl rfl)
theorem dX19_note_92 : decode cX19_note 92 = .ok (.istore 4, 2) := dk_54 4 (dk_at dksX19_note_3 21 rfl rfl)
theorem dX19_note_94 : decode cX19_note 94 = .ok (.iload 4, 2) := dk_21 4 (dk_at dksX19_note_4 0 rfl rfl)
theorem dX19_note_96 : decode cX19_note 96 = .ok (.ifCond .eq 13, 3) := dk_153 0 13 (dk_at dksX19_note_4 2 rfl rfl)
theorem dX19_note_99 : decode cX19_note 99 = .ok (.aload_n 1, 1) := dk_43 (dk_at dksX19_note_4 5 rfl rfl)
theorem dX19_note_100 : decode cX19_note 100 = .ok (.aload_n 2, 1) := dk_44 (dk_at dksX19_note_4 6 rfl rfl)
theorem dX19_note_101 : decode cX19_note 101 = .ok (.getfield 144, 3) := dk_180 0 144 (dk_at dksX19_note_4 7 rfl rfl)
theorem dX19_note_104 : decode cX19_note 104 = .ok (.iconst 0, 1) := dk_3 (dk_at dksX19_note_4 10 rfl rfl)
theorem dX19_note_105 : decode cX19_note 105 = .ok (.iaload, 1) := dk_46 (dk_at dksX19_note_4 11 rfl rfl)
theorem dX19_note_106 : decode cX19_note 106 = .ok (.putfield 184, 3) := dk_181 0 184 (dk_at dksX19_note_4 12 rfl rfl)
theorem dX19_note_109 : decode cX19_note 109 = .ok (.return_, 1) := dk_177 (dk_at dksX19_note_4 15 rfl rfl)
abbrev cX19_settle : ByteArray := prog_23_method_6_code
def yX19_settle : MethodName := ⟨RX19, "settle", "(LSpillslotWorksModel$Life;)V"⟩
def dkwX19_settle_5 : List UInt8 := [3, 96, 181, 0, 203, 167, 255, 212, 177]
abbrev dktX19_settle_5 : List UInt8 := dkwX19_settle_5 ++ []
def dkwX19_settle_4 : List UInt8 := [192, 0, 135, 182, 0, 200, 62, 43, 89, 180, 0, 203, 43, 29, 182, 0, 206, 153, 0, 7, 4, 167, 0, 4]
abbrev dktX19_settle_4 : List UInt8 := dkwX19_settle_4 ++ dktX19_settle_5
def dkwX19_settle_3 : List UInt8 := [180, 0, 18, 182, 0, 41, 77, 44, 185, 0, 45, 1, 0, 153, 0, 41, 44, 185, 0, 51, 1, 0]
abbrev dktX19_settle_3 : List UInt8 := dkwX19_settle_3 ++ dktX19_settle_4
def dkwX19_settle_2 : List UInt8 := [16, 100, 43, 180, 0, 121, 104, 43, 180, 0, 124, 43, 180, 0, 165, 100, 4, 96, 108, 181, 0, 121, 42]
abbrev dktX19_settle_2 : List UInt8 := dkwX19_settle_2 ++ dktX19_settle_3
def dkwX19_settle_1 : List UInt8 := [153, 0, 17, 43, 42, 180, 0, 40, 182, 0, 89, 181, 0, 124, 167, 0, 8, 42, 43, 182, 0, 197, 43]
abbrev dktX19_settle_1 : List UInt8 := dkwX19_settle_1 ++ dktX19_settle_2
def dkwX19_settle_0 : List UInt8 := [43, 180, 0, 187, 16, 8, 162, 0, 34, 42, 180, 0, 24, 180, 0, 190, 43, 180, 0, 187, 184, 0, 193]
abbrev dktX19_settle_0 : List UInt8 := dkwX19_settle_0 ++ dktX19_settle_1
theorem dksX19_settle_0 : cX19_settle.data.toList.drop 0 = dktX19_settle_0 := by decide +kernel
theorem dksX19_settle_1 : cX19_settle.data.toList.drop 23 = dktX19_settle_1 := dk_seg dksX19_settle_0 23 rfl rfl
theorem dksX19_settle_2 : cX19_settle.data.toList.drop 46 = dktX19_settle_2 := dk_seg dksX19_settle_1 23 rfl rfl
theorem dksX19_settle_3 : cX19_settle.data.toList.drop 69 = dktX19_settle_3 := dk_seg dksX19_settle_2 23 rfl rfl
theorem dksX19_settle_4 : cX19_settle.data.toList.drop 91 = dktX19_settle_4 := dk_seg dksX19_settle_3 22 rfl rfl
theorem dksX19_settle_5 : cX19_settle.data.toList.drop 115 = dktX19_settle_5 := dk_seg dksX19_settle_4 24 rfl rfl
theorem dX19_settle_0 : decode cX19_settle 0 = .ok (.aload_n 1, 1) := dk_43 (dk_at dksX19_settle_0 0 rfl rfl)
theorem dX19_settle_1 : decode cX19_settle 1 = .ok (.getfield 187, 3) := dk_180 0 187 (dk_at dksX19_settle_0 1 rfl rfl)
theorem dX19_settle_4 : decode cX19_settle 4 = .ok (.bipush 8, 2) := dk_16 8 (dk_at dksX19_settle_0 4 rfl rfl)
theorem dX19_settle_6 : decode cX19_settle 6 = .ok (.if_icmp .ge 34, 3) := dk_162 0 34 (dk_at dksX19_settle_0 6 rfl rfl)
theorem dX19_settle_9 : decode cX19_settle 9 = .ok (.aload_n 0, 1) := dk_42 (dk_at dksX19_settle_0 9 rfl rfl)
theorem dX19_settle_10 : decode cX19_settle 10 = .ok (.getfield 24, 3) := dk_180 0 24 (dk_at dksX19_settle_0 10 rfl rfl)
theorem dX19_settle_13 : decode cX19_settle 13 = .ok (.getfield 190, 3) := dk_180 0 190 (dk_at dksX19_settle_0 13 rfl rfl)
theorem dX19_settle_16 : decode cX19_settle 16 = .ok (.aload_n 1, 1) := dk_43 (dk_at dksX19_settle_0 16 rfl rfl)
theorem dX19_settle_17 : decode cX19_settle 17 = .ok (.getfield 187, 3) := dk_180 0 187 (dk_at dksX19_settle_0 17 rfl rfl)
theorem dX19_settle_20 : decode cX19_settle 20 = .ok (.invokestatic 193, 3) := dk_184 0 193 (dk_at dksX19_settle_0 20 rfl rfl)
theorem dX19_settle_23 : decode cX19_settle 23 = .ok (.ifCond .eq 17, 3) := dk_153 0 17 (dk_at dksX19_settle_1 0 rfl rfl)
theorem dX19_settle_26 : decode cX19_settle 26 = .ok (.aload_n 1, 1) := dk_43 (dk_at dksX19_settle_1 3 rfl rfl)
theorem dX19_settle_27 : decode cX19_settle 27 = .ok (.aload_n 0, 1) := dk_42 (dk_at dksX19_settle_1 4 rfl rfl)
theorem dX19_settle_28 : decode cX19_settle 28 = .ok (.getfield 40, 3) := dk_180 0 40 (dk_at dksX19_settle_1 5 rfl rfl)
theorem dX19_settle_31 : decode cX19_settle 31 = .ok (.invokevirtual 89, 3) := dk_182 0 89 (dk_at dksX19_settle_1 8 rfl rfl)
theorem dX19_settle_34 : decode cX19_settle 34 = .ok (.putfield 124, 3) := dk_181 0 124 (dk_at dksX19_settle_1 11 rfl rfl)
theorem dX19_settle_37 : decode cX19_settle 37 = .ok (.goto 8, 3) := dk_167 0 8 (dk_at dksX19_settle_1 14 rfl rfl)
theorem dX19_settle_40 : decode cX19_settle 40 = .ok (.aload_n 0, 1) := dk_42 (dk_at dksX19_settle_1 17 rfl rfl)
theorem dX19_settle_41 : decode cX19_settle 41 = .ok (.aload_n 1, 1) := dk_43 (dk_at dksX19_settle_1 18 rfl rfl)
theorem dX19_settle_42 : decode cX19_settle 42 = .ok (.invokevirtual 197, 3) := dk_182 0 197 (dk_at dksX19_settle_1 19 rfl rfl)
theorem dX19_settle_45 : decode cX19_settle 45 = .ok (.aload_n 1, 1) := dk_43 (dk_at dksX19_settle_1 22 rfl rfl)
theorem dX19_settle_46 : decode cX19_settle 46 = .ok (.bipush 100, 2) := dk_16 100 (dk_at dksX19_settle_2 0 rfl rfl)
theorem dX19_settle_48 : decode cX19_settle 48 = .ok (.aload_n 1, 1) := dk_43 (dk_at dksX19_settle_2 2 rfl rfl)
theorem dX19_settle_49 : decode cX19_settle 49 = .ok (.getfield 121, 3) := dk_180 0 121 (dk_at dksX19_settle_2 3 rfl rfl)
theorem dX19_settle_52 : decode cX19_settle 52 = .ok (.imul, 1) := dk_104 (dk_at dksX19_settle_2 6 rfl rfl)
theorem dX19_settle_53 : decode cX19_settle 53 = .ok (.aload_n 1, 1) := dk_43 (dk_at dksX19_settle_2 7 rfl rfl)
theorem dX19_settle_54 : decode cX19_settle 54 = .ok (.getfield 124, 3) := dk_180 0 124 (dk_at dksX19_settle_2 8 rfl rfl)
theorem dX19_settle_57 : decode cX19_settle 57 = .ok (.aload_n 1, 1) := dk_43 (dk_at dksX19_settle_2 11 rfl rfl)
theorem dX19_settle_58 : decode cX19_settle 58 = .ok (.getfield 165, 3) := dk_180 0 165 (dk_at dksX19_settle_2 12 rfl rfl)
theorem dX19_settle_61 : decode cX19_settle 61 = .ok (.isub, 1) := dk_100 (dk_at dksX19_settle_2 15 rfl rfl)
theorem dX19_settle_62 : decode cX19_settle 62 = .ok (.iconst 1, 1) := dk_4 (dk_at dksX19_settle_2 16 rfl rfl)
theorem dX19_settle_63 : decode cX19_settle 63 = .ok (.iadd, 1) := dk_96 (dk_at dksX19_settle_2 17 rfl rfl)
theorem dX19_settle_64 : decode cX19_settle 64 = .ok (.idiv, 1) := dk_108 (dk_at dksX19_settle_2 18 rfl rfl)
theorem dX19_settle_65 : decode cX19_settle 65 = .ok (.putfield 121, 3) := dk_181 0 121 (dk_at dksX19_settle_2 19 rfl rfl)
theorem dX19_settle_68 : decode cX19_settle 68 = .ok (.aload_n 0, 1) := dk_42 (dk_at dksX19_settle_2 22 rfl rfl)
theorem dX19_settle_69 : decode cX19_settle 69 = .ok (.getfield 18, 3) := dk_180 0 18 (dk_at dksX19_settle_3 0 rfl rfl)
theorem dX19_settle_72 : decode cX19_settle 72 = .ok (.invokevirtual 41, 3) := dk_182 0 41 (dk_at dksX19_settle_3 3 rfl rfl)
theorem dX19_settle_75 : decode cX19_settle 75 = .ok (.astore_n 2, 1) := dk_77 (dk_at dksX19_settle_3 6 rfl rfl)
theorem dX19_settle_76 : decode cX19_settle 76 = .ok (.aload_n 2, 1) := dk_44 (dk_at dksX19_settle_3 7 rfl rfl)
theorem dX19_settle_77 : decode cX19_settle 77 = .ok (.invokeinterface 45 1, 5) := by decide +kernel
theorem dX19_settle_82 : decode cX19_settle 82 = .ok (.ifCond .eq 41, 3) := dk_153 0 41 (dk_at dksX19_settle_3 13 rfl rfl)
theorem dX19_settle_85 : decode cX19_settle 85 = .ok (.aload_n 2, 1) := dk_44 (dk_at dksX19_settle_3 16 rfl rfl)
theorem dX19_settle_86 : decode cX19_settle 86 = .ok (.invokeinterface 51 1, 5) := by decide +kernel
theorem dX19_settle_91 : decode cX19_settle 91 = .ok (.checkcast 135, 3) := dk_192 0 135 (dk_at dksX19_settle_4 0 rfl rfl)
theorem dX19_settle_94 : decode cX19_settle 94 = .ok (.invokevirtual 200, 3) := dk_182 0 200 (dk_at dksX19_settle_4 3 rfl rfl)
theorem dX19_settle_97 : decode cX19_settle 97 = .ok (.istore_n 3, 1) := dk_62 (dk_at dksX19_settle_4 6 rfl rfl)
theorem dX19_settle_98 : decode cX19_settle 98 = .ok (.aload_n 1, 1) := dk_43 (dk_at dksX19_settle_4 7 rfl rfl)
theorem dX19_settle_99 : decode cX19_settle 99 = .ok (.dup, 1) := dk_89 (dk_at dksX19_settle_4 8 rfl rfl)
theorem dX19_settle_100 : decode cX19_settle 100 = .ok (.getfield 203, 3) := dk_180 0 203 (dk_at dksX19_settle_4 9 rfl rfl)
theorem dX19_settle_103 : decode cX19_settle 103 = .ok (.aload_n 1, 1) := dk_43 (dk_at dksX19_settle_4 12 rfl rfl)
theorem dX19_settle_104 : decode cX19_settle 104 = .ok (.iload_n 3, 1) := dk_29 (dk_at dksX19_settle_4 13 rfl rfl)
theorem dX19_settle_105 : decode cX19_settle 105 = .ok (.invokevirtual 206, 3) := dk_182 0 206 (dk_at dksX19_settle_4 14 rfl rfl)
theorem dX19_settle_108 : decode cX19_settle 108 = .ok (.ifCond .eq 7, 3) := dk_153 0 7 (dk_at dksX19_settle_4 17 rfl rfl)
theorem dX19_settle_111 : decode cX19_settle 111 = .ok (.iconst 1, 1) := dk_4 (dk_at dksX19_settle_4 20 rfl rfl)
theorem dX19_settle_112 : decode cX19_settle 112 = .ok (.goto 4, 3) := dk_167 0 4 (dk_at dksX19_settle_4 21 rfl rfl)
theorem dX19_settle_115 : decode cX19_settle 115 = .ok (.iconst 0, 1) := dk_3 (dk_at dksX19_settle_5 0 rfl rfl)
theorem dX19_settle_116 : decode cX19_settle 116 = .ok (.iadd, 1) := dk_96 (dk_at dksX19_settle_5 1 rfl rfl)
theorem dX19_settle_117 : decode cX19_settle 117 = .ok (.putfield 203, 3) := dk_181 0 203 (dk_at dksX19_settle_5 2 rfl rfl)
theorem dX19_settle_120 : decode cX19_settle 120 = .ok (.goto (-44), 3) := dk_167 255 212 (dk_at dksX19_settle_5 5 rfl rfl)
theorem dX19_settle_123 : decode cX19_settle 123 = .ok (.return_, 1) := dk_177 (dk_at dksX19_settle_5 8 rfl rfl)
abbrev cX19_stretch : ByteArray := prog_23_method_7_code
def yX19_stretch : MethodName := ⟨RX19, "stretch", "(LSpillslotWorksModel$Life;)V"⟩
def dkwX19_stretch_4 : List UInt8 := [167, 255, 224, 43, 29, 181, 0, 124, 177]
abbrev dktX19_stretch_4 : List UInt8 := dkwX19_stretch_4 ++ []
def dkwX19_stretch_3 : List UInt8 := [162, 0, 27, 42, 180, 0, 40, 29, 182, 0, 127, 192, 0, 55, 180, 0, 109, 28, 160, 0, 9, 132, 3, 1]
abbrev dktX19_stretch_3 : List UInt8 := dkwX19_stretch_3 ++ dktX19_stretch_4
def dkwX19_stretch_2 : List UInt8 := [192, 0, 55, 180, 0, 109, 28, 160, 0, 4, 177, 43, 180, 0, 124, 62, 29, 42, 180, 0, 40, 182, 0, 89]
abbrev dktX19_stretch_2 : List UInt8 := dkwX19_stretch_2 ++ dktX19_stretch_3
def dkwX19_stretch_1 : List UInt8 := [180, 0, 24, 180, 0, 112, 28, 46, 4, 159, 0, 24, 42, 180, 0, 40, 43, 180, 0, 165, 182, 0, 127]
abbrev dktX19_stretch_1 : List UInt8 := dkwX19_stretch_1 ++ dktX19_stretch_2
def dkwX19_stretch_0 : List UInt8 := [42, 180, 0, 40, 43, 180, 0, 124, 182, 0, 127, 192, 0, 55, 180, 0, 109, 61, 28, 2, 159, 0, 37, 42]
abbrev dktX19_stretch_0 : List UInt8 := dkwX19_stretch_0 ++ dktX19_stretch_1
theorem dksX19_stretch_0 : cX19_stretch.data.toList.drop 0 = dktX19_stretch_0 := by decide +kernel
theorem dksX19_stretch_1 : cX19_stretch.data.toList.drop 24 = dktX19_stretch_1 := dk_seg dksX19_stretch_0 24 rfl rfl
theorem dksX19_stretch_2 : cX19_stretch.data.toList.drop 47 = dktX19_stretch_2 := dk_seg dksX19_stretch_1 23 rfl rfl
theorem dksX19_stretch_3 : cX19_stretch.data.toList.drop 71 = dktX19_stretch_3 := dk_seg dksX19_stretch_2 24 rfl rfl
theorem dksX19_stretch_4 : cX19_stretch.data.toList.drop 95 = dktX19_stretch_4 := dk_seg dksX19_stretch_3 24 rfl rfl
theorem dX19_stretch_0 : decode cX19_stretch 0 = .ok (.aload_n 0, 1) := dk_42 (dk_at dksX19_stretch_0 0 rfl rfl)
theorem dX19_stretch_1 : decode cX19_stretch 1 = .ok (.getfield 40, 3) := dk_180 0 40 (dk_at dksX19_stretch_0 1 rfl rfl)
theorem dX19_stretch_4 : decode cX19_stretch 4 = .ok (.aload_n 1, 1) := dk_43 (dk_at dksX19_stretch_0 4 rfl rfl)
theorem dX19_stretch_5 : decode cX19_stretch 5 = .ok (.getfield 124, 3) := dk_180 0 124 (dk_at dksX19_stretch_0 5 rfl rfl)
theorem dX19_stretch_8 : decode cX19_stretch 8 = .ok (.invokevirtual 127, 3) := dk_182 0 127 (dk_at dksX19_stretch_0 8 rfl rfl)
theorem dX19_stretch_11 : decode cX19_stretch 11 = .ok (.checkcast 55, 3) := dk_192 0 55 (dk_at dksX19_stretch_0 11 rfl rfl)
theorem dX19_stretch_14 : decode cX19_stretch 14 = .ok (.getfield 109, 3) := dk_180 0 109 (dk_at dksX19_stretch_0 14 rfl rfl)
theorem dX19_stretch_17 : decode cX19_stretch 17 = .ok (.istore_n 2, 1) := dk_61 (dk_at dksX19_stretch_0 17 rfl rfl)
theorem dX19_stretch_18 : decode cX19_stretch 18 = .ok (.iload_n 2, 1) := dk_28 (dk_at dksX19_stretch_0 18 rfl rfl)
theorem dX19_stretch_19 : decode cX19_stretch 19 = .ok (.iconst (-1), 1) := dk_2 (dk_at dksX19_stretch_0 19 rfl rfl)
theorem dX19_stretch_20 : decode cX19_stretch 20 = .ok (.if_icmp .eq 37, 3) := dk_159 0 37 (dk_at dksX19_stretch_0 20 rfl rfl)
theorem dX19_stretch_23 : decode cX19_stretch 23 = .ok (.aload_n 0, 1) := dk_42 (dk_at dksX19_stretch_0 23 rfl rfl)
theorem dX19_stretch_24 : decode cX19_stretch 24 = .ok (.getfield 24, 3) := dk_180 0 24 (dk_at dksX19_stretch_1 0 rfl rfl)
theorem dX19_stretch_27 : decode cX19_stretch 27 = .ok (.getfield 112, 3) := dk_180 0 112 (dk_at dksX19_stretch_1 3 rfl rfl)
theorem dX19_stretch_30 : decode cX19_stretch 30 = .ok (.iload_n 2, 1) := dk_28 (dk_at dksX19_stretch_1 6 rfl rfl)
theorem dX19_stretch_31 : decode cX19_stretch 31 = .ok (.iaload, 1) := dk_46 (dk_at dksX19_stretch_1 7 rfl rfl)
theorem dX19_stretch_32 : decode cX19_stretch 32 = .ok (.iconst 1, 1) := dk_4 (dk_at dksX19_stretch_1 8 rfl rfl)
theorem dX19_stretch_33 : decode cX19_stretch 33 = .ok (.if_icmp .eq 24, 3) := dk_159 0 24 (dk_at dksX19_stretch_1 9 rfl rfl)
theorem dX19_stretch_36 : decode cX19_stretch 36 = .ok (.aload_n 0, 1) := dk_42 (dk_at dksX19_stretch_1 12 rfl rfl)
theorem dX19_stretch_37 : decode cX19_stretch 37 = .ok (.getfield 40, 3) := dk_180 0 40 (dk_at dksX19_stretch_1 13 rfl rfl)
theorem dX19_stretch_40 : decode cX19_stretch 40 = .ok (.aload_n 1, 1) := dk_43 (dk_at dksX19_stretch_1 16 rfl rfl)
theorem dX19_stretch_41 : decode cX19_stretch 41 = .ok (.getfield 165, 3) := dk_180 0 165 (dk_at dksX19_stretch_1 17 rfl rfl)
theorem dX19_stretch_44 : decode cX19_stretch 44 = .ok (.invokevirtual 127, 3) := dk_182 0 127 (dk_at dksX19_stretch_1 20 rfl rfl)
theorem dX19_stretch_47 : decode cX19_stretch 47 = .ok (.checkcast 55, 3) := dk_192 0 55 (dk_at dksX19_stretch_2 0 rfl rfl)
theorem dX19_stretch_50 : decode cX19_stretch 50 = .ok (.getfield 109, 3) := dk_180 0 109 (dk_at dksX19_stretch_2 3 rfl rfl)
theorem dX19_stretch_53 : decode cX19_stretch 53 = .ok (.iload_n 2, 1) := dk_28 (dk_at dksX19_stretch_2 6 rfl rfl)
theorem dX19_stretch_54 : decode cX19_stretch 54 = .ok (.if_icmp .ne 4, 3) := dk_160 0 4 (dk_at dksX19_stretch_2 7 rfl rfl)
theorem dX19_stretch_57 : decode cX19_stretch 57 = .ok (.return_, 1) := dk_177 (dk_at dksX19_stretch_2 10 rfl rfl)
theorem dX19_stretch_58 : decode cX19_stretch 58 = .ok (.aload_n 1, 1) := dk_43 (dk_at dksX19_stretch_2 11 rfl rfl)
theorem dX19_stretch_59 : decode cX19_stretch 59 = .ok (.getfield 124, 3) := dk_180 0 124 (dk_at dksX19_stretch_2 12 rfl rfl)
theorem dX19_stretch_62 : decode cX19_stretch 62 = .ok (.istore_n 3, 1) := dk_62 (dk_at dksX19_stretch_2 15 rfl rfl)
theorem dX19_stretch_63 : decode cX19_stretch 63 = .ok (.iload_n 3, 1) := dk_29 (dk_at dksX19_stretch_2 16 rfl rfl)
theorem dX19_stretch_64 : decode cX19_stretch 64 = .ok (.aload_n 0, 1) := dk_42 (dk_at dksX19_stretch_2 17 rfl rfl)
theorem dX19_stretch_65 : decode cX19_stretch 65 = .ok (.getfield 40, 3) := dk_180 0 40 (dk_at dksX19_stretch_2 18 rfl rfl)
theorem dX19_stretch_68 : decode cX19_stretch 68 = .ok (.invokevirtual 89, 3) := dk_182 0 89 (dk_at dksX19_stretch_2 21 rfl rfl)
theorem dX19_stretch_71 : decode cX19_stretch 71 = .ok (.if_icmp .ge 27, 3) := dk_162 0 27 (dk_at dksX19_stretch_3 0 rfl rfl)
theorem dX19_stretch_74 : decode cX19_stretch 74 = .ok (.aload_n 0, 1) := dk_42 (dk_at dksX19_stretch_3 3 rfl rfl)
theorem dX19_stretch_75 : decode cX19_stretch 75 = .ok (.getfield 40, 3) := dk_180 0 40 (dk_at dksX19_stretch_3 4 rfl rfl)
theorem dX19_stretch_78 : decode cX19_stretch 78 = .ok (.iload_n 3, 1) := dk_29 (dk_at dksX19_stretch_3 7 rfl rfl)
theorem dX19_stretch_79 : decode cX19_stretch 79 = .ok (.invokevirtual 127, 3) := dk_182 0 127 (dk_at dksX19_stretch_3 8 rfl rfl)
theorem dX19_stretch_82 : decode cX19_stretch 82 = .ok (.checkcast 55, 3) := dk_192 0 55 (dk_at dksX19_stretch_3 11 rfl rfl)
theorem dX19_stretch_85 : decode cX19_stretch 85 = .ok (.getfield 109, 3) := dk_180 0 109 (dk_at dksX19_stretch_3 14 rfl rfl)
theorem dX19_stretch_88 : decode cX19_stretch 88 = .ok (.iload_n 2, 1) := dk_28 (dk_at dksX19_stretch_3 17 rfl rfl)
theorem dX19_stretch_89 : decode cX19_stretch 89 = .ok (.if_icmp .ne 9, 3) := dk_160 0 9 (dk_at dksX19_stretch_3 18 rfl rfl)
theorem dX19_stretch_92 : decode cX19_stretch 92 = .ok (.iinc 3 1, 3) := dk_132 3 1 (dk_at dksX19_stretch_3 21 rfl rfl)
theorem dX19_stretch_95 : decode cX19_stretch 95 = .ok (.goto (-32), 3) := dk_167 255 224 (dk_at dksX19_stretch_4 0 rfl rfl)
theorem dX19_stretch_98 : decode cX19_stretch 98 = .ok (.aload_n 1, 1) := dk_43 (dk_at dksX19_stretch_4 3 rfl rfl)
theorem dX19_stretch_99 : decode cX19_stretch 99 = .ok (.iload_n 3, 1) := dk_29 (dk_at dksX19_stretch_4 4 rfl rfl)
theorem dX19_stretch_100 : decode cX19_stretch 100 = .ok (.putfield 124, 3) := dk_181 0 124 (dk_at dksX19_stretch_4 5 rfl rfl)
theorem dX19_stretch_103 : decode cX19_stretch 103 = .ok (.return_, 1) := dk_177 (dk_at dksX19_stretch_4 8 rfl rfl)
abbrev cX19_give : ByteArray := prog_23_method_9_code
def yX19_give : MethodName := ⟨RX19, "give", "()V"⟩
def dkwX19_give_9 : List UInt8 := [44, 182, 0, 223, 167, 255, 46, 177]
abbrev dktX19_give_9 : List UInt8 := dkwX19_give_9 ++ []
def dkwX19_give_8 : List UInt8 := [153, 0, 9, 44, 21, 5, 181, 0, 220, 132, 5, 255, 167, 255, 235, 44, 180, 0, 220, 2, 160, 0, 8, 42]
abbrev dktX19_give_8 : List UInt8 := dkwX19_give_8 ++ dktX19_give_9
def dkwX19_give_7 : List UInt8 := [21, 4, 181, 0, 220, 167, 255, 92, 45, 190, 4, 100, 54, 5, 21, 5, 155, 0, 22, 45, 21, 5, 51]
abbrev dktX19_give_7 : List UInt8 := dkwX19_give_7 ++ dktX19_give_8
def dkwX19_give_6 : List UInt8 := [44, 180, 0, 184, 50, 180, 0, 220, 54, 4, 21, 4, 2, 159, 0, 19, 45, 21, 4, 51, 153, 0, 12, 44]
abbrev dktX19_give_6 : List UInt8 := dkwX19_give_6 ++ dktX19_give_7
def dkwX19_give_5 : List UInt8 := [180, 0, 220, 3, 84, 167, 255, 205, 44, 180, 0, 184, 2, 160, 0, 7, 2, 167, 0, 15, 42, 180, 0, 69]
abbrev dktX19_give_5 : List UInt8 := dkwX19_give_5 ++ dktX19_give_6
def dkwX19_give_4 : List UInt8 := [25, 5, 180, 0, 220, 2, 159, 0, 23, 25, 5, 180, 0, 124, 44, 180, 0, 165, 164, 0, 11, 45, 25, 5]
abbrev dktX19_give_4 : List UInt8 := dkwX19_give_4 ++ dktX19_give_5
def dkwX19_give_3 : List UInt8 := [58, 4, 25, 4, 185, 0, 45, 1, 0, 153, 0, 47, 25, 4, 185, 0, 51, 1, 0, 192, 0, 67, 58, 5]
abbrev dktX19_give_3 : List UInt8 := dkwX19_give_3 ++ dktX19_give_4
def dkwX19_give_2 : List UInt8 := [45, 21, 4, 42, 44, 21, 4, 182, 0, 216, 84, 132, 4, 1, 167, 255, 235, 42, 180, 0, 12, 182, 0, 41]
abbrev dktX19_give_2 : List UInt8 := dkwX19_give_2 ++ dktX19_give_3
def dkwX19_give_1 : List UInt8 := [192, 0, 67, 77, 42, 180, 0, 28, 182, 0, 213, 188, 4, 78, 3, 54, 4, 21, 4, 45, 190, 162, 0, 20]
abbrev dktX19_give_1 : List UInt8 := dkwX19_give_1 ++ dktX19_give_2
def dkwX19_give_0 : List UInt8 := [42, 180, 0, 12, 182, 0, 41, 76, 43, 185, 0, 45, 1, 0, 153, 0, 207, 43, 185, 0, 51, 1, 0]
abbrev dktX19_give_0 : List UInt8 := dkwX19_give_0 ++ dktX19_give_1
theorem dksX19_give_0 : cX19_give.data.toList.drop 0 = dktX19_give_0 := by decide +kernel
theorem dksX19_give_1 : cX19_give.data.toList.drop 23 = dktX19_give_1 := dk_seg dksX19_give_0 23 rfl rfl
theorem dksX19_give_2 : cX19_give.data.toList.drop 47 = dktX19_give_2 := dk_seg dksX19_give_1 24 rfl rfl
theorem dksX19_give_3 : cX19_give.data.toList.drop 71 = dktX19_give_3 := dk_seg dksX19_give_2 24 rfl rfl
theorem dksX19_give_4 : cX19_give.data.toList.drop 95 = dktX19_give_4 := dk_seg dksX19_give_3 24 rfl rfl
theorem dksX19_give_5 : cX19_give.data.toList.drop 119 = dktX19_give_5 := dk_seg dksX19_give_4 24 rfl rfl
theorem dksX19_give_6 : cX19_give.data.toList.drop 143 = dktX19_give_6 := dk_seg dksX19_give_5 24 rfl rfl
theorem dksX19_give_7 : cX19_give.data.toList.drop 167 = dktX19_give_7 := dk_seg dksX19_give_6 24 rfl rfl
theorem dksX19_give_8 : cX19_give.data.toList.drop 190 = dktX19_give_8 := dk_seg dksX19_give_7 23 rfl rfl
theorem dksX19_give_9 : cX19_give.data.toList.drop 214 = dktX19_give_9 := dk_seg dksX19_give_8 24 rfl rfl
theorem dX19_give_0 : decode cX19_give 0 = .ok (.aload_n 0, 1) := dk_42 (dk_at dksX19_give_0 0 rfl rfl)
theorem dX19_give_1 : decode cX19_give 1 = .ok (.getfield 12, 3) := dk_180 0 12 (dk_at dksX19_give_0 1 rfl rfl)
theorem dX19_give_4 : decode cX19_give 4 = .ok (.invokevirtual 41, 3) := dk_182 0 41 (dk_at dksX19_give_0 4 rfl rfl)
theorem dX19_give_7 : decode cX19_give 7 = .ok (.astore_n 1, 1) := dk_76 (dk_at dksX19_give_0 7 rfl rfl)
theorem dX19_give_8 : decode cX19_give 8 = .ok (.aload_n 1, 1) := dk_43 (dk_at dksX19_give_0 8 rfl rfl)
theorem dX19_give_9 : decode cX19_give 9 = .ok (.invokeinterface 45 1, 5) := by decide +kernel
theorem dX19_give_14 : decode cX19_give 14 = .ok (.ifCond .eq 207, 3) := dk_153 0 207 (dk_at dksX19_give_0 14 rfl rfl)
theorem dX19_give_17 : decode cX19_give 17 = .ok (.aload_n 1, 1) := dk_43 (dk_at dksX19_give_0 17 rfl rfl)
theorem dX19_give_18 : decode cX19_give 18 = .ok (.invokeinterface 51 1, 5) := by decide +kernel
theorem dX19_give_23 : decode cX19_give 23 = .ok (.checkcast 67, 3) := dk_192 0 67 (dk_at dksX19_give_1 0 rfl rfl)
theorem dX19_give_26 : decode cX19_give 26 = .ok (.astore_n 2, 1) := dk_77 (dk_at dksX19_give_1 3 rfl rfl)
theorem dX19_give_27 : decode cX19_give 27 = .ok (.aload_n 0, 1) := dk_42 (dk_at dksX19_give_1 4 rfl rfl)
theorem dX19_give_28 : decode cX19_give 28 = .ok (.getfield 28, 3) := dk_180 0 28 (dk_at dksX19_give_1 5 rfl rfl)
theorem dX19_give_31 : decode cX19_give 31 = .ok (.invokevirtual 213, 3) := dk_182 0 213 (dk_at dksX19_give_1 8 rfl rfl)
theorem dX19_give_34 : decode cX19_give 34 = .ok (.newarray .boolean, 2) := dk_188_4 (dk_at dksX19_give_1 11 rfl rfl)
theorem dX19_give_36 : decode cX19_give 36 = .ok (.astore_n 3, 1) := dk_78 (dk_at dksX19_give_1 13 rfl rfl)
theorem dX19_give_37 : decode cX19_give 37 = .ok (.iconst 0, 1) := dk_3 (dk_at dksX19_give_1 14 rfl rfl)
theorem dX19_give_38 : decode cX19_give 38 = .ok (.istore 4, 2) := dk_54 4 (dk_at dksX19_give_1 15 rfl rfl)
theorem dX19_give_40 : decode cX19_give 40 = .ok (.iload 4, 2) := dk_21 4 (dk_at dksX19_give_1 17 rfl rfl)
theorem dX19_give_42 : decode cX19_give 42 = .ok (.aload_n 3, 1) := dk_45 (dk_at dksX19_give_1 19 rfl rfl)
theorem dX19_give_43 : decode cX19_give 43 = .ok (.arraylength, 1) := dk_190 (dk_at dksX19_give_1 20 rfl rfl)
theorem dX19_give_44 : decode cX19_give 44 = .ok (.if_icmp .ge 20, 3) := dk_162 0 20 (dk_at dksX19_give_1 21 rfl rfl)
theorem dX19_give_47 : decode cX19_give 47 = .ok (.aload_n 3, 1) := dk_45 (dk_at dksX19_give_2 0 rfl rfl)
theorem dX19_give_48 : decode cX19_give 48 = .ok (.iload 4, 2) := dk_21 4 (dk_at dksX19_give_2 1 rfl rfl)
theorem dX19_give_50 : decode cX19_give 50 = .ok (.aload_n 0, 1) := dk_42 (dk_at dksX19_give_2 3 rfl rfl)
theorem dX19_give_51 : decode cX19_give 51 = .ok (.aload_n 2, 1) := dk_44 (dk_at dksX19_give_2 4 rfl rfl)
theorem dX19_give_52 : decode cX19_give 52 = .ok (.iload 4, 2) := dk_21 4 (dk_at dksX19_give_2 5 rfl rfl)
theorem dX19_give_54 : decode cX19_give 54 = .ok (.invokevirtual 216, 3) := dk_182 0 216 (dk_at dksX19_give_2 7 rfl rfl)
theorem dX19_give_57 : decode cX19_give 57 = .ok (.bastore, 1) := dk_84 (dk_at dksX19_give_2 10 rfl rfl)
theorem dX19_give_58 : decode cX19_give 58 = .ok (.iinc 4 1, 3) := dk_132 4 1 (dk_at dksX19_give_2 11 rfl rfl)
theorem dX19_give_61 : decode cX19_give 61 = .ok (.goto (-21), 3) := dk_167 255 235 (dk_at dksX19_give_2 14 rfl rfl)
theorem dX19_give_64 : decode cX19_give 64 = .ok (.aload_n 0, 1) := dk_42 (dk_at dksX19_give_2 17 rfl rfl)
theorem dX19_give_65 : decode cX19_give 65 = .ok (.getfield 12, 3) := dk_180 0 12 (dk_at dksX19_give_2 18 rfl rfl)
theorem dX19_give_68 : decode cX19_give 68 = .ok (.invokevirtual 41, 3) := dk_182 0 41 (dk_at dksX19_give_2 21 rfl rfl)
theorem dX19_give_71 : decode cX19_give 71 = .ok (.astore 4, 2) := dk_58 4 (dk_at dksX19_give_3 0 rfl rfl)
theorem dX19_give_73 : decode cX19_give 73 = .ok (.aload 4, 2) := dk_25 4 (dk_at dksX19_give_3 2 rfl rfl)
theorem dX19_give_75 : decode cX19_give 75 = .ok (.invokeinterface 45 1, 5) := by decide +kernel
theorem dX19_give_80 : decode cX19_give 80 = .ok (.ifCond .eq 47, 3) := dk_153 0 47 (dk_at dksX19_give_3 9 rfl rfl)
theorem dX19_give_83 : decode cX19_give 83 = .ok (.aload 4, 2) := dk_25 4 (dk_at dksX19_give_3 12 rfl rfl)
theorem dX19_give_85 : decode cX19_give 85 = .ok (.invokeinterface 51 1, 5) := by decide +kernel
theorem dX19_give_90 : decode cX19_give 90 = .ok (.checkcast 67, 3) := dk_192 0 67 (dk_at dksX19_give_3 19 rfl rfl)
theorem dX19_give_93 : decode cX19_give 93 = .ok (.astore 5, 2) := dk_58 5 (dk_at dksX19_give_3 22 rfl rfl)
theorem dX19_give_95 : decode cX19_give 95 = .ok (.aload 5, 2) := dk_25 5 (dk_at dksX19_give_4 0 rfl rfl)
theorem dX19_give_97 : decode cX19_give 97 = .ok (.getfield 220, 3) := dk_180 0 220 (dk_at dksX19_give_4 2 rfl rfl)
theorem dX19_give_100 : decode cX19_give 100 = .ok (.iconst (-1), 1) := dk_2 (dk_at dksX19_give_4 5 rfl rfl)
theorem dX19_give_101 : decode cX19_give 101 = .ok (.if_icmp .eq 23, 3) := dk_159 0 23 (dk_at dksX19_give_4 6 rfl rfl)
theorem dX19_give_104 : decode cX19_give 104 = .ok (.aload 5, 2) := dk_25 5 (dk_at dksX19_give_4 9 rfl rfl)
theorem dX19_give_106 : decode cX19_give 106 = .ok (.getfield 124, 3) := dk_180 0 124 (dk_at dksX19_give_4 11 rfl rfl)
theorem dX19_give_109 : decode cX19_give 109 = .ok (.aload_n 2, 1) := dk_44 (dk_at dksX19_give_4 14 rfl rfl)
theorem dX19_give_110 : decode cX19_give 110 = .ok (.getfield 165, 3) := dk_180 0 165 (dk_at dksX19_give_4 15 rfl rfl)
theorem dX19_give_113 : decode cX19_give 113 = .ok (.if_icmp .le 11, 3) := dk_164 0 11 (dk_at dksX19_give_4 18 rfl rfl)
theorem dX19_give_116 : decode cX19_give 116 = .ok (.aload_n 3, 1) := dk_45 (dk_at dksX19_give_4 21 rfl rfl)
theorem dX19_give_117 : decode cX19_give 117 = .ok (.aload 5, 2) := dk_25 5 (dk_at dksX19_give_4 22 rfl rfl)
theorem dX19_give_119 : decode cX19_give 119 = .ok (.getfield 220, 3) := dk_180 0 220 (dk_at dksX19_give_5 0 rfl rfl)
theorem dX19_give_122 : decode cX19_give 122 = .ok (.iconst 0, 1) := dk_3 (dk_at dksX19_give_5 3 rfl rfl)
theorem dX19_give_123 : decode cX19_give 123 = .ok (.bastore, 1) := dk_84 (dk_at dksX19_give_5 4 rfl rfl)
theorem dX19_give_124 : decode cX19_give 124 = .ok (.goto (-51), 3) := dk_167 255 205 (dk_at dksX19_give_5 5 rfl rfl)
theorem dX19_give_127 : decode cX19_give 127 = .ok (.aload_n 2, 1) := dk_44 (dk_at dksX19_give_5 8 rfl rfl)
theorem dX19_give_128 : decode cX19_give 128 = .ok (.getfield 184, 3) := dk_180 0 184 (dk_at dksX19_give_5 9 rfl rfl)
theorem dX19_give_131 : decode cX19_give 131 = .ok (.iconst (-1), 1) := dk_2 (dk_at dksX19_give_5 12 rfl rfl)
theorem dX19_give_132 : decode cX19_give 132 = .ok (.if_icmp .ne 7, 3) := dk_160 0 7 (dk_at dksX19_give_5 13 rfl rfl)
theorem dX19_give_135 : decode cX19_give 135 = .ok (.iconst (-1), 1) := dk_2 (dk_at dksX19_give_5 16 rfl rfl)
theorem dX19_give_136 : decode cX19_give 136 = .ok (.goto 15, 3) := dk_167 0 15 (dk_at dksX19_give_5 17 rfl rfl)
theorem dX19_give_139 : decode cX19_give 139 = .ok (.aload_n 0, 1) := dk_42 (dk_at dksX19_give_5 20 rfl rfl)
theorem dX19_give_140 : decode cX19_give 140 = .ok (.getfield 69, 3) := dk_180 0 69 (dk_at dksX19_give_5 21 rfl rfl)
theorem dX19_give_143 : decode cX19_give 143 = .ok (.aload_n 2, 1) := dk_44 (dk_at dksX19_give_6 0 rfl rfl)
theorem dX19_give_144 : decode cX19_give 144 = .ok (.getfield 184, 3) := dk_180 0 184 (dk_at dksX19_give_6 1 rfl rfl)
theorem dX19_give_147 : decode cX19_give 147 = .ok (.aaload, 1) := dk_50 (dk_at dksX19_give_6 4 rfl rfl)
theorem dX19_give_148 : decode cX19_give 148 = .ok (.getfield 220, 3) := dk_180 0 220 (dk_at dksX19_give_6 5 rfl rfl)
theorem dX19_give_151 : decode cX19_give 151 = .ok (.istore 4, 2) := dk_54 4 (dk_at dksX19_give_6 8 rfl rfl)
theorem dX19_give_153 : decode cX19_give 153 = .ok (.iload 4, 2) := dk_21 4 (dk_at dksX19_give_6 10 rfl rfl)
theorem dX19_give_155 : decode cX19_give 155 = .ok (.iconst (-1), 1) := dk_2 (dk_at dksX19_give_6 12 rfl rfl)
theorem dX19_give_156 : decode cX19_give 156 = .ok (.if_icmp .eq 19, 3) := dk_159 0 19 (dk_at dksX19_give_6 13 rfl rfl)
theorem dX19_give_159 : decode cX19_give 159 = .ok (.aload_n 3, 1) := dk_45 (dk_at dksX19_give_6 16 rfl rfl)
theorem dX19_give_160 : decode cX19_give 160 = .ok (.iload 4, 2) := dk_21 4 (dk_at dksX19_give_6 17 rfl rfl)
theorem dX19_give_162 : decode cX19_give 162 = .ok (.baload, 1) := dk_51 (dk_at dksX19_give_6 19 rfl rfl)
theorem dX19_give_163 : decode cX19_give 163 = .ok (.ifCond .eq 12, 3) := dk_153 0 12 (dk_at dksX19_give_6 20 rfl rfl)
theorem dX19_give_166 : decode cX19_give 166 = .ok (.aload_n 2, 1) := dk_44 (dk_at dksX19_give_6 23 rfl rfl)
theorem dX19_give_167 : decode cX19_give 167 = .ok (.iload 4, 2) := dk_21 4 (dk_at dksX19_give_7 0 rfl rfl)
theorem dX19_give_169 : decode cX19_give 169 = .ok (.putfield 220, 3) := dk_181 0 220 (dk_at dksX19_give_7 2 rfl rfl)
theorem dX19_give_172 : decode cX19_give 172 = .ok (.goto (-164), 3) := dk_167 255 92 (dk_at dksX19_give_7 5 rfl rfl)
theorem dX19_give_175 : decode cX19_give 175 = .ok (.aload_n 3, 1) := dk_45 (dk_at dksX19_give_7 8 rfl rfl)
theorem dX19_give_176 : decode cX19_give 176 = .ok (.arraylength, 1) := dk_190 (dk_at dksX19_give_7 9 rfl rfl)
theorem dX19_give_177 : decode cX19_give 177 = .ok (.iconst 1, 1) := dk_4 (dk_at dksX19_give_7 10 rfl rfl)
theorem dX19_give_178 : decode cX19_give 178 = .ok (.isub, 1) := dk_100 (dk_at dksX19_give_7 11 rfl rfl)
theorem dX19_give_179 : decode cX19_give 179 = .ok (.istore 5, 2) := dk_54 5 (dk_at dksX19_give_7 12 rfl rfl)
theorem dX19_give_181 : decode cX19_give 181 = .ok (.iload 5, 2) := dk_21 5 (dk_at dksX19_give_7 14 rfl rfl)
theorem dX19_give_183 : decode cX19_give 183 = .ok (.ifCond .lt 22, 3) := dk_155 0 22 (dk_at dksX19_give_7 16 rfl rfl)
theorem dX19_give_186 : decode cX19_give 186 = .ok (.aload_n 3, 1) := dk_45 (dk_at dksX19_give_7 19 rfl rfl)
theorem dX19_give_187 : decode cX19_give 187 = .ok (.iload 5, 2) := dk_21 5 (dk_at dksX19_give_7 20 rfl rfl)
theorem dX19_give_189 : decode cX19_give 189 = .ok (.baload, 1) := dk_51 (dk_at dksX19_give_7 22 rfl rfl)
theorem dX19_give_190 : decode cX19_give 190 = .ok (.ifCond .eq 9, 3) := dk_153 0 9 (dk_at dksX19_give_8 0 rfl rfl)
theorem dX19_give_193 : decode cX19_give 193 = .ok (.aload_n 2, 1) := dk_44 (dk_at dksX19_give_8 3 rfl rfl)
theorem dX19_give_194 : decode cX19_give 194 = .ok (.iload 5, 2) := dk_21 5 (dk_at dksX19_give_8 4 rfl rfl)
theorem dX19_give_196 : decode cX19_give 196 = .ok (.putfield 220, 3) := dk_181 0 220 (dk_at dksX19_give_8 6 rfl rfl)
theorem dX19_give_199 : decode cX19_give 199 = .ok (.iinc 5 (-1), 3) := dk_132 5 255 (dk_at dksX19_give_8 9 rfl rfl)
theorem dX19_give_202 : decode cX19_give 202 = .ok (.goto (-21), 3) := dk_167 255 235 (dk_at dksX19_give_8 12 rfl rfl)
theorem dX19_give_205 : decode cX19_give 205 = .ok (.aload_n 2, 1) := dk_44 (dk_at dksX19_give_8 15 rfl rfl)
theorem dX19_give_206 : decode cX19_give 206 = .ok (.getfield 220, 3) := dk_180 0 220 (dk_at dksX19_give_8 16 rfl rfl)
theorem dX19_give_209 : decode cX19_give 209 = .ok (.iconst (-1), 1) := dk_2 (dk_at dksX19_give_8 19 rfl rfl)
theorem dX19_give_210 : decode cX19_give 210 = .ok (.if_icmp .ne 8, 3) := dk_160 0 8 (dk_at dksX19_give_8 20 rfl rfl)
theorem dX19_give_213 : decode cX19_give 213 = .ok (.aload_n 0, 1) := dk_42 (dk_at dksX19_give_8 23 rfl rfl)
theorem dX19_give_214 : decode cX19_give 214 = .ok (.aload_n 2, 1) := dk_44 (dk_at dksX19_give_9 0 rfl rfl)
theorem dX19_give_215 : decode cX19_give 215 = .ok (.invokevirtual 223, 3) := dk_182 0 223 (dk_at dksX19_give_9 1 rfl rfl)
theorem dX19_give_218 : decode cX19_give 218 = .ok (.goto (-210), 3) := dk_167 255 46 (dk_at dksX19_give_9 4 rfl rfl)
theorem dX19_give_221 : decode cX19_give 221 = .ok (.return_, 1) := dk_177 (dk_at dksX19_give_9 7 rfl rfl)
abbrev cX19_canHave : ByteArray := prog_23_method_8_code
def yX19_canHave : MethodName := ⟨RX19, "canHave", "(LSpillslotWorksModel$Life;I)Z"⟩
def dkwX19_canHave_0 : List UInt8 := [43, 180, 0, 203, 153, 0, 14, 42, 180, 0, 28, 28, 182, 0, 210, 153, 0, 7, 4, 167, 0, 4, 3, 172]
abbrev dktX19_canHave_0 : List UInt8 := dkwX19_canHave_0 ++ []
theorem dksX19_canHave_0 : cX19_canHave.data.toList.drop 0 = dktX19_canHave_0 := by decide +kernel
theorem dX19_canHave_0 : decode cX19_canHave 0 = .ok (.aload_n 1, 1) := dk_43 (dk_at dksX19_canHave_0 0 rfl rfl)
theorem dX19_canHave_1 : decode cX19_canHave 1 = .ok (.getfield 203, 3) := dk_180 0 203 (dk_at dksX19_canHave_0 1 rfl rfl)
theorem dX19_canHave_4 : decode cX19_canHave 4 = .ok (.ifCond .eq 14, 3) := dk_153 0 14 (dk_at dksX19_canHave_0 4 rfl rfl)
theorem dX19_canHave_7 : decode cX19_canHave 7 = .ok (.aload_n 0, 1) := dk_42 (dk_at dksX19_canHave_0 7 rfl rfl)
theorem dX19_canHave_8 : decode cX19_canHave 8 = .ok (.getfield 28, 3) := dk_180 0 28 (dk_at dksX19_canHave_0 8 rfl rfl)
theorem dX19_canHave_11 : decode cX19_canHave 11 = .ok (.iload_n 2, 1) := dk_28 (dk_at dksX19_canHave_0 11 rfl rfl)
theorem dX19_canHave_12 : decode cX19_canHave 12 = .ok (.invokevirtual 210, 3) := dk_182 0 210 (dk_at dksX19_canHave_0 12 rfl rfl)
theorem dX19_canHave_15 : decode cX19_canHave 15 = .ok (.ifCond .eq 7, 3) := dk_153 0 7 (dk_at dksX19_canHave_0 15 rfl rfl)
theorem dX19_canHave_18 : decode cX19_canHave 18 = .ok (.iconst 1, 1) := dk_4 (dk_at dksX19_canHave_0 18 rfl rfl)
theorem dX19_canHave_19 : decode cX19_canHave 19 = .ok (.goto 4, 3) := dk_167 0 4 (dk_at dksX19_canHave_0 19 rfl rfl)
theorem dX19_canHave_22 : decode cX19_canHave 22 = .ok (.iconst 0, 1) := dk_3 (dk_at dksX19_canHave_0 22 rfl rfl)
theorem dX19_canHave_23 : decode cX19_canHave 23 = .ok (.ireturn, 1) := dk_172 (dk_at dksX19_canHave_0 23 rfl rfl)
abbrev cX19_yieldOne : ByteArray := prog_23_method_10_code
def yX19_yieldOne : MethodName := ⟨RX19, "yieldOne", "(LSpillslotWorksModel$Life;)V"⟩
def dkwX19_yieldOne_5 : List UInt8 := [43, 44, 180, 0, 220, 181, 0, 220, 44, 2, 181, 0, 220, 177]
abbrev dktX19_yieldOne_5 : List UInt8 := dkwX19_yieldOne_5 ++ []
def dkwX19_yieldOne_4 : List UInt8 := [25, 4, 180, 0, 187, 44, 180, 0, 187, 164, 0, 6, 25, 4, 77, 167, 255, 160, 44, 43, 166, 0, 4, 177]
abbrev dktX19_yieldOne_4 : List UInt8 := dkwX19_yieldOne_4 ++ dktX19_yieldOne_5
def dkwX19_yieldOne_3 : List UInt8 := [25, 4, 180, 0, 121, 44, 180, 0, 121, 161, 0, 27, 25, 4, 180, 0, 121, 44, 180, 0, 121, 160, 0, 18]
abbrev dktX19_yieldOne_3 : List UInt8 := dkwX19_yieldOne_3 ++ dktX19_yieldOne_4
def dkwX19_yieldOne_2 : List UInt8 := [43, 180, 0, 165, 164, 255, 218, 42, 43, 25, 4, 180, 0, 220, 182, 0, 216, 154, 0, 6, 167, 255, 202]
abbrev dktX19_yieldOne_2 : List UInt8 := dkwX19_yieldOne_2 ++ dktX19_yieldOne_3
def dkwX19_yieldOne_1 : List UInt8 := [185, 0, 51, 1, 0, 192, 0, 67, 58, 4, 25, 4, 180, 0, 220, 2, 159, 255, 230, 25, 4, 180, 0, 124]
abbrev dktX19_yieldOne_1 : List UInt8 := dkwX19_yieldOne_1 ++ dktX19_yieldOne_2
def dkwX19_yieldOne_0 : List UInt8 := [43, 77, 42, 180, 0, 12, 182, 0, 41, 78, 45, 185, 0, 45, 1, 0, 153, 0, 93, 45]
abbrev dktX19_yieldOne_0 : List UInt8 := dkwX19_yieldOne_0 ++ dktX19_yieldOne_1
theorem dksX19_yieldOne_0 : cX19_yieldOne.data.toList.drop 0 = dktX19_yieldOne_0 := by decide +kernel
theorem dksX19_yieldOne_1 : cX19_yieldOne.data.toList.drop 20 = dktX19_yieldOne_1 := dk_seg dksX19_yieldOne_0 20 rfl rfl
theorem dksX19_yieldOne_2 : cX19_yieldOne.data.toList.drop 44 = dktX19_yieldOne_2 := dk_seg dksX19_yieldOne_1 24 rfl rfl
theorem dksX19_yieldOne_3 : cX19_yieldOne.data.toList.drop 67 = dktX19_yieldOne_3 := dk_seg dksX19_yieldOne_2 23 rfl rfl
theorem dksX19_yieldOne_4 : cX19_yieldOne.data.toList.drop 91 = dktX19_yieldOne_4 := dk_seg dksX19_yieldOne_3 24 rfl rfl
theorem dksX19_yieldOne_5 : cX19_yieldOne.data.toList.drop 115 = dktX19_yieldOne_5 := dk_seg dksX19_yieldOne_4 24 rfl rfl
theorem dX19_yieldOne_0 : decode cX19_yieldOne 0 = .ok (.aload_n 1, 1) := dk_43 (dk_at dksX19_yieldOne_0 0 rfl rfl)
theorem dX19_yieldOne_1 : decode cX19_yieldOne 1 = .ok (.astore_n 2, 1) := dk_77 (dk_at dksX19_yieldOne_0 1 rfl rfl)
theorem dX19_yieldOne_2 : decode cX19_yieldOne 2 = .ok (.aload_n 0, 1) := dk_42 (dk_at dksX19_yieldOne_0 2 rfl rfl)
theorem dX19_yieldOne_3 : decode cX19_yieldOne 3 = .ok (.getfield 12, 3) := dk_180 0 12 (dk_at dksX19_yieldOne_0 3 rfl rfl)
theorem dX19_yieldOne_6 : decode cX19_yieldOne 6 = .ok (.invokevirtual 41, 3) := dk_182 0 41 (dk_at dksX19_yieldOne_0 6 rfl rfl)
theorem dX19_yieldOne_9 : decode cX19_yieldOne 9 = .ok (.astore_n 3, 1) := dk_78 (dk_at dksX19_yieldOne_0 9 rfl rfl)
theorem dX19_yieldOne_10 : decode cX19_yieldOne 10 = .ok (.aload_n 3, 1) := dk_45 (dk_at dksX19_yieldOne_0 10 rfl rfl)
theorem dX19_yieldOne_11 : decode cX19_yieldOne 11 = .ok (.invokeinterface 45 1, 5) := by decide +kernel
theorem dX19_yieldOne_16 : decode cX19_yieldOne 16 = .ok (.ifCond .eq 93, 3) := dk_153 0 93 (dk_at dksX19_yieldOne_0 16 rfl rfl)
theorem dX19_yieldOne_19 : decode cX19_yieldOne 19 = .ok (.aload_n 3, 1) := dk_45 (dk_at dksX19_yieldOne_0 19 rfl rfl)
theorem dX19_yieldOne_20 : decode cX19_yieldOne 20 = .ok (.invokeinterface 51 1, 5) := by decide +kernel
theorem dX19_yieldOne_25 : decode cX19_yieldOne 25 = .ok (.checkcast 67, 3) := dk_192 0 67 (dk_at dksX19_yieldOne_1 5 rfl rfl)
theorem dX19_yieldOne_28 : decode cX19_yieldOne 28 = .ok (.astore 4, 2) := dk_58 4 (dk_at dksX19_yieldOne_1 8 rfl rfl)
theorem dX19_yieldOne_30 : decode cX19_yieldOne 30 = .ok (.aload 4, 2) := dk_25 4 (dk_at dksX19_yieldOne_1 10 rfl rfl)
theorem dX19_yieldOne_32 : decode cX19_yieldOne 32 = .ok (.getfield 220, 3) := dk_180 0 220 (dk_at dksX19_yieldOne_1 12 rfl rfl)
theorem dX19_yieldOne_35 : decode cX19_yieldOne 35 = .ok (.iconst (-1), 1) := dk_2 (dk_at dksX19_yieldOne_1 15 rfl rfl)
theorem dX19_yieldOne_36 : decode cX19_yieldOne 36 = .ok (.if_icmp .eq (-26), 3) := dk_159 255 230 (dk_at dksX19_yieldOne_1 16 rfl rfl)
theorem dX19_yieldOne_39 : decode cX19_yieldOne 39 = .ok (.aload 4, 2) := dk_25 4 (dk_at dksX19_yieldOne_1 19 rfl rfl)
theorem dX19_yieldOne_41 : decode cX19_yieldOne 41 = .ok (.getfield 124, 3) := dk_180 0 124 (dk_at dksX19_yieldOne_1 21 rfl rfl)
theorem dX19_yieldOne_44 : decode cX19_yieldOne 44 = .ok (.aload_n 1, 1) := dk_43 (dk_at dksX19_yieldOne_2 0 rfl rfl)
theorem dX19_yieldOne_45 : decode cX19_yieldOne 45 = .ok (.getfield 165, 3) := dk_180 0 165 (dk_at dksX19_yieldOne_2 1 rfl rfl)
theorem dX19_yieldOne_48 : decode cX19_yieldOne 48 = .ok (.if_icmp .le (-38), 3) := dk_164 255 218 (dk_at dksX19_yieldOne_2 4 rfl rfl)
theorem dX19_yieldOne_51 : decode cX19_yieldOne 51 = .ok (.aload_n 0, 1) := dk_42 (dk_at dksX19_yieldOne_2 7 rfl rfl)
theorem dX19_yieldOne_52 : decode cX19_yieldOne 52 = .ok (.aload_n 1, 1) := dk_43 (dk_at dksX19_yieldOne_2 8 rfl rfl)
theorem dX19_yieldOne_53 : decode cX19_yieldOne 53 = .ok (.aload 4, 2) := dk_25 4 (dk_at dksX19_yieldOne_2 9 rfl rfl)
theorem dX19_yieldOne_55 : decode cX19_yieldOne 55 = .ok (.getfield 220, 3) := dk_180 0 220 (dk_at dksX19_yieldOne_2 11 rfl rfl)
theorem dX19_yieldOne_58 : decode cX19_yieldOne 58 = .ok (.invokevirtual 216, 3) := dk_182 0 216 (dk_at dksX19_yieldOne_2 14 rfl rfl)
theorem dX19_yieldOne_61 : decode cX19_yieldOne 61 = .ok (.ifCond .ne 6, 3) := dk_154 0 6 (dk_at dksX19_yieldOne_2 17 rfl rfl)
theorem dX19_yieldOne_64 : decode cX19_yieldOne 64 = .ok (.goto (-54), 3) := dk_167 255 202 (dk_at dksX19_yieldOne_2 20 rfl rfl)
theorem dX19_yieldOne_67 : decode cX19_yieldOne 67 = .ok (.aload 4, 2) := dk_25 4 (dk_at dksX19_yieldOne_3 0 rfl rfl)
theorem dX19_yieldOne_69 : decode cX19_yieldOne 69 = .ok (.getfield 121, 3) := dk_180 0 121 (dk_at dksX19_yieldOne_3 2 rfl rfl)
theorem dX19_yieldOne_72 : decode cX19_yieldOne 72 = .ok (.aload_n 2, 1) := dk_44 (dk_at dksX19_yieldOne_3 5 rfl rfl)
theorem dX19_yieldOne_73 : decode cX19_yieldOne 73 = .ok (.getfield 121, 3) := dk_180 0 121 (dk_at dksX19_yieldOne_3 6 rfl rfl)
theorem dX19_yieldOne_76 : decode cX19_yieldOne 76 = .ok (.if_icmp .lt 27, 3) := dk_161 0 27 (dk_at dksX19_yieldOne_3 9 rfl rfl)
theorem dX19_yieldOne_79 : decode cX19_yieldOne 79 = .ok (.aload 4, 2) := dk_25 4 (dk_at dksX19_yieldOne_3 12 rfl rfl)
theorem dX19_yieldOne_81 : decode cX19_yieldOne 81 = .ok (.getfield 121, 3) := dk_180 0 121 (dk_at dksX19_yieldOne_3 14 rfl rfl)
theorem dX19_yieldOne_84 : decode cX19_yieldOne 84 = .ok (.aload_n 2, 1) := dk_44 (dk_at dksX19_yieldOne_3 17 rfl rfl)
theorem dX19_yieldOne_85 : decode cX19_yieldOne 85 = .ok (.getfield 121, 3) := dk_180 0 121 (dk_at dksX19_yieldOne_3 18 rfl rfl)
theorem dX19_yieldOne_88 : decode cX19_yieldOne 88 = .ok (.if_icmp .ne 18, 3) := dk_160 0 18 (dk_at dksX19_yieldOne_3 21 rfl rfl)
theorem dX19_yieldOne_91 : decode cX19_yieldOne 91 = .ok (.aload 4, 2) := dk_25 4 (dk_at dksX19_yieldOne_4 0 rfl rfl)
theorem dX19_yieldOne_93 : decode cX19_yieldOne 93 = .ok (.getfield 187, 3) := dk_180 0 187 (dk_at dksX19_yieldOne_4 2 rfl rfl)
theorem dX19_yieldOne_96 : decode cX19_yieldOne 96 = .ok (.aload_n 2, 1) := dk_44 (dk_at dksX19_yieldOne_4 5 rfl rfl)
theorem dX19_yieldOne_97 : decode cX19_yieldOne 97 = .ok (.getfield 187, 3) := dk_180 0 187 (dk_at dksX19_yieldOne_4 6 rfl rfl)
theorem dX19_yieldOne_100 : decode cX19_yieldOne 100 = .ok (.if_icmp .le 6, 3) := dk_164 0 6 (dk_at dksX19_yieldOne_4 9 rfl rfl)
theorem dX19_yieldOne_103 : decode cX19_yieldOne 103 = .ok (.aload 4, 2) := dk_25 4 (dk_at dksX19_yieldOne_4 12 rfl rfl)
theorem dX19_yieldOne_105 : decode cX19_yieldOne 105 = .ok (.astore_n 2, 1) := dk_77 (dk_at dksX19_yieldOne_4 14 rfl rfl)
theorem dX19_yieldOne_106 : decode cX19_yieldOne 106 = .ok (.goto (-96), 3) := dk_167 255 160 (dk_at dksX19_yieldOne_4 15 rfl rfl)
theorem dX19_yieldOne_109 : decode cX19_yieldOne 109 = .ok (.aload_n 2, 1) := dk_44 (dk_at dksX19_yieldOne_4 18 rfl rfl)
theorem dX19_yieldOne_110 : decode cX19_yieldOne 110 = .ok (.aload_n 1, 1) := dk_43 (dk_at dksX19_yieldOne_4 19 rfl rfl)
theorem dX19_yieldOne_111 : decode cX19_yieldOne 111 = .ok (.if_acmp .ne 4, 3) := dk_166 0 4 (dk_at dksX19_yieldOne_4 20 rfl rfl)
theorem dX19_yieldOne_114 : decode cX19_yieldOne 114 = .ok (.return_, 1) := dk_177 (dk_at dksX19_yieldOne_4 23 rfl rfl)
theorem dX19_yieldOne_115 : decode cX19_yieldOne 115 = .ok (.aload_n 1, 1) := dk_43 (dk_at dksX19_yieldOne_5 0 rfl rfl)
theorem dX19_yieldOne_116 : decode cX19_yieldOne 116 = .ok (.aload_n 2, 1) := dk_44 (dk_at dksX19_yieldOne_5 1 rfl rfl)
theorem dX19_yieldOne_117 : decode cX19_yieldOne 117 = .ok (.getfield 220, 3) := dk_180 0 220 (dk_at dksX19_yieldOne_5 2 rfl rfl)
theorem dX19_yieldOne_120 : decode cX19_yieldOne 120 = .ok (.putfield 220, 3) := dk_181 0 220 (dk_at dksX19_yieldOne_5 5 rfl rfl)
theorem dX19_yieldOne_123 : decode cX19_yieldOne 123 = .ok (.aload_n 2, 1) := dk_44 (dk_at dksX19_yieldOne_5 8 rfl rfl)
theorem dX19_yieldOne_124 : decode cX19_yieldOne 124 = .ok (.iconst (-1), 1) := dk_2 (dk_at dksX19_yieldOne_5 9 rfl rfl)
theorem dX19_yieldOne_125 : decode cX19_yieldOne 125 = .ok (.putfield 220, 3) := dk_181 0 220 (dk_at dksX19_yieldOne_5 10 rfl rfl)
theorem dX19_yieldOne_128 : decode cX19_yieldOne 128 = .ok (.return_, 1) := dk_177 (dk_at dksX19_yieldOne_5 13 rfl rfl)
abbrev cX19_spill : ByteArray := prog_23_method_11_code
def yX19_spill : MethodName := ⟨RX19, "spill", "(LSpillslotWorksModel$Life;)V"⟩
def dkwX19_spill_2 : List UInt8 := [43, 28, 181, 0, 229, 42, 42, 180, 0, 232, 28, 4, 96, 184, 0, 61, 181, 0, 232, 177]
abbrev dktX19_spill_2 : List UInt8 := dkwX19_spill_2 ++ []
def dkwX19_spill_1 : List UInt8 := [180, 0, 169, 153, 0, 4, 177, 3, 61, 42, 43, 28, 182, 0, 226, 153, 0, 9, 132, 2, 1, 167, 255, 244]
abbrev dktX19_spill_1 : List UInt8 := dkwX19_spill_1 ++ dktX19_spill_2
def dkwX19_spill_0 : List UInt8 := [43, 89, 180, 0, 169, 43, 180, 0, 168, 4, 160, 0, 7, 4, 167, 0, 4, 3, 126, 181, 0, 169, 43]
abbrev dktX19_spill_0 : List UInt8 := dkwX19_spill_0 ++ dktX19_spill_1
theorem dksX19_spill_0 : cX19_spill.data.toList.drop 0 = dktX19_spill_0 := by decide +kernel
theorem dksX19_spill_1 : cX19_spill.data.toList.drop 23 = dktX19_spill_1 := dk_seg dksX19_spill_0 23 rfl rfl
theorem dksX19_spill_2 : cX19_spill.data.toList.drop 47 = dktX19_spill_2 := dk_seg dksX19_spill_1 24 rfl rfl
theorem dX19_spill_0 : decode cX19_spill 0 = .ok (.aload_n 1, 1) := dk_43 (dk_at dksX19_spill_0 0 rfl rfl)
theorem dX19_spill_1 : decode cX19_spill 1 = .ok (.dup, 1) := dk_89 (dk_at dksX19_spill_0 1 rfl rfl)
theorem dX19_spill_2 : decode cX19_spill 2 = .ok (.getfield 169, 3) := dk_180 0 169 (dk_at dksX19_spill_0 2 rfl rfl)
theorem dX19_spill_5 : decode cX19_spill 5 = .ok (.aload_n 1, 1) := dk_43 (dk_at dksX19_spill_0 5 rfl rfl)
theorem dX19_spill_6 : decode cX19_spill 6 = .ok (.getfield 168, 3) := dk_180 0 168 (dk_at dksX19_spill_0 6 rfl rfl)
theorem dX19_spill_9 : decode cX19_spill 9 = .ok (.iconst 1, 1) := dk_4 (dk_at dksX19_spill_0 9 rfl rfl)
theorem dX19_spill_10 : decode cX19_spill 10 = .ok (.if_icmp .ne 7, 3) := dk_160 0 7 (dk_at dksX19_spill_0 10 rfl rfl)
theorem dX19_spill_13 : decode cX19_spill 13 = .ok (.iconst 1, 1) := dk_4 (dk_at dksX19_spill_0 13 rfl rfl)
theorem dX19_spill_14 : decode cX19_spill 14 = .ok (.goto 4, 3) := dk_167 0 4 (dk_at dksX19_spill_0 14 rfl rfl)
theorem dX19_spill_17 : decode cX19_spill 17 = .ok (.iconst 0, 1) := dk_3 (dk_at dksX19_spill_0 17 rfl rfl)
theorem dX19_spill_18 : decode cX19_spill 18 = .ok (.iand, 1) := dk_126 (dk_at dksX19_spill_0 18 rfl rfl)
theorem dX19_spill_19 : decode cX19_spill 19 = .ok (.putfield 169, 3) := dk_181 0 169 (dk_at dksX19_spill_0 19 rfl rfl)
theorem dX19_spill_22 : decode cX19_spill 22 = .ok (.aload_n 1, 1) := dk_43 (dk_at dksX19_spill_0 22 rfl rfl)
theorem dX19_spill_23 : decode cX19_spill 23 = .ok (.getfield 169, 3) := dk_180 0 169 (dk_at dksX19_spill_1 0 rfl rfl)
theorem dX19_spill_26 : decode cX19_spill 26 = .ok (.ifCond .eq 4, 3) := dk_153 0 4 (dk_at dksX19_spill_1 3 rfl rfl)
theorem dX19_spill_29 : decode cX19_spill 29 = .ok (.return_, 1) := dk_177 (dk_at dksX19_spill_1 6 rfl rfl)
theorem dX19_spill_30 : decode cX19_spill 30 = .ok (.iconst 0, 1) := dk_3 (dk_at dksX19_spill_1 7 rfl rfl)
theorem dX19_spill_31 : decode cX19_spill 31 = .ok (.istore_n 2, 1) := dk_61 (dk_at dksX19_spill_1 8 rfl rfl)
theorem dX19_spill_32 : decode cX19_spill 32 = .ok (.aload_n 0, 1) := dk_42 (dk_at dksX19_spill_1 9 rfl rfl)
theorem dX19_spill_33 : decode cX19_spill 33 = .ok (.aload_n 1, 1) := dk_43 (dk_at dksX19_spill_1 10 rfl rfl)
theorem dX19_spill_34 : decode cX19_spill 34 = .ok (.iload_n 2, 1) := dk_28 (dk_at dksX19_spill_1 11 rfl rfl)
theorem dX19_spill_35 : decode cX19_spill 35 = .ok (.invokevirtual 226, 3) := dk_182 0 226 (dk_at dksX19_spill_1 12 rfl rfl)
theorem dX19_spill_38 : decode cX19_spill 38 = .ok (.ifCond .eq 9, 3) := dk_153 0 9 (dk_at dksX19_spill_1 15 rfl rfl)
theorem dX19_spill_41 : decode cX19_spill 41 = .ok (.iinc 2 1, 3) := dk_132 2 1 (dk_at dksX19_spill_1 18 rfl rfl)
theorem dX19_spill_44 : decode cX19_spill 44 = .ok (.goto (-12), 3) := dk_167 255 244 (dk_at dksX19_spill_1 21 rfl rfl)
theorem dX19_spill_47 : decode cX19_spill 47 = .ok (.aload_n 1, 1) := dk_43 (dk_at dksX19_spill_2 0 rfl rfl)
theorem dX19_spill_48 : decode cX19_spill 48 = .ok (.iload_n 2, 1) := dk_28 (dk_at dksX19_spill_2 1 rfl rfl)
theorem dX19_spill_49 : decode cX19_spill 49 = .ok (.putfield 229, 3) := dk_181 0 229 (dk_at dksX19_spill_2 2 rfl rfl)
theorem dX19_spill_52 : decode cX19_spill 52 = .ok (.aload_n 0, 1) := dk_42 (dk_at dksX19_spill_2 5 rfl rfl)
theorem dX19_spill_53 : decode cX19_spill 53 = .ok (.aload_n 0, 1) := dk_42 (dk_at dksX19_spill_2 6 rfl rfl)
theorem dX19_spill_54 : decode cX19_spill 54 = .ok (.getfield 232, 3) := dk_180 0 232 (dk_at dksX19_spill_2 7 rfl rfl)
theorem dX19_spill_57 : decode cX19_spill 57 = .ok (.iload_n 2, 1) := dk_28 (dk_at dksX19_spill_2 10 rfl rfl)
theorem dX19_spill_58 : decode cX19_spill 58 = .ok (.iconst 1, 1) := dk_4 (dk_at dksX19_spill_2 11 rfl rfl)
theorem dX19_spill_59 : decode cX19_spill 59 = .ok (.iadd, 1) := dk_96 (dk_at dksX19_spill_2 12 rfl rfl)
theorem dX19_spill_60 : decode cX19_spill 60 = .ok (.invokestatic 61, 3) := dk_184 0 61 (dk_at dksX19_spill_2 13 rfl rfl)
theorem dX19_spill_63 : decode cX19_spill 63 = .ok (.putfield 232, 3) := dk_181 0 232 (dk_at dksX19_spill_2 16 rfl rfl)
theorem dX19_spill_66 : decode cX19_spill 66 = .ok (.return_, 1) := dk_177 (dk_at dksX19_spill_2 19 rfl rfl)
abbrev cX19_isTaken : ByteArray := prog_23_method_12_code
def yX19_isTaken : MethodName := ⟨RX19, "isTaken", "(LSpillslotWorksModel$Life;I)Z"⟩
def dkwX19_isTaken_2 : List UInt8 := [182, 0, 235, 153, 0, 5, 4, 172, 167, 255, 210, 3, 172]
abbrev dktX19_isTaken_2 : List UInt8 := dkwX19_isTaken_2 ++ []
def dkwX19_isTaken_1 : List UInt8 := [192, 0, 67, 58, 4, 25, 4, 43, 165, 0, 23, 25, 4, 180, 0, 229, 28, 160, 0, 14, 25, 4, 43]
abbrev dktX19_isTaken_1 : List UInt8 := dkwX19_isTaken_1 ++ dktX19_isTaken_2
def dkwX19_isTaken_0 : List UInt8 := [42, 180, 0, 12, 182, 0, 41, 78, 45, 185, 0, 45, 1, 0, 153, 0, 43, 45, 185, 0, 51, 1, 0]
abbrev dktX19_isTaken_0 : List UInt8 := dkwX19_isTaken_0 ++ dktX19_isTaken_1
theorem dksX19_isTaken_0 : cX19_isTaken.data.toList.drop 0 = dktX19_isTaken_0 := by decide +kernel
theorem dksX19_isTaken_1 : cX19_isTaken.data.toList.drop 23 = dktX19_isTaken_1 := dk_seg dksX19_isTaken_0 23 rfl rfl
theorem dksX19_isTaken_2 : cX19_isTaken.data.toList.drop 46 = dktX19_isTaken_2 := dk_seg dksX19_isTaken_1 23 rfl rfl
theorem dX19_isTaken_0 : decode cX19_isTaken 0 = .ok (.aload_n 0, 1) := dk_42 (dk_at dksX19_isTaken_0 0 rfl rfl)
theorem dX19_isTaken_1 : decode cX19_isTaken 1 = .ok (.getfield 12, 3) := dk_180 0 12 (dk_at dksX19_isTaken_0 1 rfl rfl)
theorem dX19_isTaken_4 : decode cX19_isTaken 4 = .ok (.invokevirtual 41, 3) := dk_182 0 41 (dk_at dksX19_isTaken_0 4 rfl rfl)
theorem dX19_isTaken_7 : decode cX19_isTaken 7 = .ok (.astore_n 3, 1) := dk_78 (dk_at dksX19_isTaken_0 7 rfl rfl)
theorem dX19_isTaken_8 : decode cX19_isTaken 8 = .ok (.aload_n 3, 1) := dk_45 (dk_at dksX19_isTaken_0 8 rfl rfl)
theorem dX19_isTaken_9 : decode cX19_isTaken 9 = .ok (.invokeinterface 45 1, 5) := by decide +kernel
theorem dX19_isTaken_14 : decode cX19_isTaken 14 = .ok (.ifCond .eq 43, 3) := dk_153 0 43 (dk_at dksX19_isTaken_0 14 rfl rfl)
theorem dX19_isTaken_17 : decode cX19_isTaken 17 = .ok (.aload_n 3, 1) := dk_45 (dk_at dksX19_isTaken_0 17 rfl rfl)
theorem dX19_isTaken_18 : decode cX19_isTaken 18 = .ok (.invokeinterface 51 1, 5) := by decide +kernel
theorem dX19_isTaken_23 : decode cX19_isTaken 23 = .ok (.checkcast 67, 3) := dk_192 0 67 (dk_at dksX19_isTaken_1 0 rfl rfl)
theorem dX19_isTaken_26 : decode cX19_isTaken 26 = .ok (.astore 4, 2) := dk_58 4 (dk_at dksX19_isTaken_1 3 rfl rfl)
theorem dX19_isTaken_28 : decode cX19_isTaken 28 = .ok (.aload 4, 2) := dk_25 4 (dk_at dksX19_isTaken_1 5 rfl rfl)
theorem dX19_isTaken_30 : decode cX19_isTaken 30 = .ok (.aload_n 1, 1) := dk_43 (dk_at dksX19_isTaken_1 7 rfl rfl)
theorem dX19_isTaken_31 : decode cX19_isTaken 31 = .ok (.if_acmp .eq 23, 3) := dk_165 0 23 (dk_at dksX19_isTaken_1 8 rfl rfl)
theorem dX19_isTaken_34 : decode cX19_isTaken 34 = .ok (.aload 4, 2) := dk_25 4 (dk_at dksX19_isTaken_1 11 rfl rfl)
theorem dX19_isTaken_36 : decode cX19_isTaken 36 = .ok (.getfield 229, 3) := dk_180 0 229 (dk_at dksX19_isTaken_1 13 rfl rfl)
theorem dX19_isTaken_39 : decode cX19_isTaken 39 = .ok (.iload_n 2, 1) := dk_28 (dk_at dksX19_isTaken_1 16 rfl rfl)
theorem dX19_isTaken_40 : decode cX19_isTaken 40 = .ok (.if_icmp .ne 14, 3) := dk_160 0 14 (dk_at dksX19_isTaken_1 17 rfl rfl)
theorem dX19_isTaken_43 : decode cX19_isTaken 43 = .ok (.aload 4, 2) := dk_25 4 (dk_at dksX19_isTaken_1 20 rfl rfl)
theorem dX19_isTaken_45 : decode cX19_isTaken 45 = .ok (.aload_n 1, 1) := dk_43 (dk_at dksX19_isTaken_1 22 rfl rfl)
theorem dX19_isTaken_46 : decode cX19_isTaken 46 = .ok (.invokevirtual 235, 3) := dk_182 0 235 (dk_at dksX19_isTaken_2 0 rfl rfl)
theorem dX19_isTaken_49 : decode cX19_isTaken 49 = .ok (.ifCond .eq 5, 3) := dk_153 0 5 (dk_at dksX19_isTaken_2 3 rfl rfl)
theorem dX19_isTaken_52 : decode cX19_isTaken 52 = .ok (.iconst 1, 1) := dk_4 (dk_at dksX19_isTaken_2 6 rfl rfl)
theorem dX19_isTaken_53 : decode cX19_isTaken 53 = .ok (.ireturn, 1) := dk_172 (dk_at dksX19_isTaken_2 7 rfl rfl)
theorem dX19_isTaken_54 : decode cX19_isTaken 54 = .ok (.goto (-46), 3) := dk_167 255 210 (dk_at dksX19_isTaken_2 8 rfl rfl)
theorem dX19_isTaken_57 : decode cX19_isTaken 57 = .ok (.iconst 0, 1) := dk_3 (dk_at dksX19_isTaken_2 11 rfl rfl)
theorem dX19_isTaken_58 : decode cX19_isTaken 58 = .ok (.ireturn, 1) := dk_172 (dk_at dksX19_isTaken_2 12 rfl rfl)
abbrev cX19_answer : ByteArray := prog_23_method_17_code
def yX19_answer : MethodName := ⟨RX19, "answer", "(I)I"⟩
def dkwX19_answer_2 : List UInt8 := [180, 0, 229, 46, 172]
abbrev dktX19_answer_2 : List UInt8 := dkwX19_answer_2 ++ []
def dkwX19_answer_1 : List UInt8 := [167, 0, 26, 44, 180, 0, 169, 153, 0, 10, 44, 180, 0, 176, 167, 0, 12, 42, 180, 0, 247, 44]
abbrev dktX19_answer_1 : List UInt8 := dkwX19_answer_1 ++ dktX19_answer_2
def dkwX19_answer_0 : List UInt8 := [42, 180, 0, 69, 27, 50, 77, 44, 180, 0, 220, 2, 159, 0, 15, 42, 180, 0, 244, 44, 180, 0, 220, 46]
abbrev dktX19_answer_0 : List UInt8 := dkwX19_answer_0 ++ dktX19_answer_1
theorem dksX19_answer_0 : cX19_answer.data.toList.drop 0 = dktX19_answer_0 := by decide +kernel
theorem dksX19_answer_1 : cX19_answer.data.toList.drop 24 = dktX19_answer_1 := dk_seg dksX19_answer_0 24 rfl rfl
theorem dksX19_answer_2 : cX19_answer.data.toList.drop 46 = dktX19_answer_2 := dk_seg dksX19_answer_1 22 rfl rfl
theorem dX19_answer_0 : decode cX19_answer 0 = .ok (.aload_n 0, 1) := dk_42 (dk_at dksX19_answer_0 0 rfl rfl)
theorem dX19_answer_1 : decode cX19_answer 1 = .ok (.getfield 69, 3) := dk_180 0 69 (dk_at dksX19_answer_0 1 rfl rfl)
theorem dX19_answer_4 : decode cX19_answer 4 = .ok (.iload_n 1, 1) := dk_27 (dk_at dksX19_answer_0 4 rfl rfl)
theorem dX19_answer_5 : decode cX19_answer 5 = .ok (.aaload, 1) := dk_50 (dk_at dksX19_answer_0 5 rfl rfl)
theorem dX19_answer_6 : decode cX19_answer 6 = .ok (.astore_n 2, 1) := dk_77 (dk_at dksX19_answer_0 6 rfl rfl)
theorem dX19_answer_7 : decode cX19_answer 7 = .ok (.aload_n 2, 1) := dk_44 (dk_at dksX19_answer_0 7 rfl rfl)
theorem dX19_answer_8 : decode cX19_answer 8 = .ok (.getfield 220, 3) := dk_180 0 220 (dk_at dksX19_answer_0 8 rfl rfl)
theorem dX19_answer_11 : decode cX19_answer 11 = .ok (.iconst (-1), 1) := dk_2 (dk_at dksX19_answer_0 11 rfl rfl)
theorem dX19_answer_12 : decode cX19_answer 12 = .ok (.if_icmp .eq 15, 3) := dk_159 0 15 (dk_at dksX19_answer_0 12 rfl rfl)
theorem dX19_answer_15 : decode cX19_answer 15 = .ok (.aload_n 0, 1) := dk_42 (dk_at dksX19_answer_0 15 rfl rfl)
theorem dX19_answer_16 : decode cX19_answer 16 = .ok (.getfield 244, 3) := dk_180 0 244 (dk_at dksX19_answer_0 16 rfl rfl)
theorem dX19_answer_19 : decode cX19_answer 19 = .ok (.aload_n 2, 1) := dk_44 (dk_at dksX19_answer_0 19 rfl rfl)
theorem dX19_answer_20 : decode cX19_answer 20 = .ok (.getfield 220, 3) := dk_180 0 220 (dk_at dksX19_answer_0 20 rfl rfl)
theorem dX19_answer_23 : decode cX19_answer 23 = .ok (.iaload, 1) := dk_46 (dk_at dksX19_answer_0 23 rfl rfl)
theorem dX19_answer_24 : decode cX19_answer 24 = .ok (.goto 26, 3) := dk_167 0 26 (dk_at dksX19_answer_1 0 rfl rfl)
theorem dX19_answer_27 : decode cX19_answer 27 = .ok (.aload_n 2, 1) := dk_44 (dk_at dksX19_answer_1 3 rfl rfl)
theorem dX19_answer_28 : decode cX19_answer 28 = .ok (.getfield 169, 3) := dk_180 0 169 (dk_at dksX19_answer_1 4 rfl rfl)
theorem dX19_answer_31 : decode cX19_answer 31 = .ok (.ifCond .eq 10, 3) := dk_153 0 10 (dk_at dksX19_answer_1 7 rfl rfl)
theorem dX19_answer_34 : decode cX19_answer 34 = .ok (.aload_n 2, 1) := dk_44 (dk_at dksX19_answer_1 10 rfl rfl)
theorem dX19_answer_35 : decode cX19_answer 35 = .ok (.getfield 176, 3) := dk_180 0 176 (dk_at dksX19_answer_1 11 rfl rfl)
theorem dX19_answer_38 : decode cX19_answer 38 = .ok (.goto 12, 3) := dk_167 0 12 (dk_at dksX19_answer_1 14 rfl rfl)
theorem dX19_answer_41 : decode cX19_answer 41 = .ok (.aload_n 0, 1) := dk_42 (dk_at dksX19_answer_1 17 rfl rfl)
theorem dX19_answer_42 : decode cX19_answer 42 = .ok (.getfield 247, 3) := dk_180 0 247 (dk_at dksX19_answer_1 18 rfl rfl)
theorem dX19_answer_45 : decode cX19_answer 45 = .ok (.aload_n 2, 1) := dk_44 (dk_at dksX19_answer_1 21 rfl rfl)
theorem dX19_answer_46 : decode cX19_answer 46 = .ok (.getfield 229, 3) := dk_180 0 229 (dk_at dksX19_answer_2 0 rfl rfl)
theorem dX19_answer_49 : decode cX19_answer 49 = .ok (.iaload, 1) := dk_46 (dk_at dksX19_answer_2 3 rfl rfl)
theorem dX19_answer_50 : decode cX19_answer 50 = .ok (.ireturn, 1) := dk_172 (dk_at dksX19_answer_2 4 rfl rfl)
abbrev cX19_told : ByteArray := prog_23_method_18_code
def yX19_told : MethodName := ⟨RX19, "told", "(I)I"⟩
def dkwX19_told_5 : List UInt8 := [77, 44, 27, 6, 100, 46, 172]
abbrev dktX19_told_5 : List UInt8 := dkwX19_told_5 ++ []
def dkwX19_told_4 : List UInt8 := [89, 16, 10, 42, 180, 1, 7, 79, 89, 16, 11, 42, 180, 1, 10, 79, 89, 16, 12, 42, 182, 1, 13, 79]
abbrev dktX19_told_4 : List UInt8 := dkwX19_told_4 ++ dktX19_told_5
def dkwX19_told_3 : List UInt8 := [182, 1, 1, 79, 89, 16, 8, 42, 16, 7, 16, 8, 182, 1, 1, 79, 89, 16, 9, 42, 180, 1, 4, 79]
abbrev dktX19_told_3 : List UInt8 := dkwX19_told_3 ++ dktX19_told_4
def dkwX19_told_2 : List UInt8 := [8, 42, 182, 0, 254, 79, 89, 16, 6, 42, 180, 0, 21, 182, 0, 89, 79, 89, 16, 7, 42, 4, 4]
abbrev dktX19_told_2 : List UInt8 := dkwX19_told_2 ++ dktX19_told_3
def dkwX19_told_1 : List UInt8 := [89, 5, 42, 3, 182, 0, 250, 79, 89, 6, 42, 4, 182, 0, 250, 79, 89, 7, 42, 180, 0, 232, 79, 89]
abbrev dktX19_told_1 : List UInt8 := dkwX19_told_1 ++ dktX19_told_2
def dkwX19_told_0 : List UInt8 := [16, 13, 188, 10, 89, 3, 42, 180, 0, 40, 182, 0, 89, 79, 89, 4, 42, 180, 0, 12, 182, 0, 89, 79]
abbrev dktX19_told_0 : List UInt8 := dkwX19_told_0 ++ dktX19_told_1
theorem dksX19_told_0 : cX19_told.data.toList.drop 0 = dktX19_told_0 := by decide +kernel
theorem dksX19_told_1 : cX19_told.data.toList.drop 24 = dktX19_told_1 := dk_seg dksX19_told_0 24 rfl rfl
theorem dksX19_told_2 : cX19_told.data.toList.drop 48 = dktX19_told_2 := dk_seg dksX19_told_1 24 rfl rfl
theorem dksX19_told_3 : cX19_told.data.toList.drop 71 = dktX19_told_3 := dk_seg dksX19_told_2 23 rfl rfl
theorem dksX19_told_4 : cX19_told.data.toList.drop 95 = dktX19_told_4 := dk_seg dksX19_told_3 24 rfl rfl
theorem dksX19_told_5 : cX19_told.data.toList.drop 119 = dktX19_told_5 := dk_seg dksX19_told_4 24 rfl rfl
theorem dX19_told_0 : decode cX19_told 0 = .ok (.bipush 13, 2) := dk_16 13 (dk_at dksX19_told_0 0 rfl rfl)
theorem dX19_told_2 : decode cX19_told 2 = .ok (.newarray .int, 2) := dk_188_10 (dk_at dksX19_told_0 2 rfl rfl)
theorem dX19_told_4 : decode cX19_told 4 = .ok (.dup, 1) := dk_89 (dk_at dksX19_told_0 4 rfl rfl)
theorem dX19_told_5 : decode cX19_told 5 = .ok (.iconst 0, 1) := dk_3 (dk_at dksX19_told_0 5 rfl rfl)
theorem dX19_told_6 : decode cX19_told 6 = .ok (.aload_n 0, 1) := dk_42 (dk_at dksX19_told_0 6 rfl rfl)
theorem dX19_told_7 : decode cX19_told 7 = .ok (.getfield 40, 3) := dk_180 0 40 (dk_at dksX19_told_0 7 rfl rfl)
theorem dX19_told_10 : decode cX19_told 10 = .ok (.invokevirtual 89, 3) := dk_182 0 89 (dk_at dksX19_told_0 10 rfl rfl)
theorem dX19_told_13 : decode cX19_told 13 = .ok (.iastore, 1) := dk_79 (dk_at dksX19_told_0 13 rfl rfl)
theorem dX19_told_14 : decode cX19_told 14 = .ok (.dup, 1) := dk_89 (dk_at dksX19_told_0 14 rfl rfl)
theorem dX19_told_15 : decode cX19_told 15 = .ok (.iconst 1, 1) := dk_4 (dk_at dksX19_told_0 15 rfl rfl)
theorem dX19_told_16 : decode cX19_told 16 = .ok (.aload_n 0, 1) := dk_42 (dk_at dksX19_told_0 16 rfl rfl)
theorem dX19_told_17 : decode cX19_told 17 = .ok (.getfield 12, 3) := dk_180 0 12 (dk_at dksX19_told_0 17 rfl rfl)
theorem dX19_told_20 : decode cX19_told 20 = .ok (.invokevirtual 89, 3) := dk_182 0 89 (dk_at dksX19_told_0 20 rfl rfl)
theorem dX19_told_23 : decode cX19_told 23 = .ok (.iastore, 1) := dk_79 (dk_at dksX19_told_0 23 rfl rfl)
theorem dX19_told_24 : decode cX19_told 24 = .ok (.dup, 1) := dk_89 (dk_at dksX19_told_1 0 rfl rfl)
theorem dX19_told_25 : decode cX19_told 25 = .ok (.iconst 2, 1) := dk_5 (dk_at dksX19_told_1 1 rfl rfl)
theorem dX19_told_26 : decode cX19_told 26 = .ok (.aload_n 0, 1) := dk_42 (dk_at dksX19_told_1 2 rfl rfl)
theorem dX19_told_27 : decode cX19_told 27 = .ok (.iconst 0, 1) := dk_3 (dk_at dksX19_told_1 3 rfl rfl)
theorem dX19_told_28 : decode cX19_told 28 = .ok (.invokevirtual 250, 3) := dk_182 0 250 (dk_at dksX19_told_1 4 rfl rfl)
theorem dX19_told_31 : decode cX19_told 31 = .ok (.iastore, 1) := dk_79 (dk_at dksX19_told_1 7 rfl rfl)
theorem dX19_told_32 : decode cX19_told 32 = .ok (.dup, 1) := dk_89 (dk_at dksX19_told_1 8 rfl rfl)
theorem dX19_told_33 : decode cX19_told 33 = .ok (.iconst 3, 1) := dk_6 (dk_at dksX19_told_1 9 rfl rfl)
theorem dX19_told_34 : decode cX19_told 34 = .ok (.aload_n 0, 1) := dk_42 (dk_at dksX19_told_1 10 rfl rfl)
theorem dX19_told_35 : decode cX19_told 35 = .ok (.iconst 1, 1) := dk_4 (dk_at dksX19_told_1 11 rfl rfl)
theorem dX19_told_36 : decode cX19_told 36 = .ok (.invokevirtual 250, 3) := dk_182 0 250 (dk_at dksX19_told_1 12 rfl rfl)
theorem dX19_told_39 : decode cX19_told 39 = .ok (.iastore, 1) := dk_79 (dk_at dksX19_told_1 15 rfl rfl)
theorem dX19_told_40 : decode cX19_told 40 = .ok (.dup, 1) := dk_89 (dk_at dksX19_told_1 16 rfl rfl)
theorem dX19_told_41 : decode cX19_told 41 = .ok (.iconst 4, 1) := dk_7 (dk_at dksX19_told_1 17 rfl rfl)
theorem dX19_told_42 : decode cX19_told 42 = .ok (.aload_n 0, 1) := dk_42 (dk_at dksX19_told_1 18 rfl rfl)
theorem dX19_told_43 : decode cX19_told 43 = .ok (.getfield 232, 3) := dk_180 0 232 (dk_at dksX19_told_1 19 rfl rfl)
theorem dX19_told_46 : decode cX19_told 46 = .ok (.iastore, 1) := dk_79 (dk_at dksX19_told_1 22 rfl rfl)
theorem dX19_told_47 : decode cX19_told 47 = .ok (.dup, 1) := dk_89 (dk_at dksX19_told_1 23 rfl rfl)
theorem dX19_told_48 : decode cX19_told 48 = .ok (.iconst 5, 1) := dk_8 (dk_at dksX19_told_2 0 rfl rfl)
theorem dX19_told_49 : decode cX19_told 49 = .ok (.aload_n 0, 1) := dk_42 (dk_at dksX19_told_2 1 rfl rfl)
theorem dX19_told_50 : decode cX19_told 50 = .ok (.invokevirtual 254, 3) := dk_182 0 254 (dk_at dksX19_told_2 2 rfl rfl)
theorem dX19_told_53 : decode cX19_told 53 = .ok (.iastore, 1) := dk_79 (dk_at dksX19_told_2 5 rfl rfl)
theorem dX19_told_54 : decode cX19_told 54 = .ok (.dup, 1) := dk_89 (dk_at dksX19_told_2 6 rfl rfl)
theorem dX19_told_55 : decode cX19_told 55 = .ok (.bipush 6, 2) := dk_16 6 (dk_at dksX19_told_2 7 rfl rfl)
theorem dX19_told_57 : decode cX19_told 57 = .ok (.aload_n 0, 1) := dk_42 (dk_at dksX19_told_2 9 rfl rfl)
theorem dX19_told_58 : decode cX19_told 58 = .ok (.getfield 21, 3) := dk_180 0 21 (dk_at dksX19_told_2 10 rfl rfl)
theorem dX19_told_61 : decode cX19_told 61 = .ok (.invokevirtual 89, 3) := dk_182 0 89 (dk_at dksX19_told_2 13 rfl rfl)
theorem dX19_told_64 : decode cX19_told 64 = .ok (.iastore, 1) := dk_79 (dk_at dksX19_told_2 16 rfl rfl)
theorem dX19_told_65 : decode cX19_told 65 = .ok (.dup, 1) := dk_89 (dk_at dksX19_told_2 17 rfl rfl)
theorem dX19_told_66 : decode cX19_told 66 = .ok (.bipush 7, 2) := dk_16 7 (dk_at dksX19_told_2 18 rfl rfl)
theorem dX19_told_68 : decode cX19_told 68 = .ok (.aload_n 0, 1) := dk_42 (dk_at dksX19_told_2 20 rfl rfl)
theorem dX19_told_69 : decode cX19_told 69 = .ok (.iconst 1, 1) := dk_4 (dk_at dksX19_told_2 21 rfl rfl)
theorem dX19_told_70 : decode cX19_told 70 = .ok (.iconst 1, 1) := dk_4 (dk_at dksX19_told_2 22 rfl rfl)
theorem dX19_told_71 : decode cX19_told 71 = .ok (.invokevirtual 257, 3) := dk_182 1 1 (dk_at dksX19_told_3 0 rfl rfl)
theorem dX19_told_74 : decode cX19_told 74 = .ok (.iastore, 1) := dk_79 (dk_at dksX19_told_3 3 rfl rfl)
theorem dX19_told_75 : decode cX19_told 75 = .ok (.dup, 1) := dk_89 (dk_at dksX19_told_3 4 rfl rfl)
theorem dX19_told_76 : decode cX19_told 76 = .ok (.bipush 8, 2) := dk_16 8 (dk_at dksX19_told_3 5 rfl rfl)
theorem dX19_told_78 : decode cX19_told 78 = .ok (.aload_n 0, 1) := dk_42 (dk_at dksX19_told_3 7 rfl rfl)
theorem dX19_told_79 : decode cX19_told 79 = .ok (.bipush 7, 2) := dk_16 7 (dk_at dksX19_told_3 8 rfl rfl)
theorem dX19_told_81 : decode cX19_told 81 = .ok (.bipush 8, 2) := dk_16 8 (dk_at dksX19_told_3 10 rfl rfl)
theorem dX19_told_83 : decode cX19_told 83 = .ok (.invokevirtual 257, 3) := dk_182 1 1 (dk_at dksX19_told_3 12 rfl rfl)
theorem dX19_told_86 : decode cX19_told 86 = .ok (.iastore, 1) := dk_79 (dk_at dksX19_told_3 15 rfl rfl)
theorem dX19_told_87 : decode cX19_told 87 = .ok (.dup, 1) := dk_89 (dk_at dksX19_told_3 16 rfl rfl)
theorem dX19_told_88 : decode cX19_told 88 = .ok (.bipush 9, 2) := dk_16 9 (dk_at dksX19_told_3 17 rfl rfl)
theorem dX19_told_90 : decode cX19_told 90 = .ok (.aload_n 0, 1) := dk_42 (dk_at dksX19_told_3 19 rfl rfl)
theorem dX19_told_91 : decode cX19_told 91 = .ok (.getfield 260, 3) := dk_180 1 4 (dk_at dksX19_told_3 20 rfl rfl)
theorem dX19_told_94 : decode cX19_told 94 = .ok (.iastore, 1) := dk_79 (dk_at dksX19_told_3 23 rfl rfl)
theorem dX19_told_95 : decode cX19_told 95 = .ok (.dup, 1) := dk_89 (dk_at dksX19_told_4 0 rfl rfl)
theorem dX19_told_96 : decode cX19_told 96 = .ok (.bipush 10, 2) := dk_16 10 (dk_at dksX19_told_4 1 rfl rfl)
theorem dX19_told_98 : decode cX19_told 98 = .ok (.aload_n 0, 1) := dk_42 (dk_at dksX19_told_4 3 rfl rfl)
theorem dX19_told_99 : decode cX19_told 99 = .ok (.getfield 263, 3) := dk_180 1 7 (dk_at dksX19_told_4 4 rfl rfl)
theorem dX19_told_102 : decode cX19_told 102 = .ok (.iastore, 1) := dk_79 (dk_at dksX19_told_4 7 rfl rfl)
theorem dX19_told_103 : decode cX19_told 103 = .ok (.dup, 1) := dk_89 (dk_at dksX19_told_4 8 rfl rfl)
theorem dX19_told_104 : decode cX19_told 104 = .ok (.bipush 11, 2) := dk_16 11 (dk_at dksX19_told_4 9 rfl rfl)
theorem dX19_told_106 : decode cX19_told 106 = .ok (.aload_n 0, 1) := dk_42 (dk_at dksX19_told_4 11 rfl rfl)
theorem dX19_told_107 : decode cX19_told 107 = .ok (.getfield 266, 3) := dk_180 1 10 (dk_at dksX19_told_4 12 rfl rfl)
theorem dX19_told_110 : decode cX19_told 110 = .ok (.iastore, 1) := dk_79 (dk_at dksX19_told_4 15 rfl rfl)
theorem dX19_told_111 : decode cX19_told 111 = .ok (.dup, 1) := dk_89 (dk_at dksX19_told_4 16 rfl rfl)
theorem dX19_told_112 : decode cX19_told 112 = .ok (.bipush 12, 2) := dk_16 12 (dk_at dksX19_told_4 17 rfl rfl)
theorem dX19_told_114 : decode cX19_told 114 = .ok (.aload_n 0, 1) := dk_42 (dk_at dksX19_told_4 19 rfl rfl)
theorem dX19_told_115 : decode cX19_told 115 = .ok (.invokevirtual 269, 3) := dk_182 1 13 (dk_at dksX19_told_4 20 rfl rfl)
theorem dX19_told_118 : decode cX19_told 118 = .ok (.iastore, 1) := dk_79 (dk_at dksX19_told_4 23 rfl rfl)
theorem dX19_told_119 : decode cX19_told 119 = .ok (.astore_n 2, 1) := dk_77 (dk_at dksX19_told_5 0 rfl rfl)
theorem dX19_told_120 : decode cX19_told 120 = .ok (.aload_n 2, 1) := dk_44 (dk_at dksX19_told_5 1 rfl rfl)
theorem dX19_told_121 : decode cX19_told 121 = .ok (.iload_n 1, 1) := dk_27 (dk_at dksX19_told_5 2 rfl rfl)
theorem dX19_told_122 : decode cX19_told 122 = .ok (.iconst 3, 1) := dk_6 (dk_at dksX19_told_5 3 rfl rfl)
theorem dX19_told_123 : decode cX19_told 123 = .ok (.isub, 1) := dk_100 (dk_at dksX19_told_5 4 rfl rfl)
theorem dX19_told_124 : decode cX19_told 124 = .ok (.iaload, 1) := dk_46 (dk_at dksX19_told_5 5 rfl rfl)
theorem dX19_told_125 : decode cX19_told 125 = .ok (.ireturn, 1) := dk_172 (dk_at dksX19_told_5 6 rfl rfl)
abbrev cX19_spilled : ByteArray := prog_23_method_16_code
def yX19_spilled : MethodName := ⟨RX19, "spilled", "(Z)I"⟩
def dkwX19_spilled_2 : List UInt8 := [25, 4, 180, 0, 169, 153, 0, 7, 4, 167, 0, 4, 3, 96, 61, 167, 255, 208, 28, 172]
abbrev dktX19_spilled_2 : List UInt8 := dkwX19_spilled_2 ++ []
def dkwX19_spilled_1 : List UInt8 := [185, 0, 51, 1, 0, 192, 0, 67, 58, 4, 28, 25, 4, 182, 0, 82, 153, 0, 19, 27, 153, 0, 11]
abbrev dktX19_spilled_1 : List UInt8 := dkwX19_spilled_1 ++ dktX19_spilled_2
def dkwX19_spilled_0 : List UInt8 := [3, 61, 42, 180, 0, 12, 182, 0, 41, 78, 45, 185, 0, 45, 1, 0, 153, 0, 45, 45]
abbrev dktX19_spilled_0 : List UInt8 := dkwX19_spilled_0 ++ dktX19_spilled_1
theorem dksX19_spilled_0 : cX19_spilled.data.toList.drop 0 = dktX19_spilled_0 := by decide +kernel
theorem dksX19_spilled_1 : cX19_spilled.data.toList.drop 20 = dktX19_spilled_1 := dk_seg dksX19_spilled_0 20 rfl rfl
theorem dksX19_spilled_2 : cX19_spilled.data.toList.drop 43 = dktX19_spilled_2 := dk_seg dksX19_spilled_1 23 rfl rfl
theorem dX19_spilled_0 : decode cX19_spilled 0 = .ok (.iconst 0, 1) := dk_3 (dk_at dksX19_spilled_0 0 rfl rfl)
theorem dX19_spilled_1 : decode cX19_spilled 1 = .ok (.istore_n 2, 1) := dk_61 (dk_at dksX19_spilled_0 1 rfl rfl)
theorem dX19_spilled_2 : decode cX19_spilled 2 = .ok (.aload_n 0, 1) := dk_42 (dk_at dksX19_spilled_0 2 rfl rfl)
theorem dX19_spilled_3 : decode cX19_spilled 3 = .ok (.getfield 12, 3) := dk_180 0 12 (dk_at dksX19_spilled_0 3 rfl rfl)
theorem dX19_spilled_6 : decode cX19_spilled 6 = .ok (.invokevirtual 41, 3) := dk_182 0 41 (dk_at dksX19_spilled_0 6 rfl rfl)
theorem dX19_spilled_9 : decode cX19_spilled 9 = .ok (.astore_n 3, 1) := dk_78 (dk_at dksX19_spilled_0 9 rfl rfl)
theorem dX19_spilled_10 : decode cX19_spilled 10 = .ok (.aload_n 3, 1) := dk_45 (dk_at dksX19_spilled_0 10 rfl rfl)
theorem dX19_spilled_11 : decode cX19_spilled 11 = .ok (.invokeinterface 45 1, 5) := by decide +kernel
theorem dX19_spilled_16 : decode cX19_spilled 16 = .ok (.ifCond .eq 45, 3) := dk_153 0 45 (dk_at dksX19_spilled_0 16 rfl rfl)
theorem dX19_spilled_19 : decode cX19_spilled 19 = .ok (.aload_n 3, 1) := dk_45 (dk_at dksX19_spilled_0 19 rfl rfl)
theorem dX19_spilled_20 : decode cX19_spilled 20 = .ok (.invokeinterface 51 1, 5) := by decide +kernel
theorem dX19_spilled_25 : decode cX19_spilled 25 = .ok (.checkcast 67, 3) := dk_192 0 67 (dk_at dksX19_spilled_1 5 rfl rfl)
theorem dX19_spilled_28 : decode cX19_spilled 28 = .ok (.astore 4, 2) := dk_58 4 (dk_at dksX19_spilled_1 8 rfl rfl)
theorem dX19_spilled_30 : decode cX19_spilled 30 = .ok (.iload_n 2, 1) := dk_28 (dk_at dksX19_spilled_1 10 rfl rfl)
theorem dX19_spilled_31 : decode cX19_spilled 31 = .ok (.aload 4, 2) := dk_25 4 (dk_at dksX19_spilled_1 11 rfl rfl)
theorem dX19_spilled_33 : decode cX19_spilled 33 = .ok (.invokevirtual 82, 3) := dk_182 0 82 (dk_at dksX19_spilled_1 13 rfl rfl)
theorem dX19_spilled_36 : decode cX19_spilled 36 = .ok (.ifCond .eq 19, 3) := dk_153 0 19 (dk_at dksX19_spilled_1 16 rfl rfl)
theorem dX19_spilled_39 : decode cX19_spilled 39 = .ok (.iload_n 1, 1) := dk_27 (dk_at dksX19_spilled_1 19 rfl rfl)
theorem dX19_spilled_40 : decode cX19_spilled 40 = .ok (.ifCond .eq 11, 3) := dk_153 0 11 (dk_at dksX19_spilled_1 20 rfl rfl)
theorem dX19_spilled_43 : decode cX19_spilled 43 = .ok (.aload 4, 2) := dk_25 4 (dk_at dksX19_spilled_2 0 rfl rfl)
theorem dX19_spilled_45 : decode cX19_spilled 45 = .ok (.getfield 169, 3) := dk_180 0 169 (dk_at dksX19_spilled_2 2 rfl rfl)
theorem dX19_spilled_48 : decode cX19_spilled 48 = .ok (.ifCond .eq 7, 3) := dk_153 0 7 (dk_at dksX19_spilled_2 5 rfl rfl)
theorem dX19_spilled_51 : decode cX19_spilled 51 = .ok (.iconst 1, 1) := dk_4 (dk_at dksX19_spilled_2 8 rfl rfl)
theorem dX19_spilled_52 : decode cX19_spilled 52 = .ok (.goto 4, 3) := dk_167 0 4 (dk_at dksX19_spilled_2 9 rfl rfl)
theorem dX19_spilled_55 : decode cX19_spilled 55 = .ok (.iconst 0, 1) := dk_3 (dk_at dksX19_spilled_2 12 rfl rfl)
theorem dX19_spilled_56 : decode cX19_spilled 56 = .ok (.iadd, 1) := dk_96 (dk_at dksX19_spilled_2 13 rfl rfl)
theorem dX19_spilled_57 : decode cX19_spilled 57 = .ok (.istore_n 2, 1) := dk_61 (dk_at dksX19_spilled_2 14 rfl rfl)
theorem dX19_spilled_58 : decode cX19_spilled 58 = .ok (.goto (-48), 3) := dk_167 255 208 (dk_at dksX19_spilled_2 15 rfl rfl)
theorem dX19_spilled_61 : decode cX19_spilled 61 = .ok (.iload_n 2, 1) := dk_28 (dk_at dksX19_spilled_2 18 rfl rfl)
theorem dX19_spilled_62 : decode cX19_spilled 62 = .ok (.ireturn, 1) := dk_172 (dk_at dksX19_spilled_2 19 rfl rfl)
abbrev cX19_frame : ByteArray := prog_23_method_13_code
def yX19_frame : MethodName := ⟨RX19, "frame", "()I"⟩
def dkwX19_frame_3 : List UInt8 := [180, 0, 232, 27, 184, 0, 239, 96, 61, 28, 28, 5, 112, 96, 172]
abbrev dktX19_frame_3 : List UInt8 := dkwX19_frame_3 ++ []
def dkwX19_frame_2 : List UInt8 := [180, 0, 220, 182, 0, 210, 153, 0, 12, 27, 4, 45, 180, 0, 220, 120, 128, 60, 167, 255, 206, 42]
abbrev dktX19_frame_2 : List UInt8 := dkwX19_frame_2 ++ dktX19_frame_3
def dkwX19_frame_1 : List UInt8 := [185, 0, 51, 1, 0, 192, 0, 67, 78, 45, 180, 0, 220, 2, 159, 0, 26, 42, 180, 0, 28, 45]
abbrev dktX19_frame_1 : List UInt8 := dkwX19_frame_1 ++ dktX19_frame_2
def dkwX19_frame_0 : List UInt8 := [3, 60, 42, 180, 0, 12, 182, 0, 41, 77, 44, 185, 0, 45, 1, 0, 153, 0, 47, 44]
abbrev dktX19_frame_0 : List UInt8 := dkwX19_frame_0 ++ dktX19_frame_1
theorem dksX19_frame_0 : cX19_frame.data.toList.drop 0 = dktX19_frame_0 := by decide +kernel
theorem dksX19_frame_1 : cX19_frame.data.toList.drop 20 = dktX19_frame_1 := dk_seg dksX19_frame_0 20 rfl rfl
theorem dksX19_frame_2 : cX19_frame.data.toList.drop 42 = dktX19_frame_2 := dk_seg dksX19_frame_1 22 rfl rfl
theorem dksX19_frame_3 : cX19_frame.data.toList.drop 64 = dktX19_frame_3 := dk_seg dksX19_frame_2 22 rfl rfl
theorem dX19_frame_0 : decode cX19_frame 0 = .ok (.iconst 0, 1) := dk_3 (dk_at dksX19_frame_0 0 rfl rfl)
theorem dX19_frame_1 : decode cX19_frame 1 = .ok (.istore_n 1, 1) := dk_60 (dk_at dksX19_frame_0 1 rfl rfl)
theorem dX19_frame_2 : decode cX19_frame 2 = .ok (.aload_n 0, 1) := dk_42 (dk_at dksX19_frame_0 2 rfl rfl)
theorem dX19_frame_3 : decode cX19_frame 3 = .ok (.getfield 12, 3) := dk_180 0 12 (dk_at dksX19_frame_0 3 rfl rfl)
theorem dX19_frame_6 : decode cX19_frame 6 = .ok (.invokevirtual 41, 3) := dk_182 0 41 (dk_at dksX19_frame_0 6 rfl rfl)
theorem dX19_frame_9 : decode cX19_frame 9 = .ok (.astore_n 2, 1) := dk_77 (dk_at dksX19_frame_0 9 rfl rfl)
theorem dX19_frame_10 : decode cX19_frame 10 = .ok (.aload_n 2, 1) := dk_44 (dk_at dksX19_frame_0 10 rfl rfl)
theorem dX19_frame_11 : decode cX19_frame 11 = .ok (.invokeinterface 45 1, 5) := by decide +kernel
theorem dX19_frame_16 : decode cX19_frame 16 = .ok (.ifCond .eq 47, 3) := dk_153 0 47 (dk_at dksX19_frame_0 16 rfl rfl)
theorem dX19_frame_19 : decode cX19_frame 19 = .ok (.aload_n 2, 1) := dk_44 (dk_at dksX19_frame_0 19 rfl rfl)
theorem dX19_frame_20 : decode cX19_frame 20 = .ok (.invokeinterface 51 1, 5) := by decide +kernel
theorem dX19_frame_25 : decode cX19_frame 25 = .ok (.checkcast 67, 3) := dk_192 0 67 (dk_at dksX19_frame_1 5 rfl rfl)
theorem dX19_frame_28 : decode cX19_frame 28 = .ok (.astore_n 3, 1) := dk_78 (dk_at dksX19_frame_1 8 rfl rfl)
theorem dX19_frame_29 : decode cX19_frame 29 = .ok (.aload_n 3, 1) := dk_45 (dk_at dksX19_frame_1 9 rfl rfl)
theorem dX19_frame_30 : decode cX19_frame 30 = .ok (.getfield 220, 3) := dk_180 0 220 (dk_at dksX19_frame_1 10 rfl rfl)
theorem dX19_frame_33 : decode cX19_frame 33 = .ok (.iconst (-1), 1) := dk_2 (dk_at dksX19_frame_1 13 rfl rfl)
theorem dX19_frame_34 : decode cX19_frame 34 = .ok (.if_icmp .eq 26, 3) := dk_159 0 26 (dk_at dksX19_frame_1 14 rfl rfl)
theorem dX19_frame_37 : decode cX19_frame 37 = .ok (.aload_n 0, 1) := dk_42 (dk_at dksX19_frame_1 17 rfl rfl)
theorem dX19_frame_38 : decode cX19_frame 38 = .ok (.getfield 28, 3) := dk_180 0 28 (dk_at dksX19_frame_1 18 rfl rfl)
theorem dX19_frame_41 : decode cX19_frame 41 = .ok (.aload_n 3, 1) := dk_45 (dk_at dksX19_frame_1 21 rfl rfl)
theorem dX19_frame_42 : decode cX19_frame 42 = .ok (.getfield 220, 3) := dk_180 0 220 (dk_at dksX19_frame_2 0 rfl rfl)
theorem dX19_frame_45 : decode cX19_frame 45 = .ok (.invokevirtual 210, 3) := dk_182 0 210 (dk_at dksX19_frame_2 3 rfl rfl)
theorem dX19_frame_48 : decode cX19_frame 48 = .ok (.ifCond .eq 12, 3) := dk_153 0 12 (dk_at dksX19_frame_2 6 rfl rfl)
theorem dX19_frame_51 : decode cX19_frame 51 = .ok (.iload_n 1, 1) := dk_27 (dk_at dksX19_frame_2 9 rfl rfl)
theorem dX19_frame_52 : decode cX19_frame 52 = .ok (.iconst 1, 1) := dk_4 (dk_at dksX19_frame_2 10 rfl rfl)
theorem dX19_frame_53 : decode cX19_frame 53 = .ok (.aload_n 3, 1) := dk_45 (dk_at dksX19_frame_2 11 rfl rfl)
theorem dX19_frame_54 : decode cX19_frame 54 = .ok (.getfield 220, 3) := dk_180 0 220 (dk_at dksX19_frame_2 12 rfl rfl)
theorem dX19_frame_57 : decode cX19_frame 57 = .ok (.ishl, 1) := dk_120 (dk_at dksX19_frame_2 15 rfl rfl)
theorem dX19_frame_58 : decode cX19_frame 58 = .ok (.ior, 1) := dk_128 (dk_at dksX19_frame_2 16 rfl rfl)
theorem dX19_frame_59 : decode cX19_frame 59 = .ok (.istore_n 1, 1) := dk_60 (dk_at dksX19_frame_2 17 rfl rfl)
theorem dX19_frame_60 : decode cX19_frame 60 = .ok (.goto (-50), 3) := dk_167 255 206 (dk_at dksX19_frame_2 18 rfl rfl)
theorem dX19_frame_63 : decode cX19_frame 63 = .ok (.aload_n 0, 1) := dk_42 (dk_at dksX19_frame_2 21 rfl rfl)
theorem dX19_frame_64 : decode cX19_frame 64 = .ok (.getfield 232, 3) := dk_180 0 232 (dk_at dksX19_frame_3 0 rfl rfl)
theorem dX19_frame_67 : decode cX19_frame 67 = .ok (.iload_n 1, 1) := dk_27 (dk_at dksX19_frame_3 3 rfl rfl)
theorem dX19_frame_68 : decode cX19_frame 68 = .ok (.invokestatic 239, 3) := dk_184 0 239 (dk_at dksX19_frame_3 4 rfl rfl)
theorem dX19_frame_71 : decode cX19_frame 71 = .ok (.iadd, 1) := dk_96 (dk_at dksX19_frame_3 7 rfl rfl)
theorem dX19_frame_72 : decode cX19_frame 72 = .ok (.istore_n 2, 1) := dk_61 (dk_at dksX19_frame_3 8 rfl rfl)
theorem dX19_frame_73 : decode cX19_frame 73 = .ok (.iload_n 2, 1) := dk_28 (dk_at dksX19_frame_3 9 rfl rfl)
theorem dX19_frame_74 : decode cX19_frame 74 = .ok (.iload_n 2, 1) := dk_28 (dk_at dksX19_frame_3 10 rfl rfl)
theorem dX19_frame_75 : decode cX19_frame 75 = .ok (.iconst 2, 1) := dk_5 (dk_at dksX19_frame_3 11 rfl rfl)
theorem dX19_frame_76 : decode cX19_frame 76 = .ok (.irem, 1) := dk_112 (dk_at dksX19_frame_3 12 rfl rfl)
theorem dX19_frame_77 : decode cX19_frame 77 = .ok (.iadd, 1) := dk_96 (dk_at dksX19_frame_3 13 rfl rfl)
theorem dX19_frame_78 : decode cX19_frame 78 = .ok (.ireturn, 1) := dk_172 (dk_at dksX19_frame_3 14 rfl rfl)
abbrev cX19_in : ByteArray := prog_23_method_15_code
def yX19_in : MethodName := ⟨RX19, "in", "(II)I"⟩
def dkwX19_in_2 : List UInt8 := [160, 0, 7, 4, 167, 0, 4, 3, 96, 62, 167, 255, 210, 29, 172]
abbrev dktX19_in_2 : List UInt8 := dkwX19_in_2 ++ []
def dkwX19_in_1 : List UInt8 := [185, 0, 51, 1, 0, 192, 0, 243, 58, 5, 29, 25, 5, 3, 46, 27, 159, 0, 11, 25, 5, 3, 46, 28]
abbrev dktX19_in_1 : List UInt8 := dkwX19_in_1 ++ dktX19_in_2
def dkwX19_in_0 : List UInt8 := [3, 62, 42, 180, 0, 21, 182, 0, 41, 58, 4, 25, 4, 185, 0, 45, 1, 0, 153, 0, 42, 25, 4]
abbrev dktX19_in_0 : List UInt8 := dkwX19_in_0 ++ dktX19_in_1
theorem dksX19_in_0 : cX19_in.data.toList.drop 0 = dktX19_in_0 := by decide +kernel
theorem dksX19_in_1 : cX19_in.data.toList.drop 23 = dktX19_in_1 := dk_seg dksX19_in_0 23 rfl rfl
theorem dksX19_in_2 : cX19_in.data.toList.drop 47 = dktX19_in_2 := dk_seg dksX19_in_1 24 rfl rfl
theorem dX19_in_0 : decode cX19_in 0 = .ok (.iconst 0, 1) := dk_3 (dk_at dksX19_in_0 0 rfl rfl)
theorem dX19_in_1 : decode cX19_in 1 = .ok (.istore_n 3, 1) := dk_62 (dk_at dksX19_in_0 1 rfl rfl)
theorem dX19_in_2 : decode cX19_in 2 = .ok (.aload_n 0, 1) := dk_42 (dk_at dksX19_in_0 2 rfl rfl)
theorem dX19_in_3 : decode cX19_in 3 = .ok (.getfield 21, 3) := dk_180 0 21 (dk_at dksX19_in_0 3 rfl rfl)
theorem dX19_in_6 : decode cX19_in 6 = .ok (.invokevirtual 41, 3) := dk_182 0 41 (dk_at dksX19_in_0 6 rfl rfl)
theorem dX19_in_9 : decode cX19_in 9 = .ok (.astore 4, 2) := dk_58 4 (dk_at dksX19_in_0 9 rfl rfl)
theorem dX19_in_11 : decode cX19_in 11 = .ok (.aload 4, 2) := dk_25 4 (dk_at dksX19_in_0 11 rfl rfl)
theorem dX19_in_13 : decode cX19_in 13 = .ok (.invokeinterface 45 1, 5) := by decide +kernel
theorem dX19_in_18 : decode cX19_in 18 = .ok (.ifCond .eq 42, 3) := dk_153 0 42 (dk_at dksX19_in_0 18 rfl rfl)
theorem dX19_in_21 : decode cX19_in 21 = .ok (.aload 4, 2) := dk_25 4 (dk_at dksX19_in_0 21 rfl rfl)
theorem dX19_in_23 : decode cX19_in 23 = .ok (.invokeinterface 51 1, 5) := by decide +kernel
theorem dX19_in_28 : decode cX19_in 28 = .ok (.checkcast 243, 3) := dk_192 0 243 (dk_at dksX19_in_1 5 rfl rfl)
theorem dX19_in_31 : decode cX19_in 31 = .ok (.astore 5, 2) := dk_58 5 (dk_at dksX19_in_1 8 rfl rfl)
theorem dX19_in_33 : decode cX19_in 33 = .ok (.iload_n 3, 1) := dk_29 (dk_at dksX19_in_1 10 rfl rfl)
theorem dX19_in_34 : decode cX19_in 34 = .ok (.aload 5, 2) := dk_25 5 (dk_at dksX19_in_1 11 rfl rfl)
theorem dX19_in_36 : decode cX19_in 36 = .ok (.iconst 0, 1) := dk_3 (dk_at dksX19_in_1 13 rfl rfl)
theorem dX19_in_37 : decode cX19_in 37 = .ok (.iaload, 1) := dk_46 (dk_at dksX19_in_1 14 rfl rfl)
theorem dX19_in_38 : decode cX19_in 38 = .ok (.iload_n 1, 1) := dk_27 (dk_at dksX19_in_1 15 rfl rfl)
theorem dX19_in_39 : decode cX19_in 39 = .ok (.if_icmp .eq 11, 3) := dk_159 0 11 (dk_at dksX19_in_1 16 rfl rfl)
theorem dX19_in_42 : decode cX19_in 42 = .ok (.aload 5, 2) := dk_25 5 (dk_at dksX19_in_1 19 rfl rfl)
theorem dX19_in_44 : decode cX19_in 44 = .ok (.iconst 0, 1) := dk_3 (dk_at dksX19_in_1 21 rfl rfl)
theorem dX19_in_45 : decode cX19_in 45 = .ok (.iaload, 1) := dk_46 (dk_at dksX19_in_1 22 rfl rfl)
theorem dX19_in_46 : decode cX19_in 46 = .ok (.iload_n 2, 1) := dk_28 (dk_at dksX19_in_1 23 rfl rfl)
theorem dX19_in_47 : decode cX19_in 47 = .ok (.if_icmp .ne 7, 3) := dk_160 0 7 (dk_at dksX19_in_2 0 rfl rfl)
theorem dX19_in_50 : decode cX19_in 50 = .ok (.iconst 1, 1) := dk_4 (dk_at dksX19_in_2 3 rfl rfl)
theorem dX19_in_51 : decode cX19_in 51 = .ok (.goto 4, 3) := dk_167 0 4 (dk_at dksX19_in_2 4 rfl rfl)
theorem dX19_in_54 : decode cX19_in 54 = .ok (.iconst 0, 1) := dk_3 (dk_at dksX19_in_2 7 rfl rfl)
theorem dX19_in_55 : decode cX19_in 55 = .ok (.iadd, 1) := dk_96 (dk_at dksX19_in_2 8 rfl rfl)
theorem dX19_in_56 : decode cX19_in 56 = .ok (.istore_n 3, 1) := dk_62 (dk_at dksX19_in_2 9 rfl rfl)
theorem dX19_in_57 : decode cX19_in 57 = .ok (.goto (-46), 3) := dk_167 255 210 (dk_at dksX19_in_2 10 rfl rfl)
theorem dX19_in_60 : decode cX19_in 60 = .ok (.iload_n 3, 1) := dk_29 (dk_at dksX19_in_2 13 rfl rfl)
theorem dX19_in_61 : decode cX19_in 61 = .ok (.ireturn, 1) := dk_172 (dk_at dksX19_in_2 14 rfl rfl)
abbrev cX19_most : ByteArray := prog_23_method_14_code
def yX19_most : MethodName := ⟨RX19, "most", "()I"⟩
def dkwX19_most_3 : List UInt8 := [96, 62, 167, 255, 208, 27, 29, 184, 0, 61, 60, 132, 2, 1, 167, 255, 174, 27, 172]
abbrev dktX19_most_3 : List UInt8 := dkwX19_most_3 ++ []
def dkwX19_most_2 : List UInt8 := [29, 25, 5, 180, 0, 165, 28, 163, 0, 16, 28, 25, 5, 180, 0, 124, 163, 0, 7, 4, 167, 0, 4, 3]
abbrev dktX19_most_2 : List UInt8 := dkwX19_most_2 ++ dktX19_most_3
def dkwX19_most_1 : List UInt8 := [58, 4, 25, 4, 185, 0, 45, 1, 0, 153, 0, 44, 25, 4, 185, 0, 51, 1, 0, 192, 0, 67, 58, 5]
abbrev dktX19_most_1 : List UInt8 := dkwX19_most_1 ++ dktX19_most_2
def dkwX19_most_0 : List UInt8 := [3, 60, 3, 61, 28, 42, 180, 0, 40, 182, 0, 89, 163, 0, 77, 3, 62, 42, 180, 0, 12, 182, 0, 41]
abbrev dktX19_most_0 : List UInt8 := dkwX19_most_0 ++ dktX19_most_1
theorem dksX19_most_0 : cX19_most.data.toList.drop 0 = dktX19_most_0 := by decide +kernel
theorem dksX19_most_1 : cX19_most.data.toList.drop 24 = dktX19_most_1 := dk_seg dksX19_most_0 24 rfl rfl
theorem dksX19_most_2 : cX19_most.data.toList.drop 48 = dktX19_most_2 := dk_seg dksX19_most_1 24 rfl rfl
theorem dksX19_most_3 : cX19_most.data.toList.drop 72 = dktX19_most_3 := dk_seg dksX19_most_2 24 rfl rfl
theorem dX19_most_0 : decode cX19_most 0 = .ok (.iconst 0, 1) := dk_3 (dk_at dksX19_most_0 0 rfl rfl)
theorem dX19_most_1 : decode cX19_most 1 = .ok (.istore_n 1, 1) := dk_60 (dk_at dksX19_most_0 1 rfl rfl)
theorem dX19_most_2 : decode cX19_most 2 = .ok (.iconst 0, 1) := dk_3 (dk_at dksX19_most_0 2 rfl rfl)
theorem dX19_most_3 : decode cX19_most 3 = .ok (.istore_n 2, 1) := dk_61 (dk_at dksX19_most_0 3 rfl rfl)
theorem dX19_most_4 : decode cX19_most 4 = .ok (.iload_n 2, 1) := dk_28 (dk_at dksX19_most_0 4 rfl rfl)
theorem dX19_most_5 : decode cX19_most 5 = .ok (.aload_n 0, 1) := dk_42 (dk_at dksX19_most_0 5 rfl rfl)
theorem dX19_most_6 : decode cX19_most 6 = .ok (.getfield 40, 3) := dk_180 0 40 (dk_at dksX19_most_0 6 rfl rfl)
theorem dX19_most_9 : decode cX19_most 9 = .ok (.invokevirtual 89, 3) := dk_182 0 89 (dk_at dksX19_most_0 9 rfl rfl)
theorem dX19_most_12 : decode cX19_most 12 = .ok (.if_icmp .gt 77, 3) := dk_163 0 77 (dk_at dksX19_most_0 12 rfl rfl)
theorem dX19_most_15 : decode cX19_most 15 = .ok (.iconst 0, 1) := dk_3 (dk_at dksX19_most_0 15 rfl rfl)
theorem dX19_most_16 : decode cX19_most 16 = .ok (.istore_n 3, 1) := dk_62 (dk_at dksX19_most_0 16 rfl rfl)
theorem dX19_most_17 : decode cX19_most 17 = .ok (.aload_n 0, 1) := dk_42 (dk_at dksX19_most_0 17 rfl rfl)
theorem dX19_most_18 : decode cX19_most 18 = .ok (.getfield 12, 3) := dk_180 0 12 (dk_at dksX19_most_0 18 rfl rfl)
theorem dX19_most_21 : decode cX19_most 21 = .ok (.invokevirtual 41, 3) := dk_182 0 41 (dk_at dksX19_most_0 21 rfl rfl)
theorem dX19_most_24 : decode cX19_most 24 = .ok (.astore 4, 2) := dk_58 4 (dk_at dksX19_most_1 0 rfl rfl)
theorem dX19_most_26 : decode cX19_most 26 = .ok (.aload 4, 2) := dk_25 4 (dk_at dksX19_most_1 2 rfl rfl)
theorem dX19_most_28 : decode cX19_most 28 = .ok (.invokeinterface 45 1, 5) := by decide +kernel
theorem dX19_most_33 : decode cX19_most 33 = .ok (.ifCond .eq 44, 3) := dk_153 0 44 (dk_at dksX19_most_1 9 rfl rfl)
theorem dX19_most_36 : decode cX19_most 36 = .ok (.aload 4, 2) := dk_25 4 (dk_at dksX19_most_1 12 rfl rfl)
theorem dX19_most_38 : decode cX19_most 38 = .ok (.invokeinterface 51 1, 5) := by decide +kernel
theorem dX19_most_43 : decode cX19_most 43 = .ok (.checkcast 67, 3) := dk_192 0 67 (dk_at dksX19_most_1 19 rfl rfl)
theorem dX19_most_46 : decode cX19_most 46 = .ok (.astore 5, 2) := dk_58 5 (dk_at dksX19_most_1 22 rfl rfl)
theorem dX19_most_48 : decode cX19_most 48 = .ok (.iload_n 3, 1) := dk_29 (dk_at dksX19_most_2 0 rfl rfl)
theorem dX19_most_49 : decode cX19_most 49 = .ok (.aload 5, 2) := dk_25 5 (dk_at dksX19_most_2 1 rfl rfl)
theorem dX19_most_51 : decode cX19_most 51 = .ok (.getfield 165, 3) := dk_180 0 165 (dk_at dksX19_most_2 3 rfl rfl)
theorem dX19_most_54 : decode cX19_most 54 = .ok (.iload_n 2, 1) := dk_28 (dk_at dksX19_most_2 6 rfl rfl)
theorem dX19_most_55 : decode cX19_most 55 = .ok (.if_icmp .gt 16, 3) := dk_163 0 16 (dk_at dksX19_most_2 7 rfl rfl)
theorem dX19_most_58 : decode cX19_most 58 = .ok (.iload_n 2, 1) := dk_28 (dk_at dksX19_most_2 10 rfl rfl)
theorem dX19_most_59 : decode cX19_most 59 = .ok (.aload 5, 2) := dk_25 5 (dk_at dksX19_most_2 11 rfl rfl)
theorem dX19_most_61 : decode cX19_most 61 = .ok (.getfield 124, 3) := dk_180 0 124 (dk_at dksX19_most_2 13 rfl rfl)
theorem dX19_most_64 : decode cX19_most 64 = .ok (.if_icmp .gt 7, 3) := dk_163 0 7 (dk_at dksX19_most_2 16 rfl rfl)
theorem dX19_most_67 : decode cX19_most 67 = .ok (.iconst 1, 1) := dk_4 (dk_at dksX19_most_2 19 rfl rfl)
theorem dX19_most_68 : decode cX19_most 68 = .ok (.goto 4, 3) := dk_167 0 4 (dk_at dksX19_most_2 20 rfl rfl)
theorem dX19_most_71 : decode cX19_most 71 = .ok (.iconst 0, 1) := dk_3 (dk_at dksX19_most_2 23 rfl rfl)
theorem dX19_most_72 : decode cX19_most 72 = .ok (.iadd, 1) := dk_96 (dk_at dksX19_most_3 0 rfl rfl)
theorem dX19_most_73 : decode cX19_most 73 = .ok (.istore_n 3, 1) := dk_62 (dk_at dksX19_most_3 1 rfl rfl)
theorem dX19_most_74 : decode cX19_most 74 = .ok (.goto (-48), 3) := dk_167 255 208 (dk_at dksX19_most_3 2 rfl rfl)
theorem dX19_most_77 : decode cX19_most 77 = .ok (.iload_n 1, 1) := dk_27 (dk_at dksX19_most_3 5 rfl rfl)
theorem dX19_most_78 : decode cX19_most 78 = .ok (.iload_n 3, 1) := dk_29 (dk_at dksX19_most_3 6 rfl rfl)
theorem dX19_most_79 : decode cX19_most 79 = .ok (.invokestatic 61, 3) := dk_184 0 61 (dk_at dksX19_most_3 7 rfl rfl)
theorem dX19_most_82 : decode cX19_most 82 = .ok (.istore_n 1, 1) := dk_60 (dk_at dksX19_most_3 10 rfl rfl)
theorem dX19_most_83 : decode cX19_most 83 = .ok (.iinc 2 1, 3) := dk_132 2 1 (dk_at dksX19_most_3 11 rfl rfl)
theorem dX19_most_86 : decode cX19_most 86 = .ok (.goto (-82), 3) := dk_167 255 174 (dk_at dksX19_most_3 14 rfl rfl)
theorem dX19_most_89 : decode cX19_most 89 = .ok (.iload_n 1, 1) := dk_27 (dk_at dksX19_most_3 17 rfl rfl)
theorem dX19_most_90 : decode cX19_most 90 = .ok (.ireturn, 1) := dk_172 (dk_at dksX19_most_3 18 rfl rfl)
theorem q164 : (Jvm.Cond.initialized "SpillslotWorksModel$Plan") ∈ lw_all := lw_g (lw_at lw_m1 45 rfl) rfl
theorem q273 : (Jvm.Cond.selects "SpillslotWorksModel$Plan" ({ cls := "java/lang/Object", name := "getClass", desc := "()Ljava/lang/Class;" } : Jvm.MethodName) ({ cls := "java/lang/Object", name := "getClass", desc := "()Ljava/lang/Class;" } : Jvm.MethodName)) ∈ lw_all := lw_g (lw_at lw_m1 154 rfl) rfl
theorem q1866 : (Jvm.Cond.fieldLink "SpillslotWorksModel$Plan" (112 : Nat) "SpillslotWorksModel$Program" "times" "[I") ∈ lw_all := lw_g (lw_at lw_m8 67 rfl) rfl
theorem q1873 : (Jvm.Cond.fieldLink "SpillslotWorksModel$Plan" (190 : Nat) "SpillslotWorksModel$Program" "out" "I") ∈ lw_all := lw_g (lw_at lw_m8 74 rfl) rfl
theorem q1904 : (Jvm.Cond.fieldLink "SpillslotWorksModel$Plan" (179 : Nat) "SpillslotWorksModel$Machine" "isTwo" "Z") ∈ lw_all := lw_g (lw_at lw_m8 105 rfl) rfl
theorem q2122 : (Jvm.Cond.instantiable "SpillslotWorksModel$Plan" (14 : Nat)) ∈ lw_all := lw_g (lw_at lw_m9 83 rfl) rfl
theorem q2124 : (Jvm.Cond.instanceMethod ({ cls := "SpillslotWorksModel$Plan", name := "<init>", desc := "(LSpillslotWorksModel$Program;LSpillslotWorksModel$Machine;Z)V" } : Jvm.MethodName)) ∈ lw_all := lw_g (lw_at lw_m9 85 rfl) rfl
theorem q2125 : (Jvm.Cond.code ({ cls := "SpillslotWorksModel$Plan", name := "<init>", desc := "(LSpillslotWorksModel$Program;LSpillslotWorksModel$Machine;Z)V" } : Jvm.MethodName) prog_23_method_1_code (7 : Nat) (Option.none : Option Jvm.ClassFile.FieldType)) ∈ lw_all := lw_g (lw_at lw_m9 86 rfl) rfl
theorem q2126 : (Jvm.Cond.methodLink "SpillslotWorksModel$Plan" (3 : Nat) ({ cls := "java/lang/Object", name := "<init>", desc := "()V" } : Jvm.MethodName)) ∈ lw_all := lw_g (lw_at lw_m9 87 rfl) rfl
theorem q2127 : (Jvm.Cond.classLink "SpillslotWorksModel$Plan" (9 : Nat) "java/util/ArrayList") ∈ lw_all := lw_g (lw_at lw_m9 88 rfl) rfl
theorem q2128 : (Jvm.Cond.methodLink "SpillslotWorksModel$Plan" (11 : Nat) ({ cls := "java/util/ArrayList", name := "<init>", desc := "()V" } : Jvm.MethodName)) ∈ lw_all := lw_g (lw_at lw_m9 89 rfl) rfl
theorem q2129 : (Jvm.Cond.classLink "SpillslotWorksModel$Plan" (32 : Nat) "SpillslotWorksModel$Chooser") ∈ lw_all := lw_g (lw_at lw_m9 90 rfl) rfl
theorem q2131 : (Jvm.Cond.methodLink "SpillslotWorksModel$Plan" (34 : Nat) ({ cls := "SpillslotWorksModel$Chooser", name := "<init>", desc := "(LSpillslotWorksModel$Program;LSpillslotWorksModel$Machine;Z)V" } : Jvm.MethodName)) ∈ lw_all := lw_g (lw_at lw_m9 92 rfl) rfl
theorem q2164 : (Jvm.Cond.fieldLink "SpillslotWorksModel$Plan" (131 : Nat) "SpillslotWorksModel$Op" "which" "I") ∈ lw_all := lw_g (lw_at lw_m9 125 rfl) rfl
theorem q2169 : (Jvm.Cond.fieldLink "SpillslotWorksModel$Plan" (57 : Nat) "SpillslotWorksModel$Op" "writes" "I") ∈ lw_all := lw_g (lw_at lw_m9 130 rfl) rfl
theorem q2173 : (Jvm.Cond.fieldLink "SpillslotWorksModel$Plan" (144 : Nat) "SpillslotWorksModel$Op" "reads" "[I") ∈ lw_all := lw_g (lw_at lw_m9 134 rfl) rfl
theorem q2177 : (Jvm.Cond.fieldLink "SpillslotWorksModel$Plan" (173 : Nat) "SpillslotWorksModel$Op" "n" "I") ∈ lw_all := lw_g (lw_at lw_m9 138 rfl) rfl
theorem q2181 : (Jvm.Cond.fieldLink "SpillslotWorksModel$Plan" (109 : Nat) "SpillslotWorksModel$Op" "block" "I") ∈ lw_all := lw_g (lw_at lw_m9 142 rfl) rfl
theorem q2318 : (Jvm.Cond.selects "SpillslotWorksModel$Plan" ({ cls := "java/lang/Object", name := "equals", desc := "(Ljava/lang/Object;)Z" } : Jvm.MethodName) ({ cls := "java/lang/Object", name := "equals", desc := "(Ljava/lang/Object;)Z" } : Jvm.MethodName)) ∈ lw_all := lw_g (lw_at lw_m10 39 rfl) rfl
theorem q2362 : (Jvm.Cond.fieldLink "SpillslotWorksModel$Plan" (37 : Nat) "SpillslotWorksModel$Chooser" "ops" "Ljava/util/ArrayList;") ∈ lw_all := lw_g (lw_at lw_m10 83 rfl) rfl
theorem q2382 : (Jvm.Cond.methodLink "SpillslotWorksModel$Plan" (41 : Nat) ({ cls := "java/util/ArrayList", name := "iterator", desc := "()Ljava/util/Iterator;" } : Jvm.MethodName)) ∈ lw_all := lw_g (lw_at lw_m10 103 rfl) rfl
theorem q2383 : (Jvm.Cond.interfaceEntry "SpillslotWorksModel$Plan" (45 : Nat)) ∈ lw_tbl := lw_at lw_m10 104 rfl
theorem q2384 : (Jvm.Cond.methodLink "SpillslotWorksModel$Plan" (45 : Nat) ({ cls := "java/util/Iterator", name := "hasNext", desc := "()Z" } : Jvm.MethodName)) ∈ lw_all := lw_g (lw_at lw_m10 105 rfl) rfl
theorem q2385 : (Jvm.Cond.interfaceEntry "SpillslotWorksModel$Plan" (51 : Nat)) ∈ lw_tbl := lw_at lw_m10 106 rfl
theorem q2386 : (Jvm.Cond.methodLink "SpillslotWorksModel$Plan" (51 : Nat) ({ cls := "java/util/Iterator", name := "next", desc := "()Ljava/lang/Object;" } : Jvm.MethodName)) ∈ lw_all := lw_g (lw_at lw_m10 107 rfl) rfl
theorem q2387 : (Jvm.Cond.classLink "SpillslotWorksModel$Plan" (55 : Nat) "SpillslotWorksModel$Op") ∈ lw_all := lw_g (lw_at lw_m10 108 rfl) rfl
theorem q2388 : (Jvm.Cond.methodLink "SpillslotWorksModel$Plan" (61 : Nat) ({ cls := "java/lang/Math", name := "max", desc := "(II)I" } : Jvm.MethodName)) ∈ lw_all := lw_g (lw_at lw_m10 109 rfl) rfl
theorem q2389 : (Jvm.Cond.classLink "SpillslotWorksModel$Plan" (67 : Nat) "SpillslotWorksModel$Life") ∈ lw_all := lw_g (lw_at lw_m10 110 rfl) rfl
theorem q2392 : (Jvm.Cond.methodLink "SpillslotWorksModel$Plan" (73 : Nat) ({ cls := "SpillslotWorksModel$Life", name := "<init>", desc := "(I)V" } : Jvm.MethodName)) ∈ lw_all := lw_g (lw_at lw_m10 113 rfl) rfl
theorem q2397 : (Jvm.Cond.fieldLink "SpillslotWorksModel$Plan" (187 : Nat) "SpillslotWorksModel$Life" "value" "I") ∈ lw_all := lw_g (lw_at lw_m10 118 rfl) rfl
theorem q2400 : (Jvm.Cond.fieldLink "SpillslotWorksModel$Plan" (165 : Nat) "SpillslotWorksModel$Life" "first" "I") ∈ lw_all := lw_g (lw_at lw_m10 121 rfl) rfl
theorem q2402 : (Jvm.Cond.fieldLink "SpillslotWorksModel$Plan" (124 : Nat) "SpillslotWorksModel$Life" "last" "I") ∈ lw_all := lw_g (lw_at lw_m10 123 rfl) rfl
theorem q2405 : (Jvm.Cond.fieldLink "SpillslotWorksModel$Plan" (118 : Nat) "SpillslotWorksModel$Life" "touched" "I") ∈ lw_all := lw_g (lw_at lw_m10 126 rfl) rfl
theorem q2407 : (Jvm.Cond.fieldLink "SpillslotWorksModel$Plan" (121 : Nat) "SpillslotWorksModel$Life" "weight" "I") ∈ lw_all := lw_g (lw_at lw_m10 128 rfl) rfl
theorem q2409 : (Jvm.Cond.fieldLink "SpillslotWorksModel$Plan" (203 : Nat) "SpillslotWorksModel$Life" "crosses" "I") ∈ lw_all := lw_g (lw_at lw_m10 130 rfl) rfl
theorem q2413 : (Jvm.Cond.fieldLink "SpillslotWorksModel$Plan" (220 : Nat) "SpillslotWorksModel$Life" "register" "I") ∈ lw_all := lw_g (lw_at lw_m10 134 rfl) rfl
theorem q2417 : (Jvm.Cond.fieldLink "SpillslotWorksModel$Plan" (229 : Nat) "SpillslotWorksModel$Life" "slot" "I") ∈ lw_all := lw_g (lw_at lw_m10 138 rfl) rfl
theorem q2420 : (Jvm.Cond.fieldLink "SpillslotWorksModel$Plan" (169 : Nat) "SpillslotWorksModel$Life" "isRemade" "Z") ∈ lw_all := lw_g (lw_at lw_m10 141 rfl) rfl
theorem q2423 : (Jvm.Cond.fieldLink "SpillslotWorksModel$Plan" (176 : Nat) "SpillslotWorksModel$Life" "number" "I") ∈ lw_all := lw_g (lw_at lw_m10 144 rfl) rfl
theorem q2425 : (Jvm.Cond.fieldLink "SpillslotWorksModel$Plan" (184 : Nat) "SpillslotWorksModel$Life" "hint" "I") ∈ lw_all := lw_g (lw_at lw_m10 146 rfl) rfl
theorem q2426 : (Jvm.Cond.fieldLinkNest "SpillslotWorksModel$Plan" (168 : Nat) "SpillslotWorksModel$Life" "writes" "I" "SpillslotWorksModel") ∈ lw_tbl := lw_at lw_m10 147 rfl
theorem q2452 : (Jvm.Cond.methodLink "SpillslotWorksModel$Plan" (76 : Nat) ({ cls := "SpillslotWorksModel$Plan", name := "live", desc := "()V" } : Jvm.MethodName)) ∈ lw_all := lw_g (lw_at lw_m10 173 rfl) rfl
theorem q2453 : (Jvm.Cond.privateMethod ({ cls := "SpillslotWorksModel$Plan", name := "live", desc := "()V" } : Jvm.MethodName)) ∈ lw_tbl := lw_at lw_m10 174 rfl
theorem q2454 : (Jvm.Cond.instanceMethod ({ cls := "SpillslotWorksModel$Plan", name := "live", desc := "()V" } : Jvm.MethodName)) ∈ lw_all := lw_g (lw_at lw_m10 175 rfl) rfl
theorem q2455 : (Jvm.Cond.code ({ cls := "SpillslotWorksModel$Plan", name := "live", desc := "()V" } : Jvm.MethodName) prog_23_method_4_code (7 : Nat) (Option.none : Option Jvm.ClassFile.FieldType)) ∈ lw_all := lw_g (lw_at lw_m10 176 rfl) rfl
theorem q2456 : (Jvm.Cond.methodLink "SpillslotWorksModel$Plan" (89 : Nat) ({ cls := "java/util/ArrayList", name := "size", desc := "()I" } : Jvm.MethodName)) ∈ lw_all := lw_g (lw_at lw_m10 177 rfl) rfl
theorem q2457 : (Jvm.Cond.methodLink "SpillslotWorksModel$Plan" (127 : Nat) ({ cls := "java/util/ArrayList", name := "get", desc := "(I)Ljava/lang/Object;" } : Jvm.MethodName)) ∈ lw_all := lw_g (lw_at lw_m10 178 rfl) rfl
theorem q2458 : (Jvm.Cond.methodLink "SpillslotWorksModel$Plan" (134 : Nat) ({ cls := "java/lang/Integer", name := "valueOf", desc := "(I)Ljava/lang/Integer;" } : Jvm.MethodName)) ∈ lw_all := lw_g (lw_at lw_m10 179 rfl) rfl
theorem q2477 : (Jvm.Cond.methodLink "SpillslotWorksModel$Plan" (140 : Nat) ({ cls := "java/util/ArrayList", name := "add", desc := "(Ljava/lang/Object;)Z" } : Jvm.MethodName)) ∈ lw_all := lw_g (lw_at lw_m10 198 rfl) rfl
theorem q2478 : (Jvm.Cond.methodLink "SpillslotWorksModel$Plan" (147 : Nat) ({ cls := "SpillslotWorksModel$Plan", name := "timesOf", desc := "(LSpillslotWorksModel$Op;)I" } : Jvm.MethodName)) ∈ lw_all := lw_g (lw_at lw_m10 199 rfl) rfl
theorem q2479 : (Jvm.Cond.privateMethod ({ cls := "SpillslotWorksModel$Plan", name := "timesOf", desc := "(LSpillslotWorksModel$Op;)I" } : Jvm.MethodName)) ∈ lw_tbl := lw_at lw_m10 200 rfl
theorem q2480 : (Jvm.Cond.instanceMethod ({ cls := "SpillslotWorksModel$Plan", name := "timesOf", desc := "(LSpillslotWorksModel$Op;)I" } : Jvm.MethodName)) ∈ lw_all := lw_g (lw_at lw_m10 201 rfl) rfl
theorem q2481 : (Jvm.Cond.code ({ cls := "SpillslotWorksModel$Plan", name := "timesOf", desc := "(LSpillslotWorksModel$Op;)I" } : Jvm.MethodName) prog_23_method_2_code (2 : Nat) (Option.some Jvm.ClassFile.FieldType.int)) ∈ lw_all := lw_g (lw_at lw_m10 202 rfl) rfl
theorem q2482 : (Jvm.Cond.methodLink "SpillslotWorksModel$Plan" (151 : Nat) ({ cls := "SpillslotWorksModel$Plan", name := "touch", desc := "(III)V" } : Jvm.MethodName)) ∈ lw_all := lw_g (lw_at lw_m10 203 rfl) rfl
theorem q2483 : (Jvm.Cond.privateMethod ({ cls := "SpillslotWorksModel$Plan", name := "touch", desc := "(III)V" } : Jvm.MethodName)) ∈ lw_tbl := lw_at lw_m10 204 rfl
theorem q2484 : (Jvm.Cond.instanceMethod ({ cls := "SpillslotWorksModel$Plan", name := "touch", desc := "(III)V" } : Jvm.MethodName)) ∈ lw_all := lw_g (lw_at lw_m10 205 rfl) rfl
theorem q2485 : (Jvm.Cond.code ({ cls := "SpillslotWorksModel$Plan", name := "touch", desc := "(III)V" } : Jvm.MethodName) prog_23_method_3_code (4 : Nat) (Option.none : Option Jvm.ClassFile.FieldType)) ∈ lw_all := lw_g (lw_at lw_m10 206 rfl) rfl
theorem q2486 : (Jvm.Cond.methodLink "SpillslotWorksModel$Plan" (155 : Nat) ({ cls := "SpillslotWorksModel$Plan", name := "note", desc := "(LSpillslotWorksModel$Life;LSpillslotWorksModel$Op;I)V" } : Jvm.MethodName)) ∈ lw_all := lw_g (lw_at lw_m10 207 rfl) rfl
theorem q2487 : (Jvm.Cond.privateMethod ({ cls := "SpillslotWorksModel$Plan", name := "note", desc := "(LSpillslotWorksModel$Life;LSpillslotWorksModel$Op;I)V" } : Jvm.MethodName)) ∈ lw_tbl := lw_at lw_m10 208 rfl
theorem q2488 : (Jvm.Cond.instanceMethod ({ cls := "SpillslotWorksModel$Plan", name := "note", desc := "(LSpillslotWorksModel$Life;LSpillslotWorksModel$Op;I)V" } : Jvm.MethodName)) ∈ lw_all := lw_g (lw_at lw_m10 209 rfl) rfl
theorem q2489 : (Jvm.Cond.code ({ cls := "SpillslotWorksModel$Plan", name := "note", desc := "(LSpillslotWorksModel$Life;LSpillslotWorksModel$Op;I)V" } : Jvm.MethodName) prog_23_method_5_code (5 : Nat) (Option.none : Option Jvm.ClassFile.FieldType)) ∈ lw_all := lw_g (lw_at lw_m10 210 rfl) rfl
theorem q2490 : (Jvm.Cond.methodLink "SpillslotWorksModel$Plan" (159 : Nat) ({ cls := "SpillslotWorksModel$Life", name := "isIn", desc := "()Z" } : Jvm.MethodName)) ∈ lw_all := lw_g (lw_at lw_m10 211 rfl) rfl
theorem q2494 : (Jvm.Cond.methodLink "SpillslotWorksModel$Plan" (162 : Nat) ({ cls := "SpillslotWorksModel$Plan", name := "settle", desc := "(LSpillslotWorksModel$Life;)V" } : Jvm.MethodName)) ∈ lw_all := lw_g (lw_at lw_m10 215 rfl) rfl
theorem q2495 : (Jvm.Cond.privateMethod ({ cls := "SpillslotWorksModel$Plan", name := "settle", desc := "(LSpillslotWorksModel$Life;)V" } : Jvm.MethodName)) ∈ lw_tbl := lw_at lw_m10 216 rfl
theorem q2496 : (Jvm.Cond.instanceMethod ({ cls := "SpillslotWorksModel$Plan", name := "settle", desc := "(LSpillslotWorksModel$Life;)V" } : Jvm.MethodName)) ∈ lw_all := lw_g (lw_at lw_m10 217 rfl) rfl
theorem q2497 : (Jvm.Cond.code ({ cls := "SpillslotWorksModel$Plan", name := "settle", desc := "(LSpillslotWorksModel$Life;)V" } : Jvm.MethodName) prog_23_method_6_code (4 : Nat) (Option.none : Option Jvm.ClassFile.FieldType)) ∈ lw_all := lw_g (lw_at lw_m10 218 rfl) rfl
theorem q2498 : (Jvm.Cond.methodLinkNest "SpillslotWorksModel$Plan" (193 : Nat) ({ cls := "SpillslotWorksModel", name := "has", desc := "(II)Z" } : Jvm.MethodName) "SpillslotWorksModel") ∈ lw_tbl := lw_at lw_m10 219 rfl
theorem q2499 : (Jvm.Cond.methodLink "SpillslotWorksModel$Plan" (197 : Nat) ({ cls := "SpillslotWorksModel$Plan", name := "stretch", desc := "(LSpillslotWorksModel$Life;)V" } : Jvm.MethodName)) ∈ lw_all := lw_g (lw_at lw_m10 220 rfl) rfl
theorem q2500 : (Jvm.Cond.privateMethod ({ cls := "SpillslotWorksModel$Plan", name := "stretch", desc := "(LSpillslotWorksModel$Life;)V" } : Jvm.MethodName)) ∈ lw_tbl := lw_at lw_m10 221 rfl
theorem q2501 : (Jvm.Cond.instanceMethod ({ cls := "SpillslotWorksModel$Plan", name := "stretch", desc := "(LSpillslotWorksModel$Life;)V" } : Jvm.MethodName)) ∈ lw_all := lw_g (lw_at lw_m10 222 rfl) rfl
theorem q2502 : (Jvm.Cond.code ({ cls := "SpillslotWorksModel$Plan", name := "stretch", desc := "(LSpillslotWorksModel$Life;)V" } : Jvm.MethodName) prog_23_method_7_code (4 : Nat) (Option.none : Option Jvm.ClassFile.FieldType)) ∈ lw_all := lw_g (lw_at lw_m10 223 rfl) rfl
theorem q2503 : (Jvm.Cond.classLink "SpillslotWorksModel$Plan" (135 : Nat) "java/lang/Integer") ∈ lw_all := lw_g (lw_at lw_m10 224 rfl) rfl
theorem q2504 : (Jvm.Cond.methodLink "SpillslotWorksModel$Plan" (200 : Nat) ({ cls := "java/lang/Integer", name := "intValue", desc := "()I" } : Jvm.MethodName)) ∈ lw_all := lw_g (lw_at lw_m10 225 rfl) rfl
theorem q2505 : (Jvm.Cond.methodLink "SpillslotWorksModel$Plan" (206 : Nat) ({ cls := "SpillslotWorksModel$Life", name := "goesOver", desc := "(I)Z" } : Jvm.MethodName)) ∈ lw_all := lw_g (lw_at lw_m10 226 rfl) rfl
theorem q2509 : (Jvm.Cond.methodLink "SpillslotWorksModel$Plan" (79 : Nat) ({ cls := "SpillslotWorksModel$Plan", name := "give", desc := "()V" } : Jvm.MethodName)) ∈ lw_all := lw_g (lw_at lw_m10 230 rfl) rfl
theorem q2510 : (Jvm.Cond.privateMethod ({ cls := "SpillslotWorksModel$Plan", name := "give", desc := "()V" } : Jvm.MethodName)) ∈ lw_tbl := lw_at lw_m10 231 rfl
theorem q2511 : (Jvm.Cond.instanceMethod ({ cls := "SpillslotWorksModel$Plan", name := "give", desc := "()V" } : Jvm.MethodName)) ∈ lw_all := lw_g (lw_at lw_m10 232 rfl) rfl
theorem q2512 : (Jvm.Cond.code ({ cls := "SpillslotWorksModel$Plan", name := "give", desc := "()V" } : Jvm.MethodName) prog_23_method_9_code (6 : Nat) (Option.none : Option Jvm.ClassFile.FieldType)) ∈ lw_all := lw_g (lw_at lw_m10 233 rfl) rfl
theorem q2513 : (Jvm.Cond.methodLink "SpillslotWorksModel$Plan" (213 : Nat) ({ cls := "SpillslotWorksModel$Machine", name := "scratch", desc := "()I" } : Jvm.MethodName)) ∈ lw_all := lw_g (lw_at lw_m10 234 rfl) rfl
theorem q2517 : (Jvm.Cond.methodLink "SpillslotWorksModel$Plan" (216 : Nat) ({ cls := "SpillslotWorksModel$Plan", name := "canHave", desc := "(LSpillslotWorksModel$Life;I)Z" } : Jvm.MethodName)) ∈ lw_all := lw_g (lw_at lw_m10 238 rfl) rfl
theorem q2518 : (Jvm.Cond.privateMethod ({ cls := "SpillslotWorksModel$Plan", name := "canHave", desc := "(LSpillslotWorksModel$Life;I)Z" } : Jvm.MethodName)) ∈ lw_tbl := lw_at lw_m10 239 rfl
theorem q2519 : (Jvm.Cond.instanceMethod ({ cls := "SpillslotWorksModel$Plan", name := "canHave", desc := "(LSpillslotWorksModel$Life;I)Z" } : Jvm.MethodName)) ∈ lw_all := lw_g (lw_at lw_m11 0 rfl) rfl
theorem q2520 : (Jvm.Cond.code ({ cls := "SpillslotWorksModel$Plan", name := "canHave", desc := "(LSpillslotWorksModel$Life;I)Z" } : Jvm.MethodName) prog_23_method_8_code (3 : Nat) (Option.some Jvm.ClassFile.FieldType.boolean)) ∈ lw_all := lw_g (lw_at lw_m11 1 rfl) rfl
theorem q2521 : (Jvm.Cond.methodLink "SpillslotWorksModel$Plan" (210 : Nat) ({ cls := "SpillslotWorksModel$Machine", name := "isKept", desc := "(I)Z" } : Jvm.MethodName)) ∈ lw_all := lw_g (lw_at lw_m11 2 rfl) rfl
theorem q2526 : (Jvm.Cond.methodLink "SpillslotWorksModel$Plan" (223 : Nat) ({ cls := "SpillslotWorksModel$Plan", name := "yieldOne", desc := "(LSpillslotWorksModel$Life;)V" } : Jvm.MethodName)) ∈ lw_all := lw_g (lw_at lw_m11 7 rfl) rfl
theorem q2527 : (Jvm.Cond.privateMethod ({ cls := "SpillslotWorksModel$Plan", name := "yieldOne", desc := "(LSpillslotWorksModel$Life;)V" } : Jvm.MethodName)) ∈ lw_tbl := lw_at lw_m11 8 rfl
theorem q2528 : (Jvm.Cond.instanceMethod ({ cls := "SpillslotWorksModel$Plan", name := "yieldOne", desc := "(LSpillslotWorksModel$Life;)V" } : Jvm.MethodName)) ∈ lw_all := lw_g (lw_at lw_m11 9 rfl) rfl
theorem q2529 : (Jvm.Cond.code ({ cls := "SpillslotWorksModel$Plan", name := "yieldOne", desc := "(LSpillslotWorksModel$Life;)V" } : Jvm.MethodName) prog_23_method_10_code (5 : Nat) (Option.none : Option Jvm.ClassFile.FieldType)) ∈ lw_all := lw_g (lw_at lw_m11 10 rfl) rfl
theorem q2530 : (Jvm.Cond.methodLink "SpillslotWorksModel$Plan" (82 : Nat) ({ cls := "SpillslotWorksModel$Life", name := "isSpilled", desc := "()Z" } : Jvm.MethodName)) ∈ lw_all := lw_g (lw_at lw_m11 11 rfl) rfl
theorem q2535 : (Jvm.Cond.methodLink "SpillslotWorksModel$Plan" (85 : Nat) ({ cls := "SpillslotWorksModel$Plan", name := "spill", desc := "(LSpillslotWorksModel$Life;)V" } : Jvm.MethodName)) ∈ lw_all := lw_g (lw_at lw_m11 16 rfl) rfl
theorem q2536 : (Jvm.Cond.privateMethod ({ cls := "SpillslotWorksModel$Plan", name := "spill", desc := "(LSpillslotWorksModel$Life;)V" } : Jvm.MethodName)) ∈ lw_tbl := lw_at lw_m11 17 rfl
theorem q2537 : (Jvm.Cond.instanceMethod ({ cls := "SpillslotWorksModel$Plan", name := "spill", desc := "(LSpillslotWorksModel$Life;)V" } : Jvm.MethodName)) ∈ lw_all := lw_g (lw_at lw_m11 18 rfl) rfl
theorem q2538 : (Jvm.Cond.code ({ cls := "SpillslotWorksModel$Plan", name := "spill", desc := "(LSpillslotWorksModel$Life;)V" } : Jvm.MethodName) prog_23_method_11_code (3 : Nat) (Option.none : Option Jvm.ClassFile.FieldType)) ∈ lw_all := lw_g (lw_at lw_m11 19 rfl) rfl
theorem q2539 : (Jvm.Cond.methodLink "SpillslotWorksModel$Plan" (226 : Nat) ({ cls := "SpillslotWorksModel$Plan", name := "isTaken", desc := "(LSpillslotWorksModel$Life;I)Z" } : Jvm.MethodName)) ∈ lw_all := lw_g (lw_at lw_m11 20 rfl) rfl
theorem q2540 : (Jvm.Cond.privateMethod ({ cls := "SpillslotWorksModel$Plan", name := "isTaken", desc := "(LSpillslotWorksModel$Life;I)Z" } : Jvm.MethodName)) ∈ lw_tbl := lw_at lw_m11 21 rfl
theorem q2541 : (Jvm.Cond.instanceMethod ({ cls := "SpillslotWorksModel$Plan", name := "isTaken", desc := "(LSpillslotWorksModel$Life;I)Z" } : Jvm.MethodName)) ∈ lw_all := lw_g (lw_at lw_m11 22 rfl) rfl
theorem q2542 : (Jvm.Cond.code ({ cls := "SpillslotWorksModel$Plan", name := "isTaken", desc := "(LSpillslotWorksModel$Life;I)Z" } : Jvm.MethodName) prog_23_method_12_code (5 : Nat) (Option.some Jvm.ClassFile.FieldType.boolean)) ∈ lw_all := lw_g (lw_at lw_m11 23 rfl) rfl
theorem q2543 : (Jvm.Cond.methodLink "SpillslotWorksModel$Plan" (235 : Nat) ({ cls := "SpillslotWorksModel$Life", name := "meets", desc := "(LSpillslotWorksModel$Life;)Z" } : Jvm.MethodName)) ∈ lw_all := lw_g (lw_at lw_m11 24 rfl) rfl
theorem q2547 : (Jvm.Cond.classLink "SpillslotWorksModel$Plan" (93 : Nat) "SpillslotWorksModel$Plan$Layer") ∈ lw_all := lw_g (lw_at lw_m11 28 rfl) rfl
theorem q2549 : (Jvm.Cond.methodLink "SpillslotWorksModel$Plan" (95 : Nat) ({ cls := "SpillslotWorksModel$Plan$Layer", name := "<init>", desc := "(LSpillslotWorksModel$Plan;I)V" } : Jvm.MethodName)) ∈ lw_all := lw_g (lw_at lw_m11 30 rfl) rfl
theorem q2565 : (Jvm.Cond.methodLink "SpillslotWorksModel$Plan" (98 : Nat) ({ cls := "SpillslotWorksModel$Plan$Layer", name := "lay", desc := "()V" } : Jvm.MethodName)) ∈ lw_all := lw_g (lw_at lw_m11 46 rfl) rfl
theorem q2595 : (Jvm.Cond.classLink "SpillslotWorksModel$Plan" (101 : Nat) "SpillslotWorksModel$Plan$Runner") ∈ lw_all := lw_g (lw_at lw_m11 76 rfl) rfl
theorem q2597 : (Jvm.Cond.methodLinkNest "SpillslotWorksModel$Plan" (103 : Nat) ({ cls := "SpillslotWorksModel$Plan$Runner", name := "<init>", desc := "(LSpillslotWorksModel$Plan;)V" } : Jvm.MethodName) "SpillslotWorksModel") ∈ lw_tbl := lw_at lw_m11 78 rfl
theorem q2614 : (Jvm.Cond.methodLink "SpillslotWorksModel$Plan" (106 : Nat) ({ cls := "SpillslotWorksModel$Plan$Runner", name := "go", desc := "()V" } : Jvm.MethodName)) ∈ lw_all := lw_g (lw_at lw_m11 95 rfl) rfl
theorem q2646 : (Jvm.Cond.fieldLink "SpillslotWorksModel$Plan" (24 : Nat) "SpillslotWorksModel$Plan" "program" "LSpillslotWorksModel$Program;") ∈ lw_all := lw_g (lw_at lw_m11 127 rfl) rfl
theorem q2649 : (Jvm.Cond.fieldLink "SpillslotWorksModel$Plan" (28 : Nat) "SpillslotWorksModel$Plan" "machine" "LSpillslotWorksModel$Machine;") ∈ lw_all := lw_g (lw_at lw_m11 130 rfl) rfl
theorem q2652 : (Jvm.Cond.fieldLink "SpillslotWorksModel$Plan" (40 : Nat) "SpillslotWorksModel$Plan" "ops" "Ljava/util/ArrayList;") ∈ lw_all := lw_g (lw_at lw_m11 133 rfl) rfl
theorem q2655 : (Jvm.Cond.fieldLink "SpillslotWorksModel$Plan" (69 : Nat) "SpillslotWorksModel$Plan" "lives" "[LSpillslotWorksModel$Life;") ∈ lw_all := lw_g (lw_at lw_m11 136 rfl) rfl
theorem q2658 : (Jvm.Cond.fieldLink "SpillslotWorksModel$Plan" (12 : Nat) "SpillslotWorksModel$Plan" "order" "Ljava/util/ArrayList;") ∈ lw_all := lw_g (lw_at lw_m11 139 rfl) rfl
theorem q2660 : (Jvm.Cond.fieldLink "SpillslotWorksModel$Plan" (18 : Nat) "SpillslotWorksModel$Plan" "calls" "Ljava/util/ArrayList;") ∈ lw_all := lw_g (lw_at lw_m11 141 rfl) rfl
theorem q2663 : (Jvm.Cond.fieldLink "SpillslotWorksModel$Plan" (232 : Nat) "SpillslotWorksModel$Plan" "slots" "I") ∈ lw_all := lw_g (lw_at lw_m11 144 rfl) rfl
theorem q2664 : (Jvm.Cond.fieldLink "SpillslotWorksModel$Plan" (21 : Nat) "SpillslotWorksModel$Plan" "code" "Ljava/util/ArrayList;") ∈ lw_all := lw_g (lw_at lw_m11 145 rfl) rfl
theorem q2669 : (Jvm.Cond.fieldLink "SpillslotWorksModel$Plan" (260 : Nat) "SpillslotWorksModel$Plan" "ran" "I") ∈ lw_all := lw_g (lw_at lw_m11 150 rfl) rfl
theorem q2672 : (Jvm.Cond.fieldLink "SpillslotWorksModel$Plan" (263 : Nat) "SpillslotWorksModel$Plan" "cycles" "I") ∈ lw_all := lw_g (lw_at lw_m11 153 rfl) rfl
theorem q2675 : (Jvm.Cond.fieldLink "SpillslotWorksModel$Plan" (266 : Nat) "SpillslotWorksModel$Plan" "stalls" "I") ∈ lw_all := lw_g (lw_at lw_m11 156 rfl) rfl
theorem q2678 : (Jvm.Cond.fieldLink "SpillslotWorksModel$Plan" (244 : Nat) "SpillslotWorksModel$Plan" "registers" "[I") ∈ lw_all := lw_g (lw_at lw_m11 159 rfl) rfl
theorem q2680 : (Jvm.Cond.fieldLink "SpillslotWorksModel$Plan" (247 : Nat) "SpillslotWorksModel$Plan" "memory" "[I") ∈ lw_all := lw_g (lw_at lw_m11 161 rfl) rfl
theorem q2683 : (Jvm.Cond.laysFinal "SpillslotWorksModel$Plan" "SpillslotWorksModel$Plan" "program" "LSpillslotWorksModel$Program;") ∈ lw_all := lw_g (lw_at lw_m11 164 rfl) rfl
theorem q2684 : (Jvm.Cond.soleField "SpillslotWorksModel$Plan" "program") ∈ lw_all := lw_g (lw_at lw_m11 165 rfl) rfl
theorem q2685 : (Jvm.Cond.laysFinal "SpillslotWorksModel$Plan" "SpillslotWorksModel$Plan" "machine" "LSpillslotWorksModel$Machine;") ∈ lw_all := lw_g (lw_at lw_m11 166 rfl) rfl
theorem q2686 : (Jvm.Cond.soleField "SpillslotWorksModel$Plan" "machine") ∈ lw_all := lw_g (lw_at lw_m11 167 rfl) rfl
theorem q2687 : (Jvm.Cond.laysFinal "SpillslotWorksModel$Plan" "SpillslotWorksModel$Plan" "ops" "Ljava/util/ArrayList;") ∈ lw_all := lw_g (lw_at lw_m11 168 rfl) rfl
theorem q2688 : (Jvm.Cond.soleField "SpillslotWorksModel$Plan" "ops") ∈ lw_all := lw_g (lw_at lw_m11 169 rfl) rfl
theorem q2689 : (Jvm.Cond.laysFinal "SpillslotWorksModel$Plan" "SpillslotWorksModel$Plan" "lives" "[LSpillslotWorksModel$Life;") ∈ lw_all := lw_g (lw_at lw_m11 170 rfl) rfl
theorem q2690 : (Jvm.Cond.soleField "SpillslotWorksModel$Plan" "lives") ∈ lw_all := lw_g (lw_at lw_m11 171 rfl) rfl
theorem q2691 : (Jvm.Cond.laysFinal "SpillslotWorksModel$Plan" "SpillslotWorksModel$Plan" "order" "Ljava/util/ArrayList;") ∈ lw_all := lw_g (lw_at lw_m11 172 rfl) rfl
theorem q2692 : (Jvm.Cond.soleField "SpillslotWorksModel$Plan" "order") ∈ lw_all := lw_g (lw_at lw_m11 173 rfl) rfl
theorem q2693 : (Jvm.Cond.laysFinal "SpillslotWorksModel$Plan" "SpillslotWorksModel$Plan" "calls" "Ljava/util/ArrayList;") ∈ lw_all := lw_g (lw_at lw_m11 174 rfl) rfl
theorem q2694 : (Jvm.Cond.soleField "SpillslotWorksModel$Plan" "calls") ∈ lw_all := lw_g (lw_at lw_m11 175 rfl) rfl
theorem q2695 : (Jvm.Cond.lays "SpillslotWorksModel$Plan" "SpillslotWorksModel$Plan" "slots" "I") ∈ lw_all := lw_g (lw_at lw_m11 176 rfl) rfl
theorem q2696 : (Jvm.Cond.soleField "SpillslotWorksModel$Plan" "slots") ∈ lw_all := lw_g (lw_at lw_m11 177 rfl) rfl
theorem q2697 : (Jvm.Cond.laysFinal "SpillslotWorksModel$Plan" "SpillslotWorksModel$Plan" "code" "Ljava/util/ArrayList;") ∈ lw_all := lw_g (lw_at lw_m11 178 rfl) rfl
theorem q2698 : (Jvm.Cond.soleField "SpillslotWorksModel$Plan" "code") ∈ lw_all := lw_g (lw_at lw_m11 179 rfl) rfl
theorem q2699 : (Jvm.Cond.lays "SpillslotWorksModel$Plan" "SpillslotWorksModel$Plan" "ran" "I") ∈ lw_all := lw_g (lw_at lw_m11 180 rfl) rfl
theorem q2700 : (Jvm.Cond.soleField "SpillslotWorksModel$Plan" "ran") ∈ lw_all := lw_g (lw_at lw_m11 181 rfl) rfl
theorem q2701 : (Jvm.Cond.lays "SpillslotWorksModel$Plan" "SpillslotWorksModel$Plan" "cycles" "I") ∈ lw_all := lw_g (lw_at lw_m11 182 rfl) rfl
theorem q2702 : (Jvm.Cond.soleField "SpillslotWorksModel$Plan" "cycles") ∈ lw_all := lw_g (lw_at lw_m11 183 rfl) rfl
theorem q2703 : (Jvm.Cond.lays "SpillslotWorksModel$Plan" "SpillslotWorksModel$Plan" "stalls" "I") ∈ lw_all := lw_g (lw_at lw_m11 184 rfl) rfl
theorem q2704 : (Jvm.Cond.soleField "SpillslotWorksModel$Plan" "stalls") ∈ lw_all := lw_g (lw_at lw_m11 185 rfl) rfl
theorem q2705 : (Jvm.Cond.lays "SpillslotWorksModel$Plan" "SpillslotWorksModel$Plan" "registers" "[I") ∈ lw_all := lw_g (lw_at lw_m11 186 rfl) rfl
theorem q2706 : (Jvm.Cond.soleField "SpillslotWorksModel$Plan" "registers") ∈ lw_all := lw_g (lw_at lw_m11 187 rfl) rfl
theorem q2707 : (Jvm.Cond.lays "SpillslotWorksModel$Plan" "SpillslotWorksModel$Plan" "memory" "[I") ∈ lw_all := lw_g (lw_at lw_m11 188 rfl) rfl
theorem q2708 : (Jvm.Cond.soleField "SpillslotWorksModel$Plan" "memory") ∈ lw_all := lw_g (lw_at lw_m11 189 rfl) rfl
theorem q2709 : (Jvm.Cond.lays "SpillslotWorksModel$Plan" "SpillslotWorksModel$Plan" "begins" "[I") ∈ lw_all := lw_g (lw_at lw_m11 190 rfl) rfl
theorem q2710 : (Jvm.Cond.soleField "SpillslotWorksModel$Plan" "begins") ∈ lw_all := lw_g (lw_at lw_m11 191 rfl) rfl
theorem q2711 : (Jvm.Cond.superclass "SpillslotWorksModel$Plan" "java/lang/Object") ∈ lw_all := lw_g (lw_at lw_m11 192 rfl) rfl
theorem q2758 : (Jvm.Cond.instanceMethod ({ cls := "SpillslotWorksModel$Plan", name := "answer", desc := "(I)I" } : Jvm.MethodName)) ∈ lw_all := lw_g (lw_at lw_m11 239 rfl) rfl
theorem q2759 : (Jvm.Cond.selects "SpillslotWorksModel$Plan" ({ cls := "SpillslotWorksModel$Plan", name := "answer", desc := "(I)I" } : Jvm.MethodName) ({ cls := "SpillslotWorksModel$Plan", name := "answer", desc := "(I)I" } : Jvm.MethodName)) ∈ lw_all := lw_g (lw_at lw_m12 0 rfl) rfl
theorem q2760 : (Jvm.Cond.code ({ cls := "SpillslotWorksModel$Plan", name := "answer", desc := "(I)I" } : Jvm.MethodName) prog_23_method_17_code (3 : Nat) (Option.some Jvm.ClassFile.FieldType.int)) ∈ lw_all := lw_g (lw_at lw_m12 1 rfl) rfl
theorem q2770 : (Jvm.Cond.instanceMethod ({ cls := "SpillslotWorksModel$Plan", name := "told", desc := "(I)I" } : Jvm.MethodName)) ∈ lw_all := lw_g (lw_at lw_m12 11 rfl) rfl
theorem q2771 : (Jvm.Cond.selects "SpillslotWorksModel$Plan" ({ cls := "SpillslotWorksModel$Plan", name := "told", desc := "(I)I" } : Jvm.MethodName) ({ cls := "SpillslotWorksModel$Plan", name := "told", desc := "(I)I" } : Jvm.MethodName)) ∈ lw_all := lw_g (lw_at lw_m12 12 rfl) rfl
theorem q2772 : (Jvm.Cond.code ({ cls := "SpillslotWorksModel$Plan", name := "told", desc := "(I)I" } : Jvm.MethodName) prog_23_method_18_code (3 : Nat) (Option.some Jvm.ClassFile.FieldType.int)) ∈ lw_all := lw_g (lw_at lw_m12 13 rfl) rfl
theorem q2773 : (Jvm.Cond.methodLink "SpillslotWorksModel$Plan" (250 : Nat) ({ cls := "SpillslotWorksModel$Plan", name := "spilled", desc := "(Z)I" } : Jvm.MethodName)) ∈ lw_all := lw_g (lw_at lw_m12 14 rfl) rfl
theorem q2774 : (Jvm.Cond.instanceMethod ({ cls := "SpillslotWorksModel$Plan", name := "spilled", desc := "(Z)I" } : Jvm.MethodName)) ∈ lw_all := lw_g (lw_at lw_m12 15 rfl) rfl
theorem q2775 : (Jvm.Cond.selects "SpillslotWorksModel$Plan" ({ cls := "SpillslotWorksModel$Plan", name := "spilled", desc := "(Z)I" } : Jvm.MethodName) ({ cls := "SpillslotWorksModel$Plan", name := "spilled", desc := "(Z)I" } : Jvm.MethodName)) ∈ lw_all := lw_g (lw_at lw_m12 16 rfl) rfl
theorem q2776 : (Jvm.Cond.code ({ cls := "SpillslotWorksModel$Plan", name := "spilled", desc := "(Z)I" } : Jvm.MethodName) prog_23_method_16_code (5 : Nat) (Option.some Jvm.ClassFile.FieldType.int)) ∈ lw_all := lw_g (lw_at lw_m12 17 rfl) rfl
theorem q2777 : (Jvm.Cond.methodLink "SpillslotWorksModel$Plan" (254 : Nat) ({ cls := "SpillslotWorksModel$Plan", name := "frame", desc := "()I" } : Jvm.MethodName)) ∈ lw_all := lw_g (lw_at lw_m12 18 rfl) rfl
theorem q2778 : (Jvm.Cond.instanceMethod ({ cls := "SpillslotWorksModel$Plan", name := "frame", desc := "()I" } : Jvm.MethodName)) ∈ lw_all := lw_g (lw_at lw_m12 19 rfl) rfl
theorem q2779 : (Jvm.Cond.selects "SpillslotWorksModel$Plan" ({ cls := "SpillslotWorksModel$Plan", name := "frame", desc := "()I" } : Jvm.MethodName) ({ cls := "SpillslotWorksModel$Plan", name := "frame", desc := "()I" } : Jvm.MethodName)) ∈ lw_all := lw_g (lw_at lw_m12 20 rfl) rfl
theorem q2780 : (Jvm.Cond.code ({ cls := "SpillslotWorksModel$Plan", name := "frame", desc := "()I" } : Jvm.MethodName) prog_23_method_13_code (4 : Nat) (Option.some Jvm.ClassFile.FieldType.int)) ∈ lw_all := lw_g (lw_at lw_m12 21 rfl) rfl
theorem q2781 : (Jvm.Cond.methodLink "SpillslotWorksModel$Plan" (239 : Nat) ({ cls := "java/lang/Integer", name := "bitCount", desc := "(I)I" } : Jvm.MethodName)) ∈ lw_all := lw_g (lw_at lw_m12 22 rfl) rfl
theorem q2787 : (Jvm.Cond.methodLink "SpillslotWorksModel$Plan" (257 : Nat) ({ cls := "SpillslotWorksModel$Plan", name := "in", desc := "(II)I" } : Jvm.MethodName)) ∈ lw_all := lw_g (lw_at lw_m12 28 rfl) rfl
theorem q2788 : (Jvm.Cond.instanceMethod ({ cls := "SpillslotWorksModel$Plan", name := "in", desc := "(II)I" } : Jvm.MethodName)) ∈ lw_all := lw_g (lw_at lw_m12 29 rfl) rfl
theorem q2789 : (Jvm.Cond.selects "SpillslotWorksModel$Plan" ({ cls := "SpillslotWorksModel$Plan", name := "in", desc := "(II)I" } : Jvm.MethodName) ({ cls := "SpillslotWorksModel$Plan", name := "in", desc := "(II)I" } : Jvm.MethodName)) ∈ lw_all := lw_g (lw_at lw_m12 30 rfl) rfl
theorem q2790 : (Jvm.Cond.code ({ cls := "SpillslotWorksModel$Plan", name := "in", desc := "(II)I" } : Jvm.MethodName) prog_23_method_15_code (6 : Nat) (Option.some Jvm.ClassFile.FieldType.int)) ∈ lw_all := lw_g (lw_at lw_m12 31 rfl) rfl
theorem q2791 : (Jvm.Cond.classLink "SpillslotWorksModel$Plan" (243 : Nat) "[I") ∈ lw_all := lw_g (lw_at lw_m12 32 rfl) rfl
theorem q2792 : (Jvm.Cond.methodLink "SpillslotWorksModel$Plan" (269 : Nat) ({ cls := "SpillslotWorksModel$Plan", name := "most", desc := "()I" } : Jvm.MethodName)) ∈ lw_all := lw_g (lw_at lw_m12 33 rfl) rfl
theorem q2793 : (Jvm.Cond.instanceMethod ({ cls := "SpillslotWorksModel$Plan", name := "most", desc := "()I" } : Jvm.MethodName)) ∈ lw_all := lw_g (lw_at lw_m12 34 rfl) rfl
theorem q2794 : (Jvm.Cond.selects "SpillslotWorksModel$Plan" ({ cls := "SpillslotWorksModel$Plan", name := "most", desc := "()I" } : Jvm.MethodName) ({ cls := "SpillslotWorksModel$Plan", name := "most", desc := "()I" } : Jvm.MethodName)) ∈ lw_all := lw_g (lw_at lw_m12 35 rfl) rfl
theorem q2795 : (Jvm.Cond.code ({ cls := "SpillslotWorksModel$Plan", name := "most", desc := "()I" } : Jvm.MethodName) prog_23_method_14_code (6 : Nat) (Option.some Jvm.ClassFile.FieldType.int)) ∈ lw_all := lw_g (lw_at lw_m12 36 rfl) rfl
theorem q2882 : (Jvm.Cond.castable "SpillslotWorksModel$Plan" "java/lang/Object") ∈ lw_tbl := lw_at lw_m12 123 rfl
theorem in_X19 : ∀ w ∈ wsX190, w ∈ lw_all := lw_in wsX190 [2683, 2685, 2687, 2689, 2691, 2693, 2695, 2697, 2699, 2701, 2703, 2705, 2707, 2709] (by decide +kernel) (by decide +kernel)
