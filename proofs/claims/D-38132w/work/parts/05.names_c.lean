/-! SpillslotWorks -/
set_option maxRecDepth 100000
def RX1 : String := "SpillslotWorks"
def TX1 : u_T := fun k => match k with
  | 0 => ("SpillslotWorks", "program", "LSpillslotWorks$Program;", true)
  | 1 => ("SpillslotWorks", "machine", "LSpillslotWorks$Machine;", false)
  | _ => ("SpillslotWorks", "build", "LSpillslotWorks$Build;", false)
def tyX1 : Nat → FieldType := fun k => match k with
  | 0 => .object "SpillslotWorks$Program"
  | 1 => .object "SpillslotWorks$Machine"
  | _ => .object "SpillslotWorks$Build"
abbrev wsX10 : List Cond := u_ws RX1 TX1 3
theorem nmX1 : ∀ a, a < 3 → ∀ b, b < 3 → a ≠ b → (TX1 a).2.1 ≠ (TX1 b).2.1 := by decide +kernel
theorem tyX1_ok : ∀ k, k < 3 → parseFieldDescriptor (TX1 k).2.2.1 = some (tyX1 k) := by decide +kernel
abbrev cX1_init : ByteArray := prog_1_method_4_code
def yX1_init : MethodName := ⟨RX1, "<init>", "()V"⟩
def dkwX1_init_2 : List UInt8 := [180, 0, 25, 3, 183, 0, 31, 181, 0, 34, 177]
abbrev dktX1_init_2 : List UInt8 := dkwX1_init_2 ++ []
def dkwX1_init_1 : List UInt8 := [16, 15, 4, 3, 184, 0, 18, 183, 0, 22, 181, 0, 25, 42, 187, 0, 29, 89, 42, 180, 0, 10, 42]
abbrev dktX1_init_1 : List UInt8 := dkwX1_init_1 ++ dktX1_init_2
def dkwX1_init_0 : List UInt8 := [42, 183, 0, 1, 42, 187, 0, 7, 89, 183, 0, 9, 181, 0, 10, 42, 187, 0, 16, 89, 16, 8, 16, 28]
abbrev dktX1_init_0 : List UInt8 := dkwX1_init_0 ++ dktX1_init_1
theorem dksX1_init_0 : cX1_init.data.toList.drop 0 = dktX1_init_0 := by decide +kernel
theorem dksX1_init_1 : cX1_init.data.toList.drop 24 = dktX1_init_1 := dk_seg dksX1_init_0 24 rfl rfl
theorem dksX1_init_2 : cX1_init.data.toList.drop 47 = dktX1_init_2 := dk_seg dksX1_init_1 23 rfl rfl
theorem dX1_init_0 : decode cX1_init 0 = .ok (.aload_n 0, 1) := dk_42 (dk_at dksX1_init_0 0 rfl rfl)
theorem dX1_init_1 : decode cX1_init 1 = .ok (.invokespecial 1, 3) := dk_183 0 1 (dk_at dksX1_init_0 1 rfl rfl)
theorem dX1_init_4 : decode cX1_init 4 = .ok (.aload_n 0, 1) := dk_42 (dk_at dksX1_init_0 4 rfl rfl)
theorem dX1_init_5 : decode cX1_init 5 = .ok (.new 7, 3) := dk_187 0 7 (dk_at dksX1_init_0 5 rfl rfl)
theorem dX1_init_8 : decode cX1_init 8 = .ok (.dup, 1) := dk_89 (dk_at dksX1_init_0 8 rfl rfl)
theorem dX1_init_9 : decode cX1_init 9 = .ok (.invokespecial 9, 3) := dk_183 0 9 (dk_at dksX1_init_0 9 rfl rfl)
theorem dX1_init_12 : decode cX1_init 12 = .ok (.putfield 10, 3) := dk_181 0 10 (dk_at dksX1_init_0 12 rfl rfl)
theorem dX1_init_15 : decode cX1_init 15 = .ok (.aload_n 0, 1) := dk_42 (dk_at dksX1_init_0 15 rfl rfl)
theorem dX1_init_16 : decode cX1_init 16 = .ok (.new 16, 3) := dk_187 0 16 (dk_at dksX1_init_0 16 rfl rfl)
theorem dX1_init_19 : decode cX1_init 19 = .ok (.dup, 1) := dk_89 (dk_at dksX1_init_0 19 rfl rfl)
theorem dX1_init_20 : decode cX1_init 20 = .ok (.bipush 8, 2) := dk_16 8 (dk_at dksX1_init_0 20 rfl rfl)
theorem dX1_init_22 : decode cX1_init 22 = .ok (.bipush 28, 2) := dk_16 28 (dk_at dksX1_init_0 22 rfl rfl)
theorem dX1_init_24 : decode cX1_init 24 = .ok (.bipush 15, 2) := dk_16 15 (dk_at dksX1_init_1 0 rfl rfl)
theorem dX1_init_26 : decode cX1_init 26 = .ok (.iconst 1, 1) := dk_4 (dk_at dksX1_init_1 2 rfl rfl)
theorem dX1_init_27 : decode cX1_init 27 = .ok (.iconst 0, 1) := dk_3 (dk_at dksX1_init_1 3 rfl rfl)
theorem dX1_init_28 : decode cX1_init 28 = .ok (.invokestatic 18, 3) := dk_184 0 18 (dk_at dksX1_init_1 4 rfl rfl)
theorem dX1_init_31 : decode cX1_init 31 = .ok (.invokespecial 22, 3) := dk_183 0 22 (dk_at dksX1_init_1 7 rfl rfl)
theorem dX1_init_34 : decode cX1_init 34 = .ok (.putfield 25, 3) := dk_181 0 25 (dk_at dksX1_init_1 10 rfl rfl)
theorem dX1_init_37 : decode cX1_init 37 = .ok (.aload_n 0, 1) := dk_42 (dk_at dksX1_init_1 13 rfl rfl)
theorem dX1_init_38 : decode cX1_init 38 = .ok (.new 29, 3) := dk_187 0 29 (dk_at dksX1_init_1 14 rfl rfl)
theorem dX1_init_41 : decode cX1_init 41 = .ok (.dup, 1) := dk_89 (dk_at dksX1_init_1 17 rfl rfl)
theorem dX1_init_42 : decode cX1_init 42 = .ok (.aload_n 0, 1) := dk_42 (dk_at dksX1_init_1 18 rfl rfl)
theorem dX1_init_43 : decode cX1_init 43 = .ok (.getfield 10, 3) := dk_180 0 10 (dk_at dksX1_init_1 19 rfl rfl)
theorem dX1_init_46 : decode cX1_init 46 = .ok (.aload_n 0, 1) := dk_42 (dk_at dksX1_init_1 22 rfl rfl)
theorem dX1_init_47 : decode cX1_init 47 = .ok (.getfield 25, 3) := dk_180 0 25 (dk_at dksX1_init_2 0 rfl rfl)
theorem dX1_init_50 : decode cX1_init 50 = .ok (.iconst 0, 1) := dk_3 (dk_at dksX1_init_2 3 rfl rfl)
theorem dX1_init_51 : decode cX1_init 51 = .ok (.invokespecial 31, 3) := dk_183 0 31 (dk_at dksX1_init_2 4 rfl rfl)
theorem dX1_init_54 : decode cX1_init 54 = .ok (.putfield 34, 3) := dk_181 0 34 (dk_at dksX1_init_2 7 rfl rfl)
theorem dX1_init_57 : decode cX1_init 57 = .ok (.return_, 1) := dk_177 (dk_at dksX1_init_2 10 rfl rfl)
abbrev cX1_firstLatencies : ByteArray := prog_1_method_5_code
def yX1_firstLatencies : MethodName := ⟨RX1, "firstLatencies", "()[I"⟩
def dkwX1_firstLatencies_1 : List UInt8 := [89, 8, 5, 79, 89, 16, 6, 4, 79, 89, 16, 7, 8, 79, 75, 42, 176]
abbrev dktX1_firstLatencies_1 : List UInt8 := dkwX1_firstLatencies_1 ++ []
def dkwX1_firstLatencies_0 : List UInt8 := [16, 8, 188, 10, 89, 3, 4, 79, 89, 4, 4, 79, 89, 5, 4, 79, 89, 6, 6, 79, 89, 7, 6, 79]
abbrev dktX1_firstLatencies_0 : List UInt8 := dkwX1_firstLatencies_0 ++ dktX1_firstLatencies_1
theorem dksX1_firstLatencies_0 : cX1_firstLatencies.data.toList.drop 0 = dktX1_firstLatencies_0 := by decide +kernel
theorem dksX1_firstLatencies_1 : cX1_firstLatencies.data.toList.drop 24 = dktX1_firstLatencies_1 := dk_seg dksX1_firstLatencies_0 24 rfl rfl
theorem dX1_firstLatencies_0 : decode cX1_firstLatencies 0 = .ok (.bipush 8, 2) := dk_16 8 (dk_at dksX1_firstLatencies_0 0 rfl rfl)
theorem dX1_firstLatencies_2 : decode cX1_firstLatencies 2 = .ok (.newarray .int, 2) := dk_188_10 (dk_at dksX1_firstLatencies_0 2 rfl rfl)
theorem dX1_firstLatencies_4 : decode cX1_firstLatencies 4 = .ok (.dup, 1) := dk_89 (dk_at dksX1_firstLatencies_0 4 rfl rfl)
theorem dX1_firstLatencies_5 : decode cX1_firstLatencies 5 = .ok (.iconst 0, 1) := dk_3 (dk_at dksX1_firstLatencies_0 5 rfl rfl)
theorem dX1_firstLatencies_6 : decode cX1_firstLatencies 6 = .ok (.iconst 1, 1) := dk_4 (dk_at dksX1_firstLatencies_0 6 rfl rfl)
theorem dX1_firstLatencies_7 : decode cX1_firstLatencies 7 = .ok (.iastore, 1) := dk_79 (dk_at dksX1_firstLatencies_0 7 rfl rfl)
theorem dX1_firstLatencies_8 : decode cX1_firstLatencies 8 = .ok (.dup, 1) := dk_89 (dk_at dksX1_firstLatencies_0 8 rfl rfl)
theorem dX1_firstLatencies_9 : decode cX1_firstLatencies 9 = .ok (.iconst 1, 1) := dk_4 (dk_at dksX1_firstLatencies_0 9 rfl rfl)
theorem dX1_firstLatencies_10 : decode cX1_firstLatencies 10 = .ok (.iconst 1, 1) := dk_4 (dk_at dksX1_firstLatencies_0 10 rfl rfl)
theorem dX1_firstLatencies_11 : decode cX1_firstLatencies 11 = .ok (.iastore, 1) := dk_79 (dk_at dksX1_firstLatencies_0 11 rfl rfl)
theorem dX1_firstLatencies_12 : decode cX1_firstLatencies 12 = .ok (.dup, 1) := dk_89 (dk_at dksX1_firstLatencies_0 12 rfl rfl)
theorem dX1_firstLatencies_13 : decode cX1_firstLatencies 13 = .ok (.iconst 2, 1) := dk_5 (dk_at dksX1_firstLatencies_0 13 rfl rfl)
theorem dX1_firstLatencies_14 : decode cX1_firstLatencies 14 = .ok (.iconst 1, 1) := dk_4 (dk_at dksX1_firstLatencies_0 14 rfl rfl)
theorem dX1_firstLatencies_15 : decode cX1_firstLatencies 15 = .ok (.iastore, 1) := dk_79 (dk_at dksX1_firstLatencies_0 15 rfl rfl)
theorem dX1_firstLatencies_16 : decode cX1_firstLatencies 16 = .ok (.dup, 1) := dk_89 (dk_at dksX1_firstLatencies_0 16 rfl rfl)
theorem dX1_firstLatencies_17 : decode cX1_firstLatencies 17 = .ok (.iconst 3, 1) := dk_6 (dk_at dksX1_firstLatencies_0 17 rfl rfl)
theorem dX1_firstLatencies_18 : decode cX1_firstLatencies 18 = .ok (.iconst 3, 1) := dk_6 (dk_at dksX1_firstLatencies_0 18 rfl rfl)
theorem dX1_firstLatencies_19 : decode cX1_firstLatencies 19 = .ok (.iastore, 1) := dk_79 (dk_at dksX1_firstLatencies_0 19 rfl rfl)
theorem dX1_firstLatencies_20 : decode cX1_firstLatencies 20 = .ok (.dup, 1) := dk_89 (dk_at dksX1_firstLatencies_0 20 rfl rfl)
theorem dX1_firstLatencies_21 : decode cX1_firstLatencies 21 = .ok (.iconst 4, 1) := dk_7 (dk_at dksX1_firstLatencies_0 21 rfl rfl)
theorem dX1_firstLatencies_22 : decode cX1_firstLatencies 22 = .ok (.iconst 3, 1) := dk_6 (dk_at dksX1_firstLatencies_0 22 rfl rfl)
theorem dX1_firstLatencies_23 : decode cX1_firstLatencies 23 = .ok (.iastore, 1) := dk_79 (dk_at dksX1_firstLatencies_0 23 rfl rfl)
theorem dX1_firstLatencies_24 : decode cX1_firstLatencies 24 = .ok (.dup, 1) := dk_89 (dk_at dksX1_firstLatencies_1 0 rfl rfl)
theorem dX1_firstLatencies_25 : decode cX1_firstLatencies 25 = .ok (.iconst 5, 1) := dk_8 (dk_at dksX1_firstLatencies_1 1 rfl rfl)
theorem dX1_firstLatencies_26 : decode cX1_firstLatencies 26 = .ok (.iconst 2, 1) := dk_5 (dk_at dksX1_firstLatencies_1 2 rfl rfl)
theorem dX1_firstLatencies_27 : decode cX1_firstLatencies 27 = .ok (.iastore, 1) := dk_79 (dk_at dksX1_firstLatencies_1 3 rfl rfl)
theorem dX1_firstLatencies_28 : decode cX1_firstLatencies 28 = .ok (.dup, 1) := dk_89 (dk_at dksX1_firstLatencies_1 4 rfl rfl)
theorem dX1_firstLatencies_29 : decode cX1_firstLatencies 29 = .ok (.bipush 6, 2) := dk_16 6 (dk_at dksX1_firstLatencies_1 5 rfl rfl)
theorem dX1_firstLatencies_31 : decode cX1_firstLatencies 31 = .ok (.iconst 1, 1) := dk_4 (dk_at dksX1_firstLatencies_1 7 rfl rfl)
theorem dX1_firstLatencies_32 : decode cX1_firstLatencies 32 = .ok (.iastore, 1) := dk_79 (dk_at dksX1_firstLatencies_1 8 rfl rfl)
theorem dX1_firstLatencies_33 : decode cX1_firstLatencies 33 = .ok (.dup, 1) := dk_89 (dk_at dksX1_firstLatencies_1 9 rfl rfl)
theorem dX1_firstLatencies_34 : decode cX1_firstLatencies 34 = .ok (.bipush 7, 2) := dk_16 7 (dk_at dksX1_firstLatencies_1 10 rfl rfl)
theorem dX1_firstLatencies_36 : decode cX1_firstLatencies 36 = .ok (.iconst 5, 1) := dk_8 (dk_at dksX1_firstLatencies_1 12 rfl rfl)
theorem dX1_firstLatencies_37 : decode cX1_firstLatencies 37 = .ok (.iastore, 1) := dk_79 (dk_at dksX1_firstLatencies_1 13 rfl rfl)
theorem dX1_firstLatencies_38 : decode cX1_firstLatencies 38 = .ok (.astore_n 0, 1) := dk_75 (dk_at dksX1_firstLatencies_1 14 rfl rfl)
theorem dX1_firstLatencies_39 : decode cX1_firstLatencies 39 = .ok (.aload_n 0, 1) := dk_42 (dk_at dksX1_firstLatencies_1 15 rfl rfl)
theorem dX1_firstLatencies_40 : decode cX1_firstLatencies 40 = .ok (.areturn, 1) := dk_176 (dk_at dksX1_firstLatencies_1 16 rfl rfl)
abbrev cX1_has : ByteArray := prog_1_method_1_code
def yX1_has : MethodName := ⟨RX1, "has", "(II)Z"⟩
def dkwX1_has_0 : List UInt8 := [26, 27, 122, 4, 126, 4, 160, 0, 7, 4, 167, 0, 4, 3, 172]
abbrev dktX1_has_0 : List UInt8 := dkwX1_has_0 ++ []
theorem dksX1_has_0 : cX1_has.data.toList.drop 0 = dktX1_has_0 := by decide +kernel
theorem dX1_has_0 : decode cX1_has 0 = .ok (.iload_n 0, 1) := dk_26 (dk_at dksX1_has_0 0 rfl rfl)
theorem dX1_has_1 : decode cX1_has 1 = .ok (.iload_n 1, 1) := dk_27 (dk_at dksX1_has_0 1 rfl rfl)
theorem dX1_has_2 : decode cX1_has 2 = .ok (.ishr, 1) := dk_122 (dk_at dksX1_has_0 2 rfl rfl)
theorem dX1_has_3 : decode cX1_has 3 = .ok (.iconst 1, 1) := dk_4 (dk_at dksX1_has_0 3 rfl rfl)
theorem dX1_has_4 : decode cX1_has 4 = .ok (.iand, 1) := dk_126 (dk_at dksX1_has_0 4 rfl rfl)
theorem dX1_has_5 : decode cX1_has 5 = .ok (.iconst 1, 1) := dk_4 (dk_at dksX1_has_0 5 rfl rfl)
theorem dX1_has_6 : decode cX1_has 6 = .ok (.if_icmp .ne 7, 3) := dk_160 0 7 (dk_at dksX1_has_0 6 rfl rfl)
theorem dX1_has_9 : decode cX1_has 9 = .ok (.iconst 1, 1) := dk_4 (dk_at dksX1_has_0 9 rfl rfl)
theorem dX1_has_10 : decode cX1_has 10 = .ok (.goto 4, 3) := dk_167 0 4 (dk_at dksX1_has_0 10 rfl rfl)
theorem dX1_has_13 : decode cX1_has 13 = .ok (.iconst 0, 1) := dk_3 (dk_at dksX1_has_0 13 rfl rfl)
theorem dX1_has_14 : decode cX1_has 14 = .ok (.ireturn, 1) := dk_172 (dk_at dksX1_has_0 14 rfl rfl)
abbrev cX1_callOf : ByteArray := prog_1_method_3_code
def yX1_callOf : MethodName := ⟨RX1, "callOf", "(II)I"⟩
def dkwX1_callOf_0 : List UInt8 := [6, 26, 104, 5, 27, 104, 96, 4, 96, 172]
abbrev dktX1_callOf_0 : List UInt8 := dkwX1_callOf_0 ++ []
theorem dksX1_callOf_0 : cX1_callOf.data.toList.drop 0 = dktX1_callOf_0 := by decide +kernel
theorem dX1_callOf_0 : decode cX1_callOf 0 = .ok (.iconst 3, 1) := dk_6 (dk_at dksX1_callOf_0 0 rfl rfl)
theorem dX1_callOf_1 : decode cX1_callOf 1 = .ok (.iload_n 0, 1) := dk_26 (dk_at dksX1_callOf_0 1 rfl rfl)
theorem dX1_callOf_2 : decode cX1_callOf 2 = .ok (.imul, 1) := dk_104 (dk_at dksX1_callOf_0 2 rfl rfl)
theorem dX1_callOf_3 : decode cX1_callOf 3 = .ok (.iconst 2, 1) := dk_5 (dk_at dksX1_callOf_0 3 rfl rfl)
theorem dX1_callOf_4 : decode cX1_callOf 4 = .ok (.iload_n 1, 1) := dk_27 (dk_at dksX1_callOf_0 4 rfl rfl)
theorem dX1_callOf_5 : decode cX1_callOf 5 = .ok (.imul, 1) := dk_104 (dk_at dksX1_callOf_0 5 rfl rfl)
theorem dX1_callOf_6 : decode cX1_callOf 6 = .ok (.iadd, 1) := dk_96 (dk_at dksX1_callOf_0 6 rfl rfl)
theorem dX1_callOf_7 : decode cX1_callOf 7 = .ok (.iconst 1, 1) := dk_4 (dk_at dksX1_callOf_0 7 rfl rfl)
theorem dX1_callOf_8 : decode cX1_callOf 8 = .ok (.iadd, 1) := dk_96 (dk_at dksX1_callOf_0 8 rfl rfl)
theorem dX1_callOf_9 : decode cX1_callOf 9 = .ok (.ireturn, 1) := dk_172 (dk_at dksX1_callOf_0 9 rfl rfl)
abbrev cX1_meanStall : ByteArray := prog_1_method_39_code
def yX1_meanStall : MethodName := ⟨RX1, "meanStall", "()D"⟩
def dkwX1_meanStall_1 : List UInt8 := [180, 1, 60, 135, 42, 180, 0, 34, 180, 1, 51, 180, 1, 55, 135, 111, 175]
abbrev dktX1_meanStall_1 : List UInt8 := dkwX1_meanStall_1 ++ []
def dkwX1_meanStall_0 : List UInt8 := [42, 180, 0, 34, 180, 1, 51, 180, 1, 55, 154, 0, 7, 14, 167, 0, 26, 42, 180, 0, 34, 180, 1, 51]
abbrev dktX1_meanStall_0 : List UInt8 := dkwX1_meanStall_0 ++ dktX1_meanStall_1
theorem dksX1_meanStall_0 : cX1_meanStall.data.toList.drop 0 = dktX1_meanStall_0 := by decide +kernel
theorem dksX1_meanStall_1 : cX1_meanStall.data.toList.drop 24 = dktX1_meanStall_1 := dk_seg dksX1_meanStall_0 24 rfl rfl
theorem dX1_meanStall_0 : decode cX1_meanStall 0 = .ok (.aload_n 0, 1) := dk_42 (dk_at dksX1_meanStall_0 0 rfl rfl)
theorem dX1_meanStall_1 : decode cX1_meanStall 1 = .ok (.getfield 34, 3) := dk_180 0 34 (dk_at dksX1_meanStall_0 1 rfl rfl)
theorem dX1_meanStall_4 : decode cX1_meanStall 4 = .ok (.getfield 307, 3) := dk_180 1 51 (dk_at dksX1_meanStall_0 4 rfl rfl)
theorem dX1_meanStall_7 : decode cX1_meanStall 7 = .ok (.getfield 311, 3) := dk_180 1 55 (dk_at dksX1_meanStall_0 7 rfl rfl)
theorem dX1_meanStall_10 : decode cX1_meanStall 10 = .ok (.ifCond .ne 7, 3) := dk_154 0 7 (dk_at dksX1_meanStall_0 10 rfl rfl)
theorem dX1_meanStall_13 : decode cX1_meanStall 13 = .ok (.dconst 0, 1) := dk_14 (dk_at dksX1_meanStall_0 13 rfl rfl)
theorem dX1_meanStall_14 : decode cX1_meanStall 14 = .ok (.goto 26, 3) := dk_167 0 26 (dk_at dksX1_meanStall_0 14 rfl rfl)
theorem dX1_meanStall_17 : decode cX1_meanStall 17 = .ok (.aload_n 0, 1) := dk_42 (dk_at dksX1_meanStall_0 17 rfl rfl)
theorem dX1_meanStall_18 : decode cX1_meanStall 18 = .ok (.getfield 34, 3) := dk_180 0 34 (dk_at dksX1_meanStall_0 18 rfl rfl)
theorem dX1_meanStall_21 : decode cX1_meanStall 21 = .ok (.getfield 307, 3) := dk_180 1 51 (dk_at dksX1_meanStall_0 21 rfl rfl)
theorem dX1_meanStall_24 : decode cX1_meanStall 24 = .ok (.getfield 316, 3) := dk_180 1 60 (dk_at dksX1_meanStall_1 0 rfl rfl)
theorem dX1_meanStall_27 : decode cX1_meanStall 27 = .ok (.i2d, 1) := dk_135 (dk_at dksX1_meanStall_1 3 rfl rfl)
theorem dX1_meanStall_28 : decode cX1_meanStall 28 = .ok (.aload_n 0, 1) := dk_42 (dk_at dksX1_meanStall_1 4 rfl rfl)
theorem dX1_meanStall_29 : decode cX1_meanStall 29 = .ok (.getfield 34, 3) := dk_180 0 34 (dk_at dksX1_meanStall_1 5 rfl rfl)
theorem dX1_meanStall_32 : decode cX1_meanStall 32 = .ok (.getfield 307, 3) := dk_180 1 51 (dk_at dksX1_meanStall_1 8 rfl rfl)
theorem dX1_meanStall_35 : decode cX1_meanStall 35 = .ok (.getfield 311, 3) := dk_180 1 55 (dk_at dksX1_meanStall_1 11 rfl rfl)
theorem dX1_meanStall_38 : decode cX1_meanStall 38 = .ok (.i2d, 1) := dk_135 (dk_at dksX1_meanStall_1 14 rfl rfl)
theorem dX1_meanStall_39 : decode cX1_meanStall 39 = .ok (.ddiv, 1) := dk_111 (dk_at dksX1_meanStall_1 15 rfl rfl)
theorem dX1_meanStall_40 : decode cX1_meanStall 40 = .ok (.dreturn, 1) := dk_175 (dk_at dksX1_meanStall_1 16 rfl rfl)
abbrev cX1_enough : ByteArray := prog_1_method_44_code
def yX1_enough : MethodName := ⟨RX1, "enough", "()I"⟩
theorem dX1_enough_0 : decode cX1_enough 0 = .ok (.aload_n 0, 1) := by decide +kernel
theorem dX1_enough_1 : decode cX1_enough 1 = .ok (.invokevirtual 335, 3) := by decide +kernel
theorem dX1_enough_4 : decode cX1_enough 4 = .ok (.ireturn, 1) := by decide +kernel
abbrev cX1_enoughNow : ByteArray := prog_1_method_43_code
def yX1_enoughNow : MethodName := ⟨RX1, "enoughNow", "()I"⟩
def dkwX1_enoughNow_2 : List UInt8 := [154, 0, 5, 27, 172, 132, 1, 1, 167, 255, 202, 2, 172]
abbrev dktX1_enoughNow_2 : List UInt8 := dkwX1_enoughNow_2 ++ []
def dkwX1_enoughNow_1 : List UInt8 := [42, 42, 180, 0, 25, 27, 28, 42, 180, 0, 25, 180, 1, 76, 182, 1, 63, 182, 1, 66, 8, 182, 1, 45]
abbrev dktX1_enoughNow_1 : List UInt8 := dkwX1_enoughNow_1 ++ dktX1_enoughNow_2
def dkwX1_enoughNow_0 : List UInt8 := [8, 60, 27, 16, 11, 163, 0, 54, 42, 180, 0, 25, 180, 1, 73, 4, 27, 6, 100, 120, 4, 100, 126, 61]
abbrev dktX1_enoughNow_0 : List UInt8 := dkwX1_enoughNow_0 ++ dktX1_enoughNow_1
theorem dksX1_enoughNow_0 : cX1_enoughNow.data.toList.drop 0 = dktX1_enoughNow_0 := by decide +kernel
theorem dksX1_enoughNow_1 : cX1_enoughNow.data.toList.drop 24 = dktX1_enoughNow_1 := dk_seg dksX1_enoughNow_0 24 rfl rfl
theorem dksX1_enoughNow_2 : cX1_enoughNow.data.toList.drop 48 = dktX1_enoughNow_2 := dk_seg dksX1_enoughNow_1 24 rfl rfl
theorem dX1_enoughNow_0 : decode cX1_enoughNow 0 = .ok (.iconst 5, 1) := dk_8 (dk_at dksX1_enoughNow_0 0 rfl rfl)
theorem dX1_enoughNow_1 : decode cX1_enoughNow 1 = .ok (.istore_n 1, 1) := dk_60 (dk_at dksX1_enoughNow_0 1 rfl rfl)
theorem dX1_enoughNow_2 : decode cX1_enoughNow 2 = .ok (.iload_n 1, 1) := dk_27 (dk_at dksX1_enoughNow_0 2 rfl rfl)
theorem dX1_enoughNow_3 : decode cX1_enoughNow 3 = .ok (.bipush 11, 2) := dk_16 11 (dk_at dksX1_enoughNow_0 3 rfl rfl)
theorem dX1_enoughNow_5 : decode cX1_enoughNow 5 = .ok (.if_icmp .gt 54, 3) := dk_163 0 54 (dk_at dksX1_enoughNow_0 5 rfl rfl)
theorem dX1_enoughNow_8 : decode cX1_enoughNow 8 = .ok (.aload_n 0, 1) := dk_42 (dk_at dksX1_enoughNow_0 8 rfl rfl)
theorem dX1_enoughNow_9 : decode cX1_enoughNow 9 = .ok (.getfield 25, 3) := dk_180 0 25 (dk_at dksX1_enoughNow_0 9 rfl rfl)
theorem dX1_enoughNow_12 : decode cX1_enoughNow 12 = .ok (.getfield 329, 3) := dk_180 1 73 (dk_at dksX1_enoughNow_0 12 rfl rfl)
theorem dX1_enoughNow_15 : decode cX1_enoughNow 15 = .ok (.iconst 1, 1) := dk_4 (dk_at dksX1_enoughNow_0 15 rfl rfl)
theorem dX1_enoughNow_16 : decode cX1_enoughNow 16 = .ok (.iload_n 1, 1) := dk_27 (dk_at dksX1_enoughNow_0 16 rfl rfl)
theorem dX1_enoughNow_17 : decode cX1_enoughNow 17 = .ok (.iconst 3, 1) := dk_6 (dk_at dksX1_enoughNow_0 17 rfl rfl)
theorem dX1_enoughNow_18 : decode cX1_enoughNow 18 = .ok (.isub, 1) := dk_100 (dk_at dksX1_enoughNow_0 18 rfl rfl)
theorem dX1_enoughNow_19 : decode cX1_enoughNow 19 = .ok (.ishl, 1) := dk_120 (dk_at dksX1_enoughNow_0 19 rfl rfl)
theorem dX1_enoughNow_20 : decode cX1_enoughNow 20 = .ok (.iconst 1, 1) := dk_4 (dk_at dksX1_enoughNow_0 20 rfl rfl)
theorem dX1_enoughNow_21 : decode cX1_enoughNow 21 = .ok (.isub, 1) := dk_100 (dk_at dksX1_enoughNow_0 21 rfl rfl)
theorem dX1_enoughNow_22 : decode cX1_enoughNow 22 = .ok (.iand, 1) := dk_126 (dk_at dksX1_enoughNow_0 22 rfl rfl)
theorem dX1_enoughNow_23 : decode cX1_enoughNow 23 = .ok (.istore_n 2, 1) := dk_61 (dk_at dksX1_enoughNow_0 23 rfl rfl)
theorem dX1_enoughNow_24 : decode cX1_enoughNow 24 = .ok (.aload_n 0, 1) := dk_42 (dk_at dksX1_enoughNow_1 0 rfl rfl)
theorem dX1_enoughNow_25 : decode cX1_enoughNow 25 = .ok (.aload_n 0, 1) := dk_42 (dk_at dksX1_enoughNow_1 1 rfl rfl)
theorem dX1_enoughNow_26 : decode cX1_enoughNow 26 = .ok (.getfield 25, 3) := dk_180 0 25 (dk_at dksX1_enoughNow_1 2 rfl rfl)
theorem dX1_enoughNow_29 : decode cX1_enoughNow 29 = .ok (.iload_n 1, 1) := dk_27 (dk_at dksX1_enoughNow_1 5 rfl rfl)
theorem dX1_enoughNow_30 : decode cX1_enoughNow 30 = .ok (.iload_n 2, 1) := dk_28 (dk_at dksX1_enoughNow_1 6 rfl rfl)
theorem dX1_enoughNow_31 : decode cX1_enoughNow 31 = .ok (.aload_n 0, 1) := dk_42 (dk_at dksX1_enoughNow_1 7 rfl rfl)
theorem dX1_enoughNow_32 : decode cX1_enoughNow 32 = .ok (.getfield 25, 3) := dk_180 0 25 (dk_at dksX1_enoughNow_1 8 rfl rfl)
theorem dX1_enoughNow_35 : decode cX1_enoughNow 35 = .ok (.getfield 332, 3) := dk_180 1 76 (dk_at dksX1_enoughNow_1 11 rfl rfl)
theorem dX1_enoughNow_38 : decode cX1_enoughNow 38 = .ok (.invokevirtual 319, 3) := dk_182 1 63 (dk_at dksX1_enoughNow_1 14 rfl rfl)
theorem dX1_enoughNow_41 : decode cX1_enoughNow 41 = .ok (.invokevirtual 322, 3) := dk_182 1 66 (dk_at dksX1_enoughNow_1 17 rfl rfl)
theorem dX1_enoughNow_44 : decode cX1_enoughNow 44 = .ok (.iconst 5, 1) := dk_8 (dk_at dksX1_enoughNow_1 20 rfl rfl)
theorem dX1_enoughNow_45 : decode cX1_enoughNow 45 = .ok (.invokevirtual 301, 3) := dk_182 1 45 (dk_at dksX1_enoughNow_1 21 rfl rfl)
theorem dX1_enoughNow_48 : decode cX1_enoughNow 48 = .ok (.ifCond .ne 5, 3) := dk_154 0 5 (dk_at dksX1_enoughNow_2 0 rfl rfl)
theorem dX1_enoughNow_51 : decode cX1_enoughNow 51 = .ok (.iload_n 1, 1) := dk_27 (dk_at dksX1_enoughNow_2 3 rfl rfl)
theorem dX1_enoughNow_52 : decode cX1_enoughNow 52 = .ok (.ireturn, 1) := dk_172 (dk_at dksX1_enoughNow_2 4 rfl rfl)
theorem dX1_enoughNow_53 : decode cX1_enoughNow 53 = .ok (.iinc 1 1, 3) := dk_132 1 1 (dk_at dksX1_enoughNow_2 5 rfl rfl)
theorem dX1_enoughNow_56 : decode cX1_enoughNow 56 = .ok (.goto (-54), 3) := dk_167 255 202 (dk_at dksX1_enoughNow_2 8 rfl rfl)
theorem dX1_enoughNow_59 : decode cX1_enoughNow 59 = .ok (.iconst (-1), 1) := dk_2 (dk_at dksX1_enoughNow_2 11 rfl rfl)
theorem dX1_enoughNow_60 : decode cX1_enoughNow 60 = .ok (.ireturn, 1) := dk_172 (dk_at dksX1_enoughNow_2 12 rfl rfl)
abbrev cX1_buildWith : ByteArray := prog_1_method_40_code
def yX1_buildWith : MethodName := ⟨RX1, "buildWith", "(LSpillslotWorks$Machine;)LSpillslotWorks$Build;"⟩
def dkwX1_buildWith_0 : List UInt8 := [187, 0, 29, 89, 42, 180, 0, 10, 43, 3, 183, 0, 31, 176]
abbrev dktX1_buildWith_0 : List UInt8 := dkwX1_buildWith_0 ++ []
theorem dksX1_buildWith_0 : cX1_buildWith.data.toList.drop 0 = dktX1_buildWith_0 := by decide +kernel
theorem dX1_buildWith_0 : decode cX1_buildWith 0 = .ok (.new 29, 3) := dk_187 0 29 (dk_at dksX1_buildWith_0 0 rfl rfl)
theorem dX1_buildWith_3 : decode cX1_buildWith 3 = .ok (.dup, 1) := dk_89 (dk_at dksX1_buildWith_0 3 rfl rfl)
theorem dX1_buildWith_4 : decode cX1_buildWith 4 = .ok (.aload_n 0, 1) := dk_42 (dk_at dksX1_buildWith_0 4 rfl rfl)
theorem dX1_buildWith_5 : decode cX1_buildWith 5 = .ok (.getfield 10, 3) := dk_180 0 10 (dk_at dksX1_buildWith_0 5 rfl rfl)
theorem dX1_buildWith_8 : decode cX1_buildWith 8 = .ok (.aload_n 1, 1) := dk_43 (dk_at dksX1_buildWith_0 8 rfl rfl)
theorem dX1_buildWith_9 : decode cX1_buildWith 9 = .ok (.iconst 0, 1) := dk_3 (dk_at dksX1_buildWith_0 9 rfl rfl)
theorem dX1_buildWith_10 : decode cX1_buildWith 10 = .ok (.invokespecial 31, 3) := dk_183 0 31 (dk_at dksX1_buildWith_0 10 rfl rfl)
theorem dX1_buildWith_13 : decode cX1_buildWith 13 = .ok (.areturn, 1) := dk_176 (dk_at dksX1_buildWith_0 13 rfl rfl)
abbrev cX1_count : ByteArray := prog_1_method_2_code
def yX1_count : MethodName := ⟨RX1, "count", "(I)I"⟩
def dkwX1_count_0 : List UInt8 := [3, 60, 26, 61, 28, 158, 0, 16, 27, 28, 5, 112, 96, 60, 28, 5, 108, 61, 167, 255, 242, 27, 172]
abbrev dktX1_count_0 : List UInt8 := dkwX1_count_0 ++ []
theorem dksX1_count_0 : cX1_count.data.toList.drop 0 = dktX1_count_0 := by decide +kernel
theorem dX1_count_0 : decode cX1_count 0 = .ok (.iconst 0, 1) := dk_3 (dk_at dksX1_count_0 0 rfl rfl)
theorem dX1_count_1 : decode cX1_count 1 = .ok (.istore_n 1, 1) := dk_60 (dk_at dksX1_count_0 1 rfl rfl)
theorem dX1_count_2 : decode cX1_count 2 = .ok (.iload_n 0, 1) := dk_26 (dk_at dksX1_count_0 2 rfl rfl)
theorem dX1_count_3 : decode cX1_count 3 = .ok (.istore_n 2, 1) := dk_61 (dk_at dksX1_count_0 3 rfl rfl)
theorem dX1_count_4 : decode cX1_count 4 = .ok (.iload_n 2, 1) := dk_28 (dk_at dksX1_count_0 4 rfl rfl)
theorem dX1_count_5 : decode cX1_count 5 = .ok (.ifCond .le 16, 3) := dk_158 0 16 (dk_at dksX1_count_0 5 rfl rfl)
theorem dX1_count_8 : decode cX1_count 8 = .ok (.iload_n 1, 1) := dk_27 (dk_at dksX1_count_0 8 rfl rfl)
theorem dX1_count_9 : decode cX1_count 9 = .ok (.iload_n 2, 1) := dk_28 (dk_at dksX1_count_0 9 rfl rfl)
theorem dX1_count_10 : decode cX1_count 10 = .ok (.iconst 2, 1) := dk_5 (dk_at dksX1_count_0 10 rfl rfl)
theorem dX1_count_11 : decode cX1_count 11 = .ok (.irem, 1) := dk_112 (dk_at dksX1_count_0 11 rfl rfl)
theorem dX1_count_12 : decode cX1_count 12 = .ok (.iadd, 1) := dk_96 (dk_at dksX1_count_0 12 rfl rfl)
theorem dX1_count_13 : decode cX1_count 13 = .ok (.istore_n 1, 1) := dk_60 (dk_at dksX1_count_0 13 rfl rfl)
theorem dX1_count_14 : decode cX1_count 14 = .ok (.iload_n 2, 1) := dk_28 (dk_at dksX1_count_0 14 rfl rfl)
theorem dX1_count_15 : decode cX1_count 15 = .ok (.iconst 2, 1) := dk_5 (dk_at dksX1_count_0 15 rfl rfl)
theorem dX1_count_16 : decode cX1_count 16 = .ok (.idiv, 1) := dk_108 (dk_at dksX1_count_0 16 rfl rfl)
theorem dX1_count_17 : decode cX1_count 17 = .ok (.istore_n 2, 1) := dk_61 (dk_at dksX1_count_0 17 rfl rfl)
theorem dX1_count_18 : decode cX1_count 18 = .ok (.goto (-14), 3) := dk_167 255 242 (dk_at dksX1_count_0 18 rfl rfl)
theorem dX1_count_21 : decode cX1_count 21 = .ok (.iload_n 1, 1) := dk_27 (dk_at dksX1_count_0 21 rfl rfl)
theorem dX1_count_22 : decode cX1_count 22 = .ok (.ireturn, 1) := dk_172 (dk_at dksX1_count_0 22 rfl rfl)
abbrev cX1_unordered : ByteArray := prog_1_method_46_code
def yX1_unordered : MethodName := ⟨RX1, "unordered", "()I"⟩
theorem dX1_unordered_0 : decode cX1_unordered 0 = .ok (.aload_n 0, 1) := by decide +kernel
theorem dX1_unordered_1 : decode cX1_unordered 1 = .ok (.invokevirtual 338, 3) := by decide +kernel
theorem dX1_unordered_4 : decode cX1_unordered 4 = .ok (.ireturn, 1) := by decide +kernel
abbrev cX1_unorderedNow : ByteArray := prog_1_method_45_code
def yX1_unorderedNow : MethodName := ⟨RX1, "unorderedNow", "()I"⟩
def dkwX1_unorderedNow_1 : List UInt8 := [180, 0, 34, 180, 1, 51, 180, 1, 70, 100, 172]
abbrev dktX1_unorderedNow_1 : List UInt8 := dkwX1_unorderedNow_1 ++ []
def dkwX1_unorderedNow_0 : List UInt8 := [187, 0, 29, 89, 42, 180, 0, 10, 42, 180, 0, 25, 4, 183, 0, 31, 180, 1, 51, 180, 1, 70, 42]
abbrev dktX1_unorderedNow_0 : List UInt8 := dkwX1_unorderedNow_0 ++ dktX1_unorderedNow_1
theorem dksX1_unorderedNow_0 : cX1_unorderedNow.data.toList.drop 0 = dktX1_unorderedNow_0 := by decide +kernel
theorem dksX1_unorderedNow_1 : cX1_unorderedNow.data.toList.drop 23 = dktX1_unorderedNow_1 := dk_seg dksX1_unorderedNow_0 23 rfl rfl
theorem dX1_unorderedNow_0 : decode cX1_unorderedNow 0 = .ok (.new 29, 3) := dk_187 0 29 (dk_at dksX1_unorderedNow_0 0 rfl rfl)
theorem dX1_unorderedNow_3 : decode cX1_unorderedNow 3 = .ok (.dup, 1) := dk_89 (dk_at dksX1_unorderedNow_0 3 rfl rfl)
theorem dX1_unorderedNow_4 : decode cX1_unorderedNow 4 = .ok (.aload_n 0, 1) := dk_42 (dk_at dksX1_unorderedNow_0 4 rfl rfl)
theorem dX1_unorderedNow_5 : decode cX1_unorderedNow 5 = .ok (.getfield 10, 3) := dk_180 0 10 (dk_at dksX1_unorderedNow_0 5 rfl rfl)
theorem dX1_unorderedNow_8 : decode cX1_unorderedNow 8 = .ok (.aload_n 0, 1) := dk_42 (dk_at dksX1_unorderedNow_0 8 rfl rfl)
theorem dX1_unorderedNow_9 : decode cX1_unorderedNow 9 = .ok (.getfield 25, 3) := dk_180 0 25 (dk_at dksX1_unorderedNow_0 9 rfl rfl)
theorem dX1_unorderedNow_12 : decode cX1_unorderedNow 12 = .ok (.iconst 1, 1) := dk_4 (dk_at dksX1_unorderedNow_0 12 rfl rfl)
theorem dX1_unorderedNow_13 : decode cX1_unorderedNow 13 = .ok (.invokespecial 31, 3) := dk_183 0 31 (dk_at dksX1_unorderedNow_0 13 rfl rfl)
theorem dX1_unorderedNow_16 : decode cX1_unorderedNow 16 = .ok (.getfield 307, 3) := dk_180 1 51 (dk_at dksX1_unorderedNow_0 16 rfl rfl)
theorem dX1_unorderedNow_19 : decode cX1_unorderedNow 19 = .ok (.getfield 326, 3) := dk_180 1 70 (dk_at dksX1_unorderedNow_0 19 rfl rfl)
theorem dX1_unorderedNow_22 : decode cX1_unorderedNow 22 = .ok (.aload_n 0, 1) := dk_42 (dk_at dksX1_unorderedNow_0 22 rfl rfl)
theorem dX1_unorderedNow_23 : decode cX1_unorderedNow 23 = .ok (.getfield 34, 3) := dk_180 0 34 (dk_at dksX1_unorderedNow_1 0 rfl rfl)
theorem dX1_unorderedNow_26 : decode cX1_unorderedNow 26 = .ok (.getfield 307, 3) := dk_180 1 51 (dk_at dksX1_unorderedNow_1 3 rfl rfl)
theorem dX1_unorderedNow_29 : decode cX1_unorderedNow 29 = .ok (.getfield 326, 3) := dk_180 1 70 (dk_at dksX1_unorderedNow_1 6 rfl rfl)
theorem dX1_unorderedNow_32 : decode cX1_unorderedNow 32 = .ok (.isub, 1) := dk_100 (dk_at dksX1_unorderedNow_1 9 rfl rfl)
theorem dX1_unorderedNow_33 : decode cX1_unorderedNow 33 = .ok (.ireturn, 1) := dk_172 (dk_at dksX1_unorderedNow_1 10 rfl rfl)
abbrev cX1_digest : ByteArray := prog_1_method_51_code
def yX1_digest : MethodName := ⟨RX1, "digest", "()J"⟩
def dkwX1_digest_6 : List UInt8 := [45, 16, 9, 182, 1, 45, 79, 89, 6, 45, 16, 13, 182, 1, 45, 79, 184, 1, 87, 173]
abbrev dktX1_digest_6 : List UInt8 := dkwX1_digest_6 ++ []
def dkwX1_digest_5 : List UInt8 := [182, 1, 66, 78, 31, 7, 188, 10, 89, 3, 42, 182, 1, 79, 79, 89, 4, 42, 182, 1, 82, 79, 89, 5]
abbrev dktX1_digest_5 : List UInt8 := dkwX1_digest_5 ++ dktX1_digest_6
def dkwX1_digest_4 : List UInt8 := [31, 182, 1, 96, 182, 1, 100, 182, 1, 103, 64, 42, 42, 180, 0, 25, 16, 6, 7, 4, 182, 1, 63]
abbrev dktX1_digest_4 : List UInt8 := dkwX1_digest_4 ++ dktX1_digest_5
def dkwX1_digest_3 : List UInt8 := [89, 3, 42, 180, 0, 34, 29, 182, 1, 39, 79, 184, 1, 87, 64, 132, 3, 1, 167, 255, 214, 42, 42, 42]
abbrev dktX1_digest_3 : List UInt8 := dkwX1_digest_3 ++ dktX1_digest_4
def dkwX1_digest_2 : List UInt8 := [29, 16, 8, 162, 0, 42, 42, 180, 0, 10, 180, 0, 170, 29, 184, 1, 35, 153, 0, 22, 31, 4, 188, 10]
abbrev dktX1_digest_2 : List UInt8 := dkwX1_digest_2 ++ dktX1_digest_3
def dkwX1_digest_1 : List UInt8 := [184, 1, 87, 64, 132, 3, 1, 167, 255, 231, 31, 42, 180, 0, 10, 182, 0, 173, 184, 1, 87, 64, 3, 62]
abbrev dktX1_digest_1 : List UInt8 := dkwX1_digest_1 ++ dktX1_digest_2
def dkwX1_digest_0 : List UInt8 := [20, 1, 94, 64, 3, 62, 29, 16, 15, 163, 0, 25, 31, 4, 188, 10, 89, 3, 42, 29, 182, 1, 48, 79]
abbrev dktX1_digest_0 : List UInt8 := dkwX1_digest_0 ++ dktX1_digest_1
theorem dksX1_digest_0 : cX1_digest.data.toList.drop 0 = dktX1_digest_0 := by decide +kernel
theorem dksX1_digest_1 : cX1_digest.data.toList.drop 24 = dktX1_digest_1 := dk_seg dksX1_digest_0 24 rfl rfl
theorem dksX1_digest_2 : cX1_digest.data.toList.drop 48 = dktX1_digest_2 := dk_seg dksX1_digest_1 24 rfl rfl
theorem dksX1_digest_3 : cX1_digest.data.toList.drop 72 = dktX1_digest_3 := dk_seg dksX1_digest_2 24 rfl rfl
theorem dksX1_digest_4 : cX1_digest.data.toList.drop 96 = dktX1_digest_4 := dk_seg dksX1_digest_3 24 rfl rfl
theorem dksX1_digest_5 : cX1_digest.data.toList.drop 119 = dktX1_digest_5 := dk_seg dksX1_digest_4 23 rfl rfl
theorem dksX1_digest_6 : cX1_digest.data.toList.drop 143 = dktX1_digest_6 := dk_seg dksX1_digest_5 24 rfl rfl
theorem dX1_digest_0 : decode cX1_digest 0 = .ok (.ldc2_w 350, 3) := dk_20 1 94 (dk_at dksX1_digest_0 0 rfl rfl)
theorem dX1_digest_3 : decode cX1_digest 3 = .ok (.lstore_n 1, 1) := dk_64 (dk_at dksX1_digest_0 3 rfl rfl)
theorem dX1_digest_4 : decode cX1_digest 4 = .ok (.iconst 0, 1) := dk_3 (dk_at dksX1_digest_0 4 rfl rfl)
theorem dX1_digest_5 : decode cX1_digest 5 = .ok (.istore_n 3, 1) := dk_62 (dk_at dksX1_digest_0 5 rfl rfl)
theorem dX1_digest_6 : decode cX1_digest 6 = .ok (.iload_n 3, 1) := dk_29 (dk_at dksX1_digest_0 6 rfl rfl)
theorem dX1_digest_7 : decode cX1_digest 7 = .ok (.bipush 15, 2) := dk_16 15 (dk_at dksX1_digest_0 7 rfl rfl)
theorem dX1_digest_9 : decode cX1_digest 9 = .ok (.if_icmp .gt 25, 3) := dk_163 0 25 (dk_at dksX1_digest_0 9 rfl rfl)
theorem dX1_digest_12 : decode cX1_digest 12 = .ok (.lload_n 1, 1) := dk_31 (dk_at dksX1_digest_0 12 rfl rfl)
theorem dX1_digest_13 : decode cX1_digest 13 = .ok (.iconst 1, 1) := dk_4 (dk_at dksX1_digest_0 13 rfl rfl)
theorem dX1_digest_14 : decode cX1_digest 14 = .ok (.newarray .int, 2) := dk_188_10 (dk_at dksX1_digest_0 14 rfl rfl)
theorem dX1_digest_16 : decode cX1_digest 16 = .ok (.dup, 1) := dk_89 (dk_at dksX1_digest_0 16 rfl rfl)
theorem dX1_digest_17 : decode cX1_digest 17 = .ok (.iconst 0, 1) := dk_3 (dk_at dksX1_digest_0 17 rfl rfl)
theorem dX1_digest_18 : decode cX1_digest 18 = .ok (.aload_n 0, 1) := dk_42 (dk_at dksX1_digest_0 18 rfl rfl)
theorem dX1_digest_19 : decode cX1_digest 19 = .ok (.iload_n 3, 1) := dk_29 (dk_at dksX1_digest_0 19 rfl rfl)
theorem dX1_digest_20 : decode cX1_digest 20 = .ok (.invokevirtual 304, 3) := dk_182 1 48 (dk_at dksX1_digest_0 20 rfl rfl)
theorem dX1_digest_23 : decode cX1_digest 23 = .ok (.iastore, 1) := dk_79 (dk_at dksX1_digest_0 23 rfl rfl)
theorem dX1_digest_24 : decode cX1_digest 24 = .ok (.invokestatic 343, 3) := dk_184 1 87 (dk_at dksX1_digest_1 0 rfl rfl)
theorem dX1_digest_27 : decode cX1_digest 27 = .ok (.lstore_n 1, 1) := dk_64 (dk_at dksX1_digest_1 3 rfl rfl)
theorem dX1_digest_28 : decode cX1_digest 28 = .ok (.iinc 3 1, 3) := dk_132 3 1 (dk_at dksX1_digest_1 4 rfl rfl)
theorem dX1_digest_31 : decode cX1_digest 31 = .ok (.goto (-25), 3) := dk_167 255 231 (dk_at dksX1_digest_1 7 rfl rfl)
theorem dX1_digest_34 : decode cX1_digest 34 = .ok (.lload_n 1, 1) := dk_31 (dk_at dksX1_digest_1 10 rfl rfl)
theorem dX1_digest_35 : decode cX1_digest 35 = .ok (.aload_n 0, 1) := dk_42 (dk_at dksX1_digest_1 11 rfl rfl)
theorem dX1_digest_36 : decode cX1_digest 36 = .ok (.getfield 10, 3) := dk_180 0 10 (dk_at dksX1_digest_1 12 rfl rfl)
theorem dX1_digest_39 : decode cX1_digest 39 = .ok (.invokevirtual 173, 3) := dk_182 0 173 (dk_at dksX1_digest_1 15 rfl rfl)
theorem dX1_digest_42 : decode cX1_digest 42 = .ok (.invokestatic 343, 3) := dk_184 1 87 (dk_at dksX1_digest_1 18 rfl rfl)
theorem dX1_digest_45 : decode cX1_digest 45 = .ok (.lstore_n 1, 1) := dk_64 (dk_at dksX1_digest_1 21 rfl rfl)
theorem dX1_digest_46 : decode cX1_digest 46 = .ok (.iconst 0, 1) := dk_3 (dk_at dksX1_digest_1 22 rfl rfl)
theorem dX1_digest_47 : decode cX1_digest 47 = .ok (.istore_n 3, 1) := dk_62 (dk_at dksX1_digest_1 23 rfl rfl)
theorem dX1_digest_48 : decode cX1_digest 48 = .ok (.iload_n 3, 1) := dk_29 (dk_at dksX1_digest_2 0 rfl rfl)
theorem dX1_digest_49 : decode cX1_digest 49 = .ok (.bipush 8, 2) := dk_16 8 (dk_at dksX1_digest_2 1 rfl rfl)
theorem dX1_digest_51 : decode cX1_digest 51 = .ok (.if_icmp .ge 42, 3) := dk_162 0 42 (dk_at dksX1_digest_2 3 rfl rfl)
theorem dX1_digest_54 : decode cX1_digest 54 = .ok (.aload_n 0, 1) := dk_42 (dk_at dksX1_digest_2 6 rfl rfl)
theorem dX1_digest_55 : decode cX1_digest 55 = .ok (.getfield 10, 3) := dk_180 0 10 (dk_at dksX1_digest_2 7 rfl rfl)
theorem dX1_digest_58 : decode cX1_digest 58 = .ok (.getfield 170, 3) := dk_180 0 170 (dk_at dksX1_digest_2 10 rfl rfl)
theorem dX1_digest_61 : decode cX1_digest 61 = .ok (.iload_n 3, 1) := dk_29 (dk_at dksX1_digest_2 13 rfl rfl)
theorem dX1_digest_62 : decode cX1_digest 62 = .ok (.invokestatic 291, 3) := dk_184 1 35 (dk_at dksX1_digest_2 14 rfl rfl)
theorem dX1_digest_65 : decode cX1_digest 65 = .ok (.ifCond .eq 22, 3) := dk_153 0 22 (dk_at dksX1_digest_2 17 rfl rfl)
theorem dX1_digest_68 : decode cX1_digest 68 = .ok (.lload_n 1, 1) := dk_31 (dk_at dksX1_digest_2 20 rfl rfl)
theorem dX1_digest_69 : decode cX1_digest 69 = .ok (.iconst 1, 1) := dk_4 (dk_at dksX1_digest_2 21 rfl rfl)
theorem dX1_digest_70 : decode cX1_digest 70 = .ok (.newarray .int, 2) := dk_188_10 (dk_at dksX1_digest_2 22 rfl rfl)
theorem dX1_digest_72 : decode cX1_digest 72 = .ok (.dup, 1) := dk_89 (dk_at dksX1_digest_3 0 rfl rfl)
theorem dX1_digest_73 : decode cX1_digest 73 = .ok (.iconst 0, 1) := dk_3 (dk_at dksX1_digest_3 1 rfl rfl)
theorem dX1_digest_74 : decode cX1_digest 74 = .ok (.aload_n 0, 1) := dk_42 (dk_at dksX1_digest_3 2 rfl rfl)
theorem dX1_digest_75 : decode cX1_digest 75 = .ok (.getfield 34, 3) := dk_180 0 34 (dk_at dksX1_digest_3 3 rfl rfl)
theorem dX1_digest_78 : decode cX1_digest 78 = .ok (.iload_n 3, 1) := dk_29 (dk_at dksX1_digest_3 6 rfl rfl)
theorem dX1_digest_79 : decode cX1_digest 79 = .ok (.invokevirtual 295, 3) := dk_182 1 39 (dk_at dksX1_digest_3 7 rfl rfl)
theorem dX1_digest_82 : decode cX1_digest 82 = .ok (.iastore, 1) := dk_79 (dk_at dksX1_digest_3 10 rfl rfl)
theorem dX1_digest_83 : decode cX1_digest 83 = .ok (.invokestatic 343, 3) := dk_184 1 87 (dk_at dksX1_digest_3 11 rfl rfl)
theorem dX1_digest_86 : decode cX1_digest 86 = .ok (.lstore_n 1, 1) := dk_64 (dk_at dksX1_digest_3 14 rfl rfl)
theorem dX1_digest_87 : decode cX1_digest 87 = .ok (.iinc 3 1, 3) := dk_132 3 1 (dk_at dksX1_digest_3 15 rfl rfl)
theorem dX1_digest_90 : decode cX1_digest 90 = .ok (.goto (-42), 3) := dk_167 255 214 (dk_at dksX1_digest_3 18 rfl rfl)
theorem dX1_digest_93 : decode cX1_digest 93 = .ok (.aload_n 0, 1) := dk_42 (dk_at dksX1_digest_3 21 rfl rfl)
theorem dX1_digest_94 : decode cX1_digest 94 = .ok (.aload_n 0, 1) := dk_42 (dk_at dksX1_digest_3 22 rfl rfl)
theorem dX1_digest_95 : decode cX1_digest 95 = .ok (.aload_n 0, 1) := dk_42 (dk_at dksX1_digest_3 23 rfl rfl)
theorem dX1_digest_96 : decode cX1_digest 96 = .ok (.lload_n 1, 1) := dk_31 (dk_at dksX1_digest_4 0 rfl rfl)
theorem dX1_digest_97 : decode cX1_digest 97 = .ok (.invokevirtual 352, 3) := dk_182 1 96 (dk_at dksX1_digest_4 1 rfl rfl)
theorem dX1_digest_100 : decode cX1_digest 100 = .ok (.invokevirtual 356, 3) := dk_182 1 100 (dk_at dksX1_digest_4 4 rfl rfl)
theorem dX1_digest_103 : decode cX1_digest 103 = .ok (.invokevirtual 359, 3) := dk_182 1 103 (dk_at dksX1_digest_4 7 rfl rfl)
theorem dX1_digest_106 : decode cX1_digest 106 = .ok (.lstore_n 1, 1) := dk_64 (dk_at dksX1_digest_4 10 rfl rfl)
theorem dX1_digest_107 : decode cX1_digest 107 = .ok (.aload_n 0, 1) := dk_42 (dk_at dksX1_digest_4 11 rfl rfl)
theorem dX1_digest_108 : decode cX1_digest 108 = .ok (.aload_n 0, 1) := dk_42 (dk_at dksX1_digest_4 12 rfl rfl)
theorem dX1_digest_109 : decode cX1_digest 109 = .ok (.getfield 25, 3) := dk_180 0 25 (dk_at dksX1_digest_4 13 rfl rfl)
theorem dX1_digest_112 : decode cX1_digest 112 = .ok (.bipush 6, 2) := dk_16 6 (dk_at dksX1_digest_4 16 rfl rfl)
theorem dX1_digest_114 : decode cX1_digest 114 = .ok (.iconst 4, 1) := dk_7 (dk_at dksX1_digest_4 18 rfl rfl)
theorem dX1_digest_115 : decode cX1_digest 115 = .ok (.iconst 1, 1) := dk_4 (dk_at dksX1_digest_4 19 rfl rfl)
theorem dX1_digest_116 : decode cX1_digest 116 = .ok (.invokevirtual 319, 3) := dk_182 1 63 (dk_at dksX1_digest_4 20 rfl rfl)
theorem dX1_digest_119 : decode cX1_digest 119 = .ok (.invokevirtual 322, 3) := dk_182 1 66 (dk_at dksX1_digest_5 0 rfl rfl)
theorem dX1_digest_122 : decode cX1_digest 122 = .ok (.astore_n 3, 1) := dk_78 (dk_at dksX1_digest_5 3 rfl rfl)
theorem dX1_digest_123 : decode cX1_digest 123 = .ok (.lload_n 1, 1) := dk_31 (dk_at dksX1_digest_5 4 rfl rfl)
theorem dX1_digest_124 : decode cX1_digest 124 = .ok (.iconst 4, 1) := dk_7 (dk_at dksX1_digest_5 5 rfl rfl)
theorem dX1_digest_125 : decode cX1_digest 125 = .ok (.newarray .int, 2) := dk_188_10 (dk_at dksX1_digest_5 6 rfl rfl)
theorem dX1_digest_127 : decode cX1_digest 127 = .ok (.dup, 1) := dk_89 (dk_at dksX1_digest_5 8 rfl rfl)
theorem dX1_digest_128 : decode cX1_digest 128 = .ok (.iconst 0, 1) := dk_3 (dk_at dksX1_digest_5 9 rfl rfl)
theorem dX1_digest_129 : decode cX1_digest 129 = .ok (.aload_n 0, 1) := dk_42 (dk_at dksX1_digest_5 10 rfl rfl)
theorem dX1_digest_130 : decode cX1_digest 130 = .ok (.invokevirtual 335, 3) := dk_182 1 79 (dk_at dksX1_digest_5 11 rfl rfl)
theorem dX1_digest_133 : decode cX1_digest 133 = .ok (.iastore, 1) := dk_79 (dk_at dksX1_digest_5 14 rfl rfl)
theorem dX1_digest_134 : decode cX1_digest 134 = .ok (.dup, 1) := dk_89 (dk_at dksX1_digest_5 15 rfl rfl)
theorem dX1_digest_135 : decode cX1_digest 135 = .ok (.iconst 1, 1) := dk_4 (dk_at dksX1_digest_5 16 rfl rfl)
theorem dX1_digest_136 : decode cX1_digest 136 = .ok (.aload_n 0, 1) := dk_42 (dk_at dksX1_digest_5 17 rfl rfl)
theorem dX1_digest_137 : decode cX1_digest 137 = .ok (.invokevirtual 338, 3) := dk_182 1 82 (dk_at dksX1_digest_5 18 rfl rfl)
theorem dX1_digest_140 : decode cX1_digest 140 = .ok (.iastore, 1) := dk_79 (dk_at dksX1_digest_5 21 rfl rfl)
theorem dX1_digest_141 : decode cX1_digest 141 = .ok (.dup, 1) := dk_89 (dk_at dksX1_digest_5 22 rfl rfl)
theorem dX1_digest_142 : decode cX1_digest 142 = .ok (.iconst 2, 1) := dk_5 (dk_at dksX1_digest_5 23 rfl rfl)
theorem dX1_digest_143 : decode cX1_digest 143 = .ok (.aload_n 3, 1) := dk_45 (dk_at dksX1_digest_6 0 rfl rfl)
theorem dX1_digest_144 : decode cX1_digest 144 = .ok (.bipush 9, 2) := dk_16 9 (dk_at dksX1_digest_6 1 rfl rfl)
theorem dX1_digest_146 : decode cX1_digest 146 = .ok (.invokevirtual 301, 3) := dk_182 1 45 (dk_at dksX1_digest_6 3 rfl rfl)
theorem dX1_digest_149 : decode cX1_digest 149 = .ok (.iastore, 1) := dk_79 (dk_at dksX1_digest_6 6 rfl rfl)
theorem dX1_digest_150 : decode cX1_digest 150 = .ok (.dup, 1) := dk_89 (dk_at dksX1_digest_6 7 rfl rfl)
theorem dX1_digest_151 : decode cX1_digest 151 = .ok (.iconst 3, 1) := dk_6 (dk_at dksX1_digest_6 8 rfl rfl)
theorem dX1_digest_152 : decode cX1_digest 152 = .ok (.aload_n 3, 1) := dk_45 (dk_at dksX1_digest_6 9 rfl rfl)
theorem dX1_digest_153 : decode cX1_digest 153 = .ok (.bipush 13, 2) := dk_16 13 (dk_at dksX1_digest_6 10 rfl rfl)
theorem dX1_digest_155 : decode cX1_digest 155 = .ok (.invokevirtual 301, 3) := dk_182 1 45 (dk_at dksX1_digest_6 12 rfl rfl)
theorem dX1_digest_158 : decode cX1_digest 158 = .ok (.iastore, 1) := dk_79 (dk_at dksX1_digest_6 15 rfl rfl)
theorem dX1_digest_159 : decode cX1_digest 159 = .ok (.invokestatic 343, 3) := dk_184 1 87 (dk_at dksX1_digest_6 16 rfl rfl)
theorem dX1_digest_162 : decode cX1_digest 162 = .ok (.lreturn, 1) := dk_173 (dk_at dksX1_digest_6 19 rfl rfl)
abbrev cX1_manyNow : ByteArray := prog_1_method_37_code
def yX1_manyNow : MethodName := ⟨RX1, "manyNow", "(I)I"⟩
def dkwX1_manyNow_3 : List UInt8 := [182, 0, 144, 172, 42, 180, 0, 34, 27, 182, 1, 45, 172]
abbrev dktX1_manyNow_3 : List UInt8 := dkwX1_manyNow_3 ++ []
def dkwX1_manyNow_2 : List UInt8 := [42, 180, 0, 10, 180, 0, 98, 185, 0, 102, 1, 0, 172, 42, 182, 1, 42, 172, 42, 180, 0, 10]
abbrev dktX1_manyNow_2 : List UInt8 := dkwX1_manyNow_2 ++ dktX1_manyNow_3
def dkwX1_manyNow_1 : List UInt8 := [170, 0, 0, 0, 0, 0, 53, 0, 0, 0, 0, 0, 0, 0, 2, 0, 0, 0, 27, 0, 0, 0, 40, 0, 0, 0, 45]
abbrev dktX1_manyNow_1 : List UInt8 := dkwX1_manyNow_1 ++ dktX1_manyNow_2
def dkwX1_manyNow_0 : List UInt8 := [27]
abbrev dktX1_manyNow_0 : List UInt8 := dkwX1_manyNow_0 ++ dktX1_manyNow_1
theorem dksX1_manyNow_0 : cX1_manyNow.data.toList.drop 0 = dktX1_manyNow_0 := by decide +kernel
theorem dksX1_manyNow_1 : cX1_manyNow.data.toList.drop 1 = dktX1_manyNow_1 := dk_seg dksX1_manyNow_0 1 rfl rfl
theorem dksX1_manyNow_2 : cX1_manyNow.data.toList.drop 28 = dktX1_manyNow_2 := dk_seg dksX1_manyNow_1 27 rfl rfl
theorem dksX1_manyNow_3 : cX1_manyNow.data.toList.drop 50 = dktX1_manyNow_3 := dk_seg dksX1_manyNow_2 22 rfl rfl
theorem dX1_manyNow_0 : decode cX1_manyNow 0 = .ok (.iload_n 1, 1) := dk_27 (dk_at dksX1_manyNow_0 0 rfl rfl)
theorem dX1_manyNow_1 : decode cX1_manyNow 1 = .ok (.tableswitch 53 0 2 #[27, 40, 45], 27) := by decide +kernel
theorem dX1_manyNow_28 : decode cX1_manyNow 28 = .ok (.aload_n 0, 1) := dk_42 (dk_at dksX1_manyNow_2 0 rfl rfl)
theorem dX1_manyNow_29 : decode cX1_manyNow 29 = .ok (.getfield 10, 3) := dk_180 0 10 (dk_at dksX1_manyNow_2 1 rfl rfl)
theorem dX1_manyNow_32 : decode cX1_manyNow 32 = .ok (.getfield 98, 3) := dk_180 0 98 (dk_at dksX1_manyNow_2 4 rfl rfl)
theorem dX1_manyNow_35 : decode cX1_manyNow 35 = .ok (.invokeinterface 102 1, 5) := by decide +kernel
theorem dX1_manyNow_40 : decode cX1_manyNow 40 = .ok (.ireturn, 1) := dk_172 (dk_at dksX1_manyNow_2 12 rfl rfl)
theorem dX1_manyNow_41 : decode cX1_manyNow 41 = .ok (.aload_n 0, 1) := dk_42 (dk_at dksX1_manyNow_2 13 rfl rfl)
theorem dX1_manyNow_42 : decode cX1_manyNow 42 = .ok (.invokevirtual 298, 3) := dk_182 1 42 (dk_at dksX1_manyNow_2 14 rfl rfl)
theorem dX1_manyNow_45 : decode cX1_manyNow 45 = .ok (.ireturn, 1) := dk_172 (dk_at dksX1_manyNow_2 17 rfl rfl)
theorem dX1_manyNow_46 : decode cX1_manyNow 46 = .ok (.aload_n 0, 1) := dk_42 (dk_at dksX1_manyNow_2 18 rfl rfl)
theorem dX1_manyNow_47 : decode cX1_manyNow 47 = .ok (.getfield 10, 3) := dk_180 0 10 (dk_at dksX1_manyNow_2 19 rfl rfl)
theorem dX1_manyNow_50 : decode cX1_manyNow 50 = .ok (.invokevirtual 144, 3) := dk_182 0 144 (dk_at dksX1_manyNow_3 0 rfl rfl)
theorem dX1_manyNow_53 : decode cX1_manyNow 53 = .ok (.ireturn, 1) := dk_172 (dk_at dksX1_manyNow_3 3 rfl rfl)
theorem dX1_manyNow_54 : decode cX1_manyNow 54 = .ok (.aload_n 0, 1) := dk_42 (dk_at dksX1_manyNow_3 4 rfl rfl)
theorem dX1_manyNow_55 : decode cX1_manyNow 55 = .ok (.getfield 34, 3) := dk_180 0 34 (dk_at dksX1_manyNow_3 5 rfl rfl)
theorem dX1_manyNow_58 : decode cX1_manyNow 58 = .ok (.iload_n 1, 1) := dk_27 (dk_at dksX1_manyNow_3 8 rfl rfl)
theorem dX1_manyNow_59 : decode cX1_manyNow 59 = .ok (.invokevirtual 301, 3) := dk_182 1 45 (dk_at dksX1_manyNow_3 9 rfl rfl)
theorem dX1_manyNow_62 : decode cX1_manyNow 62 = .ok (.ireturn, 1) := dk_172 (dk_at dksX1_manyNow_3 12 rfl rfl)
abbrev cX1_freeNodes : ByteArray := prog_1_method_36_code
def yX1_freeNodes : MethodName := ⟨RX1, "freeNodes", "()I"⟩
def dkwX1_freeNodes_2 : List UInt8 := [167, 255, 215, 27, 172]
abbrev dktX1_freeNodes_2 : List UInt8 := dkwX1_freeNodes_2 ++ []
def dkwX1_freeNodes_1 : List UInt8 := [180, 0, 10, 28, 182, 0, 108, 180, 0, 112, 153, 0, 7, 3, 167, 0, 4, 4, 96, 60, 132, 2, 1]
abbrev dktX1_freeNodes_1 : List UInt8 := dkwX1_freeNodes_1 ++ dktX1_freeNodes_2
def dkwX1_freeNodes_0 : List UInt8 := [3, 60, 3, 61, 28, 42, 180, 0, 10, 180, 0, 98, 185, 0, 102, 1, 0, 162, 0, 31, 27, 42]
abbrev dktX1_freeNodes_0 : List UInt8 := dkwX1_freeNodes_0 ++ dktX1_freeNodes_1
theorem dksX1_freeNodes_0 : cX1_freeNodes.data.toList.drop 0 = dktX1_freeNodes_0 := by decide +kernel
theorem dksX1_freeNodes_1 : cX1_freeNodes.data.toList.drop 22 = dktX1_freeNodes_1 := dk_seg dksX1_freeNodes_0 22 rfl rfl
theorem dksX1_freeNodes_2 : cX1_freeNodes.data.toList.drop 45 = dktX1_freeNodes_2 := dk_seg dksX1_freeNodes_1 23 rfl rfl
theorem dX1_freeNodes_0 : decode cX1_freeNodes 0 = .ok (.iconst 0, 1) := dk_3 (dk_at dksX1_freeNodes_0 0 rfl rfl)
theorem dX1_freeNodes_1 : decode cX1_freeNodes 1 = .ok (.istore_n 1, 1) := dk_60 (dk_at dksX1_freeNodes_0 1 rfl rfl)
theorem dX1_freeNodes_2 : decode cX1_freeNodes 2 = .ok (.iconst 0, 1) := dk_3 (dk_at dksX1_freeNodes_0 2 rfl rfl)
theorem dX1_freeNodes_3 : decode cX1_freeNodes 3 = .ok (.istore_n 2, 1) := dk_61 (dk_at dksX1_freeNodes_0 3 rfl rfl)
theorem dX1_freeNodes_4 : decode cX1_freeNodes 4 = .ok (.iload_n 2, 1) := dk_28 (dk_at dksX1_freeNodes_0 4 rfl rfl)
theorem dX1_freeNodes_5 : decode cX1_freeNodes 5 = .ok (.aload_n 0, 1) := dk_42 (dk_at dksX1_freeNodes_0 5 rfl rfl)
theorem dX1_freeNodes_6 : decode cX1_freeNodes 6 = .ok (.getfield 10, 3) := dk_180 0 10 (dk_at dksX1_freeNodes_0 6 rfl rfl)
theorem dX1_freeNodes_9 : decode cX1_freeNodes 9 = .ok (.getfield 98, 3) := dk_180 0 98 (dk_at dksX1_freeNodes_0 9 rfl rfl)
theorem dX1_freeNodes_12 : decode cX1_freeNodes 12 = .ok (.invokeinterface 102 1, 5) := by decide +kernel
theorem dX1_freeNodes_17 : decode cX1_freeNodes 17 = .ok (.if_icmp .ge 31, 3) := dk_162 0 31 (dk_at dksX1_freeNodes_0 17 rfl rfl)
theorem dX1_freeNodes_20 : decode cX1_freeNodes 20 = .ok (.iload_n 1, 1) := dk_27 (dk_at dksX1_freeNodes_0 20 rfl rfl)
theorem dX1_freeNodes_21 : decode cX1_freeNodes 21 = .ok (.aload_n 0, 1) := dk_42 (dk_at dksX1_freeNodes_0 21 rfl rfl)
theorem dX1_freeNodes_22 : decode cX1_freeNodes 22 = .ok (.getfield 10, 3) := dk_180 0 10 (dk_at dksX1_freeNodes_1 0 rfl rfl)
theorem dX1_freeNodes_25 : decode cX1_freeNodes 25 = .ok (.iload_n 2, 1) := dk_28 (dk_at dksX1_freeNodes_1 3 rfl rfl)
theorem dX1_freeNodes_26 : decode cX1_freeNodes 26 = .ok (.invokevirtual 108, 3) := dk_182 0 108 (dk_at dksX1_freeNodes_1 4 rfl rfl)
theorem dX1_freeNodes_29 : decode cX1_freeNodes 29 = .ok (.getfield 112, 3) := dk_180 0 112 (dk_at dksX1_freeNodes_1 7 rfl rfl)
theorem dX1_freeNodes_32 : decode cX1_freeNodes 32 = .ok (.ifCond .eq 7, 3) := dk_153 0 7 (dk_at dksX1_freeNodes_1 10 rfl rfl)
theorem dX1_freeNodes_35 : decode cX1_freeNodes 35 = .ok (.iconst 0, 1) := dk_3 (dk_at dksX1_freeNodes_1 13 rfl rfl)
theorem dX1_freeNodes_36 : decode cX1_freeNodes 36 = .ok (.goto 4, 3) := dk_167 0 4 (dk_at dksX1_freeNodes_1 14 rfl rfl)
theorem dX1_freeNodes_39 : decode cX1_freeNodes 39 = .ok (.iconst 1, 1) := dk_4 (dk_at dksX1_freeNodes_1 17 rfl rfl)
theorem dX1_freeNodes_40 : decode cX1_freeNodes 40 = .ok (.iadd, 1) := dk_96 (dk_at dksX1_freeNodes_1 18 rfl rfl)
theorem dX1_freeNodes_41 : decode cX1_freeNodes 41 = .ok (.istore_n 1, 1) := dk_60 (dk_at dksX1_freeNodes_1 19 rfl rfl)
theorem dX1_freeNodes_42 : decode cX1_freeNodes 42 = .ok (.iinc 2 1, 3) := dk_132 2 1 (dk_at dksX1_freeNodes_1 20 rfl rfl)
theorem dX1_freeNodes_45 : decode cX1_freeNodes 45 = .ok (.goto (-41), 3) := dk_167 255 215 (dk_at dksX1_freeNodes_2 0 rfl rfl)
theorem dX1_freeNodes_48 : decode cX1_freeNodes 48 = .ok (.iload_n 1, 1) := dk_27 (dk_at dksX1_freeNodes_2 3 rfl rfl)
theorem dX1_freeNodes_49 : decode cX1_freeNodes 49 = .ok (.ireturn, 1) := dk_172 (dk_at dksX1_freeNodes_2 4 rfl rfl)
abbrev cX1_mix : ByteArray := prog_1_method_47_code
def yX1_mix : MethodName := ⟨RX1, "mix", "(J[I)J"⟩
def dkwX1_mix_1 : List UInt8 := [46, 54, 8, 33, 20, 1, 85, 105, 21, 8, 133, 97, 66, 132, 7, 1, 167, 255, 229, 33, 173]
abbrev dktX1_mix_1 : List UInt8 := dkwX1_mix_1 ++ []
def dkwX1_mix_0 : List UInt8 := [30, 66, 44, 58, 5, 25, 5, 190, 54, 6, 3, 54, 7, 21, 7, 21, 6, 162, 0, 26, 25, 5, 21, 7]
abbrev dktX1_mix_0 : List UInt8 := dkwX1_mix_0 ++ dktX1_mix_1
theorem dksX1_mix_0 : cX1_mix.data.toList.drop 0 = dktX1_mix_0 := by decide +kernel
theorem dksX1_mix_1 : cX1_mix.data.toList.drop 24 = dktX1_mix_1 := dk_seg dksX1_mix_0 24 rfl rfl
theorem dX1_mix_0 : decode cX1_mix 0 = .ok (.lload_n 0, 1) := dk_30 (dk_at dksX1_mix_0 0 rfl rfl)
theorem dX1_mix_1 : decode cX1_mix 1 = .ok (.lstore_n 3, 1) := dk_66 (dk_at dksX1_mix_0 1 rfl rfl)
theorem dX1_mix_2 : decode cX1_mix 2 = .ok (.aload_n 2, 1) := dk_44 (dk_at dksX1_mix_0 2 rfl rfl)
theorem dX1_mix_3 : decode cX1_mix 3 = .ok (.astore 5, 2) := dk_58 5 (dk_at dksX1_mix_0 3 rfl rfl)
theorem dX1_mix_5 : decode cX1_mix 5 = .ok (.aload 5, 2) := dk_25 5 (dk_at dksX1_mix_0 5 rfl rfl)
theorem dX1_mix_7 : decode cX1_mix 7 = .ok (.arraylength, 1) := dk_190 (dk_at dksX1_mix_0 7 rfl rfl)
theorem dX1_mix_8 : decode cX1_mix 8 = .ok (.istore 6, 2) := dk_54 6 (dk_at dksX1_mix_0 8 rfl rfl)
theorem dX1_mix_10 : decode cX1_mix 10 = .ok (.iconst 0, 1) := dk_3 (dk_at dksX1_mix_0 10 rfl rfl)
theorem dX1_mix_11 : decode cX1_mix 11 = .ok (.istore 7, 2) := dk_54 7 (dk_at dksX1_mix_0 11 rfl rfl)
theorem dX1_mix_13 : decode cX1_mix 13 = .ok (.iload 7, 2) := dk_21 7 (dk_at dksX1_mix_0 13 rfl rfl)
theorem dX1_mix_15 : decode cX1_mix 15 = .ok (.iload 6, 2) := dk_21 6 (dk_at dksX1_mix_0 15 rfl rfl)
theorem dX1_mix_17 : decode cX1_mix 17 = .ok (.if_icmp .ge 26, 3) := dk_162 0 26 (dk_at dksX1_mix_0 17 rfl rfl)
theorem dX1_mix_20 : decode cX1_mix 20 = .ok (.aload 5, 2) := dk_25 5 (dk_at dksX1_mix_0 20 rfl rfl)
theorem dX1_mix_22 : decode cX1_mix 22 = .ok (.iload 7, 2) := dk_21 7 (dk_at dksX1_mix_0 22 rfl rfl)
theorem dX1_mix_24 : decode cX1_mix 24 = .ok (.iaload, 1) := dk_46 (dk_at dksX1_mix_1 0 rfl rfl)
theorem dX1_mix_25 : decode cX1_mix 25 = .ok (.istore 8, 2) := dk_54 8 (dk_at dksX1_mix_1 1 rfl rfl)
theorem dX1_mix_27 : decode cX1_mix 27 = .ok (.lload_n 3, 1) := dk_33 (dk_at dksX1_mix_1 3 rfl rfl)
theorem dX1_mix_28 : decode cX1_mix 28 = .ok (.ldc2_w 341, 3) := dk_20 1 85 (dk_at dksX1_mix_1 4 rfl rfl)
theorem dX1_mix_31 : decode cX1_mix 31 = .ok (.lmul, 1) := dk_105 (dk_at dksX1_mix_1 7 rfl rfl)
theorem dX1_mix_32 : decode cX1_mix 32 = .ok (.iload 8, 2) := dk_21 8 (dk_at dksX1_mix_1 8 rfl rfl)
theorem dX1_mix_34 : decode cX1_mix 34 = .ok (.i2l, 1) := dk_133 (dk_at dksX1_mix_1 10 rfl rfl)
theorem dX1_mix_35 : decode cX1_mix 35 = .ok (.ladd, 1) := dk_97 (dk_at dksX1_mix_1 11 rfl rfl)
theorem dX1_mix_36 : decode cX1_mix 36 = .ok (.lstore_n 3, 1) := dk_66 (dk_at dksX1_mix_1 12 rfl rfl)
theorem dX1_mix_37 : decode cX1_mix 37 = .ok (.iinc 7 1, 3) := dk_132 7 1 (dk_at dksX1_mix_1 13 rfl rfl)
theorem dX1_mix_40 : decode cX1_mix 40 = .ok (.goto (-27), 3) := dk_167 255 229 (dk_at dksX1_mix_1 16 rfl rfl)
theorem dX1_mix_43 : decode cX1_mix 43 = .ok (.lload_n 3, 1) := dk_33 (dk_at dksX1_mix_1 19 rfl rfl)
theorem dX1_mix_44 : decode cX1_mix 44 = .ok (.lreturn, 1) := dk_173 (dk_at dksX1_mix_1 20 rfl rfl)
abbrev cX1_mixChosen : ByteArray := prog_1_method_48_code
def yX1_mixChosen : MethodName := ⟨RX1, "mixChosen", "(J)J"⟩
def dkwX1_mixChosen_2 : List UInt8 := [184, 1, 87, 66, 132, 6, 1, 167, 255, 227, 132, 5, 1, 167, 255, 201, 33, 173]
abbrev dktX1_mixChosen_2 : List UInt8 := dkwX1_mixChosen_2 ++ []
def dkwX1_mixChosen_1 : List UInt8 := [54, 6, 21, 6, 16, 7, 163, 0, 28, 33, 4, 188, 10, 89, 3, 42, 21, 5, 21, 6, 182, 0, 203, 79]
abbrev dktX1_mixChosen_1 : List UInt8 := dkwX1_mixChosen_1 ++ dktX1_mixChosen_2
def dkwX1_mixChosen_0 : List UInt8 := [31, 66, 3, 54, 5, 21, 5, 42, 180, 0, 34, 180, 0, 181, 185, 0, 102, 1, 0, 162, 0, 44, 3]
abbrev dktX1_mixChosen_0 : List UInt8 := dkwX1_mixChosen_0 ++ dktX1_mixChosen_1
theorem dksX1_mixChosen_0 : cX1_mixChosen.data.toList.drop 0 = dktX1_mixChosen_0 := by decide +kernel
theorem dksX1_mixChosen_1 : cX1_mixChosen.data.toList.drop 23 = dktX1_mixChosen_1 := dk_seg dksX1_mixChosen_0 23 rfl rfl
theorem dksX1_mixChosen_2 : cX1_mixChosen.data.toList.drop 47 = dktX1_mixChosen_2 := dk_seg dksX1_mixChosen_1 24 rfl rfl
theorem dX1_mixChosen_0 : decode cX1_mixChosen 0 = .ok (.lload_n 1, 1) := dk_31 (dk_at dksX1_mixChosen_0 0 rfl rfl)
theorem dX1_mixChosen_1 : decode cX1_mixChosen 1 = .ok (.lstore_n 3, 1) := dk_66 (dk_at dksX1_mixChosen_0 1 rfl rfl)
theorem dX1_mixChosen_2 : decode cX1_mixChosen 2 = .ok (.iconst 0, 1) := dk_3 (dk_at dksX1_mixChosen_0 2 rfl rfl)
theorem dX1_mixChosen_3 : decode cX1_mixChosen 3 = .ok (.istore 5, 2) := dk_54 5 (dk_at dksX1_mixChosen_0 3 rfl rfl)
theorem dX1_mixChosen_5 : decode cX1_mixChosen 5 = .ok (.iload 5, 2) := dk_21 5 (dk_at dksX1_mixChosen_0 5 rfl rfl)
theorem dX1_mixChosen_7 : decode cX1_mixChosen 7 = .ok (.aload_n 0, 1) := dk_42 (dk_at dksX1_mixChosen_0 7 rfl rfl)
theorem dX1_mixChosen_8 : decode cX1_mixChosen 8 = .ok (.getfield 34, 3) := dk_180 0 34 (dk_at dksX1_mixChosen_0 8 rfl rfl)
theorem dX1_mixChosen_11 : decode cX1_mixChosen 11 = .ok (.getfield 181, 3) := dk_180 0 181 (dk_at dksX1_mixChosen_0 11 rfl rfl)
theorem dX1_mixChosen_14 : decode cX1_mixChosen 14 = .ok (.invokeinterface 102 1, 5) := by decide +kernel
theorem dX1_mixChosen_19 : decode cX1_mixChosen 19 = .ok (.if_icmp .ge 44, 3) := dk_162 0 44 (dk_at dksX1_mixChosen_0 19 rfl rfl)
theorem dX1_mixChosen_22 : decode cX1_mixChosen 22 = .ok (.iconst 0, 1) := dk_3 (dk_at dksX1_mixChosen_0 22 rfl rfl)
theorem dX1_mixChosen_23 : decode cX1_mixChosen 23 = .ok (.istore 6, 2) := dk_54 6 (dk_at dksX1_mixChosen_1 0 rfl rfl)
theorem dX1_mixChosen_25 : decode cX1_mixChosen 25 = .ok (.iload 6, 2) := dk_21 6 (dk_at dksX1_mixChosen_1 2 rfl rfl)
theorem dX1_mixChosen_27 : decode cX1_mixChosen 27 = .ok (.bipush 7, 2) := dk_16 7 (dk_at dksX1_mixChosen_1 4 rfl rfl)
theorem dX1_mixChosen_29 : decode cX1_mixChosen 29 = .ok (.if_icmp .gt 28, 3) := dk_163 0 28 (dk_at dksX1_mixChosen_1 6 rfl rfl)
theorem dX1_mixChosen_32 : decode cX1_mixChosen 32 = .ok (.lload_n 3, 1) := dk_33 (dk_at dksX1_mixChosen_1 9 rfl rfl)
theorem dX1_mixChosen_33 : decode cX1_mixChosen 33 = .ok (.iconst 1, 1) := dk_4 (dk_at dksX1_mixChosen_1 10 rfl rfl)
theorem dX1_mixChosen_34 : decode cX1_mixChosen 34 = .ok (.newarray .int, 2) := dk_188_10 (dk_at dksX1_mixChosen_1 11 rfl rfl)
theorem dX1_mixChosen_36 : decode cX1_mixChosen 36 = .ok (.dup, 1) := dk_89 (dk_at dksX1_mixChosen_1 13 rfl rfl)
theorem dX1_mixChosen_37 : decode cX1_mixChosen 37 = .ok (.iconst 0, 1) := dk_3 (dk_at dksX1_mixChosen_1 14 rfl rfl)
theorem dX1_mixChosen_38 : decode cX1_mixChosen 38 = .ok (.aload_n 0, 1) := dk_42 (dk_at dksX1_mixChosen_1 15 rfl rfl)
theorem dX1_mixChosen_39 : decode cX1_mixChosen 39 = .ok (.iload 5, 2) := dk_21 5 (dk_at dksX1_mixChosen_1 16 rfl rfl)
theorem dX1_mixChosen_41 : decode cX1_mixChosen 41 = .ok (.iload 6, 2) := dk_21 6 (dk_at dksX1_mixChosen_1 18 rfl rfl)
theorem dX1_mixChosen_43 : decode cX1_mixChosen 43 = .ok (.invokevirtual 203, 3) := dk_182 0 203 (dk_at dksX1_mixChosen_1 20 rfl rfl)
theorem dX1_mixChosen_46 : decode cX1_mixChosen 46 = .ok (.iastore, 1) := dk_79 (dk_at dksX1_mixChosen_1 23 rfl rfl)
theorem dX1_mixChosen_47 : decode cX1_mixChosen 47 = .ok (.invokestatic 343, 3) := dk_184 1 87 (dk_at dksX1_mixChosen_2 0 rfl rfl)
theorem dX1_mixChosen_50 : decode cX1_mixChosen 50 = .ok (.lstore_n 3, 1) := dk_66 (dk_at dksX1_mixChosen_2 3 rfl rfl)
theorem dX1_mixChosen_51 : decode cX1_mixChosen 51 = .ok (.iinc 6 1, 3) := dk_132 6 1 (dk_at dksX1_mixChosen_2 4 rfl rfl)
theorem dX1_mixChosen_54 : decode cX1_mixChosen 54 = .ok (.goto (-29), 3) := dk_167 255 227 (dk_at dksX1_mixChosen_2 7 rfl rfl)
theorem dX1_mixChosen_57 : decode cX1_mixChosen 57 = .ok (.iinc 5 1, 3) := dk_132 5 1 (dk_at dksX1_mixChosen_2 10 rfl rfl)
theorem dX1_mixChosen_60 : decode cX1_mixChosen 60 = .ok (.goto (-55), 3) := dk_167 255 201 (dk_at dksX1_mixChosen_2 13 rfl rfl)
theorem dX1_mixChosen_63 : decode cX1_mixChosen 63 = .ok (.lload_n 3, 1) := dk_33 (dk_at dksX1_mixChosen_2 16 rfl rfl)
theorem dX1_mixChosen_64 : decode cX1_mixChosen 64 = .ok (.lreturn, 1) := dk_173 (dk_at dksX1_mixChosen_2 17 rfl rfl)
abbrev cX1_chosenNow : ByteArray := prog_1_method_24_code
def yX1_chosenNow : MethodName := ⟨RX1, "chosenNow", "(II)I"⟩
def dkwX1_chosenNow_3 : List UInt8 := [172, 45, 28, 5, 100, 184, 0, 199, 172]
abbrev dktX1_chosenNow_3 : List UInt8 := dkwX1_chosenNow_3 ++ []
def dkwX1_chosenNow_2 : List UInt8 := [45, 180, 0, 184, 172, 45, 180, 0, 187, 172, 45, 180, 0, 190, 172, 45, 180, 0, 193, 172, 45, 180, 0, 196]
abbrev dktX1_chosenNow_2 : List UInt8 := dkwX1_chosenNow_2 ++ dktX1_chosenNow_3
def dkwX1_chosenNow_1 : List UInt8 := [170, 0, 0, 0, 0, 71, 0, 0, 0, 0, 0, 0, 0, 7, 0, 0, 0, 46, 0, 0, 0, 51, 0, 0, 0, 71, 0, 0, 0, 71, 0, 0, 0, 71, 0, 0, 0, 56, 0, 0, 0, 61, 0, 0, 0, 66]
abbrev dktX1_chosenNow_1 : List UInt8 := dkwX1_chosenNow_1 ++ dktX1_chosenNow_2
def dkwX1_chosenNow_0 : List UInt8 := [42, 180, 0, 34, 180, 0, 181, 27, 185, 0, 150, 2, 0, 192, 0, 177, 78, 28]
abbrev dktX1_chosenNow_0 : List UInt8 := dkwX1_chosenNow_0 ++ dktX1_chosenNow_1
theorem dksX1_chosenNow_0 : cX1_chosenNow.data.toList.drop 0 = dktX1_chosenNow_0 := by decide +kernel
theorem dksX1_chosenNow_1 : cX1_chosenNow.data.toList.drop 18 = dktX1_chosenNow_1 := dk_seg dksX1_chosenNow_0 18 rfl rfl
theorem dksX1_chosenNow_2 : cX1_chosenNow.data.toList.drop 64 = dktX1_chosenNow_2 := dk_seg dksX1_chosenNow_1 46 rfl rfl
theorem dksX1_chosenNow_3 : cX1_chosenNow.data.toList.drop 88 = dktX1_chosenNow_3 := dk_seg dksX1_chosenNow_2 24 rfl rfl
theorem dX1_chosenNow_0 : decode cX1_chosenNow 0 = .ok (.aload_n 0, 1) := dk_42 (dk_at dksX1_chosenNow_0 0 rfl rfl)
theorem dX1_chosenNow_1 : decode cX1_chosenNow 1 = .ok (.getfield 34, 3) := dk_180 0 34 (dk_at dksX1_chosenNow_0 1 rfl rfl)
theorem dX1_chosenNow_4 : decode cX1_chosenNow 4 = .ok (.getfield 181, 3) := dk_180 0 181 (dk_at dksX1_chosenNow_0 4 rfl rfl)
theorem dX1_chosenNow_7 : decode cX1_chosenNow 7 = .ok (.iload_n 1, 1) := dk_27 (dk_at dksX1_chosenNow_0 7 rfl rfl)
theorem dX1_chosenNow_8 : decode cX1_chosenNow 8 = .ok (.invokeinterface 150 2, 5) := by decide +kernel
theorem dX1_chosenNow_13 : decode cX1_chosenNow 13 = .ok (.checkcast 177, 3) := dk_192 0 177 (dk_at dksX1_chosenNow_0 13 rfl rfl)
theorem dX1_chosenNow_16 : decode cX1_chosenNow 16 = .ok (.astore_n 3, 1) := dk_78 (dk_at dksX1_chosenNow_0 16 rfl rfl)
theorem dX1_chosenNow_17 : decode cX1_chosenNow 17 = .ok (.iload_n 2, 1) := dk_28 (dk_at dksX1_chosenNow_0 17 rfl rfl)
theorem dX1_chosenNow_18 : decode cX1_chosenNow 18 = .ok (.tableswitch 71 0 7 #[46, 51, 71, 71, 71, 56, 61, 66], 46) := by decide +kernel
theorem dX1_chosenNow_64 : decode cX1_chosenNow 64 = .ok (.aload_n 3, 1) := dk_45 (dk_at dksX1_chosenNow_2 0 rfl rfl)
theorem dX1_chosenNow_65 : decode cX1_chosenNow 65 = .ok (.getfield 184, 3) := dk_180 0 184 (dk_at dksX1_chosenNow_2 1 rfl rfl)
theorem dX1_chosenNow_68 : decode cX1_chosenNow 68 = .ok (.ireturn, 1) := dk_172 (dk_at dksX1_chosenNow_2 4 rfl rfl)
theorem dX1_chosenNow_69 : decode cX1_chosenNow 69 = .ok (.aload_n 3, 1) := dk_45 (dk_at dksX1_chosenNow_2 5 rfl rfl)
theorem dX1_chosenNow_70 : decode cX1_chosenNow 70 = .ok (.getfield 187, 3) := dk_180 0 187 (dk_at dksX1_chosenNow_2 6 rfl rfl)
theorem dX1_chosenNow_73 : decode cX1_chosenNow 73 = .ok (.ireturn, 1) := dk_172 (dk_at dksX1_chosenNow_2 9 rfl rfl)
theorem dX1_chosenNow_74 : decode cX1_chosenNow 74 = .ok (.aload_n 3, 1) := dk_45 (dk_at dksX1_chosenNow_2 10 rfl rfl)
theorem dX1_chosenNow_75 : decode cX1_chosenNow 75 = .ok (.getfield 190, 3) := dk_180 0 190 (dk_at dksX1_chosenNow_2 11 rfl rfl)
theorem dX1_chosenNow_78 : decode cX1_chosenNow 78 = .ok (.ireturn, 1) := dk_172 (dk_at dksX1_chosenNow_2 14 rfl rfl)
theorem dX1_chosenNow_79 : decode cX1_chosenNow 79 = .ok (.aload_n 3, 1) := dk_45 (dk_at dksX1_chosenNow_2 15 rfl rfl)
theorem dX1_chosenNow_80 : decode cX1_chosenNow 80 = .ok (.getfield 193, 3) := dk_180 0 193 (dk_at dksX1_chosenNow_2 16 rfl rfl)
theorem dX1_chosenNow_83 : decode cX1_chosenNow 83 = .ok (.ireturn, 1) := dk_172 (dk_at dksX1_chosenNow_2 19 rfl rfl)
theorem dX1_chosenNow_84 : decode cX1_chosenNow 84 = .ok (.aload_n 3, 1) := dk_45 (dk_at dksX1_chosenNow_2 20 rfl rfl)
theorem dX1_chosenNow_85 : decode cX1_chosenNow 85 = .ok (.getfield 196, 3) := dk_180 0 196 (dk_at dksX1_chosenNow_2 21 rfl rfl)
theorem dX1_chosenNow_88 : decode cX1_chosenNow 88 = .ok (.ireturn, 1) := dk_172 (dk_at dksX1_chosenNow_3 0 rfl rfl)
theorem dX1_chosenNow_89 : decode cX1_chosenNow 89 = .ok (.aload_n 3, 1) := dk_45 (dk_at dksX1_chosenNow_3 1 rfl rfl)
theorem dX1_chosenNow_90 : decode cX1_chosenNow 90 = .ok (.iload_n 2, 1) := dk_28 (dk_at dksX1_chosenNow_3 2 rfl rfl)
theorem dX1_chosenNow_91 : decode cX1_chosenNow 91 = .ok (.iconst 2, 1) := dk_5 (dk_at dksX1_chosenNow_3 3 rfl rfl)
theorem dX1_chosenNow_92 : decode cX1_chosenNow 92 = .ok (.isub, 1) := dk_100 (dk_at dksX1_chosenNow_3 4 rfl rfl)
theorem dX1_chosenNow_93 : decode cX1_chosenNow 93 = .ok (.invokestatic 199, 3) := dk_184 0 199 (dk_at dksX1_chosenNow_3 5 rfl rfl)
theorem dX1_chosenNow_96 : decode cX1_chosenNow 96 = .ok (.ireturn, 1) := dk_172 (dk_at dksX1_chosenNow_3 8 rfl rfl)
abbrev cX1_readAt : ByteArray := prog_1_method_23_code
def yX1_readAt : MethodName := ⟨RX1, "readAt", "(LSpillslotWorks$Op;I)I"⟩
def dkwX1_readAt_0 : List UInt8 := [27, 42, 180, 0, 176, 190, 162, 0, 12, 42, 180, 0, 176, 27, 46, 167, 0, 4, 2, 172]
abbrev dktX1_readAt_0 : List UInt8 := dkwX1_readAt_0 ++ []
theorem dksX1_readAt_0 : cX1_readAt.data.toList.drop 0 = dktX1_readAt_0 := by decide +kernel
theorem dX1_readAt_0 : decode cX1_readAt 0 = .ok (.iload_n 1, 1) := dk_27 (dk_at dksX1_readAt_0 0 rfl rfl)
theorem dX1_readAt_1 : decode cX1_readAt 1 = .ok (.aload_n 0, 1) := dk_42 (dk_at dksX1_readAt_0 1 rfl rfl)
theorem dX1_readAt_2 : decode cX1_readAt 2 = .ok (.getfield 176, 3) := dk_180 0 176 (dk_at dksX1_readAt_0 2 rfl rfl)
theorem dX1_readAt_5 : decode cX1_readAt 5 = .ok (.arraylength, 1) := dk_190 (dk_at dksX1_readAt_0 5 rfl rfl)
theorem dX1_readAt_6 : decode cX1_readAt 6 = .ok (.if_icmp .ge 12, 3) := dk_162 0 12 (dk_at dksX1_readAt_0 6 rfl rfl)
theorem dX1_readAt_9 : decode cX1_readAt 9 = .ok (.aload_n 0, 1) := dk_42 (dk_at dksX1_readAt_0 9 rfl rfl)
theorem dX1_readAt_10 : decode cX1_readAt 10 = .ok (.getfield 176, 3) := dk_180 0 176 (dk_at dksX1_readAt_0 10 rfl rfl)
theorem dX1_readAt_13 : decode cX1_readAt 13 = .ok (.iload_n 1, 1) := dk_27 (dk_at dksX1_readAt_0 13 rfl rfl)
theorem dX1_readAt_14 : decode cX1_readAt 14 = .ok (.iaload, 1) := dk_46 (dk_at dksX1_readAt_0 14 rfl rfl)
theorem dX1_readAt_15 : decode cX1_readAt 15 = .ok (.goto 4, 3) := dk_167 0 4 (dk_at dksX1_readAt_0 15 rfl rfl)
theorem dX1_readAt_18 : decode cX1_readAt 18 = .ok (.iconst (-1), 1) := dk_2 (dk_at dksX1_readAt_0 18 rfl rfl)
theorem dX1_readAt_19 : decode cX1_readAt 19 = .ok (.ireturn, 1) := dk_172 (dk_at dksX1_readAt_0 19 rfl rfl)
abbrev cX1_mixValues : ByteArray := prog_1_method_49_code
def yX1_mixValues : MethodName := ⟨RX1, "mixValues", "(J)J"⟩
def dkwX1_mixValues_4 : List UInt8 := [167, 255, 165, 33, 173]
abbrev dktX1_mixValues_4 : List UInt8 := dkwX1_mixValues_4 ++ []
def dkwX1_mixValues_3 : List UInt8 := [21, 5, 182, 0, 248, 21, 6, 184, 0, 252, 79, 184, 1, 87, 66, 132, 6, 1, 167, 255, 218, 132, 5, 1]
abbrev dktX1_mixValues_3 : List UInt8 := dkwX1_mixValues_3 ++ dktX1_mixValues_4
def dkwX1_mixValues_2 : List UInt8 := [66, 3, 54, 6, 21, 6, 16, 7, 163, 0, 37, 33, 4, 188, 10, 89, 3, 42, 180, 0, 34, 180, 0, 235]
abbrev dktX1_mixValues_2 : List UInt8 := dkwX1_mixValues_2 ++ dktX1_mixValues_3
def dkwX1_mixValues_1 : List UInt8 := [21, 5, 182, 0, 239, 2, 160, 0, 6, 167, 0, 60, 33, 4, 188, 10, 89, 3, 21, 5, 79, 184, 1, 87]
abbrev dktX1_mixValues_1 : List UInt8 := dkwX1_mixValues_1 ++ dktX1_mixValues_2
def dkwX1_mixValues_0 : List UInt8 := [31, 66, 3, 54, 5, 21, 5, 42, 180, 0, 34, 180, 1, 91, 162, 0, 85, 42, 180, 0, 34, 180, 0, 235]
abbrev dktX1_mixValues_0 : List UInt8 := dkwX1_mixValues_0 ++ dktX1_mixValues_1
theorem dksX1_mixValues_0 : cX1_mixValues.data.toList.drop 0 = dktX1_mixValues_0 := by decide +kernel
theorem dksX1_mixValues_1 : cX1_mixValues.data.toList.drop 24 = dktX1_mixValues_1 := dk_seg dksX1_mixValues_0 24 rfl rfl
theorem dksX1_mixValues_2 : cX1_mixValues.data.toList.drop 48 = dktX1_mixValues_2 := dk_seg dksX1_mixValues_1 24 rfl rfl
theorem dksX1_mixValues_3 : cX1_mixValues.data.toList.drop 72 = dktX1_mixValues_3 := dk_seg dksX1_mixValues_2 24 rfl rfl
theorem dksX1_mixValues_4 : cX1_mixValues.data.toList.drop 96 = dktX1_mixValues_4 := dk_seg dksX1_mixValues_3 24 rfl rfl
theorem dX1_mixValues_0 : decode cX1_mixValues 0 = .ok (.lload_n 1, 1) := dk_31 (dk_at dksX1_mixValues_0 0 rfl rfl)
theorem dX1_mixValues_1 : decode cX1_mixValues 1 = .ok (.lstore_n 3, 1) := dk_66 (dk_at dksX1_mixValues_0 1 rfl rfl)
theorem dX1_mixValues_2 : decode cX1_mixValues 2 = .ok (.iconst 0, 1) := dk_3 (dk_at dksX1_mixValues_0 2 rfl rfl)
theorem dX1_mixValues_3 : decode cX1_mixValues 3 = .ok (.istore 5, 2) := dk_54 5 (dk_at dksX1_mixValues_0 3 rfl rfl)
theorem dX1_mixValues_5 : decode cX1_mixValues 5 = .ok (.iload 5, 2) := dk_21 5 (dk_at dksX1_mixValues_0 5 rfl rfl)
theorem dX1_mixValues_7 : decode cX1_mixValues 7 = .ok (.aload_n 0, 1) := dk_42 (dk_at dksX1_mixValues_0 7 rfl rfl)
theorem dX1_mixValues_8 : decode cX1_mixValues 8 = .ok (.getfield 34, 3) := dk_180 0 34 (dk_at dksX1_mixValues_0 8 rfl rfl)
theorem dX1_mixValues_11 : decode cX1_mixValues 11 = .ok (.getfield 347, 3) := dk_180 1 91 (dk_at dksX1_mixValues_0 11 rfl rfl)
theorem dX1_mixValues_14 : decode cX1_mixValues 14 = .ok (.if_icmp .ge 85, 3) := dk_162 0 85 (dk_at dksX1_mixValues_0 14 rfl rfl)
theorem dX1_mixValues_17 : decode cX1_mixValues 17 = .ok (.aload_n 0, 1) := dk_42 (dk_at dksX1_mixValues_0 17 rfl rfl)
theorem dX1_mixValues_18 : decode cX1_mixValues 18 = .ok (.getfield 34, 3) := dk_180 0 34 (dk_at dksX1_mixValues_0 18 rfl rfl)
theorem dX1_mixValues_21 : decode cX1_mixValues 21 = .ok (.getfield 235, 3) := dk_180 0 235 (dk_at dksX1_mixValues_0 21 rfl rfl)
theorem dX1_mixValues_24 : decode cX1_mixValues 24 = .ok (.iload 5, 2) := dk_21 5 (dk_at dksX1_mixValues_1 0 rfl rfl)
theorem dX1_mixValues_26 : decode cX1_mixValues 26 = .ok (.invokevirtual 239, 3) := dk_182 0 239 (dk_at dksX1_mixValues_1 2 rfl rfl)
theorem dX1_mixValues_29 : decode cX1_mixValues 29 = .ok (.iconst (-1), 1) := dk_2 (dk_at dksX1_mixValues_1 5 rfl rfl)
theorem dX1_mixValues_30 : decode cX1_mixValues 30 = .ok (.if_icmp .ne 6, 3) := dk_160 0 6 (dk_at dksX1_mixValues_1 6 rfl rfl)
theorem dX1_mixValues_33 : decode cX1_mixValues 33 = .ok (.goto 60, 3) := dk_167 0 60 (dk_at dksX1_mixValues_1 9 rfl rfl)
theorem dX1_mixValues_36 : decode cX1_mixValues 36 = .ok (.lload_n 3, 1) := dk_33 (dk_at dksX1_mixValues_1 12 rfl rfl)
theorem dX1_mixValues_37 : decode cX1_mixValues 37 = .ok (.iconst 1, 1) := dk_4 (dk_at dksX1_mixValues_1 13 rfl rfl)
theorem dX1_mixValues_38 : decode cX1_mixValues 38 = .ok (.newarray .int, 2) := dk_188_10 (dk_at dksX1_mixValues_1 14 rfl rfl)
theorem dX1_mixValues_40 : decode cX1_mixValues 40 = .ok (.dup, 1) := dk_89 (dk_at dksX1_mixValues_1 16 rfl rfl)
theorem dX1_mixValues_41 : decode cX1_mixValues 41 = .ok (.iconst 0, 1) := dk_3 (dk_at dksX1_mixValues_1 17 rfl rfl)
theorem dX1_mixValues_42 : decode cX1_mixValues 42 = .ok (.iload 5, 2) := dk_21 5 (dk_at dksX1_mixValues_1 18 rfl rfl)
theorem dX1_mixValues_44 : decode cX1_mixValues 44 = .ok (.iastore, 1) := dk_79 (dk_at dksX1_mixValues_1 20 rfl rfl)
theorem dX1_mixValues_45 : decode cX1_mixValues 45 = .ok (.invokestatic 343, 3) := dk_184 1 87 (dk_at dksX1_mixValues_1 21 rfl rfl)
theorem dX1_mixValues_48 : decode cX1_mixValues 48 = .ok (.lstore_n 3, 1) := dk_66 (dk_at dksX1_mixValues_2 0 rfl rfl)
theorem dX1_mixValues_49 : decode cX1_mixValues 49 = .ok (.iconst 0, 1) := dk_3 (dk_at dksX1_mixValues_2 1 rfl rfl)
theorem dX1_mixValues_50 : decode cX1_mixValues 50 = .ok (.istore 6, 2) := dk_54 6 (dk_at dksX1_mixValues_2 2 rfl rfl)
theorem dX1_mixValues_52 : decode cX1_mixValues 52 = .ok (.iload 6, 2) := dk_21 6 (dk_at dksX1_mixValues_2 4 rfl rfl)
theorem dX1_mixValues_54 : decode cX1_mixValues 54 = .ok (.bipush 7, 2) := dk_16 7 (dk_at dksX1_mixValues_2 6 rfl rfl)
theorem dX1_mixValues_56 : decode cX1_mixValues 56 = .ok (.if_icmp .gt 37, 3) := dk_163 0 37 (dk_at dksX1_mixValues_2 8 rfl rfl)
theorem dX1_mixValues_59 : decode cX1_mixValues 59 = .ok (.lload_n 3, 1) := dk_33 (dk_at dksX1_mixValues_2 11 rfl rfl)
theorem dX1_mixValues_60 : decode cX1_mixValues 60 = .ok (.iconst 1, 1) := dk_4 (dk_at dksX1_mixValues_2 12 rfl rfl)
theorem dX1_mixValues_61 : decode cX1_mixValues 61 = .ok (.newarray .int, 2) := dk_188_10 (dk_at dksX1_mixValues_2 13 rfl rfl)
theorem dX1_mixValues_63 : decode cX1_mixValues 63 = .ok (.dup, 1) := dk_89 (dk_at dksX1_mixValues_2 15 rfl rfl)
theorem dX1_mixValues_64 : decode cX1_mixValues 64 = .ok (.iconst 0, 1) := dk_3 (dk_at dksX1_mixValues_2 16 rfl rfl)
theorem dX1_mixValues_65 : decode cX1_mixValues 65 = .ok (.aload_n 0, 1) := dk_42 (dk_at dksX1_mixValues_2 17 rfl rfl)
theorem dX1_mixValues_66 : decode cX1_mixValues 66 = .ok (.getfield 34, 3) := dk_180 0 34 (dk_at dksX1_mixValues_2 18 rfl rfl)
theorem dX1_mixValues_69 : decode cX1_mixValues 69 = .ok (.getfield 235, 3) := dk_180 0 235 (dk_at dksX1_mixValues_2 21 rfl rfl)
theorem dX1_mixValues_72 : decode cX1_mixValues 72 = .ok (.iload 5, 2) := dk_21 5 (dk_at dksX1_mixValues_3 0 rfl rfl)
theorem dX1_mixValues_74 : decode cX1_mixValues 74 = .ok (.invokevirtual 248, 3) := dk_182 0 248 (dk_at dksX1_mixValues_3 2 rfl rfl)
theorem dX1_mixValues_77 : decode cX1_mixValues 77 = .ok (.iload 6, 2) := dk_21 6 (dk_at dksX1_mixValues_3 5 rfl rfl)
theorem dX1_mixValues_79 : decode cX1_mixValues 79 = .ok (.invokestatic 252, 3) := dk_184 0 252 (dk_at dksX1_mixValues_3 7 rfl rfl)
theorem dX1_mixValues_82 : decode cX1_mixValues 82 = .ok (.iastore, 1) := dk_79 (dk_at dksX1_mixValues_3 10 rfl rfl)
theorem dX1_mixValues_83 : decode cX1_mixValues 83 = .ok (.invokestatic 343, 3) := dk_184 1 87 (dk_at dksX1_mixValues_3 11 rfl rfl)
theorem dX1_mixValues_86 : decode cX1_mixValues 86 = .ok (.lstore_n 3, 1) := dk_66 (dk_at dksX1_mixValues_3 14 rfl rfl)
theorem dX1_mixValues_87 : decode cX1_mixValues 87 = .ok (.iinc 6 1, 3) := dk_132 6 1 (dk_at dksX1_mixValues_3 15 rfl rfl)
theorem dX1_mixValues_90 : decode cX1_mixValues 90 = .ok (.goto (-38), 3) := dk_167 255 218 (dk_at dksX1_mixValues_3 18 rfl rfl)
theorem dX1_mixValues_93 : decode cX1_mixValues 93 = .ok (.iinc 5 1, 3) := dk_132 5 1 (dk_at dksX1_mixValues_3 21 rfl rfl)
theorem dX1_mixValues_96 : decode cX1_mixValues 96 = .ok (.goto (-91), 3) := dk_167 255 165 (dk_at dksX1_mixValues_4 0 rfl rfl)
theorem dX1_mixValues_99 : decode cX1_mixValues 99 = .ok (.lload_n 3, 1) := dk_33 (dk_at dksX1_mixValues_4 3 rfl rfl)
theorem dX1_mixValues_100 : decode cX1_mixValues 100 = .ok (.lreturn, 1) := dk_173 (dk_at dksX1_mixValues_4 4 rfl rfl)
abbrev cX1_lifeNow : ByteArray := prog_1_method_26_code
def yX1_lifeNow : MethodName := ⟨RX1, "lifeNow", "(LSpillslotWorks$Life;I)I"⟩
def dkwX1_lifeNow_4 : List UInt8 := [180, 0, 233, 96, 172]
abbrev dktX1_lifeNow_4 : List UInt8 := dkwX1_lifeNow_4 ++ []
def dkwX1_lifeNow_3 : List UInt8 := [172, 42, 182, 0, 224, 153, 0, 7, 4, 167, 0, 4, 3, 172, 42, 180, 0, 227, 172, 42, 180, 0, 230, 42]
abbrev dktX1_lifeNow_3 : List UInt8 := dkwX1_lifeNow_3 ++ dktX1_lifeNow_4
def dkwX1_lifeNow_2 : List UInt8 := [42, 180, 0, 207, 172, 42, 180, 0, 212, 172, 42, 182, 0, 215, 172, 42, 180, 0, 218, 172, 42, 180, 0, 221]
abbrev dktX1_lifeNow_2 : List UInt8 := dkwX1_lifeNow_2 ++ dktX1_lifeNow_3
def dkwX1_lifeNow_1 : List UInt8 := [170, 0, 0, 0, 0, 0, 86, 0, 0, 0, 0, 0, 0, 0, 6, 0, 0, 0, 43, 0, 0, 0, 48, 0, 0, 0, 53, 0, 0, 0, 58, 0, 0, 0, 63, 0, 0, 0, 68, 0, 0, 0, 81]
abbrev dktX1_lifeNow_1 : List UInt8 := dkwX1_lifeNow_1 ++ dktX1_lifeNow_2
def dkwX1_lifeNow_0 : List UInt8 := [27]
abbrev dktX1_lifeNow_0 : List UInt8 := dkwX1_lifeNow_0 ++ dktX1_lifeNow_1
theorem dksX1_lifeNow_0 : cX1_lifeNow.data.toList.drop 0 = dktX1_lifeNow_0 := by decide +kernel
theorem dksX1_lifeNow_1 : cX1_lifeNow.data.toList.drop 1 = dktX1_lifeNow_1 := dk_seg dksX1_lifeNow_0 1 rfl rfl
theorem dksX1_lifeNow_2 : cX1_lifeNow.data.toList.drop 44 = dktX1_lifeNow_2 := dk_seg dksX1_lifeNow_1 43 rfl rfl
theorem dksX1_lifeNow_3 : cX1_lifeNow.data.toList.drop 68 = dktX1_lifeNow_3 := dk_seg dksX1_lifeNow_2 24 rfl rfl
theorem dksX1_lifeNow_4 : cX1_lifeNow.data.toList.drop 92 = dktX1_lifeNow_4 := dk_seg dksX1_lifeNow_3 24 rfl rfl
theorem dX1_lifeNow_0 : decode cX1_lifeNow 0 = .ok (.iload_n 1, 1) := dk_27 (dk_at dksX1_lifeNow_0 0 rfl rfl)
theorem dX1_lifeNow_1 : decode cX1_lifeNow 1 = .ok (.tableswitch 86 0 6 #[43, 48, 53, 58, 63, 68, 81], 43) := by decide +kernel
theorem dX1_lifeNow_44 : decode cX1_lifeNow 44 = .ok (.aload_n 0, 1) := dk_42 (dk_at dksX1_lifeNow_2 0 rfl rfl)
theorem dX1_lifeNow_45 : decode cX1_lifeNow 45 = .ok (.getfield 207, 3) := dk_180 0 207 (dk_at dksX1_lifeNow_2 1 rfl rfl)
theorem dX1_lifeNow_48 : decode cX1_lifeNow 48 = .ok (.ireturn, 1) := dk_172 (dk_at dksX1_lifeNow_2 4 rfl rfl)
theorem dX1_lifeNow_49 : decode cX1_lifeNow 49 = .ok (.aload_n 0, 1) := dk_42 (dk_at dksX1_lifeNow_2 5 rfl rfl)
theorem dX1_lifeNow_50 : decode cX1_lifeNow 50 = .ok (.getfield 212, 3) := dk_180 0 212 (dk_at dksX1_lifeNow_2 6 rfl rfl)
theorem dX1_lifeNow_53 : decode cX1_lifeNow 53 = .ok (.ireturn, 1) := dk_172 (dk_at dksX1_lifeNow_2 9 rfl rfl)
theorem dX1_lifeNow_54 : decode cX1_lifeNow 54 = .ok (.aload_n 0, 1) := dk_42 (dk_at dksX1_lifeNow_2 10 rfl rfl)
theorem dX1_lifeNow_55 : decode cX1_lifeNow 55 = .ok (.invokevirtual 215, 3) := dk_182 0 215 (dk_at dksX1_lifeNow_2 11 rfl rfl)
theorem dX1_lifeNow_58 : decode cX1_lifeNow 58 = .ok (.ireturn, 1) := dk_172 (dk_at dksX1_lifeNow_2 14 rfl rfl)
theorem dX1_lifeNow_59 : decode cX1_lifeNow 59 = .ok (.aload_n 0, 1) := dk_42 (dk_at dksX1_lifeNow_2 15 rfl rfl)
theorem dX1_lifeNow_60 : decode cX1_lifeNow 60 = .ok (.getfield 218, 3) := dk_180 0 218 (dk_at dksX1_lifeNow_2 16 rfl rfl)
theorem dX1_lifeNow_63 : decode cX1_lifeNow 63 = .ok (.ireturn, 1) := dk_172 (dk_at dksX1_lifeNow_2 19 rfl rfl)
theorem dX1_lifeNow_64 : decode cX1_lifeNow 64 = .ok (.aload_n 0, 1) := dk_42 (dk_at dksX1_lifeNow_2 20 rfl rfl)
theorem dX1_lifeNow_65 : decode cX1_lifeNow 65 = .ok (.getfield 221, 3) := dk_180 0 221 (dk_at dksX1_lifeNow_2 21 rfl rfl)
theorem dX1_lifeNow_68 : decode cX1_lifeNow 68 = .ok (.ireturn, 1) := dk_172 (dk_at dksX1_lifeNow_3 0 rfl rfl)
theorem dX1_lifeNow_69 : decode cX1_lifeNow 69 = .ok (.aload_n 0, 1) := dk_42 (dk_at dksX1_lifeNow_3 1 rfl rfl)
theorem dX1_lifeNow_70 : decode cX1_lifeNow 70 = .ok (.invokevirtual 224, 3) := dk_182 0 224 (dk_at dksX1_lifeNow_3 2 rfl rfl)
theorem dX1_lifeNow_73 : decode cX1_lifeNow 73 = .ok (.ifCond .eq 7, 3) := dk_153 0 7 (dk_at dksX1_lifeNow_3 5 rfl rfl)
theorem dX1_lifeNow_76 : decode cX1_lifeNow 76 = .ok (.iconst 1, 1) := dk_4 (dk_at dksX1_lifeNow_3 8 rfl rfl)
theorem dX1_lifeNow_77 : decode cX1_lifeNow 77 = .ok (.goto 4, 3) := dk_167 0 4 (dk_at dksX1_lifeNow_3 9 rfl rfl)
theorem dX1_lifeNow_80 : decode cX1_lifeNow 80 = .ok (.iconst 0, 1) := dk_3 (dk_at dksX1_lifeNow_3 12 rfl rfl)
theorem dX1_lifeNow_81 : decode cX1_lifeNow 81 = .ok (.ireturn, 1) := dk_172 (dk_at dksX1_lifeNow_3 13 rfl rfl)
theorem dX1_lifeNow_82 : decode cX1_lifeNow 82 = .ok (.aload_n 0, 1) := dk_42 (dk_at dksX1_lifeNow_3 14 rfl rfl)
theorem dX1_lifeNow_83 : decode cX1_lifeNow 83 = .ok (.getfield 227, 3) := dk_180 0 227 (dk_at dksX1_lifeNow_3 15 rfl rfl)
theorem dX1_lifeNow_86 : decode cX1_lifeNow 86 = .ok (.ireturn, 1) := dk_172 (dk_at dksX1_lifeNow_3 18 rfl rfl)
theorem dX1_lifeNow_87 : decode cX1_lifeNow 87 = .ok (.aload_n 0, 1) := dk_42 (dk_at dksX1_lifeNow_3 19 rfl rfl)
theorem dX1_lifeNow_88 : decode cX1_lifeNow 88 = .ok (.getfield 230, 3) := dk_180 0 230 (dk_at dksX1_lifeNow_3 20 rfl rfl)
theorem dX1_lifeNow_91 : decode cX1_lifeNow 91 = .ok (.aload_n 0, 1) := dk_42 (dk_at dksX1_lifeNow_3 23 rfl rfl)
theorem dX1_lifeNow_92 : decode cX1_lifeNow 92 = .ok (.getfield 233, 3) := dk_180 0 233 (dk_at dksX1_lifeNow_4 0 rfl rfl)
theorem dX1_lifeNow_95 : decode cX1_lifeNow 95 = .ok (.iadd, 1) := dk_96 (dk_at dksX1_lifeNow_4 3 rfl rfl)
theorem dX1_lifeNow_96 : decode cX1_lifeNow 96 = .ok (.ireturn, 1) := dk_172 (dk_at dksX1_lifeNow_4 4 rfl rfl)
abbrev cX1_mixCode : ByteArray := prog_1_method_50_code
def yX1_mixCode : MethodName := ⟨RX1, "mixCode", "(J)J"⟩
def dkwX1_mixCode_7 : List UInt8 := [185, 0, 150, 2, 0, 192, 1, 18, 180, 1, 32, 79, 184, 1, 87, 66, 132, 5, 1, 167, 255, 171, 33, 173]
abbrev dktX1_mixCode_7 : List UInt8 := dkwX1_mixCode_7 ++ []
def dkwX1_mixCode_6 : List UInt8 := [132, 6, 1, 167, 255, 228, 33, 4, 188, 10, 89, 3, 42, 180, 0, 34, 180, 1, 15, 21, 5]
abbrev dktX1_mixCode_6 : List UInt8 := dkwX1_mixCode_6 ++ dktX1_mixCode_7
def dkwX1_mixCode_5 : List UInt8 := [163, 0, 28, 33, 4, 188, 10, 89, 3, 42, 21, 5, 21, 6, 182, 1, 29, 79, 184, 1, 87, 66]
abbrev dktX1_mixCode_5 : List UInt8 := dkwX1_mixCode_5 ++ dktX1_mixCode_6
def dkwX1_mixCode_4 : List UInt8 := [21, 5, 42, 180, 0, 34, 180, 1, 15, 185, 0, 102, 1, 0, 162, 0, 74, 3, 54, 6, 21, 6, 8]
abbrev dktX1_mixCode_4 : List UInt8 := dkwX1_mixCode_4 ++ dktX1_mixCode_5
def dkwX1_mixCode_3 : List UInt8 := [182, 1, 9, 79, 184, 1, 87, 66, 132, 6, 1, 167, 255, 203, 132, 5, 1, 167, 255, 177, 3, 54, 5]
abbrev dktX1_mixCode_3 : List UInt8 := dkwX1_mixCode_3 ++ dktX1_mixCode_4
def dkwX1_mixCode_2 : List UInt8 := [192, 0, 177, 16, 9, 182, 1, 0, 153, 0, 28, 33, 4, 188, 10, 89, 3, 42, 21, 5, 21, 6]
abbrev dktX1_mixCode_2 : List UInt8 := dkwX1_mixCode_2 ++ dktX1_mixCode_3
def dkwX1_mixCode_1 : List UInt8 := [54, 6, 21, 6, 6, 163, 0, 53, 42, 180, 0, 34, 180, 0, 181, 21, 5, 185, 0, 150, 2, 0]
abbrev dktX1_mixCode_1 : List UInt8 := dkwX1_mixCode_1 ++ dktX1_mixCode_2
def dkwX1_mixCode_0 : List UInt8 := [31, 66, 3, 54, 5, 21, 5, 42, 180, 0, 34, 180, 0, 181, 185, 0, 102, 1, 0, 162, 0, 68, 3]
abbrev dktX1_mixCode_0 : List UInt8 := dkwX1_mixCode_0 ++ dktX1_mixCode_1
theorem dksX1_mixCode_0 : cX1_mixCode.data.toList.drop 0 = dktX1_mixCode_0 := by decide +kernel
theorem dksX1_mixCode_1 : cX1_mixCode.data.toList.drop 23 = dktX1_mixCode_1 := dk_seg dksX1_mixCode_0 23 rfl rfl
theorem dksX1_mixCode_2 : cX1_mixCode.data.toList.drop 45 = dktX1_mixCode_2 := dk_seg dksX1_mixCode_1 22 rfl rfl
theorem dksX1_mixCode_3 : cX1_mixCode.data.toList.drop 67 = dktX1_mixCode_3 := dk_seg dksX1_mixCode_2 22 rfl rfl
theorem dksX1_mixCode_4 : cX1_mixCode.data.toList.drop 90 = dktX1_mixCode_4 := dk_seg dksX1_mixCode_3 23 rfl rfl
theorem dksX1_mixCode_5 : cX1_mixCode.data.toList.drop 113 = dktX1_mixCode_5 := dk_seg dksX1_mixCode_4 23 rfl rfl
theorem dksX1_mixCode_6 : cX1_mixCode.data.toList.drop 135 = dktX1_mixCode_6 := dk_seg dksX1_mixCode_5 22 rfl rfl
theorem dksX1_mixCode_7 : cX1_mixCode.data.toList.drop 156 = dktX1_mixCode_7 := dk_seg dksX1_mixCode_6 21 rfl rfl
theorem dX1_mixCode_0 : decode cX1_mixCode 0 = .ok (.lload_n 1, 1) := dk_31 (dk_at dksX1_mixCode_0 0 rfl rfl)
theorem dX1_mixCode_1 : decode cX1_mixCode 1 = .ok (.lstore_n 3, 1) := dk_66 (dk_at dksX1_mixCode_0 1 rfl rfl)
theorem dX1_mixCode_2 : decode cX1_mixCode 2 = .ok (.iconst 0, 1) := dk_3 (dk_at dksX1_mixCode_0 2 rfl rfl)
theorem dX1_mixCode_3 : decode cX1_mixCode 3 = .ok (.istore 5, 2) := dk_54 5 (dk_at dksX1_mixCode_0 3 rfl rfl)
theorem dX1_mixCode_5 : decode cX1_mixCode 5 = .ok (.iload 5, 2) := dk_21 5 (dk_at dksX1_mixCode_0 5 rfl rfl)
theorem dX1_mixCode_7 : decode cX1_mixCode 7 = .ok (.aload_n 0, 1) := dk_42 (dk_at dksX1_mixCode_0 7 rfl rfl)
theorem dX1_mixCode_8 : decode cX1_mixCode 8 = .ok (.getfield 34, 3) := dk_180 0 34 (dk_at dksX1_mixCode_0 8 rfl rfl)
theorem dX1_mixCode_11 : decode cX1_mixCode 11 = .ok (.getfield 181, 3) := dk_180 0 181 (dk_at dksX1_mixCode_0 11 rfl rfl)
theorem dX1_mixCode_14 : decode cX1_mixCode 14 = .ok (.invokeinterface 102 1, 5) := by decide +kernel
theorem dX1_mixCode_19 : decode cX1_mixCode 19 = .ok (.if_icmp .ge 68, 3) := dk_162 0 68 (dk_at dksX1_mixCode_0 19 rfl rfl)
theorem dX1_mixCode_22 : decode cX1_mixCode 22 = .ok (.iconst 0, 1) := dk_3 (dk_at dksX1_mixCode_0 22 rfl rfl)
theorem dX1_mixCode_23 : decode cX1_mixCode 23 = .ok (.istore 6, 2) := dk_54 6 (dk_at dksX1_mixCode_1 0 rfl rfl)
theorem dX1_mixCode_25 : decode cX1_mixCode 25 = .ok (.iload 6, 2) := dk_21 6 (dk_at dksX1_mixCode_1 2 rfl rfl)
theorem dX1_mixCode_27 : decode cX1_mixCode 27 = .ok (.iconst 3, 1) := dk_6 (dk_at dksX1_mixCode_1 4 rfl rfl)
theorem dX1_mixCode_28 : decode cX1_mixCode 28 = .ok (.if_icmp .gt 53, 3) := dk_163 0 53 (dk_at dksX1_mixCode_1 5 rfl rfl)
theorem dX1_mixCode_31 : decode cX1_mixCode 31 = .ok (.aload_n 0, 1) := dk_42 (dk_at dksX1_mixCode_1 8 rfl rfl)
theorem dX1_mixCode_32 : decode cX1_mixCode 32 = .ok (.getfield 34, 3) := dk_180 0 34 (dk_at dksX1_mixCode_1 9 rfl rfl)
theorem dX1_mixCode_35 : decode cX1_mixCode 35 = .ok (.getfield 181, 3) := dk_180 0 181 (dk_at dksX1_mixCode_1 12 rfl rfl)
theorem dX1_mixCode_38 : decode cX1_mixCode 38 = .ok (.iload 5, 2) := dk_21 5 (dk_at dksX1_mixCode_1 15 rfl rfl)
theorem dX1_mixCode_40 : decode cX1_mixCode 40 = .ok (.invokeinterface 150 2, 5) := by decide +kernel
theorem dX1_mixCode_45 : decode cX1_mixCode 45 = .ok (.checkcast 177, 3) := dk_192 0 177 (dk_at dksX1_mixCode_2 0 rfl rfl)
theorem dX1_mixCode_48 : decode cX1_mixCode 48 = .ok (.bipush 9, 2) := dk_16 9 (dk_at dksX1_mixCode_2 3 rfl rfl)
theorem dX1_mixCode_50 : decode cX1_mixCode 50 = .ok (.invokevirtual 256, 3) := dk_182 1 0 (dk_at dksX1_mixCode_2 5 rfl rfl)
theorem dX1_mixCode_53 : decode cX1_mixCode 53 = .ok (.ifCond .eq 28, 3) := dk_153 0 28 (dk_at dksX1_mixCode_2 8 rfl rfl)
theorem dX1_mixCode_56 : decode cX1_mixCode 56 = .ok (.lload_n 3, 1) := dk_33 (dk_at dksX1_mixCode_2 11 rfl rfl)
theorem dX1_mixCode_57 : decode cX1_mixCode 57 = .ok (.iconst 1, 1) := dk_4 (dk_at dksX1_mixCode_2 12 rfl rfl)
theorem dX1_mixCode_58 : decode cX1_mixCode 58 = .ok (.newarray .int, 2) := dk_188_10 (dk_at dksX1_mixCode_2 13 rfl rfl)
theorem dX1_mixCode_60 : decode cX1_mixCode 60 = .ok (.dup, 1) := dk_89 (dk_at dksX1_mixCode_2 15 rfl rfl)
theorem dX1_mixCode_61 : decode cX1_mixCode 61 = .ok (.iconst 0, 1) := dk_3 (dk_at dksX1_mixCode_2 16 rfl rfl)
theorem dX1_mixCode_62 : decode cX1_mixCode 62 = .ok (.aload_n 0, 1) := dk_42 (dk_at dksX1_mixCode_2 17 rfl rfl)
theorem dX1_mixCode_63 : decode cX1_mixCode 63 = .ok (.iload 5, 2) := dk_21 5 (dk_at dksX1_mixCode_2 18 rfl rfl)
theorem dX1_mixCode_65 : decode cX1_mixCode 65 = .ok (.iload 6, 2) := dk_21 6 (dk_at dksX1_mixCode_2 20 rfl rfl)
theorem dX1_mixCode_67 : decode cX1_mixCode 67 = .ok (.invokevirtual 265, 3) := dk_182 1 9 (dk_at dksX1_mixCode_3 0 rfl rfl)
theorem dX1_mixCode_70 : decode cX1_mixCode 70 = .ok (.iastore, 1) := dk_79 (dk_at dksX1_mixCode_3 3 rfl rfl)
theorem dX1_mixCode_71 : decode cX1_mixCode 71 = .ok (.invokestatic 343, 3) := dk_184 1 87 (dk_at dksX1_mixCode_3 4 rfl rfl)
theorem dX1_mixCode_74 : decode cX1_mixCode 74 = .ok (.lstore_n 3, 1) := dk_66 (dk_at dksX1_mixCode_3 7 rfl rfl)
theorem dX1_mixCode_75 : decode cX1_mixCode 75 = .ok (.iinc 6 1, 3) := dk_132 6 1 (dk_at dksX1_mixCode_3 8 rfl rfl)
theorem dX1_mixCode_78 : decode cX1_mixCode 78 = .ok (.goto (-53), 3) := dk_167 255 203 (dk_at dksX1_mixCode_3 11 rfl rfl)
theorem dX1_mixCode_81 : decode cX1_mixCode 81 = .ok (.iinc 5 1, 3) := dk_132 5 1 (dk_at dksX1_mixCode_3 14 rfl rfl)
theorem dX1_mixCode_84 : decode cX1_mixCode 84 = .ok (.goto (-79), 3) := dk_167 255 177 (dk_at dksX1_mixCode_3 17 rfl rfl)
theorem dX1_mixCode_87 : decode cX1_mixCode 87 = .ok (.iconst 0, 1) := dk_3 (dk_at dksX1_mixCode_3 20 rfl rfl)
theorem dX1_mixCode_88 : decode cX1_mixCode 88 = .ok (.istore 5, 2) := dk_54 5 (dk_at dksX1_mixCode_3 21 rfl rfl)
theorem dX1_mixCode_90 : decode cX1_mixCode 90 = .ok (.iload 5, 2) := dk_21 5 (dk_at dksX1_mixCode_4 0 rfl rfl)
theorem dX1_mixCode_92 : decode cX1_mixCode 92 = .ok (.aload_n 0, 1) := dk_42 (dk_at dksX1_mixCode_4 2 rfl rfl)
theorem dX1_mixCode_93 : decode cX1_mixCode 93 = .ok (.getfield 34, 3) := dk_180 0 34 (dk_at dksX1_mixCode_4 3 rfl rfl)
theorem dX1_mixCode_96 : decode cX1_mixCode 96 = .ok (.getfield 271, 3) := dk_180 1 15 (dk_at dksX1_mixCode_4 6 rfl rfl)
theorem dX1_mixCode_99 : decode cX1_mixCode 99 = .ok (.invokeinterface 102 1, 5) := by decide +kernel
theorem dX1_mixCode_104 : decode cX1_mixCode 104 = .ok (.if_icmp .ge 74, 3) := dk_162 0 74 (dk_at dksX1_mixCode_4 14 rfl rfl)
theorem dX1_mixCode_107 : decode cX1_mixCode 107 = .ok (.iconst 0, 1) := dk_3 (dk_at dksX1_mixCode_4 17 rfl rfl)
theorem dX1_mixCode_108 : decode cX1_mixCode 108 = .ok (.istore 6, 2) := dk_54 6 (dk_at dksX1_mixCode_4 18 rfl rfl)
theorem dX1_mixCode_110 : decode cX1_mixCode 110 = .ok (.iload 6, 2) := dk_21 6 (dk_at dksX1_mixCode_4 20 rfl rfl)
theorem dX1_mixCode_112 : decode cX1_mixCode 112 = .ok (.iconst 5, 1) := dk_8 (dk_at dksX1_mixCode_4 22 rfl rfl)
theorem dX1_mixCode_113 : decode cX1_mixCode 113 = .ok (.if_icmp .gt 28, 3) := dk_163 0 28 (dk_at dksX1_mixCode_5 0 rfl rfl)
theorem dX1_mixCode_116 : decode cX1_mixCode 116 = .ok (.lload_n 3, 1) := dk_33 (dk_at dksX1_mixCode_5 3 rfl rfl)
theorem dX1_mixCode_117 : decode cX1_mixCode 117 = .ok (.iconst 1, 1) := dk_4 (dk_at dksX1_mixCode_5 4 rfl rfl)
theorem dX1_mixCode_118 : decode cX1_mixCode 118 = .ok (.newarray .int, 2) := dk_188_10 (dk_at dksX1_mixCode_5 5 rfl rfl)
theorem dX1_mixCode_120 : decode cX1_mixCode 120 = .ok (.dup, 1) := dk_89 (dk_at dksX1_mixCode_5 7 rfl rfl)
theorem dX1_mixCode_121 : decode cX1_mixCode 121 = .ok (.iconst 0, 1) := dk_3 (dk_at dksX1_mixCode_5 8 rfl rfl)
theorem dX1_mixCode_122 : decode cX1_mixCode 122 = .ok (.aload_n 0, 1) := dk_42 (dk_at dksX1_mixCode_5 9 rfl rfl)
theorem dX1_mixCode_123 : decode cX1_mixCode 123 = .ok (.iload 5, 2) := dk_21 5 (dk_at dksX1_mixCode_5 10 rfl rfl)
theorem dX1_mixCode_125 : decode cX1_mixCode 125 = .ok (.iload 6, 2) := dk_21 6 (dk_at dksX1_mixCode_5 12 rfl rfl)
theorem dX1_mixCode_127 : decode cX1_mixCode 127 = .ok (.invokevirtual 285, 3) := dk_182 1 29 (dk_at dksX1_mixCode_5 14 rfl rfl)
theorem dX1_mixCode_130 : decode cX1_mixCode 130 = .ok (.iastore, 1) := dk_79 (dk_at dksX1_mixCode_5 17 rfl rfl)
theorem dX1_mixCode_131 : decode cX1_mixCode 131 = .ok (.invokestatic 343, 3) := dk_184 1 87 (dk_at dksX1_mixCode_5 18 rfl rfl)
theorem dX1_mixCode_134 : decode cX1_mixCode 134 = .ok (.lstore_n 3, 1) := dk_66 (dk_at dksX1_mixCode_5 21 rfl rfl)
theorem dX1_mixCode_135 : decode cX1_mixCode 135 = .ok (.iinc 6 1, 3) := dk_132 6 1 (dk_at dksX1_mixCode_6 0 rfl rfl)
theorem dX1_mixCode_138 : decode cX1_mixCode 138 = .ok (.goto (-28), 3) := dk_167 255 228 (dk_at dksX1_mixCode_6 3 rfl rfl)
theorem dX1_mixCode_141 : decode cX1_mixCode 141 = .ok (.lload_n 3, 1) := dk_33 (dk_at dksX1_mixCode_6 6 rfl rfl)
theorem dX1_mixCode_142 : decode cX1_mixCode 142 = .ok (.iconst 1, 1) := dk_4 (dk_at dksX1_mixCode_6 7 rfl rfl)
theorem dX1_mixCode_143 : decode cX1_mixCode 143 = .ok (.newarray .int, 2) := dk_188_10 (dk_at dksX1_mixCode_6 8 rfl rfl)
theorem dX1_mixCode_145 : decode cX1_mixCode 145 = .ok (.dup, 1) := dk_89 (dk_at dksX1_mixCode_6 10 rfl rfl)
theorem dX1_mixCode_146 : decode cX1_mixCode 146 = .ok (.iconst 0, 1) := dk_3 (dk_at dksX1_mixCode_6 11 rfl rfl)
theorem dX1_mixCode_147 : decode cX1_mixCode 147 = .ok (.aload_n 0, 1) := dk_42 (dk_at dksX1_mixCode_6 12 rfl rfl)
theorem dX1_mixCode_148 : decode cX1_mixCode 148 = .ok (.getfield 34, 3) := dk_180 0 34 (dk_at dksX1_mixCode_6 13 rfl rfl)
theorem dX1_mixCode_151 : decode cX1_mixCode 151 = .ok (.getfield 271, 3) := dk_180 1 15 (dk_at dksX1_mixCode_6 16 rfl rfl)
theorem dX1_mixCode_154 : decode cX1_mixCode 154 = .ok (.iload 5, 2) := dk_21 5 (dk_at dksX1_mixCode_6 19 rfl rfl)
theorem dX1_mixCode_156 : decode cX1_mixCode 156 = .ok (.invokeinterface 150 2, 5) := by decide +kernel
theorem dX1_mixCode_161 : decode cX1_mixCode 161 = .ok (.checkcast 274, 3) := dk_192 1 18 (dk_at dksX1_mixCode_7 5 rfl rfl)
theorem dX1_mixCode_164 : decode cX1_mixCode 164 = .ok (.getfield 288, 3) := dk_180 1 32 (dk_at dksX1_mixCode_7 8 rfl rfl)
theorem dX1_mixCode_167 : decode cX1_mixCode 167 = .ok (.iastore, 1) := dk_79 (dk_at dksX1_mixCode_7 11 rfl rfl)
theorem dX1_mixCode_168 : decode cX1_mixCode 168 = .ok (.invokestatic 343, 3) := dk_184 1 87 (dk_at dksX1_mixCode_7 12 rfl rfl)
theorem dX1_mixCode_171 : decode cX1_mixCode 171 = .ok (.lstore_n 3, 1) := dk_66 (dk_at dksX1_mixCode_7 15 rfl rfl)
theorem dX1_mixCode_172 : decode cX1_mixCode 172 = .ok (.iinc 5 1, 3) := dk_132 5 1 (dk_at dksX1_mixCode_7 16 rfl rfl)
theorem dX1_mixCode_175 : decode cX1_mixCode 175 = .ok (.goto (-85), 3) := dk_167 255 171 (dk_at dksX1_mixCode_7 19 rfl rfl)
theorem dX1_mixCode_178 : decode cX1_mixCode 178 = .ok (.lload_n 3, 1) := dk_33 (dk_at dksX1_mixCode_7 22 rfl rfl)
theorem dX1_mixCode_179 : decode cX1_mixCode 179 = .ok (.lreturn, 1) := dk_173 (dk_at dksX1_mixCode_7 23 rfl rfl)
abbrev cX1_mapNow : ByteArray := prog_1_method_29_code
def yX1_mapNow : MethodName := ⟨RX1, "mapNow", "(II)I"⟩
def dkwX1_mapNow_6 : List UInt8 := [29, 172]
abbrev dktX1_mapNow_6 : List UInt8 := dkwX1_mapNow_6 ++ []
def dkwX1_mapNow_5 : List UInt8 := [28, 6, 160, 0, 9, 29, 4, 96, 167, 0, 9, 29, 4, 21, 6, 120, 128, 62, 132, 4, 1, 167, 255, 133]
abbrev dktX1_mapNow_5 : List UInt8 := dkwX1_mapNow_5 ++ dktX1_mapNow_6
def dkwX1_mapNow_4 : List UInt8 := [159, 0, 7, 4, 167, 0, 4, 3, 54, 7, 25, 5, 27, 182, 1, 3, 153, 0, 26, 21, 7, 153, 0, 21]
abbrev dktX1_mapNow_4 : List UInt8 := dkwX1_mapNow_4 ++ dktX1_mapNow_5
def dkwX1_mapNow_3 : List UInt8 := [25, 5, 180, 0, 221, 54, 6, 28, 6, 160, 0, 11, 25, 5, 182, 0, 224, 167, 0, 14, 21, 6, 2]
abbrev dktX1_mapNow_3 : List UInt8 := dkwX1_mapNow_3 ++ dktX1_mapNow_4
def dkwX1_mapNow_2 : List UInt8 := [185, 0, 150, 2, 0, 192, 0, 208, 58, 5, 28, 4, 160, 0, 11, 25, 5, 180, 0, 218, 167, 0, 8]
abbrev dktX1_mapNow_2 : List UInt8 := dkwX1_mapNow_2 ++ dktX1_mapNow_3
def dkwX1_mapNow_1 : List UInt8 := [185, 0, 102, 1, 0, 162, 0, 109, 42, 180, 0, 34, 180, 0, 235, 180, 0, 245, 21, 4]
abbrev dktX1_mapNow_1 : List UInt8 := dkwX1_mapNow_1 ++ dktX1_mapNow_2
def dkwX1_mapNow_0 : List UInt8 := [28, 154, 0, 5, 27, 172, 3, 62, 3, 54, 4, 21, 4, 42, 180, 0, 34, 180, 0, 235, 180, 0, 245]
abbrev dktX1_mapNow_0 : List UInt8 := dkwX1_mapNow_0 ++ dktX1_mapNow_1
theorem dksX1_mapNow_0 : cX1_mapNow.data.toList.drop 0 = dktX1_mapNow_0 := by decide +kernel
theorem dksX1_mapNow_1 : cX1_mapNow.data.toList.drop 23 = dktX1_mapNow_1 := dk_seg dksX1_mapNow_0 23 rfl rfl
theorem dksX1_mapNow_2 : cX1_mapNow.data.toList.drop 43 = dktX1_mapNow_2 := dk_seg dksX1_mapNow_1 20 rfl rfl
theorem dksX1_mapNow_3 : cX1_mapNow.data.toList.drop 66 = dktX1_mapNow_3 := dk_seg dksX1_mapNow_2 23 rfl rfl
theorem dksX1_mapNow_4 : cX1_mapNow.data.toList.drop 89 = dktX1_mapNow_4 := dk_seg dksX1_mapNow_3 23 rfl rfl
theorem dksX1_mapNow_5 : cX1_mapNow.data.toList.drop 113 = dktX1_mapNow_5 := dk_seg dksX1_mapNow_4 24 rfl rfl
theorem dksX1_mapNow_6 : cX1_mapNow.data.toList.drop 137 = dktX1_mapNow_6 := dk_seg dksX1_mapNow_5 24 rfl rfl
theorem dX1_mapNow_0 : decode cX1_mapNow 0 = .ok (.iload_n 2, 1) := dk_28 (dk_at dksX1_mapNow_0 0 rfl rfl)
theorem dX1_mapNow_1 : decode cX1_mapNow 1 = .ok (.ifCond .ne 5, 3) := dk_154 0 5 (dk_at dksX1_mapNow_0 1 rfl rfl)
theorem dX1_mapNow_4 : decode cX1_mapNow 4 = .ok (.iload_n 1, 1) := dk_27 (dk_at dksX1_mapNow_0 4 rfl rfl)
theorem dX1_mapNow_5 : decode cX1_mapNow 5 = .ok (.ireturn, 1) := dk_172 (dk_at dksX1_mapNow_0 5 rfl rfl)
theorem dX1_mapNow_6 : decode cX1_mapNow 6 = .ok (.iconst 0, 1) := dk_3 (dk_at dksX1_mapNow_0 6 rfl rfl)
theorem dX1_mapNow_7 : decode cX1_mapNow 7 = .ok (.istore_n 3, 1) := dk_62 (dk_at dksX1_mapNow_0 7 rfl rfl)
theorem dX1_mapNow_8 : decode cX1_mapNow 8 = .ok (.iconst 0, 1) := dk_3 (dk_at dksX1_mapNow_0 8 rfl rfl)
theorem dX1_mapNow_9 : decode cX1_mapNow 9 = .ok (.istore 4, 2) := dk_54 4 (dk_at dksX1_mapNow_0 9 rfl rfl)
theorem dX1_mapNow_11 : decode cX1_mapNow 11 = .ok (.iload 4, 2) := dk_21 4 (dk_at dksX1_mapNow_0 11 rfl rfl)
theorem dX1_mapNow_13 : decode cX1_mapNow 13 = .ok (.aload_n 0, 1) := dk_42 (dk_at dksX1_mapNow_0 13 rfl rfl)
theorem dX1_mapNow_14 : decode cX1_mapNow 14 = .ok (.getfield 34, 3) := dk_180 0 34 (dk_at dksX1_mapNow_0 14 rfl rfl)
theorem dX1_mapNow_17 : decode cX1_mapNow 17 = .ok (.getfield 235, 3) := dk_180 0 235 (dk_at dksX1_mapNow_0 17 rfl rfl)
theorem dX1_mapNow_20 : decode cX1_mapNow 20 = .ok (.getfield 245, 3) := dk_180 0 245 (dk_at dksX1_mapNow_0 20 rfl rfl)
theorem dX1_mapNow_23 : decode cX1_mapNow 23 = .ok (.invokeinterface 102 1, 5) := by decide +kernel
theorem dX1_mapNow_28 : decode cX1_mapNow 28 = .ok (.if_icmp .ge 109, 3) := dk_162 0 109 (dk_at dksX1_mapNow_1 5 rfl rfl)
theorem dX1_mapNow_31 : decode cX1_mapNow 31 = .ok (.aload_n 0, 1) := dk_42 (dk_at dksX1_mapNow_1 8 rfl rfl)
theorem dX1_mapNow_32 : decode cX1_mapNow 32 = .ok (.getfield 34, 3) := dk_180 0 34 (dk_at dksX1_mapNow_1 9 rfl rfl)
theorem dX1_mapNow_35 : decode cX1_mapNow 35 = .ok (.getfield 235, 3) := dk_180 0 235 (dk_at dksX1_mapNow_1 12 rfl rfl)
theorem dX1_mapNow_38 : decode cX1_mapNow 38 = .ok (.getfield 245, 3) := dk_180 0 245 (dk_at dksX1_mapNow_1 15 rfl rfl)
theorem dX1_mapNow_41 : decode cX1_mapNow 41 = .ok (.iload 4, 2) := dk_21 4 (dk_at dksX1_mapNow_1 18 rfl rfl)
theorem dX1_mapNow_43 : decode cX1_mapNow 43 = .ok (.invokeinterface 150 2, 5) := by decide +kernel
theorem dX1_mapNow_48 : decode cX1_mapNow 48 = .ok (.checkcast 208, 3) := dk_192 0 208 (dk_at dksX1_mapNow_2 5 rfl rfl)
theorem dX1_mapNow_51 : decode cX1_mapNow 51 = .ok (.astore 5, 2) := dk_58 5 (dk_at dksX1_mapNow_2 8 rfl rfl)
theorem dX1_mapNow_53 : decode cX1_mapNow 53 = .ok (.iload_n 2, 1) := dk_28 (dk_at dksX1_mapNow_2 10 rfl rfl)
theorem dX1_mapNow_54 : decode cX1_mapNow 54 = .ok (.iconst 1, 1) := dk_4 (dk_at dksX1_mapNow_2 11 rfl rfl)
theorem dX1_mapNow_55 : decode cX1_mapNow 55 = .ok (.if_icmp .ne 11, 3) := dk_160 0 11 (dk_at dksX1_mapNow_2 12 rfl rfl)
theorem dX1_mapNow_58 : decode cX1_mapNow 58 = .ok (.aload 5, 2) := dk_25 5 (dk_at dksX1_mapNow_2 15 rfl rfl)
theorem dX1_mapNow_60 : decode cX1_mapNow 60 = .ok (.getfield 218, 3) := dk_180 0 218 (dk_at dksX1_mapNow_2 17 rfl rfl)
theorem dX1_mapNow_63 : decode cX1_mapNow 63 = .ok (.goto 8, 3) := dk_167 0 8 (dk_at dksX1_mapNow_2 20 rfl rfl)
theorem dX1_mapNow_66 : decode cX1_mapNow 66 = .ok (.aload 5, 2) := dk_25 5 (dk_at dksX1_mapNow_3 0 rfl rfl)
theorem dX1_mapNow_68 : decode cX1_mapNow 68 = .ok (.getfield 221, 3) := dk_180 0 221 (dk_at dksX1_mapNow_3 2 rfl rfl)
theorem dX1_mapNow_71 : decode cX1_mapNow 71 = .ok (.istore 6, 2) := dk_54 6 (dk_at dksX1_mapNow_3 5 rfl rfl)
theorem dX1_mapNow_73 : decode cX1_mapNow 73 = .ok (.iload_n 2, 1) := dk_28 (dk_at dksX1_mapNow_3 7 rfl rfl)
theorem dX1_mapNow_74 : decode cX1_mapNow 74 = .ok (.iconst 3, 1) := dk_6 (dk_at dksX1_mapNow_3 8 rfl rfl)
theorem dX1_mapNow_75 : decode cX1_mapNow 75 = .ok (.if_icmp .ne 11, 3) := dk_160 0 11 (dk_at dksX1_mapNow_3 9 rfl rfl)
theorem dX1_mapNow_78 : decode cX1_mapNow 78 = .ok (.aload 5, 2) := dk_25 5 (dk_at dksX1_mapNow_3 12 rfl rfl)
theorem dX1_mapNow_80 : decode cX1_mapNow 80 = .ok (.invokevirtual 224, 3) := dk_182 0 224 (dk_at dksX1_mapNow_3 14 rfl rfl)
theorem dX1_mapNow_83 : decode cX1_mapNow 83 = .ok (.goto 14, 3) := dk_167 0 14 (dk_at dksX1_mapNow_3 17 rfl rfl)
theorem dX1_mapNow_86 : decode cX1_mapNow 86 = .ok (.iload 6, 2) := dk_21 6 (dk_at dksX1_mapNow_3 20 rfl rfl)
theorem dX1_mapNow_88 : decode cX1_mapNow 88 = .ok (.iconst (-1), 1) := dk_2 (dk_at dksX1_mapNow_3 22 rfl rfl)
theorem dX1_mapNow_89 : decode cX1_mapNow 89 = .ok (.if_icmp .eq 7, 3) := dk_159 0 7 (dk_at dksX1_mapNow_4 0 rfl rfl)
theorem dX1_mapNow_92 : decode cX1_mapNow 92 = .ok (.iconst 1, 1) := dk_4 (dk_at dksX1_mapNow_4 3 rfl rfl)
theorem dX1_mapNow_93 : decode cX1_mapNow 93 = .ok (.goto 4, 3) := dk_167 0 4 (dk_at dksX1_mapNow_4 4 rfl rfl)
theorem dX1_mapNow_96 : decode cX1_mapNow 96 = .ok (.iconst 0, 1) := dk_3 (dk_at dksX1_mapNow_4 7 rfl rfl)
theorem dX1_mapNow_97 : decode cX1_mapNow 97 = .ok (.istore 7, 2) := dk_54 7 (dk_at dksX1_mapNow_4 8 rfl rfl)
theorem dX1_mapNow_99 : decode cX1_mapNow 99 = .ok (.aload 5, 2) := dk_25 5 (dk_at dksX1_mapNow_4 10 rfl rfl)
theorem dX1_mapNow_101 : decode cX1_mapNow 101 = .ok (.iload_n 1, 1) := dk_27 (dk_at dksX1_mapNow_4 12 rfl rfl)
theorem dX1_mapNow_102 : decode cX1_mapNow 102 = .ok (.invokevirtual 259, 3) := dk_182 1 3 (dk_at dksX1_mapNow_4 13 rfl rfl)
theorem dX1_mapNow_105 : decode cX1_mapNow 105 = .ok (.ifCond .eq 26, 3) := dk_153 0 26 (dk_at dksX1_mapNow_4 16 rfl rfl)
theorem dX1_mapNow_108 : decode cX1_mapNow 108 = .ok (.iload 7, 2) := dk_21 7 (dk_at dksX1_mapNow_4 19 rfl rfl)
theorem dX1_mapNow_110 : decode cX1_mapNow 110 = .ok (.ifCond .eq 21, 3) := dk_153 0 21 (dk_at dksX1_mapNow_4 21 rfl rfl)
theorem dX1_mapNow_113 : decode cX1_mapNow 113 = .ok (.iload_n 2, 1) := dk_28 (dk_at dksX1_mapNow_5 0 rfl rfl)
theorem dX1_mapNow_114 : decode cX1_mapNow 114 = .ok (.iconst 3, 1) := dk_6 (dk_at dksX1_mapNow_5 1 rfl rfl)
theorem dX1_mapNow_115 : decode cX1_mapNow 115 = .ok (.if_icmp .ne 9, 3) := dk_160 0 9 (dk_at dksX1_mapNow_5 2 rfl rfl)
theorem dX1_mapNow_118 : decode cX1_mapNow 118 = .ok (.iload_n 3, 1) := dk_29 (dk_at dksX1_mapNow_5 5 rfl rfl)
theorem dX1_mapNow_119 : decode cX1_mapNow 119 = .ok (.iconst 1, 1) := dk_4 (dk_at dksX1_mapNow_5 6 rfl rfl)
theorem dX1_mapNow_120 : decode cX1_mapNow 120 = .ok (.iadd, 1) := dk_96 (dk_at dksX1_mapNow_5 7 rfl rfl)
theorem dX1_mapNow_121 : decode cX1_mapNow 121 = .ok (.goto 9, 3) := dk_167 0 9 (dk_at dksX1_mapNow_5 8 rfl rfl)
theorem dX1_mapNow_124 : decode cX1_mapNow 124 = .ok (.iload_n 3, 1) := dk_29 (dk_at dksX1_mapNow_5 11 rfl rfl)
theorem dX1_mapNow_125 : decode cX1_mapNow 125 = .ok (.iconst 1, 1) := dk_4 (dk_at dksX1_mapNow_5 12 rfl rfl)
theorem dX1_mapNow_126 : decode cX1_mapNow 126 = .ok (.iload 6, 2) := dk_21 6 (dk_at dksX1_mapNow_5 13 rfl rfl)
theorem dX1_mapNow_128 : decode cX1_mapNow 128 = .ok (.ishl, 1) := dk_120 (dk_at dksX1_mapNow_5 15 rfl rfl)
theorem dX1_mapNow_129 : decode cX1_mapNow 129 = .ok (.ior, 1) := dk_128 (dk_at dksX1_mapNow_5 16 rfl rfl)
theorem dX1_mapNow_130 : decode cX1_mapNow 130 = .ok (.istore_n 3, 1) := dk_62 (dk_at dksX1_mapNow_5 17 rfl rfl)
theorem dX1_mapNow_131 : decode cX1_mapNow 131 = .ok (.iinc 4 1, 3) := dk_132 4 1 (dk_at dksX1_mapNow_5 18 rfl rfl)
theorem dX1_mapNow_134 : decode cX1_mapNow 134 = .ok (.goto (-123), 3) := dk_167 255 133 (dk_at dksX1_mapNow_5 21 rfl rfl)
theorem dX1_mapNow_137 : decode cX1_mapNow 137 = .ok (.iload_n 3, 1) := dk_29 (dk_at dksX1_mapNow_6 0 rfl rfl)
theorem dX1_mapNow_138 : decode cX1_mapNow 138 = .ok (.ireturn, 1) := dk_172 (dk_at dksX1_mapNow_6 1 rfl rfl)
abbrev cX1_codeNow : ByteArray := prog_1_method_32_code
def yX1_codeNow : MethodName := ⟨RX1, "codeNow", "(II)I"⟩
def dkwX1_codeNow_2 : List UInt8 := [182, 1, 26, 172]
abbrev dktX1_codeNow_2 : List UInt8 := dkwX1_codeNow_2 ++ []
def dkwX1_codeNow_1 : List UInt8 := [180, 1, 20, 167, 0, 22, 28, 8, 160, 0, 10, 45, 180, 1, 23, 167, 0, 10, 45, 28, 4, 100]
abbrev dktX1_codeNow_1 : List UInt8 := dkwX1_codeNow_1 ++ dktX1_codeNow_2
def dkwX1_codeNow_0 : List UInt8 := [42, 180, 0, 34, 180, 1, 15, 27, 185, 0, 150, 2, 0, 192, 1, 18, 78, 28, 154, 0, 10, 45]
abbrev dktX1_codeNow_0 : List UInt8 := dkwX1_codeNow_0 ++ dktX1_codeNow_1
theorem dksX1_codeNow_0 : cX1_codeNow.data.toList.drop 0 = dktX1_codeNow_0 := by decide +kernel
theorem dksX1_codeNow_1 : cX1_codeNow.data.toList.drop 22 = dktX1_codeNow_1 := dk_seg dksX1_codeNow_0 22 rfl rfl
theorem dksX1_codeNow_2 : cX1_codeNow.data.toList.drop 44 = dktX1_codeNow_2 := dk_seg dksX1_codeNow_1 22 rfl rfl
theorem dX1_codeNow_0 : decode cX1_codeNow 0 = .ok (.aload_n 0, 1) := dk_42 (dk_at dksX1_codeNow_0 0 rfl rfl)
theorem dX1_codeNow_1 : decode cX1_codeNow 1 = .ok (.getfield 34, 3) := dk_180 0 34 (dk_at dksX1_codeNow_0 1 rfl rfl)
theorem dX1_codeNow_4 : decode cX1_codeNow 4 = .ok (.getfield 271, 3) := dk_180 1 15 (dk_at dksX1_codeNow_0 4 rfl rfl)
theorem dX1_codeNow_7 : decode cX1_codeNow 7 = .ok (.iload_n 1, 1) := dk_27 (dk_at dksX1_codeNow_0 7 rfl rfl)
theorem dX1_codeNow_8 : decode cX1_codeNow 8 = .ok (.invokeinterface 150 2, 5) := by decide +kernel
theorem dX1_codeNow_13 : decode cX1_codeNow 13 = .ok (.checkcast 274, 3) := dk_192 1 18 (dk_at dksX1_codeNow_0 13 rfl rfl)
theorem dX1_codeNow_16 : decode cX1_codeNow 16 = .ok (.astore_n 3, 1) := dk_78 (dk_at dksX1_codeNow_0 16 rfl rfl)
theorem dX1_codeNow_17 : decode cX1_codeNow 17 = .ok (.iload_n 2, 1) := dk_28 (dk_at dksX1_codeNow_0 17 rfl rfl)
theorem dX1_codeNow_18 : decode cX1_codeNow 18 = .ok (.ifCond .ne 10, 3) := dk_154 0 10 (dk_at dksX1_codeNow_0 18 rfl rfl)
theorem dX1_codeNow_21 : decode cX1_codeNow 21 = .ok (.aload_n 3, 1) := dk_45 (dk_at dksX1_codeNow_0 21 rfl rfl)
theorem dX1_codeNow_22 : decode cX1_codeNow 22 = .ok (.getfield 276, 3) := dk_180 1 20 (dk_at dksX1_codeNow_1 0 rfl rfl)
theorem dX1_codeNow_25 : decode cX1_codeNow 25 = .ok (.goto 22, 3) := dk_167 0 22 (dk_at dksX1_codeNow_1 3 rfl rfl)
theorem dX1_codeNow_28 : decode cX1_codeNow 28 = .ok (.iload_n 2, 1) := dk_28 (dk_at dksX1_codeNow_1 6 rfl rfl)
theorem dX1_codeNow_29 : decode cX1_codeNow 29 = .ok (.iconst 5, 1) := dk_8 (dk_at dksX1_codeNow_1 7 rfl rfl)
theorem dX1_codeNow_30 : decode cX1_codeNow 30 = .ok (.if_icmp .ne 10, 3) := dk_160 0 10 (dk_at dksX1_codeNow_1 8 rfl rfl)
theorem dX1_codeNow_33 : decode cX1_codeNow 33 = .ok (.aload_n 3, 1) := dk_45 (dk_at dksX1_codeNow_1 11 rfl rfl)
theorem dX1_codeNow_34 : decode cX1_codeNow 34 = .ok (.getfield 279, 3) := dk_180 1 23 (dk_at dksX1_codeNow_1 12 rfl rfl)
theorem dX1_codeNow_37 : decode cX1_codeNow 37 = .ok (.goto 10, 3) := dk_167 0 10 (dk_at dksX1_codeNow_1 15 rfl rfl)
theorem dX1_codeNow_40 : decode cX1_codeNow 40 = .ok (.aload_n 3, 1) := dk_45 (dk_at dksX1_codeNow_1 18 rfl rfl)
theorem dX1_codeNow_41 : decode cX1_codeNow 41 = .ok (.iload_n 2, 1) := dk_28 (dk_at dksX1_codeNow_1 19 rfl rfl)
theorem dX1_codeNow_42 : decode cX1_codeNow 42 = .ok (.iconst 1, 1) := dk_4 (dk_at dksX1_codeNow_1 20 rfl rfl)
theorem dX1_codeNow_43 : decode cX1_codeNow 43 = .ok (.isub, 1) := dk_100 (dk_at dksX1_codeNow_1 21 rfl rfl)
theorem dX1_codeNow_44 : decode cX1_codeNow 44 = .ok (.invokevirtual 282, 3) := dk_182 1 26 (dk_at dksX1_codeNow_2 0 rfl rfl)
theorem dX1_codeNow_47 : decode cX1_codeNow 47 = .ok (.ireturn, 1) := dk_172 (dk_at dksX1_codeNow_2 3 rfl rfl)
abbrev cX1_machine : ByteArray := prog_1_method_13_code
def yX1_machine : MethodName := ⟨RX1, "machine", "(IIIZZ)I"⟩
def dkwX1_machine_2 : List UInt8 := [42, 182, 0, 70, 21, 6, 172]
abbrev dktX1_machine_2 : List UInt8 := dkwX1_machine_2 ++ []
def dkwX1_machine_1 : List UInt8 := [187, 0, 16, 89, 27, 28, 29, 21, 4, 21, 5, 42, 180, 0, 25, 180, 0, 66, 183, 0, 22, 181, 0, 25]
abbrev dktX1_machine_1 : List UInt8 := dkwX1_machine_1 ++ dktX1_machine_2
def dkwX1_machine_0 : List UInt8 := [27, 28, 184, 0, 59, 29, 3, 16, 99, 184, 0, 51, 42, 180, 0, 25, 180, 0, 62, 54, 6, 42]
abbrev dktX1_machine_0 : List UInt8 := dkwX1_machine_0 ++ dktX1_machine_1
theorem dksX1_machine_0 : cX1_machine.data.toList.drop 0 = dktX1_machine_0 := by decide +kernel
theorem dksX1_machine_1 : cX1_machine.data.toList.drop 22 = dktX1_machine_1 := dk_seg dksX1_machine_0 22 rfl rfl
theorem dksX1_machine_2 : cX1_machine.data.toList.drop 46 = dktX1_machine_2 := dk_seg dksX1_machine_1 24 rfl rfl
theorem dX1_machine_0 : decode cX1_machine 0 = .ok (.iload_n 1, 1) := dk_27 (dk_at dksX1_machine_0 0 rfl rfl)
theorem dX1_machine_1 : decode cX1_machine 1 = .ok (.iload_n 2, 1) := dk_28 (dk_at dksX1_machine_0 1 rfl rfl)
theorem dX1_machine_2 : decode cX1_machine 2 = .ok (.invokestatic 59, 3) := dk_184 0 59 (dk_at dksX1_machine_0 2 rfl rfl)
theorem dX1_machine_5 : decode cX1_machine 5 = .ok (.iload_n 3, 1) := dk_29 (dk_at dksX1_machine_0 5 rfl rfl)
theorem dX1_machine_6 : decode cX1_machine 6 = .ok (.iconst 0, 1) := dk_3 (dk_at dksX1_machine_0 6 rfl rfl)
theorem dX1_machine_7 : decode cX1_machine 7 = .ok (.bipush 99, 2) := dk_16 99 (dk_at dksX1_machine_0 7 rfl rfl)
theorem dX1_machine_9 : decode cX1_machine 9 = .ok (.invokestatic 51, 3) := dk_184 0 51 (dk_at dksX1_machine_0 9 rfl rfl)
theorem dX1_machine_12 : decode cX1_machine 12 = .ok (.aload_n 0, 1) := dk_42 (dk_at dksX1_machine_0 12 rfl rfl)
theorem dX1_machine_13 : decode cX1_machine 13 = .ok (.getfield 25, 3) := dk_180 0 25 (dk_at dksX1_machine_0 13 rfl rfl)
theorem dX1_machine_16 : decode cX1_machine 16 = .ok (.getfield 62, 3) := dk_180 0 62 (dk_at dksX1_machine_0 16 rfl rfl)
theorem dX1_machine_19 : decode cX1_machine 19 = .ok (.istore 6, 2) := dk_54 6 (dk_at dksX1_machine_0 19 rfl rfl)
theorem dX1_machine_21 : decode cX1_machine 21 = .ok (.aload_n 0, 1) := dk_42 (dk_at dksX1_machine_0 21 rfl rfl)
theorem dX1_machine_22 : decode cX1_machine 22 = .ok (.new 16, 3) := dk_187 0 16 (dk_at dksX1_machine_1 0 rfl rfl)
theorem dX1_machine_25 : decode cX1_machine 25 = .ok (.dup, 1) := dk_89 (dk_at dksX1_machine_1 3 rfl rfl)
theorem dX1_machine_26 : decode cX1_machine 26 = .ok (.iload_n 1, 1) := dk_27 (dk_at dksX1_machine_1 4 rfl rfl)
theorem dX1_machine_27 : decode cX1_machine 27 = .ok (.iload_n 2, 1) := dk_28 (dk_at dksX1_machine_1 5 rfl rfl)
theorem dX1_machine_28 : decode cX1_machine 28 = .ok (.iload_n 3, 1) := dk_29 (dk_at dksX1_machine_1 6 rfl rfl)
theorem dX1_machine_29 : decode cX1_machine 29 = .ok (.iload 4, 2) := dk_21 4 (dk_at dksX1_machine_1 7 rfl rfl)
theorem dX1_machine_31 : decode cX1_machine 31 = .ok (.iload 5, 2) := dk_21 5 (dk_at dksX1_machine_1 9 rfl rfl)
theorem dX1_machine_33 : decode cX1_machine 33 = .ok (.aload_n 0, 1) := dk_42 (dk_at dksX1_machine_1 11 rfl rfl)
theorem dX1_machine_34 : decode cX1_machine 34 = .ok (.getfield 25, 3) := dk_180 0 25 (dk_at dksX1_machine_1 12 rfl rfl)
theorem dX1_machine_37 : decode cX1_machine 37 = .ok (.getfield 66, 3) := dk_180 0 66 (dk_at dksX1_machine_1 15 rfl rfl)
theorem dX1_machine_40 : decode cX1_machine 40 = .ok (.invokespecial 22, 3) := dk_183 0 22 (dk_at dksX1_machine_1 18 rfl rfl)
theorem dX1_machine_43 : decode cX1_machine 43 = .ok (.putfield 25, 3) := dk_181 0 25 (dk_at dksX1_machine_1 21 rfl rfl)
theorem dX1_machine_46 : decode cX1_machine 46 = .ok (.aload_n 0, 1) := dk_42 (dk_at dksX1_machine_2 0 rfl rfl)
theorem dX1_machine_47 : decode cX1_machine 47 = .ok (.invokevirtual 70, 3) := dk_182 0 70 (dk_at dksX1_machine_2 1 rfl rfl)
theorem dX1_machine_50 : decode cX1_machine 50 = .ok (.iload 6, 2) := dk_21 6 (dk_at dksX1_machine_2 4 rfl rfl)
theorem dX1_machine_52 : decode cX1_machine 52 = .ok (.ireturn, 1) := dk_172 (dk_at dksX1_machine_2 6 rfl rfl)
abbrev cX1_mustBeMachine : ByteArray := prog_1_method_11_code
def yX1_mustBeMachine : MethodName := ⟨RX1, "mustBeMachine", "(II)V"⟩
def dkwX1_mustBeMachine_1 : List UInt8 := [154, 0, 7, 4, 167, 0, 4, 3, 184, 0, 41, 177]
abbrev dktX1_mustBeMachine_1 : List UInt8 := dkwX1_mustBeMachine_1 ++ []
def dkwX1_mustBeMachine_0 : List UInt8 := [26, 8, 16, 11, 184, 0, 51, 4, 26, 6, 100, 120, 7, 100, 61, 27, 155, 0, 15, 27, 28, 2, 130, 126]
abbrev dktX1_mustBeMachine_0 : List UInt8 := dkwX1_mustBeMachine_0 ++ dktX1_mustBeMachine_1
theorem dksX1_mustBeMachine_0 : cX1_mustBeMachine.data.toList.drop 0 = dktX1_mustBeMachine_0 := by decide +kernel
theorem dksX1_mustBeMachine_1 : cX1_mustBeMachine.data.toList.drop 24 = dktX1_mustBeMachine_1 := dk_seg dksX1_mustBeMachine_0 24 rfl rfl
theorem dX1_mustBeMachine_0 : decode cX1_mustBeMachine 0 = .ok (.iload_n 0, 1) := dk_26 (dk_at dksX1_mustBeMachine_0 0 rfl rfl)
theorem dX1_mustBeMachine_1 : decode cX1_mustBeMachine 1 = .ok (.iconst 5, 1) := dk_8 (dk_at dksX1_mustBeMachine_0 1 rfl rfl)
theorem dX1_mustBeMachine_2 : decode cX1_mustBeMachine 2 = .ok (.bipush 11, 2) := dk_16 11 (dk_at dksX1_mustBeMachine_0 2 rfl rfl)
theorem dX1_mustBeMachine_4 : decode cX1_mustBeMachine 4 = .ok (.invokestatic 51, 3) := dk_184 0 51 (dk_at dksX1_mustBeMachine_0 4 rfl rfl)
theorem dX1_mustBeMachine_7 : decode cX1_mustBeMachine 7 = .ok (.iconst 1, 1) := dk_4 (dk_at dksX1_mustBeMachine_0 7 rfl rfl)
theorem dX1_mustBeMachine_8 : decode cX1_mustBeMachine 8 = .ok (.iload_n 0, 1) := dk_26 (dk_at dksX1_mustBeMachine_0 8 rfl rfl)
theorem dX1_mustBeMachine_9 : decode cX1_mustBeMachine 9 = .ok (.iconst 3, 1) := dk_6 (dk_at dksX1_mustBeMachine_0 9 rfl rfl)
theorem dX1_mustBeMachine_10 : decode cX1_mustBeMachine 10 = .ok (.isub, 1) := dk_100 (dk_at dksX1_mustBeMachine_0 10 rfl rfl)
theorem dX1_mustBeMachine_11 : decode cX1_mustBeMachine 11 = .ok (.ishl, 1) := dk_120 (dk_at dksX1_mustBeMachine_0 11 rfl rfl)
theorem dX1_mustBeMachine_12 : decode cX1_mustBeMachine 12 = .ok (.iconst 4, 1) := dk_7 (dk_at dksX1_mustBeMachine_0 12 rfl rfl)
theorem dX1_mustBeMachine_13 : decode cX1_mustBeMachine 13 = .ok (.isub, 1) := dk_100 (dk_at dksX1_mustBeMachine_0 13 rfl rfl)
theorem dX1_mustBeMachine_14 : decode cX1_mustBeMachine 14 = .ok (.istore_n 2, 1) := dk_61 (dk_at dksX1_mustBeMachine_0 14 rfl rfl)
theorem dX1_mustBeMachine_15 : decode cX1_mustBeMachine 15 = .ok (.iload_n 1, 1) := dk_27 (dk_at dksX1_mustBeMachine_0 15 rfl rfl)
theorem dX1_mustBeMachine_16 : decode cX1_mustBeMachine 16 = .ok (.ifCond .lt 15, 3) := dk_155 0 15 (dk_at dksX1_mustBeMachine_0 16 rfl rfl)
theorem dX1_mustBeMachine_19 : decode cX1_mustBeMachine 19 = .ok (.iload_n 1, 1) := dk_27 (dk_at dksX1_mustBeMachine_0 19 rfl rfl)
theorem dX1_mustBeMachine_20 : decode cX1_mustBeMachine 20 = .ok (.iload_n 2, 1) := dk_28 (dk_at dksX1_mustBeMachine_0 20 rfl rfl)
theorem dX1_mustBeMachine_21 : decode cX1_mustBeMachine 21 = .ok (.iconst (-1), 1) := dk_2 (dk_at dksX1_mustBeMachine_0 21 rfl rfl)
theorem dX1_mustBeMachine_22 : decode cX1_mustBeMachine 22 = .ok (.ixor, 1) := dk_130 (dk_at dksX1_mustBeMachine_0 22 rfl rfl)
theorem dX1_mustBeMachine_23 : decode cX1_mustBeMachine 23 = .ok (.iand, 1) := dk_126 (dk_at dksX1_mustBeMachine_0 23 rfl rfl)
theorem dX1_mustBeMachine_24 : decode cX1_mustBeMachine 24 = .ok (.ifCond .ne 7, 3) := dk_154 0 7 (dk_at dksX1_mustBeMachine_1 0 rfl rfl)
theorem dX1_mustBeMachine_27 : decode cX1_mustBeMachine 27 = .ok (.iconst 1, 1) := dk_4 (dk_at dksX1_mustBeMachine_1 3 rfl rfl)
theorem dX1_mustBeMachine_28 : decode cX1_mustBeMachine 28 = .ok (.goto 4, 3) := dk_167 0 4 (dk_at dksX1_mustBeMachine_1 4 rfl rfl)
theorem dX1_mustBeMachine_31 : decode cX1_mustBeMachine 31 = .ok (.iconst 0, 1) := dk_3 (dk_at dksX1_mustBeMachine_1 7 rfl rfl)
theorem dX1_mustBeMachine_32 : decode cX1_mustBeMachine 32 = .ok (.invokestatic 41, 3) := dk_184 0 41 (dk_at dksX1_mustBeMachine_1 8 rfl rfl)
theorem dX1_mustBeMachine_35 : decode cX1_mustBeMachine 35 = .ok (.return_, 1) := dk_177 (dk_at dksX1_mustBeMachine_1 11 rfl rfl)
abbrev cX1_mustBeIn : ByteArray := prog_1_method_8_code
def yX1_mustBeIn : MethodName := ⟨RX1, "mustBeIn", "(III)V"⟩
def dkwX1_mustBeIn_0 : List UInt8 := [26, 27, 161, 0, 12, 26, 28, 163, 0, 7, 4, 167, 0, 4, 3, 184, 0, 41, 177]
abbrev dktX1_mustBeIn_0 : List UInt8 := dkwX1_mustBeIn_0 ++ []
theorem dksX1_mustBeIn_0 : cX1_mustBeIn.data.toList.drop 0 = dktX1_mustBeIn_0 := by decide +kernel
theorem dX1_mustBeIn_0 : decode cX1_mustBeIn 0 = .ok (.iload_n 0, 1) := dk_26 (dk_at dksX1_mustBeIn_0 0 rfl rfl)
theorem dX1_mustBeIn_1 : decode cX1_mustBeIn 1 = .ok (.iload_n 1, 1) := dk_27 (dk_at dksX1_mustBeIn_0 1 rfl rfl)
theorem dX1_mustBeIn_2 : decode cX1_mustBeIn 2 = .ok (.if_icmp .lt 12, 3) := dk_161 0 12 (dk_at dksX1_mustBeIn_0 2 rfl rfl)
theorem dX1_mustBeIn_5 : decode cX1_mustBeIn 5 = .ok (.iload_n 0, 1) := dk_26 (dk_at dksX1_mustBeIn_0 5 rfl rfl)
theorem dX1_mustBeIn_6 : decode cX1_mustBeIn 6 = .ok (.iload_n 2, 1) := dk_28 (dk_at dksX1_mustBeIn_0 6 rfl rfl)
theorem dX1_mustBeIn_7 : decode cX1_mustBeIn 7 = .ok (.if_icmp .gt 7, 3) := dk_163 0 7 (dk_at dksX1_mustBeIn_0 7 rfl rfl)
theorem dX1_mustBeIn_10 : decode cX1_mustBeIn 10 = .ok (.iconst 1, 1) := dk_4 (dk_at dksX1_mustBeIn_0 10 rfl rfl)
theorem dX1_mustBeIn_11 : decode cX1_mustBeIn 11 = .ok (.goto 4, 3) := dk_167 0 4 (dk_at dksX1_mustBeIn_0 11 rfl rfl)
theorem dX1_mustBeIn_14 : decode cX1_mustBeIn 14 = .ok (.iconst 0, 1) := dk_3 (dk_at dksX1_mustBeIn_0 14 rfl rfl)
theorem dX1_mustBeIn_15 : decode cX1_mustBeIn 15 = .ok (.invokestatic 41, 3) := dk_184 0 41 (dk_at dksX1_mustBeIn_0 15 rfl rfl)
theorem dX1_mustBeIn_18 : decode cX1_mustBeIn 18 = .ok (.return_, 1) := dk_177 (dk_at dksX1_mustBeIn_0 18 rfl rfl)
abbrev cX1_must : ByteArray := prog_1_method_7_code
def yX1_must : MethodName := ⟨RX1, "must", "(Z)V"⟩
def dkwX1_must_0 : List UInt8 := [26, 154, 0, 11, 187, 0, 38, 89, 183, 0, 40, 191, 177]
abbrev dktX1_must_0 : List UInt8 := dkwX1_must_0 ++ []
theorem dksX1_must_0 : cX1_must.data.toList.drop 0 = dktX1_must_0 := by decide +kernel
theorem dX1_must_0 : decode cX1_must 0 = .ok (.iload_n 0, 1) := dk_26 (dk_at dksX1_must_0 0 rfl rfl)
theorem dX1_must_1 : decode cX1_must 1 = .ok (.ifCond .ne 11, 3) := dk_154 0 11 (dk_at dksX1_must_0 1 rfl rfl)
theorem dX1_must_4 : decode cX1_must 4 = .ok (.new 38, 3) := dk_187 0 38 (dk_at dksX1_must_0 4 rfl rfl)
theorem dX1_must_7 : decode cX1_must 7 = .ok (.dup, 1) := dk_89 (dk_at dksX1_must_0 7 rfl rfl)
theorem dX1_must_8 : decode cX1_must 8 = .ok (.invokespecial 40, 3) := dk_183 0 40 (dk_at dksX1_must_0 8 rfl rfl)
theorem dX1_must_11 : decode cX1_must 11 = .ok (.athrow, 1) := dk_191 (dk_at dksX1_must_0 11 rfl rfl)
theorem dX1_must_12 : decode cX1_must 12 = .ok (.return_, 1) := dk_177 (dk_at dksX1_must_0 12 rfl rfl)
abbrev cX1_renew : ByteArray := prog_1_method_6_code
def yX1_renew : MethodName := ⟨RX1, "renew", "()V"⟩
def dkwX1_renew_0 : List UInt8 := [42, 187, 0, 29, 89, 42, 180, 0, 10, 42, 180, 0, 25, 3, 183, 0, 31, 181, 0, 34, 177]
abbrev dktX1_renew_0 : List UInt8 := dkwX1_renew_0 ++ []
theorem dksX1_renew_0 : cX1_renew.data.toList.drop 0 = dktX1_renew_0 := by decide +kernel
theorem dX1_renew_0 : decode cX1_renew 0 = .ok (.aload_n 0, 1) := dk_42 (dk_at dksX1_renew_0 0 rfl rfl)
theorem dX1_renew_1 : decode cX1_renew 1 = .ok (.new 29, 3) := dk_187 0 29 (dk_at dksX1_renew_0 1 rfl rfl)
theorem dX1_renew_4 : decode cX1_renew 4 = .ok (.dup, 1) := dk_89 (dk_at dksX1_renew_0 4 rfl rfl)
theorem dX1_renew_5 : decode cX1_renew 5 = .ok (.aload_n 0, 1) := dk_42 (dk_at dksX1_renew_0 5 rfl rfl)
theorem dX1_renew_6 : decode cX1_renew 6 = .ok (.getfield 10, 3) := dk_180 0 10 (dk_at dksX1_renew_0 6 rfl rfl)
theorem dX1_renew_9 : decode cX1_renew 9 = .ok (.aload_n 0, 1) := dk_42 (dk_at dksX1_renew_0 9 rfl rfl)
theorem dX1_renew_10 : decode cX1_renew 10 = .ok (.getfield 25, 3) := dk_180 0 25 (dk_at dksX1_renew_0 10 rfl rfl)
theorem dX1_renew_13 : decode cX1_renew 13 = .ok (.iconst 0, 1) := dk_3 (dk_at dksX1_renew_0 13 rfl rfl)
theorem dX1_renew_14 : decode cX1_renew 14 = .ok (.invokespecial 31, 3) := dk_183 0 31 (dk_at dksX1_renew_0 14 rfl rfl)
theorem dX1_renew_17 : decode cX1_renew 17 = .ok (.putfield 34, 3) := dk_181 0 34 (dk_at dksX1_renew_0 17 rfl rfl)
theorem dX1_renew_20 : decode cX1_renew 20 = .ok (.return_, 1) := dk_177 (dk_at dksX1_renew_0 20 rfl rfl)
abbrev cX1_latency : ByteArray := prog_1_method_14_code
def yX1_latency : MethodName := ⟨RX1, "latency", "(II)I"⟩
def dkwX1_latency_1 : List UInt8 := [42, 180, 0, 25, 27, 28, 182, 0, 73, 181, 0, 25, 42, 182, 0, 70, 29, 172]
abbrev dktX1_latency_1 : List UInt8 := dkwX1_latency_1 ++ []
def dkwX1_latency_0 : List UInt8 := [27, 16, 8, 184, 0, 55, 28, 4, 16, 9, 184, 0, 51, 42, 180, 0, 25, 180, 0, 66, 27, 46, 62, 42]
abbrev dktX1_latency_0 : List UInt8 := dkwX1_latency_0 ++ dktX1_latency_1
theorem dksX1_latency_0 : cX1_latency.data.toList.drop 0 = dktX1_latency_0 := by decide +kernel
theorem dksX1_latency_1 : cX1_latency.data.toList.drop 24 = dktX1_latency_1 := dk_seg dksX1_latency_0 24 rfl rfl
theorem dX1_latency_0 : decode cX1_latency 0 = .ok (.iload_n 1, 1) := dk_27 (dk_at dksX1_latency_0 0 rfl rfl)
theorem dX1_latency_1 : decode cX1_latency 1 = .ok (.bipush 8, 2) := dk_16 8 (dk_at dksX1_latency_0 1 rfl rfl)
theorem dX1_latency_3 : decode cX1_latency 3 = .ok (.invokestatic 55, 3) := dk_184 0 55 (dk_at dksX1_latency_0 3 rfl rfl)
theorem dX1_latency_6 : decode cX1_latency 6 = .ok (.iload_n 2, 1) := dk_28 (dk_at dksX1_latency_0 6 rfl rfl)
theorem dX1_latency_7 : decode cX1_latency 7 = .ok (.iconst 1, 1) := dk_4 (dk_at dksX1_latency_0 7 rfl rfl)
theorem dX1_latency_8 : decode cX1_latency 8 = .ok (.bipush 9, 2) := dk_16 9 (dk_at dksX1_latency_0 8 rfl rfl)
theorem dX1_latency_10 : decode cX1_latency 10 = .ok (.invokestatic 51, 3) := dk_184 0 51 (dk_at dksX1_latency_0 10 rfl rfl)
theorem dX1_latency_13 : decode cX1_latency 13 = .ok (.aload_n 0, 1) := dk_42 (dk_at dksX1_latency_0 13 rfl rfl)
theorem dX1_latency_14 : decode cX1_latency 14 = .ok (.getfield 25, 3) := dk_180 0 25 (dk_at dksX1_latency_0 14 rfl rfl)
theorem dX1_latency_17 : decode cX1_latency 17 = .ok (.getfield 66, 3) := dk_180 0 66 (dk_at dksX1_latency_0 17 rfl rfl)
theorem dX1_latency_20 : decode cX1_latency 20 = .ok (.iload_n 1, 1) := dk_27 (dk_at dksX1_latency_0 20 rfl rfl)
theorem dX1_latency_21 : decode cX1_latency 21 = .ok (.iaload, 1) := dk_46 (dk_at dksX1_latency_0 21 rfl rfl)
theorem dX1_latency_22 : decode cX1_latency 22 = .ok (.istore_n 3, 1) := dk_62 (dk_at dksX1_latency_0 22 rfl rfl)
theorem dX1_latency_23 : decode cX1_latency 23 = .ok (.aload_n 0, 1) := dk_42 (dk_at dksX1_latency_0 23 rfl rfl)
theorem dX1_latency_24 : decode cX1_latency 24 = .ok (.aload_n 0, 1) := dk_42 (dk_at dksX1_latency_1 0 rfl rfl)
theorem dX1_latency_25 : decode cX1_latency 25 = .ok (.getfield 25, 3) := dk_180 0 25 (dk_at dksX1_latency_1 1 rfl rfl)
theorem dX1_latency_28 : decode cX1_latency 28 = .ok (.iload_n 1, 1) := dk_27 (dk_at dksX1_latency_1 4 rfl rfl)
theorem dX1_latency_29 : decode cX1_latency 29 = .ok (.iload_n 2, 1) := dk_28 (dk_at dksX1_latency_1 5 rfl rfl)
theorem dX1_latency_30 : decode cX1_latency 30 = .ok (.invokevirtual 73, 3) := dk_182 0 73 (dk_at dksX1_latency_1 6 rfl rfl)
theorem dX1_latency_33 : decode cX1_latency 33 = .ok (.putfield 25, 3) := dk_181 0 25 (dk_at dksX1_latency_1 9 rfl rfl)
theorem dX1_latency_36 : decode cX1_latency 36 = .ok (.aload_n 0, 1) := dk_42 (dk_at dksX1_latency_1 12 rfl rfl)
theorem dX1_latency_37 : decode cX1_latency 37 = .ok (.invokevirtual 70, 3) := dk_182 0 70 (dk_at dksX1_latency_1 13 rfl rfl)
theorem dX1_latency_40 : decode cX1_latency 40 = .ok (.iload_n 3, 1) := dk_29 (dk_at dksX1_latency_1 16 rfl rfl)
theorem dX1_latency_41 : decode cX1_latency 41 = .ok (.ireturn, 1) := dk_172 (dk_at dksX1_latency_1 17 rfl rfl)
abbrev cX1_checkPlace : ByteArray := prog_1_method_10_code
def yX1_checkPlace : MethodName := ⟨RX1, "checkPlace", "(II)V"⟩
def dkwX1_checkPlace_0 : List UInt8 := [26, 155, 0, 8, 26, 27, 161, 0, 11, 187, 0, 48, 89, 183, 0, 50, 191, 177]
abbrev dktX1_checkPlace_0 : List UInt8 := dkwX1_checkPlace_0 ++ []
theorem dksX1_checkPlace_0 : cX1_checkPlace.data.toList.drop 0 = dktX1_checkPlace_0 := by decide +kernel
theorem dX1_checkPlace_0 : decode cX1_checkPlace 0 = .ok (.iload_n 0, 1) := dk_26 (dk_at dksX1_checkPlace_0 0 rfl rfl)
theorem dX1_checkPlace_1 : decode cX1_checkPlace 1 = .ok (.ifCond .lt 8, 3) := dk_155 0 8 (dk_at dksX1_checkPlace_0 1 rfl rfl)
theorem dX1_checkPlace_4 : decode cX1_checkPlace 4 = .ok (.iload_n 0, 1) := dk_26 (dk_at dksX1_checkPlace_0 4 rfl rfl)
theorem dX1_checkPlace_5 : decode cX1_checkPlace 5 = .ok (.iload_n 1, 1) := dk_27 (dk_at dksX1_checkPlace_0 5 rfl rfl)
theorem dX1_checkPlace_6 : decode cX1_checkPlace 6 = .ok (.if_icmp .lt 11, 3) := dk_161 0 11 (dk_at dksX1_checkPlace_0 6 rfl rfl)
theorem dX1_checkPlace_9 : decode cX1_checkPlace 9 = .ok (.new 48, 3) := dk_187 0 48 (dk_at dksX1_checkPlace_0 9 rfl rfl)
theorem dX1_checkPlace_12 : decode cX1_checkPlace 12 = .ok (.dup, 1) := dk_89 (dk_at dksX1_checkPlace_0 12 rfl rfl)
theorem dX1_checkPlace_13 : decode cX1_checkPlace 13 = .ok (.invokespecial 50, 3) := dk_183 0 50 (dk_at dksX1_checkPlace_0 13 rfl rfl)
theorem dX1_checkPlace_16 : decode cX1_checkPlace 16 = .ok (.athrow, 1) := dk_191 (dk_at dksX1_checkPlace_0 16 rfl rfl)
theorem dX1_checkPlace_17 : decode cX1_checkPlace 17 = .ok (.return_, 1) := dk_177 (dk_at dksX1_checkPlace_0 17 rfl rfl)
abbrev cX1_node : ByteArray := prog_1_method_17_code
def yX1_node : MethodName := ⟨RX1, "node", "(III)I"⟩
def dkwX1_node_8 : List UInt8 := [185, 0, 102, 1, 0, 4, 100, 172]
abbrev dktX1_node_8 : List UInt8 := dkwX1_node_8 ++ []
def dkwX1_node_7 : List UInt8 := [180, 0, 98, 25, 4, 185, 0, 136, 2, 0, 87, 42, 182, 0, 70, 42, 180, 0, 10, 180, 0, 98]
abbrev dktX1_node_7 : List UInt8 := dkwX1_node_7 ++ dktX1_node_8
def dkwX1_node_6 : List UInt8 := [182, 0, 108, 4, 181, 0, 112, 42, 180, 0, 10, 29, 182, 0, 108, 4, 181, 0, 112, 42, 180, 0, 10]
abbrev dktX1_node_6 : List UInt8 := dkwX1_node_6 ++ dktX1_node_7
def dkwX1_node_5 : List UInt8 := [162, 0, 7, 4, 167, 0, 4, 3, 184, 0, 133, 25, 4, 182, 0, 125, 153, 0, 27, 42, 180, 0, 10, 28]
abbrev dktX1_node_5 : List UInt8 := dkwX1_node_5 ++ dktX1_node_6
def dkwX1_node_4 : List UInt8 := [167, 0, 5, 16, 7, 184, 0, 51, 42, 180, 0, 10, 180, 0, 98, 185, 0, 102, 1, 0, 16, 80]
abbrev dktX1_node_4 : List UInt8 := dkwX1_node_4 ++ dktX1_node_5
def dkwX1_node_3 : List UInt8 := [184, 0, 41, 28, 27, 154, 0, 9, 17, 252, 25, 167, 0, 4, 3, 27, 154, 0, 9, 17, 3, 231]
abbrev dktX1_node_3 : List UInt8 := dkwX1_node_3 ++ dktX1_node_4
def dkwX1_node_2 : List UInt8 := [159, 0, 7, 4, 167, 0, 4, 3, 184, 0, 41, 167, 0, 42, 29, 154, 0, 7, 4, 167, 0, 4, 3]
abbrev dktX1_node_2 : List UInt8 := dkwX1_node_2 ++ dktX1_node_3
def dkwX1_node_1 : List UInt8 := [182, 0, 125, 153, 0, 35, 42, 28, 182, 0, 129, 153, 0, 20, 42, 29, 182, 0, 129, 153, 0, 12, 28, 29]
abbrev dktX1_node_1 : List UInt8 := dkwX1_node_1 ++ dktX1_node_2
def dkwX1_node_0 : List UInt8 := [27, 3, 8, 184, 0, 51, 187, 0, 113, 89, 27, 184, 0, 118, 28, 29, 183, 0, 122, 58, 4, 25, 4]
abbrev dktX1_node_0 : List UInt8 := dkwX1_node_0 ++ dktX1_node_1
theorem dksX1_node_0 : cX1_node.data.toList.drop 0 = dktX1_node_0 := by decide +kernel
theorem dksX1_node_1 : cX1_node.data.toList.drop 23 = dktX1_node_1 := dk_seg dksX1_node_0 23 rfl rfl
theorem dksX1_node_2 : cX1_node.data.toList.drop 47 = dktX1_node_2 := dk_seg dksX1_node_1 24 rfl rfl
theorem dksX1_node_3 : cX1_node.data.toList.drop 70 = dktX1_node_3 := dk_seg dksX1_node_2 23 rfl rfl
theorem dksX1_node_4 : cX1_node.data.toList.drop 92 = dktX1_node_4 := dk_seg dksX1_node_3 22 rfl rfl
theorem dksX1_node_5 : cX1_node.data.toList.drop 114 = dktX1_node_5 := dk_seg dksX1_node_4 22 rfl rfl
theorem dksX1_node_6 : cX1_node.data.toList.drop 138 = dktX1_node_6 := dk_seg dksX1_node_5 24 rfl rfl
theorem dksX1_node_7 : cX1_node.data.toList.drop 161 = dktX1_node_7 := dk_seg dksX1_node_6 23 rfl rfl
theorem dksX1_node_8 : cX1_node.data.toList.drop 183 = dktX1_node_8 := dk_seg dksX1_node_7 22 rfl rfl
theorem dX1_node_0 : decode cX1_node 0 = .ok (.iload_n 1, 1) := dk_27 (dk_at dksX1_node_0 0 rfl rfl)
theorem dX1_node_1 : decode cX1_node 1 = .ok (.iconst 0, 1) := dk_3 (dk_at dksX1_node_0 1 rfl rfl)
theorem dX1_node_2 : decode cX1_node 2 = .ok (.iconst 5, 1) := dk_8 (dk_at dksX1_node_0 2 rfl rfl)
theorem dX1_node_3 : decode cX1_node 3 = .ok (.invokestatic 51, 3) := dk_184 0 51 (dk_at dksX1_node_0 3 rfl rfl)
theorem dX1_node_6 : decode cX1_node 6 = .ok (.new 113, 3) := dk_187 0 113 (dk_at dksX1_node_0 6 rfl rfl)
theorem dX1_node_9 : decode cX1_node 9 = .ok (.dup, 1) := dk_89 (dk_at dksX1_node_0 9 rfl rfl)
theorem dX1_node_10 : decode cX1_node 10 = .ok (.iload_n 1, 1) := dk_27 (dk_at dksX1_node_0 10 rfl rfl)
theorem dX1_node_11 : decode cX1_node 11 = .ok (.invokestatic 118, 3) := dk_184 0 118 (dk_at dksX1_node_0 11 rfl rfl)
theorem dX1_node_14 : decode cX1_node 14 = .ok (.iload_n 2, 1) := dk_28 (dk_at dksX1_node_0 14 rfl rfl)
theorem dX1_node_15 : decode cX1_node 15 = .ok (.iload_n 3, 1) := dk_29 (dk_at dksX1_node_0 15 rfl rfl)
theorem dX1_node_16 : decode cX1_node 16 = .ok (.invokespecial 122, 3) := dk_183 0 122 (dk_at dksX1_node_0 16 rfl rfl)
theorem dX1_node_19 : decode cX1_node 19 = .ok (.astore 4, 2) := dk_58 4 (dk_at dksX1_node_0 19 rfl rfl)
theorem dX1_node_21 : decode cX1_node 21 = .ok (.aload 4, 2) := dk_25 4 (dk_at dksX1_node_0 21 rfl rfl)
theorem dX1_node_23 : decode cX1_node 23 = .ok (.invokevirtual 125, 3) := dk_182 0 125 (dk_at dksX1_node_1 0 rfl rfl)
theorem dX1_node_26 : decode cX1_node 26 = .ok (.ifCond .eq 35, 3) := dk_153 0 35 (dk_at dksX1_node_1 3 rfl rfl)
theorem dX1_node_29 : decode cX1_node 29 = .ok (.aload_n 0, 1) := dk_42 (dk_at dksX1_node_1 6 rfl rfl)
theorem dX1_node_30 : decode cX1_node 30 = .ok (.iload_n 2, 1) := dk_28 (dk_at dksX1_node_1 7 rfl rfl)
theorem dX1_node_31 : decode cX1_node 31 = .ok (.invokevirtual 129, 3) := dk_182 0 129 (dk_at dksX1_node_1 8 rfl rfl)
theorem dX1_node_34 : decode cX1_node 34 = .ok (.ifCond .eq 20, 3) := dk_153 0 20 (dk_at dksX1_node_1 11 rfl rfl)
theorem dX1_node_37 : decode cX1_node 37 = .ok (.aload_n 0, 1) := dk_42 (dk_at dksX1_node_1 14 rfl rfl)
theorem dX1_node_38 : decode cX1_node 38 = .ok (.iload_n 3, 1) := dk_29 (dk_at dksX1_node_1 15 rfl rfl)
theorem dX1_node_39 : decode cX1_node 39 = .ok (.invokevirtual 129, 3) := dk_182 0 129 (dk_at dksX1_node_1 16 rfl rfl)
theorem dX1_node_42 : decode cX1_node 42 = .ok (.ifCond .eq 12, 3) := dk_153 0 12 (dk_at dksX1_node_1 19 rfl rfl)
theorem dX1_node_45 : decode cX1_node 45 = .ok (.iload_n 2, 1) := dk_28 (dk_at dksX1_node_1 22 rfl rfl)
theorem dX1_node_46 : decode cX1_node 46 = .ok (.iload_n 3, 1) := dk_29 (dk_at dksX1_node_1 23 rfl rfl)
theorem dX1_node_47 : decode cX1_node 47 = .ok (.if_icmp .eq 7, 3) := dk_159 0 7 (dk_at dksX1_node_2 0 rfl rfl)
theorem dX1_node_50 : decode cX1_node 50 = .ok (.iconst 1, 1) := dk_4 (dk_at dksX1_node_2 3 rfl rfl)
theorem dX1_node_51 : decode cX1_node 51 = .ok (.goto 4, 3) := dk_167 0 4 (dk_at dksX1_node_2 4 rfl rfl)
theorem dX1_node_54 : decode cX1_node 54 = .ok (.iconst 0, 1) := dk_3 (dk_at dksX1_node_2 7 rfl rfl)
theorem dX1_node_55 : decode cX1_node 55 = .ok (.invokestatic 41, 3) := dk_184 0 41 (dk_at dksX1_node_2 8 rfl rfl)
theorem dX1_node_58 : decode cX1_node 58 = .ok (.goto 42, 3) := dk_167 0 42 (dk_at dksX1_node_2 11 rfl rfl)
theorem dX1_node_61 : decode cX1_node 61 = .ok (.iload_n 3, 1) := dk_29 (dk_at dksX1_node_2 14 rfl rfl)
theorem dX1_node_62 : decode cX1_node 62 = .ok (.ifCond .ne 7, 3) := dk_154 0 7 (dk_at dksX1_node_2 15 rfl rfl)
theorem dX1_node_65 : decode cX1_node 65 = .ok (.iconst 1, 1) := dk_4 (dk_at dksX1_node_2 18 rfl rfl)
theorem dX1_node_66 : decode cX1_node 66 = .ok (.goto 4, 3) := dk_167 0 4 (dk_at dksX1_node_2 19 rfl rfl)
theorem dX1_node_69 : decode cX1_node 69 = .ok (.iconst 0, 1) := dk_3 (dk_at dksX1_node_2 22 rfl rfl)
theorem dX1_node_70 : decode cX1_node 70 = .ok (.invokestatic 41, 3) := dk_184 0 41 (dk_at dksX1_node_3 0 rfl rfl)
theorem dX1_node_73 : decode cX1_node 73 = .ok (.iload_n 2, 1) := dk_28 (dk_at dksX1_node_3 3 rfl rfl)
theorem dX1_node_74 : decode cX1_node 74 = .ok (.iload_n 1, 1) := dk_27 (dk_at dksX1_node_3 4 rfl rfl)
theorem dX1_node_75 : decode cX1_node 75 = .ok (.ifCond .ne 9, 3) := dk_154 0 9 (dk_at dksX1_node_3 5 rfl rfl)
theorem dX1_node_78 : decode cX1_node 78 = .ok (.sipush (-999), 3) := dk_17 252 25 (dk_at dksX1_node_3 8 rfl rfl)
theorem dX1_node_81 : decode cX1_node 81 = .ok (.goto 4, 3) := dk_167 0 4 (dk_at dksX1_node_3 11 rfl rfl)
theorem dX1_node_84 : decode cX1_node 84 = .ok (.iconst 0, 1) := dk_3 (dk_at dksX1_node_3 14 rfl rfl)
theorem dX1_node_85 : decode cX1_node 85 = .ok (.iload_n 1, 1) := dk_27 (dk_at dksX1_node_3 15 rfl rfl)
theorem dX1_node_86 : decode cX1_node 86 = .ok (.ifCond .ne 9, 3) := dk_154 0 9 (dk_at dksX1_node_3 16 rfl rfl)
theorem dX1_node_89 : decode cX1_node 89 = .ok (.sipush 999, 3) := dk_17 3 231 (dk_at dksX1_node_3 19 rfl rfl)
theorem dX1_node_92 : decode cX1_node 92 = .ok (.goto 5, 3) := dk_167 0 5 (dk_at dksX1_node_4 0 rfl rfl)
theorem dX1_node_95 : decode cX1_node 95 = .ok (.bipush 7, 2) := dk_16 7 (dk_at dksX1_node_4 3 rfl rfl)
theorem dX1_node_97 : decode cX1_node 97 = .ok (.invokestatic 51, 3) := dk_184 0 51 (dk_at dksX1_node_4 5 rfl rfl)
theorem dX1_node_100 : decode cX1_node 100 = .ok (.aload_n 0, 1) := dk_42 (dk_at dksX1_node_4 8 rfl rfl)
theorem dX1_node_101 : decode cX1_node 101 = .ok (.getfield 10, 3) := dk_180 0 10 (dk_at dksX1_node_4 9 rfl rfl)
theorem dX1_node_104 : decode cX1_node 104 = .ok (.getfield 98, 3) := dk_180 0 98 (dk_at dksX1_node_4 12 rfl rfl)
theorem dX1_node_107 : decode cX1_node 107 = .ok (.invokeinterface 102 1, 5) := by decide +kernel
theorem dX1_node_112 : decode cX1_node 112 = .ok (.bipush 80, 2) := dk_16 80 (dk_at dksX1_node_4 20 rfl rfl)
theorem dX1_node_114 : decode cX1_node 114 = .ok (.if_icmp .ge 7, 3) := dk_162 0 7 (dk_at dksX1_node_5 0 rfl rfl)
theorem dX1_node_117 : decode cX1_node 117 = .ok (.iconst 1, 1) := dk_4 (dk_at dksX1_node_5 3 rfl rfl)
theorem dX1_node_118 : decode cX1_node 118 = .ok (.goto 4, 3) := dk_167 0 4 (dk_at dksX1_node_5 4 rfl rfl)
theorem dX1_node_121 : decode cX1_node 121 = .ok (.iconst 0, 1) := dk_3 (dk_at dksX1_node_5 7 rfl rfl)
theorem dX1_node_122 : decode cX1_node 122 = .ok (.invokestatic 133, 3) := dk_184 0 133 (dk_at dksX1_node_5 8 rfl rfl)
theorem dX1_node_125 : decode cX1_node 125 = .ok (.aload 4, 2) := dk_25 4 (dk_at dksX1_node_5 11 rfl rfl)
theorem dX1_node_127 : decode cX1_node 127 = .ok (.invokevirtual 125, 3) := dk_182 0 125 (dk_at dksX1_node_5 13 rfl rfl)
theorem dX1_node_130 : decode cX1_node 130 = .ok (.ifCond .eq 27, 3) := dk_153 0 27 (dk_at dksX1_node_5 16 rfl rfl)
theorem dX1_node_133 : decode cX1_node 133 = .ok (.aload_n 0, 1) := dk_42 (dk_at dksX1_node_5 19 rfl rfl)
theorem dX1_node_134 : decode cX1_node 134 = .ok (.getfield 10, 3) := dk_180 0 10 (dk_at dksX1_node_5 20 rfl rfl)
theorem dX1_node_137 : decode cX1_node 137 = .ok (.iload_n 2, 1) := dk_28 (dk_at dksX1_node_5 23 rfl rfl)
theorem dX1_node_138 : decode cX1_node 138 = .ok (.invokevirtual 108, 3) := dk_182 0 108 (dk_at dksX1_node_6 0 rfl rfl)
theorem dX1_node_141 : decode cX1_node 141 = .ok (.iconst 1, 1) := dk_4 (dk_at dksX1_node_6 3 rfl rfl)
theorem dX1_node_142 : decode cX1_node 142 = .ok (.putfield 112, 3) := dk_181 0 112 (dk_at dksX1_node_6 4 rfl rfl)
theorem dX1_node_145 : decode cX1_node 145 = .ok (.aload_n 0, 1) := dk_42 (dk_at dksX1_node_6 7 rfl rfl)
theorem dX1_node_146 : decode cX1_node 146 = .ok (.getfield 10, 3) := dk_180 0 10 (dk_at dksX1_node_6 8 rfl rfl)
theorem dX1_node_149 : decode cX1_node 149 = .ok (.iload_n 3, 1) := dk_29 (dk_at dksX1_node_6 11 rfl rfl)
theorem dX1_node_150 : decode cX1_node 150 = .ok (.invokevirtual 108, 3) := dk_182 0 108 (dk_at dksX1_node_6 12 rfl rfl)
theorem dX1_node_153 : decode cX1_node 153 = .ok (.iconst 1, 1) := dk_4 (dk_at dksX1_node_6 15 rfl rfl)
theorem dX1_node_154 : decode cX1_node 154 = .ok (.putfield 112, 3) := dk_181 0 112 (dk_at dksX1_node_6 16 rfl rfl)
theorem dX1_node_157 : decode cX1_node 157 = .ok (.aload_n 0, 1) := dk_42 (dk_at dksX1_node_6 19 rfl rfl)
theorem dX1_node_158 : decode cX1_node 158 = .ok (.getfield 10, 3) := dk_180 0 10 (dk_at dksX1_node_6 20 rfl rfl)
theorem dX1_node_161 : decode cX1_node 161 = .ok (.getfield 98, 3) := dk_180 0 98 (dk_at dksX1_node_7 0 rfl rfl)
theorem dX1_node_164 : decode cX1_node 164 = .ok (.aload 4, 2) := dk_25 4 (dk_at dksX1_node_7 3 rfl rfl)
theorem dX1_node_166 : decode cX1_node 166 = .ok (.invokeinterface 136 2, 5) := by decide +kernel
theorem dX1_node_171 : decode cX1_node 171 = .ok (.pop, 1) := dk_87 (dk_at dksX1_node_7 10 rfl rfl)
theorem dX1_node_172 : decode cX1_node 172 = .ok (.aload_n 0, 1) := dk_42 (dk_at dksX1_node_7 11 rfl rfl)
theorem dX1_node_173 : decode cX1_node 173 = .ok (.invokevirtual 70, 3) := dk_182 0 70 (dk_at dksX1_node_7 12 rfl rfl)
theorem dX1_node_176 : decode cX1_node 176 = .ok (.aload_n 0, 1) := dk_42 (dk_at dksX1_node_7 15 rfl rfl)
theorem dX1_node_177 : decode cX1_node 177 = .ok (.getfield 10, 3) := dk_180 0 10 (dk_at dksX1_node_7 16 rfl rfl)
theorem dX1_node_180 : decode cX1_node 180 = .ok (.getfield 98, 3) := dk_180 0 98 (dk_at dksX1_node_7 19 rfl rfl)
theorem dX1_node_183 : decode cX1_node 183 = .ok (.invokeinterface 102 1, 5) := by decide +kernel
theorem dX1_node_188 : decode cX1_node 188 = .ok (.iconst 1, 1) := dk_4 (dk_at dksX1_node_8 5 rfl rfl)
theorem dX1_node_189 : decode cX1_node 189 = .ok (.isub, 1) := dk_100 (dk_at dksX1_node_8 6 rfl rfl)
theorem dX1_node_190 : decode cX1_node 190 = .ok (.ireturn, 1) := dk_172 (dk_at dksX1_node_8 7 rfl rfl)
abbrev cX1_kindOf : ByteArray := prog_1_method_15_code
def yX1_kindOf : MethodName := ⟨RX1, "kindOf", "(I)LSpillslotWorks$Kind;"⟩
def dkwX1_kindOf_2 : List UInt8 := [178, 0, 77, 176, 178, 0, 83, 176, 178, 0, 86, 176, 178, 0, 89, 176, 178, 0, 92, 176, 178, 0, 95, 176]
abbrev dktX1_kindOf_2 : List UInt8 := dkwX1_kindOf_2 ++ []
def dkwX1_kindOf_1 : List UInt8 := [170, 0, 0, 0, 0, 0, 55, 0, 0, 0, 0, 0, 0, 0, 4, 0, 0, 0, 35, 0, 0, 0, 39, 0, 0, 0, 43, 0, 0, 0, 47, 0, 0, 0, 51]
abbrev dktX1_kindOf_1 : List UInt8 := dkwX1_kindOf_1 ++ dktX1_kindOf_2
def dkwX1_kindOf_0 : List UInt8 := [26]
abbrev dktX1_kindOf_0 : List UInt8 := dkwX1_kindOf_0 ++ dktX1_kindOf_1
theorem dksX1_kindOf_0 : cX1_kindOf.data.toList.drop 0 = dktX1_kindOf_0 := by decide +kernel
theorem dksX1_kindOf_1 : cX1_kindOf.data.toList.drop 1 = dktX1_kindOf_1 := dk_seg dksX1_kindOf_0 1 rfl rfl
theorem dksX1_kindOf_2 : cX1_kindOf.data.toList.drop 36 = dktX1_kindOf_2 := dk_seg dksX1_kindOf_1 35 rfl rfl
theorem dX1_kindOf_0 : decode cX1_kindOf 0 = .ok (.iload_n 0, 1) := dk_26 (dk_at dksX1_kindOf_0 0 rfl rfl)
theorem dX1_kindOf_1 : decode cX1_kindOf 1 = .ok (.tableswitch 55 0 4 #[35, 39, 43, 47, 51], 35) := by decide +kernel
theorem dX1_kindOf_36 : decode cX1_kindOf 36 = .ok (.getstatic 77, 3) := dk_178 0 77 (dk_at dksX1_kindOf_2 0 rfl rfl)
theorem dX1_kindOf_39 : decode cX1_kindOf 39 = .ok (.areturn, 1) := dk_176 (dk_at dksX1_kindOf_2 3 rfl rfl)
theorem dX1_kindOf_40 : decode cX1_kindOf 40 = .ok (.getstatic 83, 3) := dk_178 0 83 (dk_at dksX1_kindOf_2 4 rfl rfl)
theorem dX1_kindOf_43 : decode cX1_kindOf 43 = .ok (.areturn, 1) := dk_176 (dk_at dksX1_kindOf_2 7 rfl rfl)
theorem dX1_kindOf_44 : decode cX1_kindOf 44 = .ok (.getstatic 86, 3) := dk_178 0 86 (dk_at dksX1_kindOf_2 8 rfl rfl)
theorem dX1_kindOf_47 : decode cX1_kindOf 47 = .ok (.areturn, 1) := dk_176 (dk_at dksX1_kindOf_2 11 rfl rfl)
theorem dX1_kindOf_48 : decode cX1_kindOf 48 = .ok (.getstatic 89, 3) := dk_178 0 89 (dk_at dksX1_kindOf_2 12 rfl rfl)
theorem dX1_kindOf_51 : decode cX1_kindOf 51 = .ok (.areturn, 1) := dk_176 (dk_at dksX1_kindOf_2 15 rfl rfl)
theorem dX1_kindOf_52 : decode cX1_kindOf 52 = .ok (.getstatic 92, 3) := dk_178 0 92 (dk_at dksX1_kindOf_2 16 rfl rfl)
theorem dX1_kindOf_55 : decode cX1_kindOf 55 = .ok (.areturn, 1) := dk_176 (dk_at dksX1_kindOf_2 19 rfl rfl)
theorem dX1_kindOf_56 : decode cX1_kindOf 56 = .ok (.getstatic 95, 3) := dk_178 0 95 (dk_at dksX1_kindOf_2 20 rfl rfl)
theorem dX1_kindOf_59 : decode cX1_kindOf 59 = .ok (.areturn, 1) := dk_176 (dk_at dksX1_kindOf_2 23 rfl rfl)
abbrev cX1_isFreeNode : ByteArray := prog_1_method_16_code
def yX1_isFreeNode : MethodName := ⟨RX1, "isFreeNode", "(I)Z"⟩
def dkwX1_isFreeNode_1 : List UInt8 := [27, 182, 0, 108, 180, 0, 112, 154, 0, 7, 4, 167, 0, 4, 3, 172]
abbrev dktX1_isFreeNode_1 : List UInt8 := dkwX1_isFreeNode_1 ++ []
def dkwX1_isFreeNode_0 : List UInt8 := [27, 155, 0, 37, 27, 42, 180, 0, 10, 180, 0, 98, 185, 0, 102, 1, 0, 162, 0, 21, 42, 180, 0, 10]
abbrev dktX1_isFreeNode_0 : List UInt8 := dkwX1_isFreeNode_0 ++ dktX1_isFreeNode_1
theorem dksX1_isFreeNode_0 : cX1_isFreeNode.data.toList.drop 0 = dktX1_isFreeNode_0 := by decide +kernel
theorem dksX1_isFreeNode_1 : cX1_isFreeNode.data.toList.drop 24 = dktX1_isFreeNode_1 := dk_seg dksX1_isFreeNode_0 24 rfl rfl
theorem dX1_isFreeNode_0 : decode cX1_isFreeNode 0 = .ok (.iload_n 1, 1) := dk_27 (dk_at dksX1_isFreeNode_0 0 rfl rfl)
theorem dX1_isFreeNode_1 : decode cX1_isFreeNode 1 = .ok (.ifCond .lt 37, 3) := dk_155 0 37 (dk_at dksX1_isFreeNode_0 1 rfl rfl)
theorem dX1_isFreeNode_4 : decode cX1_isFreeNode 4 = .ok (.iload_n 1, 1) := dk_27 (dk_at dksX1_isFreeNode_0 4 rfl rfl)
theorem dX1_isFreeNode_5 : decode cX1_isFreeNode 5 = .ok (.aload_n 0, 1) := dk_42 (dk_at dksX1_isFreeNode_0 5 rfl rfl)
theorem dX1_isFreeNode_6 : decode cX1_isFreeNode 6 = .ok (.getfield 10, 3) := dk_180 0 10 (dk_at dksX1_isFreeNode_0 6 rfl rfl)
theorem dX1_isFreeNode_9 : decode cX1_isFreeNode 9 = .ok (.getfield 98, 3) := dk_180 0 98 (dk_at dksX1_isFreeNode_0 9 rfl rfl)
theorem dX1_isFreeNode_12 : decode cX1_isFreeNode 12 = .ok (.invokeinterface 102 1, 5) := by decide +kernel
theorem dX1_isFreeNode_17 : decode cX1_isFreeNode 17 = .ok (.if_icmp .ge 21, 3) := dk_162 0 21 (dk_at dksX1_isFreeNode_0 17 rfl rfl)
theorem dX1_isFreeNode_20 : decode cX1_isFreeNode 20 = .ok (.aload_n 0, 1) := dk_42 (dk_at dksX1_isFreeNode_0 20 rfl rfl)
theorem dX1_isFreeNode_21 : decode cX1_isFreeNode 21 = .ok (.getfield 10, 3) := dk_180 0 10 (dk_at dksX1_isFreeNode_0 21 rfl rfl)
theorem dX1_isFreeNode_24 : decode cX1_isFreeNode 24 = .ok (.iload_n 1, 1) := dk_27 (dk_at dksX1_isFreeNode_1 0 rfl rfl)
theorem dX1_isFreeNode_25 : decode cX1_isFreeNode 25 = .ok (.invokevirtual 108, 3) := dk_182 0 108 (dk_at dksX1_isFreeNode_1 1 rfl rfl)
theorem dX1_isFreeNode_28 : decode cX1_isFreeNode 28 = .ok (.getfield 112, 3) := dk_180 0 112 (dk_at dksX1_isFreeNode_1 4 rfl rfl)
theorem dX1_isFreeNode_31 : decode cX1_isFreeNode 31 = .ok (.ifCond .ne 7, 3) := dk_154 0 7 (dk_at dksX1_isFreeNode_1 7 rfl rfl)
theorem dX1_isFreeNode_34 : decode cX1_isFreeNode 34 = .ok (.iconst 1, 1) := dk_4 (dk_at dksX1_isFreeNode_1 10 rfl rfl)
theorem dX1_isFreeNode_35 : decode cX1_isFreeNode 35 = .ok (.goto 4, 3) := dk_167 0 4 (dk_at dksX1_isFreeNode_1 11 rfl rfl)
theorem dX1_isFreeNode_38 : decode cX1_isFreeNode 38 = .ok (.iconst 0, 1) := dk_3 (dk_at dksX1_isFreeNode_1 14 rfl rfl)
theorem dX1_isFreeNode_39 : decode cX1_isFreeNode 39 = .ok (.ireturn, 1) := dk_172 (dk_at dksX1_isFreeNode_1 15 rfl rfl)
abbrev cX1_checkState : ByteArray := prog_1_method_9_code
def yX1_checkState : MethodName := ⟨RX1, "checkState", "(Z)V"⟩
def dkwX1_checkState_0 : List UInt8 := [26, 154, 0, 11, 187, 0, 45, 89, 183, 0, 47, 191, 177]
abbrev dktX1_checkState_0 : List UInt8 := dkwX1_checkState_0 ++ []
theorem dksX1_checkState_0 : cX1_checkState.data.toList.drop 0 = dktX1_checkState_0 := by decide +kernel
theorem dX1_checkState_0 : decode cX1_checkState 0 = .ok (.iload_n 0, 1) := dk_26 (dk_at dksX1_checkState_0 0 rfl rfl)
theorem dX1_checkState_1 : decode cX1_checkState 1 = .ok (.ifCond .ne 11, 3) := dk_154 0 11 (dk_at dksX1_checkState_0 1 rfl rfl)
theorem dX1_checkState_4 : decode cX1_checkState 4 = .ok (.new 45, 3) := dk_187 0 45 (dk_at dksX1_checkState_0 4 rfl rfl)
theorem dX1_checkState_7 : decode cX1_checkState 7 = .ok (.dup, 1) := dk_89 (dk_at dksX1_checkState_0 7 rfl rfl)
theorem dX1_checkState_8 : decode cX1_checkState 8 = .ok (.invokespecial 47, 3) := dk_183 0 47 (dk_at dksX1_checkState_0 8 rfl rfl)
theorem dX1_checkState_11 : decode cX1_checkState 11 = .ok (.athrow, 1) := dk_191 (dk_at dksX1_checkState_0 11 rfl rfl)
theorem dX1_checkState_12 : decode cX1_checkState 12 = .ok (.return_, 1) := dk_177 (dk_at dksX1_checkState_0 12 rfl rfl)
abbrev cX1_statement : ByteArray := prog_1_method_18_code
def yX1_statement : MethodName := ⟨RX1, "statement", "(III)I"⟩
def dkwX1_statement_5 : List UInt8 := [182, 0, 70, 25, 4, 185, 0, 102, 1, 0, 172]
abbrev dktX1_statement_5 : List UInt8 := dkwX1_statement_5 ++ []
def dkwX1_statement_4 : List UInt8 := [192, 0, 103, 58, 4, 25, 4, 187, 0, 154, 89, 28, 29, 183, 0, 156, 185, 0, 136, 2, 0, 87, 42]
abbrev dktX1_statement_4 : List UInt8 := dkwX1_statement_4 ++ dktX1_statement_5
def dkwX1_statement_3 : List UInt8 := [180, 0, 10, 29, 182, 0, 108, 4, 181, 0, 112, 42, 180, 0, 10, 180, 0, 147, 27, 185, 0, 150, 2, 0]
abbrev dktX1_statement_3 : List UInt8 := dkwX1_statement_3 ++ dktX1_statement_4
def dkwX1_statement_2 : List UInt8 := [184, 0, 41, 42, 180, 0, 10, 182, 0, 144, 16, 24, 162, 0, 7, 4, 167, 0, 4, 3, 184, 0, 133, 42]
abbrev dktX1_statement_2 : List UInt8 := dkwX1_statement_2 ++ dktX1_statement_3
def dkwX1_statement_1 : List UInt8 := [184, 0, 55, 42, 180, 0, 10, 29, 182, 0, 108, 180, 0, 112, 154, 0, 7, 4, 167, 0, 4, 3]
abbrev dktX1_statement_1 : List UInt8 := dkwX1_statement_1 ++ dktX1_statement_2
def dkwX1_statement_0 : List UInt8 := [27, 184, 0, 140, 28, 16, 8, 184, 0, 55, 29, 42, 180, 0, 10, 180, 0, 98, 185, 0, 102, 1, 0]
abbrev dktX1_statement_0 : List UInt8 := dkwX1_statement_0 ++ dktX1_statement_1
theorem dksX1_statement_0 : cX1_statement.data.toList.drop 0 = dktX1_statement_0 := by decide +kernel
theorem dksX1_statement_1 : cX1_statement.data.toList.drop 23 = dktX1_statement_1 := dk_seg dksX1_statement_0 23 rfl rfl
theorem dksX1_statement_2 : cX1_statement.data.toList.drop 45 = dktX1_statement_2 := dk_seg dksX1_statement_1 22 rfl rfl
theorem dksX1_statement_3 : cX1_statement.data.toList.drop 69 = dktX1_statement_3 := dk_seg dksX1_statement_2 24 rfl rfl
theorem dksX1_statement_4 : cX1_statement.data.toList.drop 93 = dktX1_statement_4 := dk_seg dksX1_statement_3 24 rfl rfl
theorem dksX1_statement_5 : cX1_statement.data.toList.drop 116 = dktX1_statement_5 := dk_seg dksX1_statement_4 23 rfl rfl
theorem dX1_statement_0 : decode cX1_statement 0 = .ok (.iload_n 1, 1) := dk_27 (dk_at dksX1_statement_0 0 rfl rfl)
theorem dX1_statement_1 : decode cX1_statement 1 = .ok (.invokestatic 140, 3) := dk_184 0 140 (dk_at dksX1_statement_0 1 rfl rfl)
theorem dX1_statement_4 : decode cX1_statement 4 = .ok (.iload_n 2, 1) := dk_28 (dk_at dksX1_statement_0 4 rfl rfl)
theorem dX1_statement_5 : decode cX1_statement 5 = .ok (.bipush 8, 2) := dk_16 8 (dk_at dksX1_statement_0 5 rfl rfl)
theorem dX1_statement_7 : decode cX1_statement 7 = .ok (.invokestatic 55, 3) := dk_184 0 55 (dk_at dksX1_statement_0 7 rfl rfl)
theorem dX1_statement_10 : decode cX1_statement 10 = .ok (.iload_n 3, 1) := dk_29 (dk_at dksX1_statement_0 10 rfl rfl)
theorem dX1_statement_11 : decode cX1_statement 11 = .ok (.aload_n 0, 1) := dk_42 (dk_at dksX1_statement_0 11 rfl rfl)
theorem dX1_statement_12 : decode cX1_statement 12 = .ok (.getfield 10, 3) := dk_180 0 10 (dk_at dksX1_statement_0 12 rfl rfl)
theorem dX1_statement_15 : decode cX1_statement 15 = .ok (.getfield 98, 3) := dk_180 0 98 (dk_at dksX1_statement_0 15 rfl rfl)
theorem dX1_statement_18 : decode cX1_statement 18 = .ok (.invokeinterface 102 1, 5) := by decide +kernel
theorem dX1_statement_23 : decode cX1_statement 23 = .ok (.invokestatic 55, 3) := dk_184 0 55 (dk_at dksX1_statement_1 0 rfl rfl)
theorem dX1_statement_26 : decode cX1_statement 26 = .ok (.aload_n 0, 1) := dk_42 (dk_at dksX1_statement_1 3 rfl rfl)
theorem dX1_statement_27 : decode cX1_statement 27 = .ok (.getfield 10, 3) := dk_180 0 10 (dk_at dksX1_statement_1 4 rfl rfl)
theorem dX1_statement_30 : decode cX1_statement 30 = .ok (.iload_n 3, 1) := dk_29 (dk_at dksX1_statement_1 7 rfl rfl)
theorem dX1_statement_31 : decode cX1_statement 31 = .ok (.invokevirtual 108, 3) := dk_182 0 108 (dk_at dksX1_statement_1 8 rfl rfl)
theorem dX1_statement_34 : decode cX1_statement 34 = .ok (.getfield 112, 3) := dk_180 0 112 (dk_at dksX1_statement_1 11 rfl rfl)
theorem dX1_statement_37 : decode cX1_statement 37 = .ok (.ifCond .ne 7, 3) := dk_154 0 7 (dk_at dksX1_statement_1 14 rfl rfl)
theorem dX1_statement_40 : decode cX1_statement 40 = .ok (.iconst 1, 1) := dk_4 (dk_at dksX1_statement_1 17 rfl rfl)
theorem dX1_statement_41 : decode cX1_statement 41 = .ok (.goto 4, 3) := dk_167 0 4 (dk_at dksX1_statement_1 18 rfl rfl)
theorem dX1_statement_44 : decode cX1_statement 44 = .ok (.iconst 0, 1) := dk_3 (dk_at dksX1_statement_1 21 rfl rfl)
theorem dX1_statement_45 : decode cX1_statement 45 = .ok (.invokestatic 41, 3) := dk_184 0 41 (dk_at dksX1_statement_2 0 rfl rfl)
theorem dX1_statement_48 : decode cX1_statement 48 = .ok (.aload_n 0, 1) := dk_42 (dk_at dksX1_statement_2 3 rfl rfl)
theorem dX1_statement_49 : decode cX1_statement 49 = .ok (.getfield 10, 3) := dk_180 0 10 (dk_at dksX1_statement_2 4 rfl rfl)
theorem dX1_statement_52 : decode cX1_statement 52 = .ok (.invokevirtual 144, 3) := dk_182 0 144 (dk_at dksX1_statement_2 7 rfl rfl)
theorem dX1_statement_55 : decode cX1_statement 55 = .ok (.bipush 24, 2) := dk_16 24 (dk_at dksX1_statement_2 10 rfl rfl)
theorem dX1_statement_57 : decode cX1_statement 57 = .ok (.if_icmp .ge 7, 3) := dk_162 0 7 (dk_at dksX1_statement_2 12 rfl rfl)
theorem dX1_statement_60 : decode cX1_statement 60 = .ok (.iconst 1, 1) := dk_4 (dk_at dksX1_statement_2 15 rfl rfl)
theorem dX1_statement_61 : decode cX1_statement 61 = .ok (.goto 4, 3) := dk_167 0 4 (dk_at dksX1_statement_2 16 rfl rfl)
theorem dX1_statement_64 : decode cX1_statement 64 = .ok (.iconst 0, 1) := dk_3 (dk_at dksX1_statement_2 19 rfl rfl)
theorem dX1_statement_65 : decode cX1_statement 65 = .ok (.invokestatic 133, 3) := dk_184 0 133 (dk_at dksX1_statement_2 20 rfl rfl)
theorem dX1_statement_68 : decode cX1_statement 68 = .ok (.aload_n 0, 1) := dk_42 (dk_at dksX1_statement_2 23 rfl rfl)
theorem dX1_statement_69 : decode cX1_statement 69 = .ok (.getfield 10, 3) := dk_180 0 10 (dk_at dksX1_statement_3 0 rfl rfl)
theorem dX1_statement_72 : decode cX1_statement 72 = .ok (.iload_n 3, 1) := dk_29 (dk_at dksX1_statement_3 3 rfl rfl)
theorem dX1_statement_73 : decode cX1_statement 73 = .ok (.invokevirtual 108, 3) := dk_182 0 108 (dk_at dksX1_statement_3 4 rfl rfl)
theorem dX1_statement_76 : decode cX1_statement 76 = .ok (.iconst 1, 1) := dk_4 (dk_at dksX1_statement_3 7 rfl rfl)
theorem dX1_statement_77 : decode cX1_statement 77 = .ok (.putfield 112, 3) := dk_181 0 112 (dk_at dksX1_statement_3 8 rfl rfl)
theorem dX1_statement_80 : decode cX1_statement 80 = .ok (.aload_n 0, 1) := dk_42 (dk_at dksX1_statement_3 11 rfl rfl)
theorem dX1_statement_81 : decode cX1_statement 81 = .ok (.getfield 10, 3) := dk_180 0 10 (dk_at dksX1_statement_3 12 rfl rfl)
theorem dX1_statement_84 : decode cX1_statement 84 = .ok (.getfield 147, 3) := dk_180 0 147 (dk_at dksX1_statement_3 15 rfl rfl)
theorem dX1_statement_87 : decode cX1_statement 87 = .ok (.iload_n 1, 1) := dk_27 (dk_at dksX1_statement_3 18 rfl rfl)
theorem dX1_statement_88 : decode cX1_statement 88 = .ok (.invokeinterface 150 2, 5) := by decide +kernel
theorem dX1_statement_93 : decode cX1_statement 93 = .ok (.checkcast 103, 3) := dk_192 0 103 (dk_at dksX1_statement_4 0 rfl rfl)
theorem dX1_statement_96 : decode cX1_statement 96 = .ok (.astore 4, 2) := dk_58 4 (dk_at dksX1_statement_4 3 rfl rfl)
theorem dX1_statement_98 : decode cX1_statement 98 = .ok (.aload 4, 2) := dk_25 4 (dk_at dksX1_statement_4 5 rfl rfl)
theorem dX1_statement_100 : decode cX1_statement 100 = .ok (.new 154, 3) := dk_187 0 154 (dk_at dksX1_statement_4 7 rfl rfl)
theorem dX1_statement_103 : decode cX1_statement 103 = .ok (.dup, 1) := dk_89 (dk_at dksX1_statement_4 10 rfl rfl)
theorem dX1_statement_104 : decode cX1_statement 104 = .ok (.iload_n 2, 1) := dk_28 (dk_at dksX1_statement_4 11 rfl rfl)
theorem dX1_statement_105 : decode cX1_statement 105 = .ok (.iload_n 3, 1) := dk_29 (dk_at dksX1_statement_4 12 rfl rfl)
theorem dX1_statement_106 : decode cX1_statement 106 = .ok (.invokespecial 156, 3) := dk_183 0 156 (dk_at dksX1_statement_4 13 rfl rfl)
theorem dX1_statement_109 : decode cX1_statement 109 = .ok (.invokeinterface 136 2, 5) := by decide +kernel
theorem dX1_statement_114 : decode cX1_statement 114 = .ok (.pop, 1) := dk_87 (dk_at dksX1_statement_4 21 rfl rfl)
theorem dX1_statement_115 : decode cX1_statement 115 = .ok (.aload_n 0, 1) := dk_42 (dk_at dksX1_statement_4 22 rfl rfl)
theorem dX1_statement_116 : decode cX1_statement 116 = .ok (.invokevirtual 70, 3) := dk_182 0 70 (dk_at dksX1_statement_5 0 rfl rfl)
theorem dX1_statement_119 : decode cX1_statement 119 = .ok (.aload 4, 2) := dk_25 4 (dk_at dksX1_statement_5 3 rfl rfl)
theorem dX1_statement_121 : decode cX1_statement 121 = .ok (.invokeinterface 102 1, 5) := by decide +kernel
theorem dX1_statement_126 : decode cX1_statement 126 = .ok (.ireturn, 1) := dk_172 (dk_at dksX1_statement_5 10 rfl rfl)
abbrev cX1_checkBlock : ByteArray := prog_1_method_12_code
def yX1_checkBlock : MethodName := ⟨RX1, "checkBlock", "(I)V"⟩
def dkwX1_checkBlock_0 : List UInt8 := [26, 7, 184, 0, 55, 177]
abbrev dktX1_checkBlock_0 : List UInt8 := dkwX1_checkBlock_0 ++ []
theorem dksX1_checkBlock_0 : cX1_checkBlock.data.toList.drop 0 = dktX1_checkBlock_0 := by decide +kernel
theorem dX1_checkBlock_0 : decode cX1_checkBlock 0 = .ok (.iload_n 0, 1) := dk_26 (dk_at dksX1_checkBlock_0 0 rfl rfl)
theorem dX1_checkBlock_1 : decode cX1_checkBlock 1 = .ok (.iconst 4, 1) := dk_7 (dk_at dksX1_checkBlock_0 1 rfl rfl)
theorem dX1_checkBlock_2 : decode cX1_checkBlock 2 = .ok (.invokestatic 55, 3) := dk_184 0 55 (dk_at dksX1_checkBlock_0 2 rfl rfl)
theorem dX1_checkBlock_5 : decode cX1_checkBlock 5 = .ok (.return_, 1) := dk_177 (dk_at dksX1_checkBlock_0 5 rfl rfl)
abbrev cX1_take : ByteArray := prog_1_method_19_code
def yX1_take : MethodName := ⟨RX1, "take", "(I)I"⟩
def dkwX1_take_3 : List UInt8 := [185, 0, 164, 2, 0, 87, 42, 180, 0, 10, 29, 182, 0, 108, 3, 181, 0, 112, 42, 182, 0, 70, 29, 172]
abbrev dktX1_take_3 : List UInt8 := dkwX1_take_3 ++ []
def dkwX1_take_2 : List UInt8 := [100, 185, 0, 150, 2, 0, 192, 0, 154, 180, 0, 161, 62, 44, 44, 185, 0, 102, 1, 0, 4, 100]
abbrev dktX1_take_2 : List UInt8 := dkwX1_take_2 ++ dktX1_take_3
def dkwX1_take_1 : List UInt8 := [185, 0, 158, 1, 0, 154, 0, 7, 4, 167, 0, 4, 3, 184, 0, 133, 44, 44, 185, 0, 102, 1, 0, 4]
abbrev dktX1_take_1 : List UInt8 := dkwX1_take_1 ++ dktX1_take_2
def dkwX1_take_0 : List UInt8 := [27, 184, 0, 140, 42, 180, 0, 10, 180, 0, 147, 27, 185, 0, 150, 2, 0, 192, 0, 103, 77, 44]
abbrev dktX1_take_0 : List UInt8 := dkwX1_take_0 ++ dktX1_take_1
theorem dksX1_take_0 : cX1_take.data.toList.drop 0 = dktX1_take_0 := by decide +kernel
theorem dksX1_take_1 : cX1_take.data.toList.drop 22 = dktX1_take_1 := dk_seg dksX1_take_0 22 rfl rfl
theorem dksX1_take_2 : cX1_take.data.toList.drop 46 = dktX1_take_2 := dk_seg dksX1_take_1 24 rfl rfl
theorem dksX1_take_3 : cX1_take.data.toList.drop 68 = dktX1_take_3 := dk_seg dksX1_take_2 22 rfl rfl
theorem dX1_take_0 : decode cX1_take 0 = .ok (.iload_n 1, 1) := dk_27 (dk_at dksX1_take_0 0 rfl rfl)
theorem dX1_take_1 : decode cX1_take 1 = .ok (.invokestatic 140, 3) := dk_184 0 140 (dk_at dksX1_take_0 1 rfl rfl)
theorem dX1_take_4 : decode cX1_take 4 = .ok (.aload_n 0, 1) := dk_42 (dk_at dksX1_take_0 4 rfl rfl)
theorem dX1_take_5 : decode cX1_take 5 = .ok (.getfield 10, 3) := dk_180 0 10 (dk_at dksX1_take_0 5 rfl rfl)
theorem dX1_take_8 : decode cX1_take 8 = .ok (.getfield 147, 3) := dk_180 0 147 (dk_at dksX1_take_0 8 rfl rfl)
theorem dX1_take_11 : decode cX1_take 11 = .ok (.iload_n 1, 1) := dk_27 (dk_at dksX1_take_0 11 rfl rfl)
theorem dX1_take_12 : decode cX1_take 12 = .ok (.invokeinterface 150 2, 5) := by decide +kernel
theorem dX1_take_17 : decode cX1_take 17 = .ok (.checkcast 103, 3) := dk_192 0 103 (dk_at dksX1_take_0 17 rfl rfl)
theorem dX1_take_20 : decode cX1_take 20 = .ok (.astore_n 2, 1) := dk_77 (dk_at dksX1_take_0 20 rfl rfl)
theorem dX1_take_21 : decode cX1_take 21 = .ok (.aload_n 2, 1) := dk_44 (dk_at dksX1_take_0 21 rfl rfl)
theorem dX1_take_22 : decode cX1_take 22 = .ok (.invokeinterface 158 1, 5) := by decide +kernel
theorem dX1_take_27 : decode cX1_take 27 = .ok (.ifCond .ne 7, 3) := dk_154 0 7 (dk_at dksX1_take_1 5 rfl rfl)
theorem dX1_take_30 : decode cX1_take 30 = .ok (.iconst 1, 1) := dk_4 (dk_at dksX1_take_1 8 rfl rfl)
theorem dX1_take_31 : decode cX1_take 31 = .ok (.goto 4, 3) := dk_167 0 4 (dk_at dksX1_take_1 9 rfl rfl)
theorem dX1_take_34 : decode cX1_take 34 = .ok (.iconst 0, 1) := dk_3 (dk_at dksX1_take_1 12 rfl rfl)
theorem dX1_take_35 : decode cX1_take 35 = .ok (.invokestatic 133, 3) := dk_184 0 133 (dk_at dksX1_take_1 13 rfl rfl)
theorem dX1_take_38 : decode cX1_take 38 = .ok (.aload_n 2, 1) := dk_44 (dk_at dksX1_take_1 16 rfl rfl)
theorem dX1_take_39 : decode cX1_take 39 = .ok (.aload_n 2, 1) := dk_44 (dk_at dksX1_take_1 17 rfl rfl)
theorem dX1_take_40 : decode cX1_take 40 = .ok (.invokeinterface 102 1, 5) := by decide +kernel
theorem dX1_take_45 : decode cX1_take 45 = .ok (.iconst 1, 1) := dk_4 (dk_at dksX1_take_1 23 rfl rfl)
theorem dX1_take_46 : decode cX1_take 46 = .ok (.isub, 1) := dk_100 (dk_at dksX1_take_2 0 rfl rfl)
theorem dX1_take_47 : decode cX1_take 47 = .ok (.invokeinterface 150 2, 5) := by decide +kernel
theorem dX1_take_52 : decode cX1_take 52 = .ok (.checkcast 154, 3) := dk_192 0 154 (dk_at dksX1_take_2 6 rfl rfl)
theorem dX1_take_55 : decode cX1_take 55 = .ok (.getfield 161, 3) := dk_180 0 161 (dk_at dksX1_take_2 9 rfl rfl)
theorem dX1_take_58 : decode cX1_take 58 = .ok (.istore_n 3, 1) := dk_62 (dk_at dksX1_take_2 12 rfl rfl)
theorem dX1_take_59 : decode cX1_take 59 = .ok (.aload_n 2, 1) := dk_44 (dk_at dksX1_take_2 13 rfl rfl)
theorem dX1_take_60 : decode cX1_take 60 = .ok (.aload_n 2, 1) := dk_44 (dk_at dksX1_take_2 14 rfl rfl)
theorem dX1_take_61 : decode cX1_take 61 = .ok (.invokeinterface 102 1, 5) := by decide +kernel
theorem dX1_take_66 : decode cX1_take 66 = .ok (.iconst 1, 1) := dk_4 (dk_at dksX1_take_2 20 rfl rfl)
theorem dX1_take_67 : decode cX1_take 67 = .ok (.isub, 1) := dk_100 (dk_at dksX1_take_2 21 rfl rfl)
theorem dX1_take_68 : decode cX1_take 68 = .ok (.invokeinterface 164 2, 5) := by decide +kernel
theorem dX1_take_73 : decode cX1_take 73 = .ok (.pop, 1) := dk_87 (dk_at dksX1_take_3 5 rfl rfl)
theorem dX1_take_74 : decode cX1_take 74 = .ok (.aload_n 0, 1) := dk_42 (dk_at dksX1_take_3 6 rfl rfl)
theorem dX1_take_75 : decode cX1_take 75 = .ok (.getfield 10, 3) := dk_180 0 10 (dk_at dksX1_take_3 7 rfl rfl)
theorem dX1_take_78 : decode cX1_take 78 = .ok (.iload_n 3, 1) := dk_29 (dk_at dksX1_take_3 10 rfl rfl)
theorem dX1_take_79 : decode cX1_take 79 = .ok (.invokevirtual 108, 3) := dk_182 0 108 (dk_at dksX1_take_3 11 rfl rfl)
theorem dX1_take_82 : decode cX1_take 82 = .ok (.iconst 0, 1) := dk_3 (dk_at dksX1_take_3 14 rfl rfl)
theorem dX1_take_83 : decode cX1_take 83 = .ok (.putfield 112, 3) := dk_181 0 112 (dk_at dksX1_take_3 15 rfl rfl)
theorem dX1_take_86 : decode cX1_take 86 = .ok (.aload_n 0, 1) := dk_42 (dk_at dksX1_take_3 18 rfl rfl)
theorem dX1_take_87 : decode cX1_take 87 = .ok (.invokevirtual 70, 3) := dk_182 0 70 (dk_at dksX1_take_3 19 rfl rfl)
theorem dX1_take_90 : decode cX1_take 90 = .ok (.iload_n 3, 1) := dk_29 (dk_at dksX1_take_3 22 rfl rfl)
theorem dX1_take_91 : decode cX1_take 91 = .ok (.ireturn, 1) := dk_172 (dk_at dksX1_take_3 23 rfl rfl)
abbrev cX1_times : ByteArray := prog_1_method_20_code
def yX1_times : MethodName := ⟨RX1, "times", "(II)I"⟩
def dkwX1_times_1 : List UInt8 := [180, 0, 10, 180, 0, 167, 27, 28, 79, 42, 182, 0, 70, 29, 172]
abbrev dktX1_times_1 : List UInt8 := dkwX1_times_1 ++ []
def dkwX1_times_0 : List UInt8 := [27, 184, 0, 140, 28, 4, 16, 9, 184, 0, 51, 42, 180, 0, 10, 180, 0, 167, 27, 46, 62, 42]
abbrev dktX1_times_0 : List UInt8 := dkwX1_times_0 ++ dktX1_times_1
theorem dksX1_times_0 : cX1_times.data.toList.drop 0 = dktX1_times_0 := by decide +kernel
theorem dksX1_times_1 : cX1_times.data.toList.drop 22 = dktX1_times_1 := dk_seg dksX1_times_0 22 rfl rfl
theorem dX1_times_0 : decode cX1_times 0 = .ok (.iload_n 1, 1) := dk_27 (dk_at dksX1_times_0 0 rfl rfl)
theorem dX1_times_1 : decode cX1_times 1 = .ok (.invokestatic 140, 3) := dk_184 0 140 (dk_at dksX1_times_0 1 rfl rfl)
theorem dX1_times_4 : decode cX1_times 4 = .ok (.iload_n 2, 1) := dk_28 (dk_at dksX1_times_0 4 rfl rfl)
theorem dX1_times_5 : decode cX1_times 5 = .ok (.iconst 1, 1) := dk_4 (dk_at dksX1_times_0 5 rfl rfl)
theorem dX1_times_6 : decode cX1_times 6 = .ok (.bipush 9, 2) := dk_16 9 (dk_at dksX1_times_0 6 rfl rfl)
theorem dX1_times_8 : decode cX1_times 8 = .ok (.invokestatic 51, 3) := dk_184 0 51 (dk_at dksX1_times_0 8 rfl rfl)
theorem dX1_times_11 : decode cX1_times 11 = .ok (.aload_n 0, 1) := dk_42 (dk_at dksX1_times_0 11 rfl rfl)
theorem dX1_times_12 : decode cX1_times 12 = .ok (.getfield 10, 3) := dk_180 0 10 (dk_at dksX1_times_0 12 rfl rfl)
theorem dX1_times_15 : decode cX1_times 15 = .ok (.getfield 167, 3) := dk_180 0 167 (dk_at dksX1_times_0 15 rfl rfl)
theorem dX1_times_18 : decode cX1_times 18 = .ok (.iload_n 1, 1) := dk_27 (dk_at dksX1_times_0 18 rfl rfl)
theorem dX1_times_19 : decode cX1_times 19 = .ok (.iaload, 1) := dk_46 (dk_at dksX1_times_0 19 rfl rfl)
theorem dX1_times_20 : decode cX1_times 20 = .ok (.istore_n 3, 1) := dk_62 (dk_at dksX1_times_0 20 rfl rfl)
theorem dX1_times_21 : decode cX1_times 21 = .ok (.aload_n 0, 1) := dk_42 (dk_at dksX1_times_0 21 rfl rfl)
theorem dX1_times_22 : decode cX1_times 22 = .ok (.getfield 10, 3) := dk_180 0 10 (dk_at dksX1_times_1 0 rfl rfl)
theorem dX1_times_25 : decode cX1_times 25 = .ok (.getfield 167, 3) := dk_180 0 167 (dk_at dksX1_times_1 3 rfl rfl)
theorem dX1_times_28 : decode cX1_times 28 = .ok (.iload_n 1, 1) := dk_27 (dk_at dksX1_times_1 6 rfl rfl)
theorem dX1_times_29 : decode cX1_times 29 = .ok (.iload_n 2, 1) := dk_28 (dk_at dksX1_times_1 7 rfl rfl)
theorem dX1_times_30 : decode cX1_times 30 = .ok (.iastore, 1) := dk_79 (dk_at dksX1_times_1 8 rfl rfl)
theorem dX1_times_31 : decode cX1_times 31 = .ok (.aload_n 0, 1) := dk_42 (dk_at dksX1_times_1 9 rfl rfl)
theorem dX1_times_32 : decode cX1_times 32 = .ok (.invokevirtual 70, 3) := dk_182 0 70 (dk_at dksX1_times_1 10 rfl rfl)
theorem dX1_times_35 : decode cX1_times 35 = .ok (.iload_n 3, 1) := dk_29 (dk_at dksX1_times_1 13 rfl rfl)
theorem dX1_times_36 : decode cX1_times 36 = .ok (.ireturn, 1) := dk_172 (dk_at dksX1_times_1 14 rfl rfl)
abbrev cX1_out : ByteArray := prog_1_method_21_code
def yX1_out : MethodName := ⟨RX1, "out", "(I)I"⟩
def dkwX1_out_1 : List UInt8 := [42, 182, 0, 70, 28, 172]
abbrev dktX1_out_1 : List UInt8 := dkwX1_out_1 ++ []
def dkwX1_out_0 : List UInt8 := [27, 3, 17, 0, 255, 184, 0, 51, 42, 180, 0, 10, 180, 0, 170, 61, 42, 180, 0, 10, 27, 181, 0, 170]
abbrev dktX1_out_0 : List UInt8 := dkwX1_out_0 ++ dktX1_out_1
theorem dksX1_out_0 : cX1_out.data.toList.drop 0 = dktX1_out_0 := by decide +kernel
theorem dksX1_out_1 : cX1_out.data.toList.drop 24 = dktX1_out_1 := dk_seg dksX1_out_0 24 rfl rfl
theorem dX1_out_0 : decode cX1_out 0 = .ok (.iload_n 1, 1) := dk_27 (dk_at dksX1_out_0 0 rfl rfl)
theorem dX1_out_1 : decode cX1_out 1 = .ok (.iconst 0, 1) := dk_3 (dk_at dksX1_out_0 1 rfl rfl)
theorem dX1_out_2 : decode cX1_out 2 = .ok (.sipush 255, 3) := dk_17 0 255 (dk_at dksX1_out_0 2 rfl rfl)
theorem dX1_out_5 : decode cX1_out 5 = .ok (.invokestatic 51, 3) := dk_184 0 51 (dk_at dksX1_out_0 5 rfl rfl)
theorem dX1_out_8 : decode cX1_out 8 = .ok (.aload_n 0, 1) := dk_42 (dk_at dksX1_out_0 8 rfl rfl)
theorem dX1_out_9 : decode cX1_out 9 = .ok (.getfield 10, 3) := dk_180 0 10 (dk_at dksX1_out_0 9 rfl rfl)
theorem dX1_out_12 : decode cX1_out 12 = .ok (.getfield 170, 3) := dk_180 0 170 (dk_at dksX1_out_0 12 rfl rfl)
theorem dX1_out_15 : decode cX1_out 15 = .ok (.istore_n 2, 1) := dk_61 (dk_at dksX1_out_0 15 rfl rfl)
theorem dX1_out_16 : decode cX1_out 16 = .ok (.aload_n 0, 1) := dk_42 (dk_at dksX1_out_0 16 rfl rfl)
theorem dX1_out_17 : decode cX1_out 17 = .ok (.getfield 10, 3) := dk_180 0 10 (dk_at dksX1_out_0 17 rfl rfl)
theorem dX1_out_20 : decode cX1_out 20 = .ok (.iload_n 1, 1) := dk_27 (dk_at dksX1_out_0 20 rfl rfl)
theorem dX1_out_21 : decode cX1_out 21 = .ok (.putfield 170, 3) := dk_181 0 170 (dk_at dksX1_out_0 21 rfl rfl)
theorem dX1_out_24 : decode cX1_out 24 = .ok (.aload_n 0, 1) := dk_42 (dk_at dksX1_out_1 0 rfl rfl)
theorem dX1_out_25 : decode cX1_out 25 = .ok (.invokevirtual 70, 3) := dk_182 0 70 (dk_at dksX1_out_1 1 rfl rfl)
theorem dX1_out_28 : decode cX1_out 28 = .ok (.iload_n 2, 1) := dk_28 (dk_at dksX1_out_1 4 rfl rfl)
theorem dX1_out_29 : decode cX1_out 29 = .ok (.ireturn, 1) := dk_172 (dk_at dksX1_out_1 5 rfl rfl)
abbrev cX1_meant : ByteArray := prog_1_method_22_code
def yX1_meant : MethodName := ⟨RX1, "meant", "(I)I"⟩
def dkwX1_meant_0 : List UInt8 := [27, 16, 8, 184, 0, 55, 42, 180, 0, 10, 182, 0, 173, 27, 46, 172]
abbrev dktX1_meant_0 : List UInt8 := dkwX1_meant_0 ++ []
theorem dksX1_meant_0 : cX1_meant.data.toList.drop 0 = dktX1_meant_0 := by decide +kernel
theorem dX1_meant_0 : decode cX1_meant 0 = .ok (.iload_n 1, 1) := dk_27 (dk_at dksX1_meant_0 0 rfl rfl)
theorem dX1_meant_1 : decode cX1_meant 1 = .ok (.bipush 8, 2) := dk_16 8 (dk_at dksX1_meant_0 1 rfl rfl)
theorem dX1_meant_3 : decode cX1_meant 3 = .ok (.invokestatic 55, 3) := dk_184 0 55 (dk_at dksX1_meant_0 3 rfl rfl)
theorem dX1_meant_6 : decode cX1_meant 6 = .ok (.aload_n 0, 1) := dk_42 (dk_at dksX1_meant_0 6 rfl rfl)
theorem dX1_meant_7 : decode cX1_meant 7 = .ok (.getfield 10, 3) := dk_180 0 10 (dk_at dksX1_meant_0 7 rfl rfl)
theorem dX1_meant_10 : decode cX1_meant 10 = .ok (.invokevirtual 173, 3) := dk_182 0 173 (dk_at dksX1_meant_0 10 rfl rfl)
theorem dX1_meant_13 : decode cX1_meant 13 = .ok (.iload_n 1, 1) := dk_27 (dk_at dksX1_meant_0 13 rfl rfl)
theorem dX1_meant_14 : decode cX1_meant 14 = .ok (.iaload, 1) := dk_46 (dk_at dksX1_meant_0 14 rfl rfl)
theorem dX1_meant_15 : decode cX1_meant 15 = .ok (.ireturn, 1) := dk_172 (dk_at dksX1_meant_0 15 rfl rfl)
abbrev cX1_chosen : ByteArray := prog_1_method_25_code
def yX1_chosen : MethodName := ⟨RX1, "chosen", "(II)I"⟩
def dkwX1_chosen_1 : List UInt8 := [27, 28, 182, 0, 203, 172]
abbrev dktX1_chosen_1 : List UInt8 := dkwX1_chosen_1 ++ []
def dkwX1_chosen_0 : List UInt8 := [27, 42, 180, 0, 34, 180, 0, 181, 185, 0, 102, 1, 0, 184, 0, 55, 28, 3, 16, 7, 184, 0, 51, 42]
abbrev dktX1_chosen_0 : List UInt8 := dkwX1_chosen_0 ++ dktX1_chosen_1
theorem dksX1_chosen_0 : cX1_chosen.data.toList.drop 0 = dktX1_chosen_0 := by decide +kernel
theorem dksX1_chosen_1 : cX1_chosen.data.toList.drop 24 = dktX1_chosen_1 := dk_seg dksX1_chosen_0 24 rfl rfl
theorem dX1_chosen_0 : decode cX1_chosen 0 = .ok (.iload_n 1, 1) := dk_27 (dk_at dksX1_chosen_0 0 rfl rfl)
theorem dX1_chosen_1 : decode cX1_chosen 1 = .ok (.aload_n 0, 1) := dk_42 (dk_at dksX1_chosen_0 1 rfl rfl)
theorem dX1_chosen_2 : decode cX1_chosen 2 = .ok (.getfield 34, 3) := dk_180 0 34 (dk_at dksX1_chosen_0 2 rfl rfl)
theorem dX1_chosen_5 : decode cX1_chosen 5 = .ok (.getfield 181, 3) := dk_180 0 181 (dk_at dksX1_chosen_0 5 rfl rfl)
theorem dX1_chosen_8 : decode cX1_chosen 8 = .ok (.invokeinterface 102 1, 5) := by decide +kernel
theorem dX1_chosen_13 : decode cX1_chosen 13 = .ok (.invokestatic 55, 3) := dk_184 0 55 (dk_at dksX1_chosen_0 13 rfl rfl)
theorem dX1_chosen_16 : decode cX1_chosen 16 = .ok (.iload_n 2, 1) := dk_28 (dk_at dksX1_chosen_0 16 rfl rfl)
theorem dX1_chosen_17 : decode cX1_chosen 17 = .ok (.iconst 0, 1) := dk_3 (dk_at dksX1_chosen_0 17 rfl rfl)
theorem dX1_chosen_18 : decode cX1_chosen 18 = .ok (.bipush 7, 2) := dk_16 7 (dk_at dksX1_chosen_0 18 rfl rfl)
theorem dX1_chosen_20 : decode cX1_chosen 20 = .ok (.invokestatic 51, 3) := dk_184 0 51 (dk_at dksX1_chosen_0 20 rfl rfl)
theorem dX1_chosen_23 : decode cX1_chosen 23 = .ok (.aload_n 0, 1) := dk_42 (dk_at dksX1_chosen_0 23 rfl rfl)
theorem dX1_chosen_24 : decode cX1_chosen 24 = .ok (.iload_n 1, 1) := dk_27 (dk_at dksX1_chosen_1 0 rfl rfl)
theorem dX1_chosen_25 : decode cX1_chosen 25 = .ok (.iload_n 2, 1) := dk_28 (dk_at dksX1_chosen_1 1 rfl rfl)
theorem dX1_chosen_26 : decode cX1_chosen 26 = .ok (.invokevirtual 203, 3) := dk_182 0 203 (dk_at dksX1_chosen_1 2 rfl rfl)
theorem dX1_chosen_29 : decode cX1_chosen 29 = .ok (.ireturn, 1) := dk_172 (dk_at dksX1_chosen_1 5 rfl rfl)
abbrev cX1_ofValue : ByteArray := prog_1_method_27_code
def yX1_ofValue : MethodName := ⟨RX1, "ofValue", "(II)I"⟩
def dkwX1_ofValue_2 : List UInt8 := [182, 0, 248, 28, 184, 0, 252, 172]
abbrev dktX1_ofValue_2 : List UInt8 := dkwX1_ofValue_2 ++ []
def dkwX1_ofValue_1 : List UInt8 := [185, 0, 102, 1, 0, 184, 0, 55, 28, 3, 16, 7, 184, 0, 51, 42, 180, 0, 34, 180, 0, 235, 27]
abbrev dktX1_ofValue_1 : List UInt8 := dkwX1_ofValue_1 ++ dktX1_ofValue_2
def dkwX1_ofValue_0 : List UInt8 := [42, 180, 0, 34, 180, 0, 235, 27, 182, 0, 239, 42, 180, 0, 34, 180, 0, 235, 180, 0, 245]
abbrev dktX1_ofValue_0 : List UInt8 := dkwX1_ofValue_0 ++ dktX1_ofValue_1
theorem dksX1_ofValue_0 : cX1_ofValue.data.toList.drop 0 = dktX1_ofValue_0 := by decide +kernel
theorem dksX1_ofValue_1 : cX1_ofValue.data.toList.drop 21 = dktX1_ofValue_1 := dk_seg dksX1_ofValue_0 21 rfl rfl
theorem dksX1_ofValue_2 : cX1_ofValue.data.toList.drop 44 = dktX1_ofValue_2 := dk_seg dksX1_ofValue_1 23 rfl rfl
theorem dX1_ofValue_0 : decode cX1_ofValue 0 = .ok (.aload_n 0, 1) := dk_42 (dk_at dksX1_ofValue_0 0 rfl rfl)
theorem dX1_ofValue_1 : decode cX1_ofValue 1 = .ok (.getfield 34, 3) := dk_180 0 34 (dk_at dksX1_ofValue_0 1 rfl rfl)
theorem dX1_ofValue_4 : decode cX1_ofValue 4 = .ok (.getfield 235, 3) := dk_180 0 235 (dk_at dksX1_ofValue_0 4 rfl rfl)
theorem dX1_ofValue_7 : decode cX1_ofValue 7 = .ok (.iload_n 1, 1) := dk_27 (dk_at dksX1_ofValue_0 7 rfl rfl)
theorem dX1_ofValue_8 : decode cX1_ofValue 8 = .ok (.invokevirtual 239, 3) := dk_182 0 239 (dk_at dksX1_ofValue_0 8 rfl rfl)
theorem dX1_ofValue_11 : decode cX1_ofValue 11 = .ok (.aload_n 0, 1) := dk_42 (dk_at dksX1_ofValue_0 11 rfl rfl)
theorem dX1_ofValue_12 : decode cX1_ofValue 12 = .ok (.getfield 34, 3) := dk_180 0 34 (dk_at dksX1_ofValue_0 12 rfl rfl)
theorem dX1_ofValue_15 : decode cX1_ofValue 15 = .ok (.getfield 235, 3) := dk_180 0 235 (dk_at dksX1_ofValue_0 15 rfl rfl)
theorem dX1_ofValue_18 : decode cX1_ofValue 18 = .ok (.getfield 245, 3) := dk_180 0 245 (dk_at dksX1_ofValue_0 18 rfl rfl)
theorem dX1_ofValue_21 : decode cX1_ofValue 21 = .ok (.invokeinterface 102 1, 5) := by decide +kernel
theorem dX1_ofValue_26 : decode cX1_ofValue 26 = .ok (.invokestatic 55, 3) := dk_184 0 55 (dk_at dksX1_ofValue_1 5 rfl rfl)
theorem dX1_ofValue_29 : decode cX1_ofValue 29 = .ok (.iload_n 2, 1) := dk_28 (dk_at dksX1_ofValue_1 8 rfl rfl)
theorem dX1_ofValue_30 : decode cX1_ofValue 30 = .ok (.iconst 0, 1) := dk_3 (dk_at dksX1_ofValue_1 9 rfl rfl)
theorem dX1_ofValue_31 : decode cX1_ofValue 31 = .ok (.bipush 7, 2) := dk_16 7 (dk_at dksX1_ofValue_1 10 rfl rfl)
theorem dX1_ofValue_33 : decode cX1_ofValue 33 = .ok (.invokestatic 51, 3) := dk_184 0 51 (dk_at dksX1_ofValue_1 12 rfl rfl)
theorem dX1_ofValue_36 : decode cX1_ofValue 36 = .ok (.aload_n 0, 1) := dk_42 (dk_at dksX1_ofValue_1 15 rfl rfl)
theorem dX1_ofValue_37 : decode cX1_ofValue 37 = .ok (.getfield 34, 3) := dk_180 0 34 (dk_at dksX1_ofValue_1 16 rfl rfl)
theorem dX1_ofValue_40 : decode cX1_ofValue 40 = .ok (.getfield 235, 3) := dk_180 0 235 (dk_at dksX1_ofValue_1 19 rfl rfl)
theorem dX1_ofValue_43 : decode cX1_ofValue 43 = .ok (.iload_n 1, 1) := dk_27 (dk_at dksX1_ofValue_1 22 rfl rfl)
theorem dX1_ofValue_44 : decode cX1_ofValue 44 = .ok (.invokevirtual 248, 3) := dk_182 0 248 (dk_at dksX1_ofValue_2 0 rfl rfl)
theorem dX1_ofValue_47 : decode cX1_ofValue 47 = .ok (.iload_n 2, 1) := dk_28 (dk_at dksX1_ofValue_2 3 rfl rfl)
theorem dX1_ofValue_48 : decode cX1_ofValue 48 = .ok (.invokestatic 252, 3) := dk_184 0 252 (dk_at dksX1_ofValue_2 4 rfl rfl)
theorem dX1_ofValue_51 : decode cX1_ofValue 51 = .ok (.ireturn, 1) := dk_172 (dk_at dksX1_ofValue_2 7 rfl rfl)
abbrev cX1_mapAt : ByteArray := prog_1_method_30_code
def yX1_mapAt : MethodName := ⟨RX1, "mapAt", "(II)I"⟩
def dkwX1_mapAt_1 : List UInt8 := [183, 0, 50, 191, 28, 3, 6, 184, 0, 51, 42, 29, 28, 182, 1, 9, 172]
abbrev dktX1_mapAt_1 : List UInt8 := dkwX1_mapAt_1 ++ []
def dkwX1_mapAt_0 : List UInt8 := [27, 156, 0, 7, 2, 167, 0, 8, 42, 27, 182, 1, 6, 62, 29, 2, 160, 0, 11, 187, 0, 48, 89]
abbrev dktX1_mapAt_0 : List UInt8 := dkwX1_mapAt_0 ++ dktX1_mapAt_1
theorem dksX1_mapAt_0 : cX1_mapAt.data.toList.drop 0 = dktX1_mapAt_0 := by decide +kernel
theorem dksX1_mapAt_1 : cX1_mapAt.data.toList.drop 23 = dktX1_mapAt_1 := dk_seg dksX1_mapAt_0 23 rfl rfl
theorem dX1_mapAt_0 : decode cX1_mapAt 0 = .ok (.iload_n 1, 1) := dk_27 (dk_at dksX1_mapAt_0 0 rfl rfl)
theorem dX1_mapAt_1 : decode cX1_mapAt 1 = .ok (.ifCond .ge 7, 3) := dk_156 0 7 (dk_at dksX1_mapAt_0 1 rfl rfl)
theorem dX1_mapAt_4 : decode cX1_mapAt 4 = .ok (.iconst (-1), 1) := dk_2 (dk_at dksX1_mapAt_0 4 rfl rfl)
theorem dX1_mapAt_5 : decode cX1_mapAt 5 = .ok (.goto 8, 3) := dk_167 0 8 (dk_at dksX1_mapAt_0 5 rfl rfl)
theorem dX1_mapAt_8 : decode cX1_mapAt 8 = .ok (.aload_n 0, 1) := dk_42 (dk_at dksX1_mapAt_0 8 rfl rfl)
theorem dX1_mapAt_9 : decode cX1_mapAt 9 = .ok (.iload_n 1, 1) := dk_27 (dk_at dksX1_mapAt_0 9 rfl rfl)
theorem dX1_mapAt_10 : decode cX1_mapAt 10 = .ok (.invokevirtual 262, 3) := dk_182 1 6 (dk_at dksX1_mapAt_0 10 rfl rfl)
theorem dX1_mapAt_13 : decode cX1_mapAt 13 = .ok (.istore_n 3, 1) := dk_62 (dk_at dksX1_mapAt_0 13 rfl rfl)
theorem dX1_mapAt_14 : decode cX1_mapAt 14 = .ok (.iload_n 3, 1) := dk_29 (dk_at dksX1_mapAt_0 14 rfl rfl)
theorem dX1_mapAt_15 : decode cX1_mapAt 15 = .ok (.iconst (-1), 1) := dk_2 (dk_at dksX1_mapAt_0 15 rfl rfl)
theorem dX1_mapAt_16 : decode cX1_mapAt 16 = .ok (.if_icmp .ne 11, 3) := dk_160 0 11 (dk_at dksX1_mapAt_0 16 rfl rfl)
theorem dX1_mapAt_19 : decode cX1_mapAt 19 = .ok (.new 48, 3) := dk_187 0 48 (dk_at dksX1_mapAt_0 19 rfl rfl)
theorem dX1_mapAt_22 : decode cX1_mapAt 22 = .ok (.dup, 1) := dk_89 (dk_at dksX1_mapAt_0 22 rfl rfl)
theorem dX1_mapAt_23 : decode cX1_mapAt 23 = .ok (.invokespecial 50, 3) := dk_183 0 50 (dk_at dksX1_mapAt_1 0 rfl rfl)
theorem dX1_mapAt_26 : decode cX1_mapAt 26 = .ok (.athrow, 1) := dk_191 (dk_at dksX1_mapAt_1 3 rfl rfl)
theorem dX1_mapAt_27 : decode cX1_mapAt 27 = .ok (.iload_n 2, 1) := dk_28 (dk_at dksX1_mapAt_1 4 rfl rfl)
theorem dX1_mapAt_28 : decode cX1_mapAt 28 = .ok (.iconst 0, 1) := dk_3 (dk_at dksX1_mapAt_1 5 rfl rfl)
theorem dX1_mapAt_29 : decode cX1_mapAt 29 = .ok (.iconst 3, 1) := dk_6 (dk_at dksX1_mapAt_1 6 rfl rfl)
theorem dX1_mapAt_30 : decode cX1_mapAt 30 = .ok (.invokestatic 51, 3) := dk_184 0 51 (dk_at dksX1_mapAt_1 7 rfl rfl)
theorem dX1_mapAt_33 : decode cX1_mapAt 33 = .ok (.aload_n 0, 1) := dk_42 (dk_at dksX1_mapAt_1 10 rfl rfl)
theorem dX1_mapAt_34 : decode cX1_mapAt 34 = .ok (.iload_n 3, 1) := dk_29 (dk_at dksX1_mapAt_1 11 rfl rfl)
theorem dX1_mapAt_35 : decode cX1_mapAt 35 = .ok (.iload_n 2, 1) := dk_28 (dk_at dksX1_mapAt_1 12 rfl rfl)
theorem dX1_mapAt_36 : decode cX1_mapAt 36 = .ok (.invokevirtual 265, 3) := dk_182 1 9 (dk_at dksX1_mapAt_1 13 rfl rfl)
theorem dX1_mapAt_39 : decode cX1_mapAt 39 = .ok (.ireturn, 1) := dk_172 (dk_at dksX1_mapAt_1 16 rfl rfl)
abbrev cX1_pointOf : ByteArray := prog_1_method_28_code
def yX1_pointOf : MethodName := ⟨RX1, "pointOf", "(I)I"⟩
def dkwX1_pointOf_2 : List UInt8 := [160, 0, 5, 29, 172, 132, 2, 1, 132, 3, 1, 167, 255, 203, 2, 172]
abbrev dktX1_pointOf_2 : List UInt8 := dkwX1_pointOf_2 ++ []
def dkwX1_pointOf_1 : List UInt8 := [180, 0, 181, 29, 185, 0, 150, 2, 0, 192, 0, 177, 16, 9, 182, 1, 0, 153, 0, 13, 28, 27]
abbrev dktX1_pointOf_1 : List UInt8 := dkwX1_pointOf_1 ++ dktX1_pointOf_2
def dkwX1_pointOf_0 : List UInt8 := [3, 61, 3, 62, 29, 42, 180, 0, 34, 180, 0, 181, 185, 0, 102, 1, 0, 162, 0, 43, 42, 180, 0, 34]
abbrev dktX1_pointOf_0 : List UInt8 := dkwX1_pointOf_0 ++ dktX1_pointOf_1
theorem dksX1_pointOf_0 : cX1_pointOf.data.toList.drop 0 = dktX1_pointOf_0 := by decide +kernel
theorem dksX1_pointOf_1 : cX1_pointOf.data.toList.drop 24 = dktX1_pointOf_1 := dk_seg dksX1_pointOf_0 24 rfl rfl
theorem dksX1_pointOf_2 : cX1_pointOf.data.toList.drop 46 = dktX1_pointOf_2 := dk_seg dksX1_pointOf_1 22 rfl rfl
theorem dX1_pointOf_0 : decode cX1_pointOf 0 = .ok (.iconst 0, 1) := dk_3 (dk_at dksX1_pointOf_0 0 rfl rfl)
theorem dX1_pointOf_1 : decode cX1_pointOf 1 = .ok (.istore_n 2, 1) := dk_61 (dk_at dksX1_pointOf_0 1 rfl rfl)
theorem dX1_pointOf_2 : decode cX1_pointOf 2 = .ok (.iconst 0, 1) := dk_3 (dk_at dksX1_pointOf_0 2 rfl rfl)
theorem dX1_pointOf_3 : decode cX1_pointOf 3 = .ok (.istore_n 3, 1) := dk_62 (dk_at dksX1_pointOf_0 3 rfl rfl)
theorem dX1_pointOf_4 : decode cX1_pointOf 4 = .ok (.iload_n 3, 1) := dk_29 (dk_at dksX1_pointOf_0 4 rfl rfl)
theorem dX1_pointOf_5 : decode cX1_pointOf 5 = .ok (.aload_n 0, 1) := dk_42 (dk_at dksX1_pointOf_0 5 rfl rfl)
theorem dX1_pointOf_6 : decode cX1_pointOf 6 = .ok (.getfield 34, 3) := dk_180 0 34 (dk_at dksX1_pointOf_0 6 rfl rfl)
theorem dX1_pointOf_9 : decode cX1_pointOf 9 = .ok (.getfield 181, 3) := dk_180 0 181 (dk_at dksX1_pointOf_0 9 rfl rfl)
theorem dX1_pointOf_12 : decode cX1_pointOf 12 = .ok (.invokeinterface 102 1, 5) := by decide +kernel
theorem dX1_pointOf_17 : decode cX1_pointOf 17 = .ok (.if_icmp .ge 43, 3) := dk_162 0 43 (dk_at dksX1_pointOf_0 17 rfl rfl)
theorem dX1_pointOf_20 : decode cX1_pointOf 20 = .ok (.aload_n 0, 1) := dk_42 (dk_at dksX1_pointOf_0 20 rfl rfl)
theorem dX1_pointOf_21 : decode cX1_pointOf 21 = .ok (.getfield 34, 3) := dk_180 0 34 (dk_at dksX1_pointOf_0 21 rfl rfl)
theorem dX1_pointOf_24 : decode cX1_pointOf 24 = .ok (.getfield 181, 3) := dk_180 0 181 (dk_at dksX1_pointOf_1 0 rfl rfl)
theorem dX1_pointOf_27 : decode cX1_pointOf 27 = .ok (.iload_n 3, 1) := dk_29 (dk_at dksX1_pointOf_1 3 rfl rfl)
theorem dX1_pointOf_28 : decode cX1_pointOf 28 = .ok (.invokeinterface 150 2, 5) := by decide +kernel
theorem dX1_pointOf_33 : decode cX1_pointOf 33 = .ok (.checkcast 177, 3) := dk_192 0 177 (dk_at dksX1_pointOf_1 9 rfl rfl)
theorem dX1_pointOf_36 : decode cX1_pointOf 36 = .ok (.bipush 9, 2) := dk_16 9 (dk_at dksX1_pointOf_1 12 rfl rfl)
theorem dX1_pointOf_38 : decode cX1_pointOf 38 = .ok (.invokevirtual 256, 3) := dk_182 1 0 (dk_at dksX1_pointOf_1 14 rfl rfl)
theorem dX1_pointOf_41 : decode cX1_pointOf 41 = .ok (.ifCond .eq 13, 3) := dk_153 0 13 (dk_at dksX1_pointOf_1 17 rfl rfl)
theorem dX1_pointOf_44 : decode cX1_pointOf 44 = .ok (.iload_n 2, 1) := dk_28 (dk_at dksX1_pointOf_1 20 rfl rfl)
theorem dX1_pointOf_45 : decode cX1_pointOf 45 = .ok (.iload_n 1, 1) := dk_27 (dk_at dksX1_pointOf_1 21 rfl rfl)
theorem dX1_pointOf_46 : decode cX1_pointOf 46 = .ok (.if_icmp .ne 5, 3) := dk_160 0 5 (dk_at dksX1_pointOf_2 0 rfl rfl)
theorem dX1_pointOf_49 : decode cX1_pointOf 49 = .ok (.iload_n 3, 1) := dk_29 (dk_at dksX1_pointOf_2 3 rfl rfl)
theorem dX1_pointOf_50 : decode cX1_pointOf 50 = .ok (.ireturn, 1) := dk_172 (dk_at dksX1_pointOf_2 4 rfl rfl)
theorem dX1_pointOf_51 : decode cX1_pointOf 51 = .ok (.iinc 2 1, 3) := dk_132 2 1 (dk_at dksX1_pointOf_2 5 rfl rfl)
theorem dX1_pointOf_54 : decode cX1_pointOf 54 = .ok (.iinc 3 1, 3) := dk_132 3 1 (dk_at dksX1_pointOf_2 8 rfl rfl)
theorem dX1_pointOf_57 : decode cX1_pointOf 57 = .ok (.goto (-53), 3) := dk_167 255 203 (dk_at dksX1_pointOf_2 11 rfl rfl)
theorem dX1_pointOf_60 : decode cX1_pointOf 60 = .ok (.iconst (-1), 1) := dk_2 (dk_at dksX1_pointOf_2 14 rfl rfl)
theorem dX1_pointOf_61 : decode cX1_pointOf 61 = .ok (.ireturn, 1) := dk_172 (dk_at dksX1_pointOf_2 15 rfl rfl)
abbrev cX1_cost : ByteArray := prog_1_method_31_code
def yX1_cost : MethodName := ⟨RX1, "cost", "(I)I"⟩
def dkwX1_cost_1 : List UInt8 := [46, 172]
abbrev dktX1_cost_1 : List UInt8 := dkwX1_cost_1 ++ []
def dkwX1_cost_0 : List UInt8 := [27, 42, 180, 0, 10, 180, 0, 98, 185, 0, 102, 1, 0, 184, 0, 55, 42, 180, 0, 34, 180, 1, 12, 27]
abbrev dktX1_cost_0 : List UInt8 := dkwX1_cost_0 ++ dktX1_cost_1
theorem dksX1_cost_0 : cX1_cost.data.toList.drop 0 = dktX1_cost_0 := by decide +kernel
theorem dksX1_cost_1 : cX1_cost.data.toList.drop 24 = dktX1_cost_1 := dk_seg dksX1_cost_0 24 rfl rfl
theorem dX1_cost_0 : decode cX1_cost 0 = .ok (.iload_n 1, 1) := dk_27 (dk_at dksX1_cost_0 0 rfl rfl)
theorem dX1_cost_1 : decode cX1_cost 1 = .ok (.aload_n 0, 1) := dk_42 (dk_at dksX1_cost_0 1 rfl rfl)
theorem dX1_cost_2 : decode cX1_cost 2 = .ok (.getfield 10, 3) := dk_180 0 10 (dk_at dksX1_cost_0 2 rfl rfl)
theorem dX1_cost_5 : decode cX1_cost 5 = .ok (.getfield 98, 3) := dk_180 0 98 (dk_at dksX1_cost_0 5 rfl rfl)
theorem dX1_cost_8 : decode cX1_cost 8 = .ok (.invokeinterface 102 1, 5) := by decide +kernel
theorem dX1_cost_13 : decode cX1_cost 13 = .ok (.invokestatic 55, 3) := dk_184 0 55 (dk_at dksX1_cost_0 13 rfl rfl)
theorem dX1_cost_16 : decode cX1_cost 16 = .ok (.aload_n 0, 1) := dk_42 (dk_at dksX1_cost_0 16 rfl rfl)
theorem dX1_cost_17 : decode cX1_cost 17 = .ok (.getfield 34, 3) := dk_180 0 34 (dk_at dksX1_cost_0 17 rfl rfl)
theorem dX1_cost_20 : decode cX1_cost 20 = .ok (.getfield 268, 3) := dk_180 1 12 (dk_at dksX1_cost_0 20 rfl rfl)
theorem dX1_cost_23 : decode cX1_cost 23 = .ok (.iload_n 1, 1) := dk_27 (dk_at dksX1_cost_0 23 rfl rfl)
theorem dX1_cost_24 : decode cX1_cost 24 = .ok (.iaload, 1) := dk_46 (dk_at dksX1_cost_1 0 rfl rfl)
theorem dX1_cost_25 : decode cX1_cost 25 = .ok (.ireturn, 1) := dk_172 (dk_at dksX1_cost_1 1 rfl rfl)
abbrev cX1_code : ByteArray := prog_1_method_33_code
def yX1_code : MethodName := ⟨RX1, "code", "(II)I"⟩
def dkwX1_code_1 : List UInt8 := [28, 182, 1, 29, 172]
abbrev dktX1_code_1 : List UInt8 := dkwX1_code_1 ++ []
def dkwX1_code_0 : List UInt8 := [27, 42, 180, 0, 34, 180, 1, 15, 185, 0, 102, 1, 0, 184, 0, 55, 28, 3, 8, 184, 0, 51, 42, 27]
abbrev dktX1_code_0 : List UInt8 := dkwX1_code_0 ++ dktX1_code_1
theorem dksX1_code_0 : cX1_code.data.toList.drop 0 = dktX1_code_0 := by decide +kernel
theorem dksX1_code_1 : cX1_code.data.toList.drop 24 = dktX1_code_1 := dk_seg dksX1_code_0 24 rfl rfl
theorem dX1_code_0 : decode cX1_code 0 = .ok (.iload_n 1, 1) := dk_27 (dk_at dksX1_code_0 0 rfl rfl)
theorem dX1_code_1 : decode cX1_code 1 = .ok (.aload_n 0, 1) := dk_42 (dk_at dksX1_code_0 1 rfl rfl)
theorem dX1_code_2 : decode cX1_code 2 = .ok (.getfield 34, 3) := dk_180 0 34 (dk_at dksX1_code_0 2 rfl rfl)
theorem dX1_code_5 : decode cX1_code 5 = .ok (.getfield 271, 3) := dk_180 1 15 (dk_at dksX1_code_0 5 rfl rfl)
theorem dX1_code_8 : decode cX1_code 8 = .ok (.invokeinterface 102 1, 5) := by decide +kernel
theorem dX1_code_13 : decode cX1_code 13 = .ok (.invokestatic 55, 3) := dk_184 0 55 (dk_at dksX1_code_0 13 rfl rfl)
theorem dX1_code_16 : decode cX1_code 16 = .ok (.iload_n 2, 1) := dk_28 (dk_at dksX1_code_0 16 rfl rfl)
theorem dX1_code_17 : decode cX1_code 17 = .ok (.iconst 0, 1) := dk_3 (dk_at dksX1_code_0 17 rfl rfl)
theorem dX1_code_18 : decode cX1_code 18 = .ok (.iconst 5, 1) := dk_8 (dk_at dksX1_code_0 18 rfl rfl)
theorem dX1_code_19 : decode cX1_code 19 = .ok (.invokestatic 51, 3) := dk_184 0 51 (dk_at dksX1_code_0 19 rfl rfl)
theorem dX1_code_22 : decode cX1_code 22 = .ok (.aload_n 0, 1) := dk_42 (dk_at dksX1_code_0 22 rfl rfl)
theorem dX1_code_23 : decode cX1_code 23 = .ok (.iload_n 1, 1) := dk_27 (dk_at dksX1_code_0 23 rfl rfl)
theorem dX1_code_24 : decode cX1_code 24 = .ok (.iload_n 2, 1) := dk_28 (dk_at dksX1_code_1 0 rfl rfl)
theorem dX1_code_25 : decode cX1_code 25 = .ok (.invokevirtual 285, 3) := dk_182 1 29 (dk_at dksX1_code_1 1 rfl rfl)
theorem dX1_code_28 : decode cX1_code 28 = .ok (.ireturn, 1) := dk_172 (dk_at dksX1_code_1 4 rfl rfl)
abbrev cX1_begins : ByteArray := prog_1_method_34_code
def yX1_begins : MethodName := ⟨RX1, "begins", "(I)I"⟩
def dkwX1_begins_1 : List UInt8 := [185, 0, 150, 2, 0, 192, 1, 18, 180, 1, 32, 172]
abbrev dktX1_begins_1 : List UInt8 := dkwX1_begins_1 ++ []
def dkwX1_begins_0 : List UInt8 := [27, 42, 180, 0, 34, 180, 1, 15, 185, 0, 102, 1, 0, 184, 0, 55, 42, 180, 0, 34, 180, 1, 15, 27]
abbrev dktX1_begins_0 : List UInt8 := dkwX1_begins_0 ++ dktX1_begins_1
theorem dksX1_begins_0 : cX1_begins.data.toList.drop 0 = dktX1_begins_0 := by decide +kernel
theorem dksX1_begins_1 : cX1_begins.data.toList.drop 24 = dktX1_begins_1 := dk_seg dksX1_begins_0 24 rfl rfl
theorem dX1_begins_0 : decode cX1_begins 0 = .ok (.iload_n 1, 1) := dk_27 (dk_at dksX1_begins_0 0 rfl rfl)
theorem dX1_begins_1 : decode cX1_begins 1 = .ok (.aload_n 0, 1) := dk_42 (dk_at dksX1_begins_0 1 rfl rfl)
theorem dX1_begins_2 : decode cX1_begins 2 = .ok (.getfield 34, 3) := dk_180 0 34 (dk_at dksX1_begins_0 2 rfl rfl)
theorem dX1_begins_5 : decode cX1_begins 5 = .ok (.getfield 271, 3) := dk_180 1 15 (dk_at dksX1_begins_0 5 rfl rfl)
theorem dX1_begins_8 : decode cX1_begins 8 = .ok (.invokeinterface 102 1, 5) := by decide +kernel
theorem dX1_begins_13 : decode cX1_begins 13 = .ok (.invokestatic 55, 3) := dk_184 0 55 (dk_at dksX1_begins_0 13 rfl rfl)
theorem dX1_begins_16 : decode cX1_begins 16 = .ok (.aload_n 0, 1) := dk_42 (dk_at dksX1_begins_0 16 rfl rfl)
theorem dX1_begins_17 : decode cX1_begins 17 = .ok (.getfield 34, 3) := dk_180 0 34 (dk_at dksX1_begins_0 17 rfl rfl)
theorem dX1_begins_20 : decode cX1_begins 20 = .ok (.getfield 271, 3) := dk_180 1 15 (dk_at dksX1_begins_0 20 rfl rfl)
theorem dX1_begins_23 : decode cX1_begins 23 = .ok (.iload_n 1, 1) := dk_27 (dk_at dksX1_begins_0 23 rfl rfl)
theorem dX1_begins_24 : decode cX1_begins 24 = .ok (.invokeinterface 150 2, 5) := by decide +kernel
theorem dX1_begins_29 : decode cX1_begins 29 = .ok (.checkcast 274, 3) := dk_192 1 18 (dk_at dksX1_begins_1 5 rfl rfl)
theorem dX1_begins_32 : decode cX1_begins 32 = .ok (.getfield 288, 3) := dk_180 1 32 (dk_at dksX1_begins_1 8 rfl rfl)
theorem dX1_begins_35 : decode cX1_begins 35 = .ok (.ireturn, 1) := dk_172 (dk_at dksX1_begins_1 11 rfl rfl)
abbrev cX1_answer : ByteArray := prog_1_method_35_code
def yX1_answer : MethodName := ⟨RX1, "answer", "(I)I"⟩
def dkwX1_answer_1 : List UInt8 := [2, 4, 184, 0, 55, 42, 180, 0, 34, 27, 182, 1, 39, 172]
abbrev dktX1_answer_1 : List UInt8 := dkwX1_answer_1 ++ []
def dkwX1_answer_0 : List UInt8 := [27, 16, 8, 184, 0, 55, 42, 180, 0, 10, 180, 0, 170, 27, 184, 1, 35, 153, 0, 7, 3, 167, 0, 4]
abbrev dktX1_answer_0 : List UInt8 := dkwX1_answer_0 ++ dktX1_answer_1
theorem dksX1_answer_0 : cX1_answer.data.toList.drop 0 = dktX1_answer_0 := by decide +kernel
theorem dksX1_answer_1 : cX1_answer.data.toList.drop 24 = dktX1_answer_1 := dk_seg dksX1_answer_0 24 rfl rfl
theorem dX1_answer_0 : decode cX1_answer 0 = .ok (.iload_n 1, 1) := dk_27 (dk_at dksX1_answer_0 0 rfl rfl)
theorem dX1_answer_1 : decode cX1_answer 1 = .ok (.bipush 8, 2) := dk_16 8 (dk_at dksX1_answer_0 1 rfl rfl)
theorem dX1_answer_3 : decode cX1_answer 3 = .ok (.invokestatic 55, 3) := dk_184 0 55 (dk_at dksX1_answer_0 3 rfl rfl)
theorem dX1_answer_6 : decode cX1_answer 6 = .ok (.aload_n 0, 1) := dk_42 (dk_at dksX1_answer_0 6 rfl rfl)
theorem dX1_answer_7 : decode cX1_answer 7 = .ok (.getfield 10, 3) := dk_180 0 10 (dk_at dksX1_answer_0 7 rfl rfl)
theorem dX1_answer_10 : decode cX1_answer 10 = .ok (.getfield 170, 3) := dk_180 0 170 (dk_at dksX1_answer_0 10 rfl rfl)
theorem dX1_answer_13 : decode cX1_answer 13 = .ok (.iload_n 1, 1) := dk_27 (dk_at dksX1_answer_0 13 rfl rfl)
theorem dX1_answer_14 : decode cX1_answer 14 = .ok (.invokestatic 291, 3) := dk_184 1 35 (dk_at dksX1_answer_0 14 rfl rfl)
theorem dX1_answer_17 : decode cX1_answer 17 = .ok (.ifCond .eq 7, 3) := dk_153 0 7 (dk_at dksX1_answer_0 17 rfl rfl)
theorem dX1_answer_20 : decode cX1_answer 20 = .ok (.iconst 0, 1) := dk_3 (dk_at dksX1_answer_0 20 rfl rfl)
theorem dX1_answer_21 : decode cX1_answer 21 = .ok (.goto 4, 3) := dk_167 0 4 (dk_at dksX1_answer_0 21 rfl rfl)
theorem dX1_answer_24 : decode cX1_answer 24 = .ok (.iconst (-1), 1) := dk_2 (dk_at dksX1_answer_1 0 rfl rfl)
theorem dX1_answer_25 : decode cX1_answer 25 = .ok (.iconst 1, 1) := dk_4 (dk_at dksX1_answer_1 1 rfl rfl)
theorem dX1_answer_26 : decode cX1_answer 26 = .ok (.invokestatic 55, 3) := dk_184 0 55 (dk_at dksX1_answer_1 2 rfl rfl)
theorem dX1_answer_29 : decode cX1_answer 29 = .ok (.aload_n 0, 1) := dk_42 (dk_at dksX1_answer_1 5 rfl rfl)
theorem dX1_answer_30 : decode cX1_answer 30 = .ok (.getfield 34, 3) := dk_180 0 34 (dk_at dksX1_answer_1 6 rfl rfl)
theorem dX1_answer_33 : decode cX1_answer 33 = .ok (.iload_n 1, 1) := dk_27 (dk_at dksX1_answer_1 9 rfl rfl)
theorem dX1_answer_34 : decode cX1_answer 34 = .ok (.invokevirtual 295, 3) := dk_182 1 39 (dk_at dksX1_answer_1 10 rfl rfl)
theorem dX1_answer_37 : decode cX1_answer 37 = .ok (.ireturn, 1) := dk_172 (dk_at dksX1_answer_1 13 rfl rfl)
abbrev cX1_many : ByteArray := prog_1_method_38_code
def yX1_many : MethodName := ⟨RX1, "many", "(I)I"⟩
def dkwX1_many_0 : List UInt8 := [27, 3, 16, 15, 184, 0, 51, 42, 27, 182, 1, 48, 172]
abbrev dktX1_many_0 : List UInt8 := dkwX1_many_0 ++ []
theorem dksX1_many_0 : cX1_many.data.toList.drop 0 = dktX1_many_0 := by decide +kernel
theorem dX1_many_0 : decode cX1_many 0 = .ok (.iload_n 1, 1) := dk_27 (dk_at dksX1_many_0 0 rfl rfl)
theorem dX1_many_1 : decode cX1_many 1 = .ok (.iconst 0, 1) := dk_3 (dk_at dksX1_many_0 1 rfl rfl)
theorem dX1_many_2 : decode cX1_many 2 = .ok (.bipush 15, 2) := dk_16 15 (dk_at dksX1_many_0 2 rfl rfl)
theorem dX1_many_4 : decode cX1_many 4 = .ok (.invokestatic 51, 3) := dk_184 0 51 (dk_at dksX1_many_0 4 rfl rfl)
theorem dX1_many_7 : decode cX1_many 7 = .ok (.aload_n 0, 1) := dk_42 (dk_at dksX1_many_0 7 rfl rfl)
theorem dX1_many_8 : decode cX1_many 8 = .ok (.iload_n 1, 1) := dk_27 (dk_at dksX1_many_0 8 rfl rfl)
theorem dX1_many_9 : decode cX1_many 9 = .ok (.invokevirtual 304, 3) := dk_182 1 48 (dk_at dksX1_many_0 9 rfl rfl)
theorem dX1_many_12 : decode cX1_many 12 = .ok (.ireturn, 1) := dk_172 (dk_at dksX1_many_0 12 rfl rfl)
abbrev cX1_with : ByteArray := prog_1_method_41_code
def yX1_with : MethodName := ⟨RX1, "with", "(IIZI)I"⟩
def dkwX1_with_1 : List UInt8 := [182, 1, 66, 21, 4, 182, 1, 45, 172]
abbrev dktX1_with_1 : List UInt8 := dkwX1_with_1 ++ []
def dkwX1_with_0 : List UInt8 := [27, 28, 184, 0, 59, 21, 4, 6, 16, 15, 184, 0, 51, 42, 42, 180, 0, 25, 27, 28, 29, 182, 1, 63]
abbrev dktX1_with_0 : List UInt8 := dkwX1_with_0 ++ dktX1_with_1
theorem dksX1_with_0 : cX1_with.data.toList.drop 0 = dktX1_with_0 := by decide +kernel
theorem dksX1_with_1 : cX1_with.data.toList.drop 24 = dktX1_with_1 := dk_seg dksX1_with_0 24 rfl rfl
theorem dX1_with_0 : decode cX1_with 0 = .ok (.iload_n 1, 1) := dk_27 (dk_at dksX1_with_0 0 rfl rfl)
theorem dX1_with_1 : decode cX1_with 1 = .ok (.iload_n 2, 1) := dk_28 (dk_at dksX1_with_0 1 rfl rfl)
theorem dX1_with_2 : decode cX1_with 2 = .ok (.invokestatic 59, 3) := dk_184 0 59 (dk_at dksX1_with_0 2 rfl rfl)
theorem dX1_with_5 : decode cX1_with 5 = .ok (.iload 4, 2) := dk_21 4 (dk_at dksX1_with_0 5 rfl rfl)
theorem dX1_with_7 : decode cX1_with 7 = .ok (.iconst 3, 1) := dk_6 (dk_at dksX1_with_0 7 rfl rfl)
theorem dX1_with_8 : decode cX1_with 8 = .ok (.bipush 15, 2) := dk_16 15 (dk_at dksX1_with_0 8 rfl rfl)
theorem dX1_with_10 : decode cX1_with 10 = .ok (.invokestatic 51, 3) := dk_184 0 51 (dk_at dksX1_with_0 10 rfl rfl)
theorem dX1_with_13 : decode cX1_with 13 = .ok (.aload_n 0, 1) := dk_42 (dk_at dksX1_with_0 13 rfl rfl)
theorem dX1_with_14 : decode cX1_with 14 = .ok (.aload_n 0, 1) := dk_42 (dk_at dksX1_with_0 14 rfl rfl)
theorem dX1_with_15 : decode cX1_with 15 = .ok (.getfield 25, 3) := dk_180 0 25 (dk_at dksX1_with_0 15 rfl rfl)
theorem dX1_with_18 : decode cX1_with 18 = .ok (.iload_n 1, 1) := dk_27 (dk_at dksX1_with_0 18 rfl rfl)
theorem dX1_with_19 : decode cX1_with 19 = .ok (.iload_n 2, 1) := dk_28 (dk_at dksX1_with_0 19 rfl rfl)
theorem dX1_with_20 : decode cX1_with 20 = .ok (.iload_n 3, 1) := dk_29 (dk_at dksX1_with_0 20 rfl rfl)
theorem dX1_with_21 : decode cX1_with 21 = .ok (.invokevirtual 319, 3) := dk_182 1 63 (dk_at dksX1_with_0 21 rfl rfl)
theorem dX1_with_24 : decode cX1_with 24 = .ok (.invokevirtual 322, 3) := dk_182 1 66 (dk_at dksX1_with_1 0 rfl rfl)
theorem dX1_with_27 : decode cX1_with 27 = .ok (.iload 4, 2) := dk_21 4 (dk_at dksX1_with_1 3 rfl rfl)
theorem dX1_with_29 : decode cX1_with 29 = .ok (.invokevirtual 301, 3) := dk_182 1 45 (dk_at dksX1_with_1 5 rfl rfl)
theorem dX1_with_32 : decode cX1_with 32 = .ok (.ireturn, 1) := dk_172 (dk_at dksX1_with_1 8 rfl rfl)
abbrev cX1_cyclesWith : ByteArray := prog_1_method_42_code
def yX1_cyclesWith : MethodName := ⟨RX1, "cyclesWith", "(II)I"⟩
def dkwX1_cyclesWith_1 : List UInt8 := [182, 1, 66, 180, 1, 51, 180, 1, 70, 172]
abbrev dktX1_cyclesWith_1 : List UInt8 := dkwX1_cyclesWith_1 ++ []
def dkwX1_cyclesWith_0 : List UInt8 := [27, 16, 8, 184, 0, 55, 28, 4, 16, 9, 184, 0, 51, 42, 42, 180, 0, 25, 27, 28, 182, 0, 73]
abbrev dktX1_cyclesWith_0 : List UInt8 := dkwX1_cyclesWith_0 ++ dktX1_cyclesWith_1
theorem dksX1_cyclesWith_0 : cX1_cyclesWith.data.toList.drop 0 = dktX1_cyclesWith_0 := by decide +kernel
theorem dksX1_cyclesWith_1 : cX1_cyclesWith.data.toList.drop 23 = dktX1_cyclesWith_1 := dk_seg dksX1_cyclesWith_0 23 rfl rfl
theorem dX1_cyclesWith_0 : decode cX1_cyclesWith 0 = .ok (.iload_n 1, 1) := dk_27 (dk_at dksX1_cyclesWith_0 0 rfl rfl)
theorem dX1_cyclesWith_1 : decode cX1_cyclesWith 1 = .ok (.bipush 8, 2) := dk_16 8 (dk_at dksX1_cyclesWith_0 1 rfl rfl)
theorem dX1_cyclesWith_3 : decode cX1_cyclesWith 3 = .ok (.invokestatic 55, 3) := dk_184 0 55 (dk_at dksX1_cyclesWith_0 3 rfl rfl)
theorem dX1_cyclesWith_6 : decode cX1_cyclesWith 6 = .ok (.iload_n 2, 1) := dk_28 (dk_at dksX1_cyclesWith_0 6 rfl rfl)
theorem dX1_cyclesWith_7 : decode cX1_cyclesWith 7 = .ok (.iconst 1, 1) := dk_4 (dk_at dksX1_cyclesWith_0 7 rfl rfl)
theorem dX1_cyclesWith_8 : decode cX1_cyclesWith 8 = .ok (.bipush 9, 2) := dk_16 9 (dk_at dksX1_cyclesWith_0 8 rfl rfl)
theorem dX1_cyclesWith_10 : decode cX1_cyclesWith 10 = .ok (.invokestatic 51, 3) := dk_184 0 51 (dk_at dksX1_cyclesWith_0 10 rfl rfl)
theorem dX1_cyclesWith_13 : decode cX1_cyclesWith 13 = .ok (.aload_n 0, 1) := dk_42 (dk_at dksX1_cyclesWith_0 13 rfl rfl)
theorem dX1_cyclesWith_14 : decode cX1_cyclesWith 14 = .ok (.aload_n 0, 1) := dk_42 (dk_at dksX1_cyclesWith_0 14 rfl rfl)
theorem dX1_cyclesWith_15 : decode cX1_cyclesWith 15 = .ok (.getfield 25, 3) := dk_180 0 25 (dk_at dksX1_cyclesWith_0 15 rfl rfl)
theorem dX1_cyclesWith_18 : decode cX1_cyclesWith 18 = .ok (.iload_n 1, 1) := dk_27 (dk_at dksX1_cyclesWith_0 18 rfl rfl)
theorem dX1_cyclesWith_19 : decode cX1_cyclesWith 19 = .ok (.iload_n 2, 1) := dk_28 (dk_at dksX1_cyclesWith_0 19 rfl rfl)
theorem dX1_cyclesWith_20 : decode cX1_cyclesWith 20 = .ok (.invokevirtual 73, 3) := dk_182 0 73 (dk_at dksX1_cyclesWith_0 20 rfl rfl)
theorem dX1_cyclesWith_23 : decode cX1_cyclesWith 23 = .ok (.invokevirtual 322, 3) := dk_182 1 66 (dk_at dksX1_cyclesWith_1 0 rfl rfl)
theorem dX1_cyclesWith_26 : decode cX1_cyclesWith 26 = .ok (.getfield 307, 3) := dk_180 1 51 (dk_at dksX1_cyclesWith_1 3 rfl rfl)
theorem dX1_cyclesWith_29 : decode cX1_cyclesWith 29 = .ok (.getfield 326, 3) := dk_180 1 70 (dk_at dksX1_cyclesWith_1 6 rfl rfl)
theorem dX1_cyclesWith_32 : decode cX1_cyclesWith 32 = .ok (.ireturn, 1) := dk_172 (dk_at dksX1_cyclesWith_1 9 rfl rfl)
theorem q120 : (Jvm.Cond.initialized "SpillslotWorks") ∈ lw_all := lw_g (lw_at lw_m1 1 rfl) rfl
theorem q172 : (Jvm.Cond.instantiable "SpillslotWorks" (3 : Nat)) ∈ lw_all := lw_g (lw_at lw_m1 53 rfl) rfl
theorem q174 : (Jvm.Cond.instanceMethod ({ cls := "SpillslotWorks", name := "<init>", desc := "()V" } : Jvm.MethodName)) ∈ lw_all := lw_g (lw_at lw_m1 55 rfl) rfl
theorem q175 : (Jvm.Cond.code ({ cls := "SpillslotWorks", name := "<init>", desc := "()V" } : Jvm.MethodName) prog_1_method_4_code (1 : Nat) (Option.none : Option Jvm.ClassFile.FieldType)) ∈ lw_all := lw_g (lw_at lw_m1 56 rfl) rfl
theorem q176 : (Jvm.Cond.methodLink "SpillslotWorks" (1 : Nat) ({ cls := "java/lang/Object", name := "<init>", desc := "()V" } : Jvm.MethodName)) ∈ lw_all := lw_g (lw_at lw_m1 57 rfl) rfl
theorem q179 : (Jvm.Cond.classLink "SpillslotWorks" (7 : Nat) "SpillslotWorks$Program") ∈ lw_all := lw_g (lw_at lw_m1 60 rfl) rfl
theorem q181 : (Jvm.Cond.methodLink "SpillslotWorks" (9 : Nat) ({ cls := "SpillslotWorks$Program", name := "<init>", desc := "()V" } : Jvm.MethodName)) ∈ lw_all := lw_g (lw_at lw_m1 62 rfl) rfl
theorem q252 : (Jvm.Cond.selects "SpillslotWorks" ({ cls := "java/lang/Object", name := "getClass", desc := "()Ljava/lang/Class;" } : Jvm.MethodName) ({ cls := "java/lang/Object", name := "getClass", desc := "()Ljava/lang/Class;" } : Jvm.MethodName)) ∈ lw_all := lw_g (lw_at lw_m1 133 rfl) rfl
theorem q303 : (Jvm.Cond.fieldLinkNest "SpillslotWorks" (98 : Nat) "SpillslotWorks$Program" "nodes" "Ljava/util/List;" "SpillslotWorks") ∈ lw_tbl := lw_at lw_m1 184 rfl
theorem q306 : (Jvm.Cond.fieldLinkNest "SpillslotWorks" (147 : Nat) "SpillslotWorks$Program" "blocks" "Ljava/util/List;" "SpillslotWorks") ∈ lw_tbl := lw_at lw_m1 187 rfl
theorem q310 : (Jvm.Cond.fieldLinkNest "SpillslotWorks" (167 : Nat) "SpillslotWorks$Program" "times" "[I" "SpillslotWorks") ∈ lw_tbl := lw_at lw_m1 191 rfl
theorem q314 : (Jvm.Cond.fieldLinkNest "SpillslotWorks" (170 : Nat) "SpillslotWorks$Program" "out" "I" "SpillslotWorks") ∈ lw_tbl := lw_at lw_m1 195 rfl
theorem q325 : (Jvm.Cond.classLink "SpillslotWorks" (16 : Nat) "SpillslotWorks$Machine") ∈ lw_all := lw_g (lw_at lw_m1 206 rfl) rfl
theorem q327 : (Jvm.Cond.methodLink "SpillslotWorks" (18 : Nat) ({ cls := "SpillslotWorks", name := "firstLatencies", desc := "()[I" } : Jvm.MethodName)) ∈ lw_all := lw_g (lw_at lw_m1 208 rfl) rfl
theorem q328 : (Jvm.Cond.static ({ cls := "SpillslotWorks", name := "firstLatencies", desc := "()[I" } : Jvm.MethodName)) ∈ lw_all := lw_g (lw_at lw_m1 209 rfl) rfl
theorem q329 : (Jvm.Cond.code ({ cls := "SpillslotWorks", name := "firstLatencies", desc := "()[I" } : Jvm.MethodName) prog_1_method_5_code (1 : Nat) (Option.some (Jvm.ClassFile.FieldType.array Jvm.ClassFile.FieldType.int))) ∈ lw_all := lw_g (lw_at lw_m1 210 rfl) rfl
theorem q330 : (Jvm.Cond.methodLink "SpillslotWorks" (22 : Nat) ({ cls := "SpillslotWorks$Machine", name := "<init>", desc := "(IIIZZ[I)V" } : Jvm.MethodName)) ∈ lw_all := lw_g (lw_at lw_m1 211 rfl) rfl
theorem q336 : (Jvm.Cond.fieldLinkNest "SpillslotWorks" (62 : Nat) "SpillslotWorks$Machine" "registers" "I" "SpillslotWorks") ∈ lw_tbl := lw_at lw_m1 217 rfl
theorem q338 : (Jvm.Cond.fieldLinkNest "SpillslotWorks" (329 : Nat) "SpillslotWorks$Machine" "kept" "I" "SpillslotWorks") ∈ lw_tbl := lw_at lw_m1 219 rfl
theorem q345 : (Jvm.Cond.fieldLinkNest "SpillslotWorks" (332 : Nat) "SpillslotWorks$Machine" "isTwo" "Z" "SpillslotWorks") ∈ lw_tbl := lw_at lw_m1 226 rfl
theorem q347 : (Jvm.Cond.fieldLinkNest "SpillslotWorks" (66 : Nat) "SpillslotWorks$Machine" "latencies" "[I" "SpillslotWorks") ∈ lw_tbl := lw_at lw_m1 228 rfl
theorem q361 : (Jvm.Cond.classLink "SpillslotWorks" (29 : Nat) "SpillslotWorks$Build") ∈ lw_all := lw_g (lw_at lw_m2 2 rfl) rfl
theorem q363 : (Jvm.Cond.methodLink "SpillslotWorks" (31 : Nat) ({ cls := "SpillslotWorks$Build", name := "<init>", desc := "(LSpillslotWorks$Program;LSpillslotWorks$Machine;Z)V" } : Jvm.MethodName)) ∈ lw_all := lw_g (lw_at lw_m2 4 rfl) rfl
theorem q529 : (Jvm.Cond.fieldLinkNest "SpillslotWorks" (184 : Nat) "SpillslotWorks$Op" "kind" "I" "SpillslotWorks") ∈ lw_tbl := lw_at lw_m2 170 rfl
theorem q535 : (Jvm.Cond.fieldLinkNest "SpillslotWorks" (187 : Nat) "SpillslotWorks$Op" "write" "I" "SpillslotWorks") ∈ lw_tbl := lw_at lw_m2 176 rfl
theorem q539 : (Jvm.Cond.fieldLinkNest "SpillslotWorks" (176 : Nat) "SpillslotWorks$Op" "reads" "[I" "SpillslotWorks") ∈ lw_tbl := lw_at lw_m2 180 rfl
theorem q543 : (Jvm.Cond.fieldLinkNest "SpillslotWorks" (190 : Nat) "SpillslotWorks$Op" "n" "I" "SpillslotWorks") ∈ lw_tbl := lw_at lw_m2 184 rfl
theorem q548 : (Jvm.Cond.fieldLinkNest "SpillslotWorks" (193 : Nat) "SpillslotWorks$Op" "block" "I" "SpillslotWorks") ∈ lw_tbl := lw_at lw_m2 189 rfl
theorem q550 : (Jvm.Cond.fieldLinkNest "SpillslotWorks" (196 : Nat) "SpillslotWorks$Op" "height" "I" "SpillslotWorks") ∈ lw_tbl := lw_at lw_m2 191 rfl
theorem q583 : (Jvm.Cond.static ({ cls := "SpillslotWorks", name := "has", desc := "(II)Z" } : Jvm.MethodName)) ∈ lw_all := lw_g (lw_at lw_m2 224 rfl) rfl
theorem q584 : (Jvm.Cond.code ({ cls := "SpillslotWorks", name := "has", desc := "(II)Z" } : Jvm.MethodName) prog_1_method_1_code (2 : Nat) (Option.some Jvm.ClassFile.FieldType.boolean)) ∈ lw_all := lw_g (lw_at lw_m2 225 rfl) rfl
theorem q671 : (Jvm.Cond.fieldLinkNest "SpillslotWorks" (207 : Nat) "SpillslotWorks$Life" "from" "I" "SpillslotWorks") ∈ lw_tbl := lw_at lw_m3 72 rfl
theorem q674 : (Jvm.Cond.fieldLinkNest "SpillslotWorks" (212 : Nat) "SpillslotWorks$Life" "to" "I" "SpillslotWorks") ∈ lw_tbl := lw_at lw_m3 75 rfl
theorem q676 : (Jvm.Cond.fieldLinkNest "SpillslotWorks" (230 : Nat) "SpillslotWorks$Life" "writes" "I" "SpillslotWorks") ∈ lw_tbl := lw_at lw_m3 77 rfl
theorem q678 : (Jvm.Cond.fieldLinkNest "SpillslotWorks" (233 : Nat) "SpillslotWorks$Life" "reads" "I" "SpillslotWorks") ∈ lw_tbl := lw_at lw_m3 79 rfl
theorem q681 : (Jvm.Cond.fieldLinkNest "SpillslotWorks" (227 : Nat) "SpillslotWorks$Life" "crossed" "I" "SpillslotWorks") ∈ lw_tbl := lw_at lw_m3 82 rfl
theorem q686 : (Jvm.Cond.fieldLinkNest "SpillslotWorks" (218 : Nat) "SpillslotWorks$Life" "register" "I" "SpillslotWorks") ∈ lw_tbl := lw_at lw_m3 87 rfl
theorem q695 : (Jvm.Cond.fieldLinkNest "SpillslotWorks" (221 : Nat) "SpillslotWorks$Life" "slot" "I" "SpillslotWorks") ∈ lw_tbl := lw_at lw_m3 96 rfl
theorem q1156 : (Jvm.Cond.fieldLinkNest "SpillslotWorks" (245 : Nat) "SpillslotWorks$Lives" "row" "Ljava/util/List;" "SpillslotWorks") ∈ lw_tbl := lw_at lw_m5 77 rfl
theorem q1224 : (Jvm.Cond.fieldLinkNest "SpillslotWorks" (276 : Nat) "SpillslotWorks$Instruction" "op" "I" "SpillslotWorks") ∈ lw_tbl := lw_at lw_m5 145 rfl
theorem q1231 : (Jvm.Cond.fieldLinkNest "SpillslotWorks" (279 : Nat) "SpillslotWorks$Instruction" "point" "I" "SpillslotWorks") ∈ lw_tbl := lw_at lw_m5 152 rfl
theorem q1234 : (Jvm.Cond.fieldLinkNest "SpillslotWorks" (288 : Nat) "SpillslotWorks$Instruction" "begin" "I" "SpillslotWorks") ∈ lw_tbl := lw_at lw_m5 155 rfl
theorem q1300 : (Jvm.Cond.fieldLinkNest "SpillslotWorks" (311 : Nat) "SpillslotWorks$Run" "done" "I" "SpillslotWorks") ∈ lw_tbl := lw_at lw_m5 221 rfl
theorem q1304 : (Jvm.Cond.fieldLinkNest "SpillslotWorks" (316 : Nat) "SpillslotWorks$Run" "stalls" "I" "SpillslotWorks") ∈ lw_tbl := lw_at lw_m5 225 rfl
theorem q1307 : (Jvm.Cond.fieldLinkNest "SpillslotWorks" (326 : Nat) "SpillslotWorks$Run" "cycles" "I" "SpillslotWorks") ∈ lw_tbl := lw_at lw_m5 228 rfl
theorem q1364 : (Jvm.Cond.static ({ cls := "SpillslotWorks", name := "callOf", desc := "(II)I" } : Jvm.MethodName)) ∈ lw_all := lw_g (lw_at lw_m6 45 rfl) rfl
theorem q1365 : (Jvm.Cond.code ({ cls := "SpillslotWorks", name := "callOf", desc := "(II)I" } : Jvm.MethodName) prog_1_method_3_code (2 : Nat) (Option.some Jvm.ClassFile.FieldType.int)) ∈ lw_all := lw_g (lw_at lw_m6 46 rfl) rfl
theorem q1373 : (Jvm.Cond.fieldLinkNest "SpillslotWorks" (181 : Nat) "SpillslotWorks$Build" "ops" "Ljava/util/List;" "SpillslotWorks") ∈ lw_tbl := lw_at lw_m6 54 rfl
theorem q1375 : (Jvm.Cond.fieldLinkNest "SpillslotWorks" (235 : Nat) "SpillslotWorks$Build" "lives" "LSpillslotWorks$Lives;" "SpillslotWorks") ∈ lw_tbl := lw_at lw_m6 56 rfl
theorem q1377 : (Jvm.Cond.fieldLinkNest "SpillslotWorks" (271 : Nat) "SpillslotWorks$Build" "code" "Ljava/util/List;" "SpillslotWorks") ∈ lw_tbl := lw_at lw_m6 58 rfl
theorem q1379 : (Jvm.Cond.fieldLinkNest "SpillslotWorks" (307 : Nat) "SpillslotWorks$Build" "run" "LSpillslotWorks$Run;" "SpillslotWorks") ∈ lw_tbl := lw_at lw_m6 60 rfl
theorem q1381 : (Jvm.Cond.fieldLinkNest "SpillslotWorks" (268 : Nat) "SpillslotWorks$Build" "costs" "[I" "SpillslotWorks") ∈ lw_tbl := lw_at lw_m6 62 rfl
theorem q1383 : (Jvm.Cond.fieldLinkNest "SpillslotWorks" (347 : Nat) "SpillslotWorks$Build" "values" "I" "SpillslotWorks") ∈ lw_tbl := lw_at lw_m6 64 rfl
theorem q1397 : (Jvm.Cond.fieldLink "SpillslotWorks" (10 : Nat) "SpillslotWorks" "program" "LSpillslotWorks$Program;") ∈ lw_all := lw_g (lw_at lw_m6 78 rfl) rfl
theorem q1398 : (Jvm.Cond.fieldLink "SpillslotWorks" (25 : Nat) "SpillslotWorks" "machine" "LSpillslotWorks$Machine;") ∈ lw_all := lw_g (lw_at lw_m6 79 rfl) rfl
theorem q1399 : (Jvm.Cond.fieldLink "SpillslotWorks" (34 : Nat) "SpillslotWorks" "build" "LSpillslotWorks$Build;") ∈ lw_all := lw_g (lw_at lw_m6 80 rfl) rfl
theorem q1400 : (Jvm.Cond.laysFinal "SpillslotWorks" "SpillslotWorks" "program" "LSpillslotWorks$Program;") ∈ lw_all := lw_g (lw_at lw_m6 81 rfl) rfl
theorem q1401 : (Jvm.Cond.soleField "SpillslotWorks" "program") ∈ lw_all := lw_g (lw_at lw_m6 82 rfl) rfl
theorem q1402 : (Jvm.Cond.lays "SpillslotWorks" "SpillslotWorks" "machine" "LSpillslotWorks$Machine;") ∈ lw_all := lw_g (lw_at lw_m6 83 rfl) rfl
theorem q1403 : (Jvm.Cond.soleField "SpillslotWorks" "machine") ∈ lw_all := lw_g (lw_at lw_m6 84 rfl) rfl
theorem q1404 : (Jvm.Cond.lays "SpillslotWorks" "SpillslotWorks" "build" "LSpillslotWorks$Build;") ∈ lw_all := lw_g (lw_at lw_m6 85 rfl) rfl
theorem q1405 : (Jvm.Cond.soleField "SpillslotWorks" "build") ∈ lw_all := lw_g (lw_at lw_m6 86 rfl) rfl
theorem q1406 : (Jvm.Cond.superclass "SpillslotWorks" "java/lang/Object") ∈ lw_all := lw_g (lw_at lw_m6 87 rfl) rfl
theorem q1408 : (Jvm.Cond.instanceMethod ({ cls := "SpillslotWorks", name := "meanStall", desc := "()D" } : Jvm.MethodName)) ∈ lw_all := lw_g (lw_at lw_m6 89 rfl) rfl
theorem q1409 : (Jvm.Cond.selects "SpillslotWorks" ({ cls := "SpillslotWorks", name := "meanStall", desc := "()D" } : Jvm.MethodName) ({ cls := "SpillslotWorks", name := "meanStall", desc := "()D" } : Jvm.MethodName)) ∈ lw_all := lw_g (lw_at lw_m6 90 rfl) rfl
theorem q1410 : (Jvm.Cond.code ({ cls := "SpillslotWorks", name := "meanStall", desc := "()D" } : Jvm.MethodName) prog_1_method_39_code (1 : Nat) (Option.some Jvm.ClassFile.FieldType.double)) ∈ lw_all := lw_g (lw_at lw_m6 91 rfl) rfl
theorem q1412 : (Jvm.Cond.instanceMethod ({ cls := "SpillslotWorks", name := "enough", desc := "()I" } : Jvm.MethodName)) ∈ lw_all := lw_g (lw_at lw_m6 93 rfl) rfl
theorem q1413 : (Jvm.Cond.selects "SpillslotWorks" ({ cls := "SpillslotWorks", name := "enough", desc := "()I" } : Jvm.MethodName) ({ cls := "SpillslotWorks", name := "enough", desc := "()I" } : Jvm.MethodName)) ∈ lw_all := lw_g (lw_at lw_m6 94 rfl) rfl
theorem q1414 : (Jvm.Cond.code ({ cls := "SpillslotWorks", name := "enough", desc := "()I" } : Jvm.MethodName) prog_1_method_44_code (1 : Nat) (Option.some Jvm.ClassFile.FieldType.int)) ∈ lw_all := lw_g (lw_at lw_m6 95 rfl) rfl
theorem q1415 : (Jvm.Cond.methodLink "SpillslotWorks" (335 : Nat) ({ cls := "SpillslotWorks", name := "enoughNow", desc := "()I" } : Jvm.MethodName)) ∈ lw_all := lw_g (lw_at lw_m6 96 rfl) rfl
theorem q1416 : (Jvm.Cond.privateMethod ({ cls := "SpillslotWorks", name := "enoughNow", desc := "()I" } : Jvm.MethodName)) ∈ lw_tbl := lw_at lw_m6 97 rfl
theorem q1417 : (Jvm.Cond.instanceMethod ({ cls := "SpillslotWorks", name := "enoughNow", desc := "()I" } : Jvm.MethodName)) ∈ lw_all := lw_g (lw_at lw_m6 98 rfl) rfl
theorem q1418 : (Jvm.Cond.code ({ cls := "SpillslotWorks", name := "enoughNow", desc := "()I" } : Jvm.MethodName) prog_1_method_43_code (3 : Nat) (Option.some Jvm.ClassFile.FieldType.int)) ∈ lw_all := lw_g (lw_at lw_m6 99 rfl) rfl
theorem q1419 : (Jvm.Cond.methodLink "SpillslotWorks" (319 : Nat) ({ cls := "SpillslotWorks$Machine", name := "with", desc := "(IIZ)LSpillslotWorks$Machine;" } : Jvm.MethodName)) ∈ lw_all := lw_g (lw_at lw_m6 100 rfl) rfl
theorem q1425 : (Jvm.Cond.methodLink "SpillslotWorks" (322 : Nat) ({ cls := "SpillslotWorks", name := "buildWith", desc := "(LSpillslotWorks$Machine;)LSpillslotWorks$Build;" } : Jvm.MethodName)) ∈ lw_all := lw_g (lw_at lw_m6 106 rfl) rfl
theorem q1426 : (Jvm.Cond.privateMethod ({ cls := "SpillslotWorks", name := "buildWith", desc := "(LSpillslotWorks$Machine;)LSpillslotWorks$Build;" } : Jvm.MethodName)) ∈ lw_tbl := lw_at lw_m6 107 rfl
theorem q1427 : (Jvm.Cond.instanceMethod ({ cls := "SpillslotWorks", name := "buildWith", desc := "(LSpillslotWorks$Machine;)LSpillslotWorks$Build;" } : Jvm.MethodName)) ∈ lw_all := lw_g (lw_at lw_m6 108 rfl) rfl
theorem q1428 : (Jvm.Cond.code ({ cls := "SpillslotWorks", name := "buildWith", desc := "(LSpillslotWorks$Machine;)LSpillslotWorks$Build;" } : Jvm.MethodName) prog_1_method_40_code (2 : Nat) (Option.some (Jvm.ClassFile.FieldType.object "SpillslotWorks$Build"))) ∈ lw_all := lw_g (lw_at lw_m6 109 rfl) rfl
theorem q1429 : (Jvm.Cond.methodLink "SpillslotWorks" (301 : Nat) ({ cls := "SpillslotWorks$Build", name := "many", desc := "(I)I" } : Jvm.MethodName)) ∈ lw_all := lw_g (lw_at lw_m6 110 rfl) rfl
theorem q1445 : (Jvm.Cond.static ({ cls := "SpillslotWorks", name := "count", desc := "(I)I" } : Jvm.MethodName)) ∈ lw_all := lw_g (lw_at lw_m6 126 rfl) rfl
theorem q1446 : (Jvm.Cond.code ({ cls := "SpillslotWorks", name := "count", desc := "(I)I" } : Jvm.MethodName) prog_1_method_2_code (3 : Nat) (Option.some Jvm.ClassFile.FieldType.int)) ∈ lw_all := lw_g (lw_at lw_m6 127 rfl) rfl
theorem q1459 : (Jvm.Cond.instanceMethod ({ cls := "SpillslotWorks", name := "unordered", desc := "()I" } : Jvm.MethodName)) ∈ lw_all := lw_g (lw_at lw_m6 140 rfl) rfl
theorem q1460 : (Jvm.Cond.selects "SpillslotWorks" ({ cls := "SpillslotWorks", name := "unordered", desc := "()I" } : Jvm.MethodName) ({ cls := "SpillslotWorks", name := "unordered", desc := "()I" } : Jvm.MethodName)) ∈ lw_all := lw_g (lw_at lw_m6 141 rfl) rfl
theorem q1461 : (Jvm.Cond.code ({ cls := "SpillslotWorks", name := "unordered", desc := "()I" } : Jvm.MethodName) prog_1_method_46_code (1 : Nat) (Option.some Jvm.ClassFile.FieldType.int)) ∈ lw_all := lw_g (lw_at lw_m6 142 rfl) rfl
theorem q1462 : (Jvm.Cond.methodLink "SpillslotWorks" (338 : Nat) ({ cls := "SpillslotWorks", name := "unorderedNow", desc := "()I" } : Jvm.MethodName)) ∈ lw_all := lw_g (lw_at lw_m6 143 rfl) rfl
theorem q1463 : (Jvm.Cond.privateMethod ({ cls := "SpillslotWorks", name := "unorderedNow", desc := "()I" } : Jvm.MethodName)) ∈ lw_tbl := lw_at lw_m6 144 rfl
theorem q1464 : (Jvm.Cond.instanceMethod ({ cls := "SpillslotWorks", name := "unorderedNow", desc := "()I" } : Jvm.MethodName)) ∈ lw_all := lw_g (lw_at lw_m6 145 rfl) rfl
theorem q1465 : (Jvm.Cond.code ({ cls := "SpillslotWorks", name := "unorderedNow", desc := "()I" } : Jvm.MethodName) prog_1_method_45_code (1 : Nat) (Option.some Jvm.ClassFile.FieldType.int)) ∈ lw_all := lw_g (lw_at lw_m6 146 rfl) rfl
theorem q1467 : (Jvm.Cond.instanceMethod ({ cls := "SpillslotWorks", name := "digest", desc := "()J" } : Jvm.MethodName)) ∈ lw_all := lw_g (lw_at lw_m6 148 rfl) rfl
theorem q1468 : (Jvm.Cond.selects "SpillslotWorks" ({ cls := "SpillslotWorks", name := "digest", desc := "()J" } : Jvm.MethodName) ({ cls := "SpillslotWorks", name := "digest", desc := "()J" } : Jvm.MethodName)) ∈ lw_all := lw_g (lw_at lw_m6 149 rfl) rfl
theorem q1469 : (Jvm.Cond.code ({ cls := "SpillslotWorks", name := "digest", desc := "()J" } : Jvm.MethodName) prog_1_method_51_code (4 : Nat) (Option.some Jvm.ClassFile.FieldType.long)) ∈ lw_all := lw_g (lw_at lw_m6 150 rfl) rfl
theorem q1470 : (Jvm.Cond.constantLong "SpillslotWorks" (350 : Nat) (58132 : Int64)) ∈ lw_all := lw_g (lw_at lw_m6 151 rfl) rfl
theorem q1471 : (Jvm.Cond.methodLink "SpillslotWorks" (304 : Nat) ({ cls := "SpillslotWorks", name := "manyNow", desc := "(I)I" } : Jvm.MethodName)) ∈ lw_all := lw_g (lw_at lw_m6 152 rfl) rfl
theorem q1472 : (Jvm.Cond.privateMethod ({ cls := "SpillslotWorks", name := "manyNow", desc := "(I)I" } : Jvm.MethodName)) ∈ lw_tbl := lw_at lw_m6 153 rfl
theorem q1473 : (Jvm.Cond.instanceMethod ({ cls := "SpillslotWorks", name := "manyNow", desc := "(I)I" } : Jvm.MethodName)) ∈ lw_all := lw_g (lw_at lw_m6 154 rfl) rfl
theorem q1474 : (Jvm.Cond.code ({ cls := "SpillslotWorks", name := "manyNow", desc := "(I)I" } : Jvm.MethodName) prog_1_method_37_code (2 : Nat) (Option.some Jvm.ClassFile.FieldType.int)) ∈ lw_all := lw_g (lw_at lw_m6 155 rfl) rfl
theorem q1475 : (Jvm.Cond.interfaceEntry "SpillslotWorks" (102 : Nat)) ∈ lw_tbl := lw_at lw_m6 156 rfl
theorem q1476 : (Jvm.Cond.methodLink "SpillslotWorks" (102 : Nat) ({ cls := "java/util/List", name := "size", desc := "()I" } : Jvm.MethodName)) ∈ lw_all := lw_g (lw_at lw_m6 157 rfl) rfl
theorem q1477 : (Jvm.Cond.methodLink "SpillslotWorks" (298 : Nat) ({ cls := "SpillslotWorks", name := "freeNodes", desc := "()I" } : Jvm.MethodName)) ∈ lw_all := lw_g (lw_at lw_m6 158 rfl) rfl
theorem q1478 : (Jvm.Cond.privateMethod ({ cls := "SpillslotWorks", name := "freeNodes", desc := "()I" } : Jvm.MethodName)) ∈ lw_tbl := lw_at lw_m6 159 rfl
theorem q1479 : (Jvm.Cond.instanceMethod ({ cls := "SpillslotWorks", name := "freeNodes", desc := "()I" } : Jvm.MethodName)) ∈ lw_all := lw_g (lw_at lw_m6 160 rfl) rfl
theorem q1480 : (Jvm.Cond.code ({ cls := "SpillslotWorks", name := "freeNodes", desc := "()I" } : Jvm.MethodName) prog_1_method_36_code (3 : Nat) (Option.some Jvm.ClassFile.FieldType.int)) ∈ lw_all := lw_g (lw_at lw_m6 161 rfl) rfl
theorem q1481 : (Jvm.Cond.methodLink "SpillslotWorks" (108 : Nat) ({ cls := "SpillslotWorks$Program", name := "at", desc := "(I)LSpillslotWorks$Node;" } : Jvm.MethodName)) ∈ lw_all := lw_g (lw_at lw_m6 162 rfl) rfl
theorem q1482 : (Jvm.Cond.methodLink "SpillslotWorks" (144 : Nat) ({ cls := "SpillslotWorks$Program", name := "statements", desc := "()I" } : Jvm.MethodName)) ∈ lw_all := lw_g (lw_at lw_m6 163 rfl) rfl
theorem q1489 : (Jvm.Cond.methodLink "SpillslotWorks" (343 : Nat) ({ cls := "SpillslotWorks", name := "mix", desc := "(J[I)J" } : Jvm.MethodName)) ∈ lw_all := lw_g (lw_at lw_m6 170 rfl) rfl
theorem q1490 : (Jvm.Cond.static ({ cls := "SpillslotWorks", name := "mix", desc := "(J[I)J" } : Jvm.MethodName)) ∈ lw_all := lw_g (lw_at lw_m6 171 rfl) rfl
theorem q1491 : (Jvm.Cond.code ({ cls := "SpillslotWorks", name := "mix", desc := "(J[I)J" } : Jvm.MethodName) prog_1_method_47_code (9 : Nat) (Option.some Jvm.ClassFile.FieldType.long)) ∈ lw_all := lw_g (lw_at lw_m6 172 rfl) rfl
theorem q1492 : (Jvm.Cond.constantLong "SpillslotWorks" (341 : Nat) (31 : Int64)) ∈ lw_all := lw_g (lw_at lw_m6 173 rfl) rfl
theorem q1493 : (Jvm.Cond.methodLink "SpillslotWorks" (173 : Nat) ({ cls := "SpillslotWorks$Program", name := "meant", desc := "()[I" } : Jvm.MethodName)) ∈ lw_all := lw_g (lw_at lw_m6 174 rfl) rfl
theorem q1508 : (Jvm.Cond.methodLink "SpillslotWorks" (291 : Nat) ({ cls := "SpillslotWorks", name := "has", desc := "(II)Z" } : Jvm.MethodName)) ∈ lw_all := lw_g (lw_at lw_m6 189 rfl) rfl
theorem q1509 : (Jvm.Cond.methodLink "SpillslotWorks" (295 : Nat) ({ cls := "SpillslotWorks$Build", name := "answer", desc := "(I)I" } : Jvm.MethodName)) ∈ lw_all := lw_g (lw_at lw_m6 190 rfl) rfl
theorem q1515 : (Jvm.Cond.methodLink "SpillslotWorks" (352 : Nat) ({ cls := "SpillslotWorks", name := "mixChosen", desc := "(J)J" } : Jvm.MethodName)) ∈ lw_all := lw_g (lw_at lw_m6 196 rfl) rfl
theorem q1516 : (Jvm.Cond.privateMethod ({ cls := "SpillslotWorks", name := "mixChosen", desc := "(J)J" } : Jvm.MethodName)) ∈ lw_tbl := lw_at lw_m6 197 rfl
theorem q1517 : (Jvm.Cond.instanceMethod ({ cls := "SpillslotWorks", name := "mixChosen", desc := "(J)J" } : Jvm.MethodName)) ∈ lw_all := lw_g (lw_at lw_m6 198 rfl) rfl
theorem q1518 : (Jvm.Cond.code ({ cls := "SpillslotWorks", name := "mixChosen", desc := "(J)J" } : Jvm.MethodName) prog_1_method_48_code (7 : Nat) (Option.some Jvm.ClassFile.FieldType.long)) ∈ lw_all := lw_g (lw_at lw_m6 199 rfl) rfl
theorem q1519 : (Jvm.Cond.methodLink "SpillslotWorks" (203 : Nat) ({ cls := "SpillslotWorks", name := "chosenNow", desc := "(II)I" } : Jvm.MethodName)) ∈ lw_all := lw_g (lw_at lw_m6 200 rfl) rfl
theorem q1520 : (Jvm.Cond.privateMethod ({ cls := "SpillslotWorks", name := "chosenNow", desc := "(II)I" } : Jvm.MethodName)) ∈ lw_tbl := lw_at lw_m6 201 rfl
theorem q1521 : (Jvm.Cond.instanceMethod ({ cls := "SpillslotWorks", name := "chosenNow", desc := "(II)I" } : Jvm.MethodName)) ∈ lw_all := lw_g (lw_at lw_m6 202 rfl) rfl
theorem q1522 : (Jvm.Cond.code ({ cls := "SpillslotWorks", name := "chosenNow", desc := "(II)I" } : Jvm.MethodName) prog_1_method_24_code (4 : Nat) (Option.some Jvm.ClassFile.FieldType.int)) ∈ lw_all := lw_g (lw_at lw_m6 203 rfl) rfl
theorem q1523 : (Jvm.Cond.interfaceEntry "SpillslotWorks" (150 : Nat)) ∈ lw_tbl := lw_at lw_m6 204 rfl
theorem q1524 : (Jvm.Cond.methodLink "SpillslotWorks" (150 : Nat) ({ cls := "java/util/List", name := "get", desc := "(I)Ljava/lang/Object;" } : Jvm.MethodName)) ∈ lw_all := lw_g (lw_at lw_m6 205 rfl) rfl
theorem q1525 : (Jvm.Cond.classLink "SpillslotWorks" (177 : Nat) "SpillslotWorks$Op") ∈ lw_all := lw_g (lw_at lw_m6 206 rfl) rfl
theorem q1526 : (Jvm.Cond.methodLink "SpillslotWorks" (199 : Nat) ({ cls := "SpillslotWorks", name := "readAt", desc := "(LSpillslotWorks$Op;I)I" } : Jvm.MethodName)) ∈ lw_all := lw_g (lw_at lw_m6 207 rfl) rfl
theorem q1527 : (Jvm.Cond.static ({ cls := "SpillslotWorks", name := "readAt", desc := "(LSpillslotWorks$Op;I)I" } : Jvm.MethodName)) ∈ lw_all := lw_g (lw_at lw_m6 208 rfl) rfl
theorem q1528 : (Jvm.Cond.code ({ cls := "SpillslotWorks", name := "readAt", desc := "(LSpillslotWorks$Op;I)I" } : Jvm.MethodName) prog_1_method_23_code (2 : Nat) (Option.some Jvm.ClassFile.FieldType.int)) ∈ lw_all := lw_g (lw_at lw_m6 209 rfl) rfl
theorem q1529 : (Jvm.Cond.methodLink "SpillslotWorks" (356 : Nat) ({ cls := "SpillslotWorks", name := "mixValues", desc := "(J)J" } : Jvm.MethodName)) ∈ lw_all := lw_g (lw_at lw_m6 210 rfl) rfl
theorem q1530 : (Jvm.Cond.privateMethod ({ cls := "SpillslotWorks", name := "mixValues", desc := "(J)J" } : Jvm.MethodName)) ∈ lw_tbl := lw_at lw_m6 211 rfl
theorem q1531 : (Jvm.Cond.instanceMethod ({ cls := "SpillslotWorks", name := "mixValues", desc := "(J)J" } : Jvm.MethodName)) ∈ lw_all := lw_g (lw_at lw_m6 212 rfl) rfl
theorem q1532 : (Jvm.Cond.code ({ cls := "SpillslotWorks", name := "mixValues", desc := "(J)J" } : Jvm.MethodName) prog_1_method_49_code (7 : Nat) (Option.some Jvm.ClassFile.FieldType.long)) ∈ lw_all := lw_g (lw_at lw_m6 213 rfl) rfl
theorem q1533 : (Jvm.Cond.methodLink "SpillslotWorks" (239 : Nat) ({ cls := "SpillslotWorks$Lives", name := "placeOf", desc := "(I)I" } : Jvm.MethodName)) ∈ lw_all := lw_g (lw_at lw_m6 214 rfl) rfl
theorem q1534 : (Jvm.Cond.methodLink "SpillslotWorks" (248 : Nat) ({ cls := "SpillslotWorks$Lives", name := "of", desc := "(I)LSpillslotWorks$Life;" } : Jvm.MethodName)) ∈ lw_all := lw_g (lw_at lw_m6 215 rfl) rfl
theorem q1535 : (Jvm.Cond.methodLink "SpillslotWorks" (252 : Nat) ({ cls := "SpillslotWorks", name := "lifeNow", desc := "(LSpillslotWorks$Life;I)I" } : Jvm.MethodName)) ∈ lw_all := lw_g (lw_at lw_m6 216 rfl) rfl
theorem q1536 : (Jvm.Cond.static ({ cls := "SpillslotWorks", name := "lifeNow", desc := "(LSpillslotWorks$Life;I)I" } : Jvm.MethodName)) ∈ lw_all := lw_g (lw_at lw_m6 217 rfl) rfl
theorem q1537 : (Jvm.Cond.code ({ cls := "SpillslotWorks", name := "lifeNow", desc := "(LSpillslotWorks$Life;I)I" } : Jvm.MethodName) prog_1_method_26_code (2 : Nat) (Option.some Jvm.ClassFile.FieldType.int)) ∈ lw_all := lw_g (lw_at lw_m6 218 rfl) rfl
theorem q1538 : (Jvm.Cond.methodLink "SpillslotWorks" (215 : Nat) ({ cls := "SpillslotWorks$Life", name := "weight", desc := "()I" } : Jvm.MethodName)) ∈ lw_all := lw_g (lw_at lw_m6 219 rfl) rfl
theorem q1539 : (Jvm.Cond.methodLink "SpillslotWorks" (224 : Nat) ({ cls := "SpillslotWorks$Life", name := "isRemade", desc := "()Z" } : Jvm.MethodName)) ∈ lw_all := lw_g (lw_at lw_m6 220 rfl) rfl
theorem q1540 : (Jvm.Cond.methodLink "SpillslotWorks" (359 : Nat) ({ cls := "SpillslotWorks", name := "mixCode", desc := "(J)J" } : Jvm.MethodName)) ∈ lw_all := lw_g (lw_at lw_m6 221 rfl) rfl
theorem q1541 : (Jvm.Cond.privateMethod ({ cls := "SpillslotWorks", name := "mixCode", desc := "(J)J" } : Jvm.MethodName)) ∈ lw_tbl := lw_at lw_m6 222 rfl
theorem q1542 : (Jvm.Cond.instanceMethod ({ cls := "SpillslotWorks", name := "mixCode", desc := "(J)J" } : Jvm.MethodName)) ∈ lw_all := lw_g (lw_at lw_m6 223 rfl) rfl
theorem q1543 : (Jvm.Cond.code ({ cls := "SpillslotWorks", name := "mixCode", desc := "(J)J" } : Jvm.MethodName) prog_1_method_50_code (7 : Nat) (Option.some Jvm.ClassFile.FieldType.long)) ∈ lw_all := lw_g (lw_at lw_m6 224 rfl) rfl
theorem q1544 : (Jvm.Cond.methodLink "SpillslotWorks" (256 : Nat) ({ cls := "SpillslotWorks$Op", name := "is", desc := "(I)Z" } : Jvm.MethodName)) ∈ lw_all := lw_g (lw_at lw_m6 225 rfl) rfl
theorem q1545 : (Jvm.Cond.methodLink "SpillslotWorks" (265 : Nat) ({ cls := "SpillslotWorks", name := "mapNow", desc := "(II)I" } : Jvm.MethodName)) ∈ lw_all := lw_g (lw_at lw_m6 226 rfl) rfl
theorem q1546 : (Jvm.Cond.privateMethod ({ cls := "SpillslotWorks", name := "mapNow", desc := "(II)I" } : Jvm.MethodName)) ∈ lw_tbl := lw_at lw_m6 227 rfl
theorem q1547 : (Jvm.Cond.instanceMethod ({ cls := "SpillslotWorks", name := "mapNow", desc := "(II)I" } : Jvm.MethodName)) ∈ lw_all := lw_g (lw_at lw_m6 228 rfl) rfl
theorem q1548 : (Jvm.Cond.code ({ cls := "SpillslotWorks", name := "mapNow", desc := "(II)I" } : Jvm.MethodName) prog_1_method_29_code (8 : Nat) (Option.some Jvm.ClassFile.FieldType.int)) ∈ lw_all := lw_g (lw_at lw_m6 229 rfl) rfl
theorem q1549 : (Jvm.Cond.classLink "SpillslotWorks" (208 : Nat) "SpillslotWorks$Life") ∈ lw_all := lw_g (lw_at lw_m6 230 rfl) rfl
theorem q1550 : (Jvm.Cond.methodLink "SpillslotWorks" (259 : Nat) ({ cls := "SpillslotWorks$Life", name := "crosses", desc := "(I)Z" } : Jvm.MethodName)) ∈ lw_all := lw_g (lw_at lw_m6 231 rfl) rfl
theorem q1551 : (Jvm.Cond.methodLink "SpillslotWorks" (285 : Nat) ({ cls := "SpillslotWorks", name := "codeNow", desc := "(II)I" } : Jvm.MethodName)) ∈ lw_all := lw_g (lw_at lw_m6 232 rfl) rfl
theorem q1552 : (Jvm.Cond.privateMethod ({ cls := "SpillslotWorks", name := "codeNow", desc := "(II)I" } : Jvm.MethodName)) ∈ lw_tbl := lw_at lw_m6 233 rfl
theorem q1553 : (Jvm.Cond.instanceMethod ({ cls := "SpillslotWorks", name := "codeNow", desc := "(II)I" } : Jvm.MethodName)) ∈ lw_all := lw_g (lw_at lw_m6 234 rfl) rfl
theorem q1554 : (Jvm.Cond.code ({ cls := "SpillslotWorks", name := "codeNow", desc := "(II)I" } : Jvm.MethodName) prog_1_method_32_code (4 : Nat) (Option.some Jvm.ClassFile.FieldType.int)) ∈ lw_all := lw_g (lw_at lw_m6 235 rfl) rfl
theorem q1555 : (Jvm.Cond.classLink "SpillslotWorks" (274 : Nat) "SpillslotWorks$Instruction") ∈ lw_all := lw_g (lw_at lw_m6 236 rfl) rfl
theorem q1556 : (Jvm.Cond.methodLink "SpillslotWorks" (282 : Nat) ({ cls := "SpillslotWorks$Instruction", name := "operand", desc := "(I)I" } : Jvm.MethodName)) ∈ lw_all := lw_g (lw_at lw_m6 237 rfl) rfl
theorem q1562 : (Jvm.Cond.instanceMethod ({ cls := "SpillslotWorks", name := "machine", desc := "(IIIZZ)I" } : Jvm.MethodName)) ∈ lw_all := lw_g (lw_at lw_m7 3 rfl) rfl
theorem q1563 : (Jvm.Cond.selects "SpillslotWorks" ({ cls := "SpillslotWorks", name := "machine", desc := "(IIIZZ)I" } : Jvm.MethodName) ({ cls := "SpillslotWorks", name := "machine", desc := "(IIIZZ)I" } : Jvm.MethodName)) ∈ lw_all := lw_g (lw_at lw_m7 4 rfl) rfl
theorem q1564 : (Jvm.Cond.code ({ cls := "SpillslotWorks", name := "machine", desc := "(IIIZZ)I" } : Jvm.MethodName) prog_1_method_13_code (7 : Nat) (Option.some Jvm.ClassFile.FieldType.int)) ∈ lw_all := lw_g (lw_at lw_m7 5 rfl) rfl
theorem q1565 : (Jvm.Cond.methodLink "SpillslotWorks" (59 : Nat) ({ cls := "SpillslotWorks", name := "mustBeMachine", desc := "(II)V" } : Jvm.MethodName)) ∈ lw_all := lw_g (lw_at lw_m7 6 rfl) rfl
theorem q1566 : (Jvm.Cond.static ({ cls := "SpillslotWorks", name := "mustBeMachine", desc := "(II)V" } : Jvm.MethodName)) ∈ lw_all := lw_g (lw_at lw_m7 7 rfl) rfl
theorem q1567 : (Jvm.Cond.code ({ cls := "SpillslotWorks", name := "mustBeMachine", desc := "(II)V" } : Jvm.MethodName) prog_1_method_11_code (3 : Nat) (Option.none : Option Jvm.ClassFile.FieldType)) ∈ lw_all := lw_g (lw_at lw_m7 8 rfl) rfl
theorem q1568 : (Jvm.Cond.methodLink "SpillslotWorks" (51 : Nat) ({ cls := "SpillslotWorks", name := "mustBeIn", desc := "(III)V" } : Jvm.MethodName)) ∈ lw_all := lw_g (lw_at lw_m7 9 rfl) rfl
theorem q1569 : (Jvm.Cond.static ({ cls := "SpillslotWorks", name := "mustBeIn", desc := "(III)V" } : Jvm.MethodName)) ∈ lw_all := lw_g (lw_at lw_m7 10 rfl) rfl
theorem q1570 : (Jvm.Cond.code ({ cls := "SpillslotWorks", name := "mustBeIn", desc := "(III)V" } : Jvm.MethodName) prog_1_method_8_code (3 : Nat) (Option.none : Option Jvm.ClassFile.FieldType)) ∈ lw_all := lw_g (lw_at lw_m7 11 rfl) rfl
theorem q1571 : (Jvm.Cond.methodLink "SpillslotWorks" (41 : Nat) ({ cls := "SpillslotWorks", name := "must", desc := "(Z)V" } : Jvm.MethodName)) ∈ lw_all := lw_g (lw_at lw_m7 12 rfl) rfl
theorem q1572 : (Jvm.Cond.static ({ cls := "SpillslotWorks", name := "must", desc := "(Z)V" } : Jvm.MethodName)) ∈ lw_all := lw_g (lw_at lw_m7 13 rfl) rfl
theorem q1573 : (Jvm.Cond.code ({ cls := "SpillslotWorks", name := "must", desc := "(Z)V" } : Jvm.MethodName) prog_1_method_7_code (1 : Nat) (Option.none : Option Jvm.ClassFile.FieldType)) ∈ lw_all := lw_g (lw_at lw_m7 14 rfl) rfl
theorem q1574 : (Jvm.Cond.classLink "SpillslotWorks" (38 : Nat) "java/lang/IllegalArgumentException") ∈ lw_all := lw_g (lw_at lw_m7 15 rfl) rfl
theorem q1575 : (Jvm.Cond.methodLink "SpillslotWorks" (40 : Nat) ({ cls := "java/lang/IllegalArgumentException", name := "<init>", desc := "()V" } : Jvm.MethodName)) ∈ lw_all := lw_g (lw_at lw_m7 16 rfl) rfl
theorem q1585 : (Jvm.Cond.methodLink "SpillslotWorks" (70 : Nat) ({ cls := "SpillslotWorks", name := "renew", desc := "()V" } : Jvm.MethodName)) ∈ lw_all := lw_g (lw_at lw_m7 26 rfl) rfl
theorem q1586 : (Jvm.Cond.privateMethod ({ cls := "SpillslotWorks", name := "renew", desc := "()V" } : Jvm.MethodName)) ∈ lw_tbl := lw_at lw_m7 27 rfl
theorem q1587 : (Jvm.Cond.instanceMethod ({ cls := "SpillslotWorks", name := "renew", desc := "()V" } : Jvm.MethodName)) ∈ lw_all := lw_g (lw_at lw_m7 28 rfl) rfl
theorem q1588 : (Jvm.Cond.code ({ cls := "SpillslotWorks", name := "renew", desc := "()V" } : Jvm.MethodName) prog_1_method_6_code (1 : Nat) (Option.none : Option Jvm.ClassFile.FieldType)) ∈ lw_all := lw_g (lw_at lw_m7 29 rfl) rfl
theorem q1609 : (Jvm.Cond.instanceMethod ({ cls := "SpillslotWorks", name := "latency", desc := "(II)I" } : Jvm.MethodName)) ∈ lw_all := lw_g (lw_at lw_m7 50 rfl) rfl
theorem q1610 : (Jvm.Cond.selects "SpillslotWorks" ({ cls := "SpillslotWorks", name := "latency", desc := "(II)I" } : Jvm.MethodName) ({ cls := "SpillslotWorks", name := "latency", desc := "(II)I" } : Jvm.MethodName)) ∈ lw_all := lw_g (lw_at lw_m7 51 rfl) rfl
theorem q1611 : (Jvm.Cond.code ({ cls := "SpillslotWorks", name := "latency", desc := "(II)I" } : Jvm.MethodName) prog_1_method_14_code (4 : Nat) (Option.some Jvm.ClassFile.FieldType.int)) ∈ lw_all := lw_g (lw_at lw_m7 52 rfl) rfl
theorem q1612 : (Jvm.Cond.methodLink "SpillslotWorks" (55 : Nat) ({ cls := "SpillslotWorks", name := "checkPlace", desc := "(II)V" } : Jvm.MethodName)) ∈ lw_all := lw_g (lw_at lw_m7 53 rfl) rfl
theorem q1613 : (Jvm.Cond.static ({ cls := "SpillslotWorks", name := "checkPlace", desc := "(II)V" } : Jvm.MethodName)) ∈ lw_all := lw_g (lw_at lw_m7 54 rfl) rfl
theorem q1614 : (Jvm.Cond.code ({ cls := "SpillslotWorks", name := "checkPlace", desc := "(II)V" } : Jvm.MethodName) prog_1_method_10_code (2 : Nat) (Option.none : Option Jvm.ClassFile.FieldType)) ∈ lw_all := lw_g (lw_at lw_m7 55 rfl) rfl
theorem q1615 : (Jvm.Cond.classLink "SpillslotWorks" (48 : Nat) "java/lang/IndexOutOfBoundsException") ∈ lw_all := lw_g (lw_at lw_m7 56 rfl) rfl
theorem q1616 : (Jvm.Cond.methodLink "SpillslotWorks" (50 : Nat) ({ cls := "java/lang/IndexOutOfBoundsException", name := "<init>", desc := "()V" } : Jvm.MethodName)) ∈ lw_all := lw_g (lw_at lw_m7 57 rfl) rfl
theorem q1620 : (Jvm.Cond.methodLink "SpillslotWorks" (73 : Nat) ({ cls := "SpillslotWorks$Machine", name := "with", desc := "(II)LSpillslotWorks$Machine;" } : Jvm.MethodName)) ∈ lw_all := lw_g (lw_at lw_m7 61 rfl) rfl
theorem q1630 : (Jvm.Cond.instanceMethod ({ cls := "SpillslotWorks", name := "node", desc := "(III)I" } : Jvm.MethodName)) ∈ lw_all := lw_g (lw_at lw_m7 71 rfl) rfl
theorem q1631 : (Jvm.Cond.selects "SpillslotWorks" ({ cls := "SpillslotWorks", name := "node", desc := "(III)I" } : Jvm.MethodName) ({ cls := "SpillslotWorks", name := "node", desc := "(III)I" } : Jvm.MethodName)) ∈ lw_all := lw_g (lw_at lw_m7 72 rfl) rfl
theorem q1632 : (Jvm.Cond.code ({ cls := "SpillslotWorks", name := "node", desc := "(III)I" } : Jvm.MethodName) prog_1_method_17_code (5 : Nat) (Option.some Jvm.ClassFile.FieldType.int)) ∈ lw_all := lw_g (lw_at lw_m7 73 rfl) rfl
theorem q1633 : (Jvm.Cond.classLink "SpillslotWorks" (113 : Nat) "SpillslotWorks$Node") ∈ lw_all := lw_g (lw_at lw_m7 74 rfl) rfl
theorem q1635 : (Jvm.Cond.methodLink "SpillslotWorks" (118 : Nat) ({ cls := "SpillslotWorks", name := "kindOf", desc := "(I)LSpillslotWorks$Kind;" } : Jvm.MethodName)) ∈ lw_all := lw_g (lw_at lw_m7 76 rfl) rfl
theorem q1636 : (Jvm.Cond.static ({ cls := "SpillslotWorks", name := "kindOf", desc := "(I)LSpillslotWorks$Kind;" } : Jvm.MethodName)) ∈ lw_all := lw_g (lw_at lw_m7 77 rfl) rfl
theorem q1637 : (Jvm.Cond.code ({ cls := "SpillslotWorks", name := "kindOf", desc := "(I)LSpillslotWorks$Kind;" } : Jvm.MethodName) prog_1_method_15_code (1 : Nat) (Option.some (Jvm.ClassFile.FieldType.object "SpillslotWorks$Kind"))) ∈ lw_all := lw_g (lw_at lw_m7 78 rfl) rfl
theorem q1638 : (Jvm.Cond.fieldLink "SpillslotWorks" (77 : Nat) "SpillslotWorks$Kind" "NUMBER" "LSpillslotWorks$Kind;") ∈ lw_all := lw_g (lw_at lw_m7 79 rfl) rfl
theorem q1639 : (Jvm.Cond.fieldLink "SpillslotWorks" (83 : Nat) "SpillslotWorks$Kind" "USE" "LSpillslotWorks$Kind;") ∈ lw_all := lw_g (lw_at lw_m7 80 rfl) rfl
theorem q1640 : (Jvm.Cond.fieldLink "SpillslotWorks" (86 : Nat) "SpillslotWorks$Kind" "ADD" "LSpillslotWorks$Kind;") ∈ lw_all := lw_g (lw_at lw_m7 81 rfl) rfl
theorem q1641 : (Jvm.Cond.fieldLink "SpillslotWorks" (89 : Nat) "SpillslotWorks$Kind" "SUB" "LSpillslotWorks$Kind;") ∈ lw_all := lw_g (lw_at lw_m7 82 rfl) rfl
theorem q1642 : (Jvm.Cond.fieldLink "SpillslotWorks" (92 : Nat) "SpillslotWorks$Kind" "MUL" "LSpillslotWorks$Kind;") ∈ lw_all := lw_g (lw_at lw_m7 83 rfl) rfl
theorem q1643 : (Jvm.Cond.fieldLink "SpillslotWorks" (95 : Nat) "SpillslotWorks$Kind" "CALL" "LSpillslotWorks$Kind;") ∈ lw_all := lw_g (lw_at lw_m7 84 rfl) rfl
theorem q1645 : (Jvm.Cond.methodLink "SpillslotWorks" (122 : Nat) ({ cls := "SpillslotWorks$Node", name := "<init>", desc := "(LSpillslotWorks$Kind;II)V" } : Jvm.MethodName)) ∈ lw_all := lw_g (lw_at lw_m7 86 rfl) rfl
theorem q1657 : (Jvm.Cond.fieldLinkNest "SpillslotWorks" (112 : Nat) "SpillslotWorks$Node" "isPart" "Z" "SpillslotWorks") ∈ lw_tbl := lw_at lw_m7 98 rfl
theorem q1667 : (Jvm.Cond.methodLink "SpillslotWorks" (125 : Nat) ({ cls := "SpillslotWorks$Node", name := "isOfTwo", desc := "()Z" } : Jvm.MethodName)) ∈ lw_all := lw_g (lw_at lw_m7 108 rfl) rfl
theorem q1668 : (Jvm.Cond.methodLink "SpillslotWorks" (129 : Nat) ({ cls := "SpillslotWorks", name := "isFreeNode", desc := "(I)Z" } : Jvm.MethodName)) ∈ lw_all := lw_g (lw_at lw_m7 109 rfl) rfl
theorem q1669 : (Jvm.Cond.privateMethod ({ cls := "SpillslotWorks", name := "isFreeNode", desc := "(I)Z" } : Jvm.MethodName)) ∈ lw_tbl := lw_at lw_m7 110 rfl
theorem q1670 : (Jvm.Cond.instanceMethod ({ cls := "SpillslotWorks", name := "isFreeNode", desc := "(I)Z" } : Jvm.MethodName)) ∈ lw_all := lw_g (lw_at lw_m7 111 rfl) rfl
theorem q1671 : (Jvm.Cond.code ({ cls := "SpillslotWorks", name := "isFreeNode", desc := "(I)Z" } : Jvm.MethodName) prog_1_method_16_code (2 : Nat) (Option.some Jvm.ClassFile.FieldType.boolean)) ∈ lw_all := lw_g (lw_at lw_m7 112 rfl) rfl
theorem q1672 : (Jvm.Cond.methodLink "SpillslotWorks" (133 : Nat) ({ cls := "SpillslotWorks", name := "checkState", desc := "(Z)V" } : Jvm.MethodName)) ∈ lw_all := lw_g (lw_at lw_m7 113 rfl) rfl
theorem q1673 : (Jvm.Cond.static ({ cls := "SpillslotWorks", name := "checkState", desc := "(Z)V" } : Jvm.MethodName)) ∈ lw_all := lw_g (lw_at lw_m7 114 rfl) rfl
theorem q1674 : (Jvm.Cond.code ({ cls := "SpillslotWorks", name := "checkState", desc := "(Z)V" } : Jvm.MethodName) prog_1_method_9_code (1 : Nat) (Option.none : Option Jvm.ClassFile.FieldType)) ∈ lw_all := lw_g (lw_at lw_m7 115 rfl) rfl
theorem q1675 : (Jvm.Cond.classLink "SpillslotWorks" (45 : Nat) "java/lang/IllegalStateException") ∈ lw_all := lw_g (lw_at lw_m7 116 rfl) rfl
theorem q1684 : (Jvm.Cond.methodLink "SpillslotWorks" (47 : Nat) ({ cls := "java/lang/IllegalStateException", name := "<init>", desc := "()V" } : Jvm.MethodName)) ∈ lw_all := lw_g (lw_at lw_m7 125 rfl) rfl
theorem q1690 : (Jvm.Cond.interfaceEntry "SpillslotWorks" (136 : Nat)) ∈ lw_tbl := lw_at lw_m7 131 rfl
theorem q1691 : (Jvm.Cond.methodLink "SpillslotWorks" (136 : Nat) ({ cls := "java/util/List", name := "add", desc := "(Ljava/lang/Object;)Z" } : Jvm.MethodName)) ∈ lw_all := lw_g (lw_at lw_m7 132 rfl) rfl
theorem q1696 : (Jvm.Cond.instanceMethod ({ cls := "SpillslotWorks", name := "statement", desc := "(III)I" } : Jvm.MethodName)) ∈ lw_all := lw_g (lw_at lw_m7 137 rfl) rfl
theorem q1697 : (Jvm.Cond.selects "SpillslotWorks" ({ cls := "SpillslotWorks", name := "statement", desc := "(III)I" } : Jvm.MethodName) ({ cls := "SpillslotWorks", name := "statement", desc := "(III)I" } : Jvm.MethodName)) ∈ lw_all := lw_g (lw_at lw_m7 138 rfl) rfl
theorem q1698 : (Jvm.Cond.code ({ cls := "SpillslotWorks", name := "statement", desc := "(III)I" } : Jvm.MethodName) prog_1_method_18_code (5 : Nat) (Option.some Jvm.ClassFile.FieldType.int)) ∈ lw_all := lw_g (lw_at lw_m7 139 rfl) rfl
theorem q1699 : (Jvm.Cond.methodLink "SpillslotWorks" (140 : Nat) ({ cls := "SpillslotWorks", name := "checkBlock", desc := "(I)V" } : Jvm.MethodName)) ∈ lw_all := lw_g (lw_at lw_m7 140 rfl) rfl
theorem q1700 : (Jvm.Cond.static ({ cls := "SpillslotWorks", name := "checkBlock", desc := "(I)V" } : Jvm.MethodName)) ∈ lw_all := lw_g (lw_at lw_m7 141 rfl) rfl
theorem q1701 : (Jvm.Cond.code ({ cls := "SpillslotWorks", name := "checkBlock", desc := "(I)V" } : Jvm.MethodName) prog_1_method_12_code (1 : Nat) (Option.none : Option Jvm.ClassFile.FieldType)) ∈ lw_all := lw_g (lw_at lw_m7 142 rfl) rfl
theorem q1702 : (Jvm.Cond.classLink "SpillslotWorks" (103 : Nat) "java/util/List") ∈ lw_all := lw_g (lw_at lw_m7 143 rfl) rfl
theorem q1703 : (Jvm.Cond.classLink "SpillslotWorks" (154 : Nat) "SpillslotWorks$Statement") ∈ lw_all := lw_g (lw_at lw_m7 144 rfl) rfl
theorem q1705 : (Jvm.Cond.methodLink "SpillslotWorks" (156 : Nat) ({ cls := "SpillslotWorks$Statement", name := "<init>", desc := "(II)V" } : Jvm.MethodName)) ∈ lw_all := lw_g (lw_at lw_m7 146 rfl) rfl
theorem q1715 : (Jvm.Cond.fieldLinkNest "SpillslotWorks" (161 : Nat) "SpillslotWorks$Statement" "node" "I" "SpillslotWorks") ∈ lw_tbl := lw_at lw_m7 156 rfl
theorem q1725 : (Jvm.Cond.instanceMethod ({ cls := "SpillslotWorks", name := "take", desc := "(I)I" } : Jvm.MethodName)) ∈ lw_all := lw_g (lw_at lw_m7 166 rfl) rfl
theorem q1726 : (Jvm.Cond.selects "SpillslotWorks" ({ cls := "SpillslotWorks", name := "take", desc := "(I)I" } : Jvm.MethodName) ({ cls := "SpillslotWorks", name := "take", desc := "(I)I" } : Jvm.MethodName)) ∈ lw_all := lw_g (lw_at lw_m7 167 rfl) rfl
theorem q1727 : (Jvm.Cond.code ({ cls := "SpillslotWorks", name := "take", desc := "(I)I" } : Jvm.MethodName) prog_1_method_19_code (4 : Nat) (Option.some Jvm.ClassFile.FieldType.int)) ∈ lw_all := lw_g (lw_at lw_m7 168 rfl) rfl
theorem q1728 : (Jvm.Cond.interfaceEntry "SpillslotWorks" (158 : Nat)) ∈ lw_tbl := lw_at lw_m7 169 rfl
theorem q1729 : (Jvm.Cond.methodLink "SpillslotWorks" (158 : Nat) ({ cls := "java/util/List", name := "isEmpty", desc := "()Z" } : Jvm.MethodName)) ∈ lw_all := lw_g (lw_at lw_m7 170 rfl) rfl
theorem q1737 : (Jvm.Cond.interfaceEntry "SpillslotWorks" (164 : Nat)) ∈ lw_tbl := lw_at lw_m7 178 rfl
theorem q1738 : (Jvm.Cond.methodLink "SpillslotWorks" (164 : Nat) ({ cls := "java/util/List", name := "remove", desc := "(I)Ljava/lang/Object;" } : Jvm.MethodName)) ∈ lw_all := lw_g (lw_at lw_m7 179 rfl) rfl
theorem q1754 : (Jvm.Cond.instanceMethod ({ cls := "SpillslotWorks", name := "times", desc := "(II)I" } : Jvm.MethodName)) ∈ lw_all := lw_g (lw_at lw_m7 195 rfl) rfl
theorem q1755 : (Jvm.Cond.selects "SpillslotWorks" ({ cls := "SpillslotWorks", name := "times", desc := "(II)I" } : Jvm.MethodName) ({ cls := "SpillslotWorks", name := "times", desc := "(II)I" } : Jvm.MethodName)) ∈ lw_all := lw_g (lw_at lw_m7 196 rfl) rfl
theorem q1756 : (Jvm.Cond.code ({ cls := "SpillslotWorks", name := "times", desc := "(II)I" } : Jvm.MethodName) prog_1_method_20_code (4 : Nat) (Option.some Jvm.ClassFile.FieldType.int)) ∈ lw_all := lw_g (lw_at lw_m7 197 rfl) rfl
theorem q1761 : (Jvm.Cond.instanceMethod ({ cls := "SpillslotWorks", name := "out", desc := "(I)I" } : Jvm.MethodName)) ∈ lw_all := lw_g (lw_at lw_m7 202 rfl) rfl
theorem q1762 : (Jvm.Cond.selects "SpillslotWorks" ({ cls := "SpillslotWorks", name := "out", desc := "(I)I" } : Jvm.MethodName) ({ cls := "SpillslotWorks", name := "out", desc := "(I)I" } : Jvm.MethodName)) ∈ lw_all := lw_g (lw_at lw_m7 203 rfl) rfl
theorem q1763 : (Jvm.Cond.code ({ cls := "SpillslotWorks", name := "out", desc := "(I)I" } : Jvm.MethodName) prog_1_method_21_code (3 : Nat) (Option.some Jvm.ClassFile.FieldType.int)) ∈ lw_all := lw_g (lw_at lw_m7 204 rfl) rfl
theorem q1768 : (Jvm.Cond.instanceMethod ({ cls := "SpillslotWorks", name := "meant", desc := "(I)I" } : Jvm.MethodName)) ∈ lw_all := lw_g (lw_at lw_m7 209 rfl) rfl
theorem q1769 : (Jvm.Cond.selects "SpillslotWorks" ({ cls := "SpillslotWorks", name := "meant", desc := "(I)I" } : Jvm.MethodName) ({ cls := "SpillslotWorks", name := "meant", desc := "(I)I" } : Jvm.MethodName)) ∈ lw_all := lw_g (lw_at lw_m7 210 rfl) rfl
theorem q1770 : (Jvm.Cond.code ({ cls := "SpillslotWorks", name := "meant", desc := "(I)I" } : Jvm.MethodName) prog_1_method_22_code (2 : Nat) (Option.some Jvm.ClassFile.FieldType.int)) ∈ lw_all := lw_g (lw_at lw_m7 211 rfl) rfl
theorem q1775 : (Jvm.Cond.instanceMethod ({ cls := "SpillslotWorks", name := "chosen", desc := "(II)I" } : Jvm.MethodName)) ∈ lw_all := lw_g (lw_at lw_m7 216 rfl) rfl
theorem q1776 : (Jvm.Cond.selects "SpillslotWorks" ({ cls := "SpillslotWorks", name := "chosen", desc := "(II)I" } : Jvm.MethodName) ({ cls := "SpillslotWorks", name := "chosen", desc := "(II)I" } : Jvm.MethodName)) ∈ lw_all := lw_g (lw_at lw_m7 217 rfl) rfl
theorem q1777 : (Jvm.Cond.code ({ cls := "SpillslotWorks", name := "chosen", desc := "(II)I" } : Jvm.MethodName) prog_1_method_25_code (3 : Nat) (Option.some Jvm.ClassFile.FieldType.int)) ∈ lw_all := lw_g (lw_at lw_m7 218 rfl) rfl
theorem q1782 : (Jvm.Cond.instanceMethod ({ cls := "SpillslotWorks", name := "ofValue", desc := "(II)I" } : Jvm.MethodName)) ∈ lw_all := lw_g (lw_at lw_m7 223 rfl) rfl
theorem q1783 : (Jvm.Cond.selects "SpillslotWorks" ({ cls := "SpillslotWorks", name := "ofValue", desc := "(II)I" } : Jvm.MethodName) ({ cls := "SpillslotWorks", name := "ofValue", desc := "(II)I" } : Jvm.MethodName)) ∈ lw_all := lw_g (lw_at lw_m7 224 rfl) rfl
theorem q1784 : (Jvm.Cond.code ({ cls := "SpillslotWorks", name := "ofValue", desc := "(II)I" } : Jvm.MethodName) prog_1_method_27_code (3 : Nat) (Option.some Jvm.ClassFile.FieldType.int)) ∈ lw_all := lw_g (lw_at lw_m7 225 rfl) rfl
theorem q1789 : (Jvm.Cond.instanceMethod ({ cls := "SpillslotWorks", name := "mapAt", desc := "(II)I" } : Jvm.MethodName)) ∈ lw_all := lw_g (lw_at lw_m7 230 rfl) rfl
theorem q1790 : (Jvm.Cond.selects "SpillslotWorks" ({ cls := "SpillslotWorks", name := "mapAt", desc := "(II)I" } : Jvm.MethodName) ({ cls := "SpillslotWorks", name := "mapAt", desc := "(II)I" } : Jvm.MethodName)) ∈ lw_all := lw_g (lw_at lw_m7 231 rfl) rfl
theorem q1791 : (Jvm.Cond.code ({ cls := "SpillslotWorks", name := "mapAt", desc := "(II)I" } : Jvm.MethodName) prog_1_method_30_code (4 : Nat) (Option.some Jvm.ClassFile.FieldType.int)) ∈ lw_all := lw_g (lw_at lw_m7 232 rfl) rfl
theorem q1792 : (Jvm.Cond.methodLink "SpillslotWorks" (262 : Nat) ({ cls := "SpillslotWorks", name := "pointOf", desc := "(I)I" } : Jvm.MethodName)) ∈ lw_all := lw_g (lw_at lw_m7 233 rfl) rfl
theorem q1793 : (Jvm.Cond.privateMethod ({ cls := "SpillslotWorks", name := "pointOf", desc := "(I)I" } : Jvm.MethodName)) ∈ lw_tbl := lw_at lw_m7 234 rfl
theorem q1794 : (Jvm.Cond.instanceMethod ({ cls := "SpillslotWorks", name := "pointOf", desc := "(I)I" } : Jvm.MethodName)) ∈ lw_all := lw_g (lw_at lw_m7 235 rfl) rfl
theorem q1795 : (Jvm.Cond.code ({ cls := "SpillslotWorks", name := "pointOf", desc := "(I)I" } : Jvm.MethodName) prog_1_method_28_code (4 : Nat) (Option.some Jvm.ClassFile.FieldType.int)) ∈ lw_all := lw_g (lw_at lw_m7 236 rfl) rfl
theorem q1800 : (Jvm.Cond.instanceMethod ({ cls := "SpillslotWorks", name := "cost", desc := "(I)I" } : Jvm.MethodName)) ∈ lw_all := lw_g (lw_at lw_m8 1 rfl) rfl
theorem q1801 : (Jvm.Cond.selects "SpillslotWorks" ({ cls := "SpillslotWorks", name := "cost", desc := "(I)I" } : Jvm.MethodName) ({ cls := "SpillslotWorks", name := "cost", desc := "(I)I" } : Jvm.MethodName)) ∈ lw_all := lw_g (lw_at lw_m8 2 rfl) rfl
theorem q1802 : (Jvm.Cond.code ({ cls := "SpillslotWorks", name := "cost", desc := "(I)I" } : Jvm.MethodName) prog_1_method_31_code (2 : Nat) (Option.some Jvm.ClassFile.FieldType.int)) ∈ lw_all := lw_g (lw_at lw_m8 3 rfl) rfl
theorem q1807 : (Jvm.Cond.instanceMethod ({ cls := "SpillslotWorks", name := "code", desc := "(II)I" } : Jvm.MethodName)) ∈ lw_all := lw_g (lw_at lw_m8 8 rfl) rfl
theorem q1808 : (Jvm.Cond.selects "SpillslotWorks" ({ cls := "SpillslotWorks", name := "code", desc := "(II)I" } : Jvm.MethodName) ({ cls := "SpillslotWorks", name := "code", desc := "(II)I" } : Jvm.MethodName)) ∈ lw_all := lw_g (lw_at lw_m8 9 rfl) rfl
theorem q1809 : (Jvm.Cond.code ({ cls := "SpillslotWorks", name := "code", desc := "(II)I" } : Jvm.MethodName) prog_1_method_33_code (3 : Nat) (Option.some Jvm.ClassFile.FieldType.int)) ∈ lw_all := lw_g (lw_at lw_m8 10 rfl) rfl
theorem q1814 : (Jvm.Cond.instanceMethod ({ cls := "SpillslotWorks", name := "begins", desc := "(I)I" } : Jvm.MethodName)) ∈ lw_all := lw_g (lw_at lw_m8 15 rfl) rfl
theorem q1815 : (Jvm.Cond.selects "SpillslotWorks" ({ cls := "SpillslotWorks", name := "begins", desc := "(I)I" } : Jvm.MethodName) ({ cls := "SpillslotWorks", name := "begins", desc := "(I)I" } : Jvm.MethodName)) ∈ lw_all := lw_g (lw_at lw_m8 16 rfl) rfl
theorem q1816 : (Jvm.Cond.code ({ cls := "SpillslotWorks", name := "begins", desc := "(I)I" } : Jvm.MethodName) prog_1_method_34_code (2 : Nat) (Option.some Jvm.ClassFile.FieldType.int)) ∈ lw_all := lw_g (lw_at lw_m8 17 rfl) rfl
theorem q1821 : (Jvm.Cond.instanceMethod ({ cls := "SpillslotWorks", name := "answer", desc := "(I)I" } : Jvm.MethodName)) ∈ lw_all := lw_g (lw_at lw_m8 22 rfl) rfl
theorem q1822 : (Jvm.Cond.selects "SpillslotWorks" ({ cls := "SpillslotWorks", name := "answer", desc := "(I)I" } : Jvm.MethodName) ({ cls := "SpillslotWorks", name := "answer", desc := "(I)I" } : Jvm.MethodName)) ∈ lw_all := lw_g (lw_at lw_m8 23 rfl) rfl
theorem q1823 : (Jvm.Cond.code ({ cls := "SpillslotWorks", name := "answer", desc := "(I)I" } : Jvm.MethodName) prog_1_method_35_code (2 : Nat) (Option.some Jvm.ClassFile.FieldType.int)) ∈ lw_all := lw_g (lw_at lw_m8 24 rfl) rfl
theorem q1828 : (Jvm.Cond.instanceMethod ({ cls := "SpillslotWorks", name := "many", desc := "(I)I" } : Jvm.MethodName)) ∈ lw_all := lw_g (lw_at lw_m8 29 rfl) rfl
theorem q1829 : (Jvm.Cond.selects "SpillslotWorks" ({ cls := "SpillslotWorks", name := "many", desc := "(I)I" } : Jvm.MethodName) ({ cls := "SpillslotWorks", name := "many", desc := "(I)I" } : Jvm.MethodName)) ∈ lw_all := lw_g (lw_at lw_m8 30 rfl) rfl
theorem q1830 : (Jvm.Cond.code ({ cls := "SpillslotWorks", name := "many", desc := "(I)I" } : Jvm.MethodName) prog_1_method_38_code (2 : Nat) (Option.some Jvm.ClassFile.FieldType.int)) ∈ lw_all := lw_g (lw_at lw_m8 31 rfl) rfl
theorem q1835 : (Jvm.Cond.instanceMethod ({ cls := "SpillslotWorks", name := "with", desc := "(IIZI)I" } : Jvm.MethodName)) ∈ lw_all := lw_g (lw_at lw_m8 36 rfl) rfl
theorem q1836 : (Jvm.Cond.selects "SpillslotWorks" ({ cls := "SpillslotWorks", name := "with", desc := "(IIZI)I" } : Jvm.MethodName) ({ cls := "SpillslotWorks", name := "with", desc := "(IIZI)I" } : Jvm.MethodName)) ∈ lw_all := lw_g (lw_at lw_m8 37 rfl) rfl
theorem q1837 : (Jvm.Cond.code ({ cls := "SpillslotWorks", name := "with", desc := "(IIZI)I" } : Jvm.MethodName) prog_1_method_41_code (5 : Nat) (Option.some Jvm.ClassFile.FieldType.int)) ∈ lw_all := lw_g (lw_at lw_m8 38 rfl) rfl
theorem q1842 : (Jvm.Cond.instanceMethod ({ cls := "SpillslotWorks", name := "cyclesWith", desc := "(II)I" } : Jvm.MethodName)) ∈ lw_all := lw_g (lw_at lw_m8 43 rfl) rfl
theorem q1843 : (Jvm.Cond.selects "SpillslotWorks" ({ cls := "SpillslotWorks", name := "cyclesWith", desc := "(II)I" } : Jvm.MethodName) ({ cls := "SpillslotWorks", name := "cyclesWith", desc := "(II)I" } : Jvm.MethodName)) ∈ lw_all := lw_g (lw_at lw_m8 44 rfl) rfl
theorem q1844 : (Jvm.Cond.code ({ cls := "SpillslotWorks", name := "cyclesWith", desc := "(II)I" } : Jvm.MethodName) prog_1_method_42_code (3 : Nat) (Option.some Jvm.ClassFile.FieldType.int)) ∈ lw_all := lw_g (lw_at lw_m8 45 rfl) rfl
theorem q2295 : (Jvm.Cond.selects "SpillslotWorks" ({ cls := "java/lang/Object", name := "equals", desc := "(Ljava/lang/Object;)Z" } : Jvm.MethodName) ({ cls := "java/lang/Object", name := "equals", desc := "(Ljava/lang/Object;)Z" } : Jvm.MethodName)) ∈ lw_all := lw_g (lw_at lw_m10 16 rfl) rfl
theorem q2855 : (Jvm.Cond.castable "SpillslotWorks" "java/lang/Object") ∈ lw_tbl := lw_at lw_m12 96 rfl
theorem in_X1 : ∀ w ∈ wsX10, w ∈ lw_all := lw_in wsX10 [1400, 1402, 1404] (by decide +kernel) (by decide +kernel)
