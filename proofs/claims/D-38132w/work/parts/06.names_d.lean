/-! SpillslotWorks$Chooser -/
set_option maxRecDepth 100000
def RX5 : String := "SpillslotWorks$Chooser"
def TX5 : u_T := fun k => match k with
  | 0 => ("SpillslotWorks$Chooser", "program", "LSpillslotWorks$Program;", true)
  | 1 => ("SpillslotWorks$Chooser", "machine", "LSpillslotWorks$Machine;", true)
  | 2 => ("SpillslotWorks$Chooser", "costs", "[I", true)
  | 3 => ("SpillslotWorks$Chooser", "ops", "Ljava/util/List;", true)
  | 4 => ("SpillslotWorks$Chooser", "values", "I", false)
  | _ => ("SpillslotWorks$Chooser", "block", "I", false)
def tyX5 : Nat → FieldType := fun k => match k with
  | 0 => .object "SpillslotWorks$Program"
  | 1 => .object "SpillslotWorks$Machine"
  | 2 => .array .int
  | 3 => .object "java/util/List"
  | 4 => .int
  | _ => .int
abbrev wsX50 : List Cond := u_ws RX5 TX5 6
theorem nmX5 : ∀ a, a < 6 → ∀ b, b < 6 → a ≠ b → (TX5 a).2.1 ≠ (TX5 b).2.1 := by decide +kernel
theorem tyX5_ok : ∀ k, k < 6 → parseFieldDescriptor (TX5 k).2.2.1 = some (tyX5 k) := by decide +kernel
abbrev cX5_init : ByteArray := prog_3_method_1_code
def yX5_init : MethodName := ⟨RX5, "<init>", "(LSpillslotWorks$Program;LSpillslotWorks$Machine;)V"⟩
def dkwX5_init_3 : List UInt8 := [167, 255, 233, 177]
abbrev dktX5_init_3 : List UInt8 := dkwX5_init_3 ++ []
def dkwX5_init_2 : List UInt8 := [62, 29, 42, 180, 0, 41, 190, 162, 0, 20, 42, 180, 0, 41, 29, 42, 29, 182, 0, 45, 79, 132, 3, 1]
abbrev dktX5_init_2 : List UInt8 := dkwX5_init_2 ++ dktX5_init_3
def dkwX5_init_1 : List UInt8 := [181, 0, 22, 42, 44, 181, 0, 26, 42, 43, 180, 0, 30, 185, 0, 35, 1, 0, 188, 10, 181, 0, 41, 3]
abbrev dktX5_init_1 : List UInt8 := dkwX5_init_1 ++ dktX5_init_2
def dkwX5_init_0 : List UInt8 := [42, 183, 0, 3, 42, 187, 0, 9, 89, 183, 0, 11, 181, 0, 12, 42, 16, 8, 181, 0, 18, 42, 43]
abbrev dktX5_init_0 : List UInt8 := dkwX5_init_0 ++ dktX5_init_1
theorem dksX5_init_0 : cX5_init.data.toList.drop 0 = dktX5_init_0 := by decide +kernel
theorem dksX5_init_1 : cX5_init.data.toList.drop 23 = dktX5_init_1 := dk_seg dksX5_init_0 23 rfl rfl
theorem dksX5_init_2 : cX5_init.data.toList.drop 47 = dktX5_init_2 := dk_seg dksX5_init_1 24 rfl rfl
theorem dksX5_init_3 : cX5_init.data.toList.drop 71 = dktX5_init_3 := dk_seg dksX5_init_2 24 rfl rfl
theorem dX5_init_0 : decode cX5_init 0 = .ok (.aload_n 0, 1) := dk_42 (dk_at dksX5_init_0 0 rfl rfl)
theorem dX5_init_1 : decode cX5_init 1 = .ok (.invokespecial 3, 3) := dk_183 0 3 (dk_at dksX5_init_0 1 rfl rfl)
theorem dX5_init_4 : decode cX5_init 4 = .ok (.aload_n 0, 1) := dk_42 (dk_at dksX5_init_0 4 rfl rfl)
theorem dX5_init_5 : decode cX5_init 5 = .ok (.new 9, 3) := dk_187 0 9 (dk_at dksX5_init_0 5 rfl rfl)
theorem dX5_init_8 : decode cX5_init 8 = .ok (.dup, 1) := dk_89 (dk_at dksX5_init_0 8 rfl rfl)
theorem dX5_init_9 : decode cX5_init 9 = .ok (.invokespecial 11, 3) := dk_183 0 11 (dk_at dksX5_init_0 9 rfl rfl)
theorem dX5_init_12 : decode cX5_init 12 = .ok (.putfield 12, 3) := dk_181 0 12 (dk_at dksX5_init_0 12 rfl rfl)
theorem dX5_init_15 : decode cX5_init 15 = .ok (.aload_n 0, 1) := dk_42 (dk_at dksX5_init_0 15 rfl rfl)
theorem dX5_init_16 : decode cX5_init 16 = .ok (.bipush 8, 2) := dk_16 8 (dk_at dksX5_init_0 16 rfl rfl)
theorem dX5_init_18 : decode cX5_init 18 = .ok (.putfield 18, 3) := dk_181 0 18 (dk_at dksX5_init_0 18 rfl rfl)
theorem dX5_init_21 : decode cX5_init 21 = .ok (.aload_n 0, 1) := dk_42 (dk_at dksX5_init_0 21 rfl rfl)
theorem dX5_init_22 : decode cX5_init 22 = .ok (.aload_n 1, 1) := dk_43 (dk_at dksX5_init_0 22 rfl rfl)
theorem dX5_init_23 : decode cX5_init 23 = .ok (.putfield 22, 3) := dk_181 0 22 (dk_at dksX5_init_1 0 rfl rfl)
theorem dX5_init_26 : decode cX5_init 26 = .ok (.aload_n 0, 1) := dk_42 (dk_at dksX5_init_1 3 rfl rfl)
theorem dX5_init_27 : decode cX5_init 27 = .ok (.aload_n 2, 1) := dk_44 (dk_at dksX5_init_1 4 rfl rfl)
theorem dX5_init_28 : decode cX5_init 28 = .ok (.putfield 26, 3) := dk_181 0 26 (dk_at dksX5_init_1 5 rfl rfl)
theorem dX5_init_31 : decode cX5_init 31 = .ok (.aload_n 0, 1) := dk_42 (dk_at dksX5_init_1 8 rfl rfl)
theorem dX5_init_32 : decode cX5_init 32 = .ok (.aload_n 1, 1) := dk_43 (dk_at dksX5_init_1 9 rfl rfl)
theorem dX5_init_33 : decode cX5_init 33 = .ok (.getfield 30, 3) := dk_180 0 30 (dk_at dksX5_init_1 10 rfl rfl)
theorem dX5_init_36 : decode cX5_init 36 = .ok (.invokeinterface 35 1, 5) := by decide +kernel
theorem dX5_init_41 : decode cX5_init 41 = .ok (.newarray .int, 2) := dk_188_10 (dk_at dksX5_init_1 18 rfl rfl)
theorem dX5_init_43 : decode cX5_init 43 = .ok (.putfield 41, 3) := dk_181 0 41 (dk_at dksX5_init_1 20 rfl rfl)
theorem dX5_init_46 : decode cX5_init 46 = .ok (.iconst 0, 1) := dk_3 (dk_at dksX5_init_1 23 rfl rfl)
theorem dX5_init_47 : decode cX5_init 47 = .ok (.istore_n 3, 1) := dk_62 (dk_at dksX5_init_2 0 rfl rfl)
theorem dX5_init_48 : decode cX5_init 48 = .ok (.iload_n 3, 1) := dk_29 (dk_at dksX5_init_2 1 rfl rfl)
theorem dX5_init_49 : decode cX5_init 49 = .ok (.aload_n 0, 1) := dk_42 (dk_at dksX5_init_2 2 rfl rfl)
theorem dX5_init_50 : decode cX5_init 50 = .ok (.getfield 41, 3) := dk_180 0 41 (dk_at dksX5_init_2 3 rfl rfl)
theorem dX5_init_53 : decode cX5_init 53 = .ok (.arraylength, 1) := dk_190 (dk_at dksX5_init_2 6 rfl rfl)
theorem dX5_init_54 : decode cX5_init 54 = .ok (.if_icmp .ge 20, 3) := dk_162 0 20 (dk_at dksX5_init_2 7 rfl rfl)
theorem dX5_init_57 : decode cX5_init 57 = .ok (.aload_n 0, 1) := dk_42 (dk_at dksX5_init_2 10 rfl rfl)
theorem dX5_init_58 : decode cX5_init 58 = .ok (.getfield 41, 3) := dk_180 0 41 (dk_at dksX5_init_2 11 rfl rfl)
theorem dX5_init_61 : decode cX5_init 61 = .ok (.iload_n 3, 1) := dk_29 (dk_at dksX5_init_2 14 rfl rfl)
theorem dX5_init_62 : decode cX5_init 62 = .ok (.aload_n 0, 1) := dk_42 (dk_at dksX5_init_2 15 rfl rfl)
theorem dX5_init_63 : decode cX5_init 63 = .ok (.iload_n 3, 1) := dk_29 (dk_at dksX5_init_2 16 rfl rfl)
theorem dX5_init_64 : decode cX5_init 64 = .ok (.invokevirtual 45, 3) := dk_182 0 45 (dk_at dksX5_init_2 17 rfl rfl)
theorem dX5_init_67 : decode cX5_init 67 = .ok (.iastore, 1) := dk_79 (dk_at dksX5_init_2 20 rfl rfl)
theorem dX5_init_68 : decode cX5_init 68 = .ok (.iinc 3 1, 3) := dk_132 3 1 (dk_at dksX5_init_2 21 rfl rfl)
theorem dX5_init_71 : decode cX5_init 71 = .ok (.goto (-23), 3) := dk_167 255 233 (dk_at dksX5_init_3 0 rfl rfl)
theorem dX5_init_74 : decode cX5_init 74 = .ok (.return_, 1) := dk_177 (dk_at dksX5_init_3 3 rfl rfl)
abbrev cX5_costOf : ByteArray := prog_3_method_11_code
def yX5_costOf : MethodName := ⟨RX5, "costOf", "(I)I"⟩
def dkwX5_costOf_2 : List UInt8 := [182, 0, 122, 184, 0, 125, 184, 0, 125, 172]
abbrev dktX5_costOf_2 : List UInt8 := dkwX5_costOf_2 ++ []
def dkwX5_costOf_1 : List UInt8 := [180, 0, 26, 3, 182, 0, 96, 167, 0, 4, 3, 172, 42, 44, 182, 0, 116, 42, 44, 182, 0, 119, 42, 44]
abbrev dktX5_costOf_1 : List UInt8 := dkwX5_costOf_1 ++ dktX5_costOf_2
def dkwX5_costOf_0 : List UInt8 := [42, 27, 182, 0, 53, 77, 44, 182, 0, 112, 154, 0, 26, 44, 178, 0, 54, 182, 0, 60, 153, 0, 14, 42]
abbrev dktX5_costOf_0 : List UInt8 := dkwX5_costOf_0 ++ dktX5_costOf_1
theorem dksX5_costOf_0 : cX5_costOf.data.toList.drop 0 = dktX5_costOf_0 := by decide +kernel
theorem dksX5_costOf_1 : cX5_costOf.data.toList.drop 24 = dktX5_costOf_1 := dk_seg dksX5_costOf_0 24 rfl rfl
theorem dksX5_costOf_2 : cX5_costOf.data.toList.drop 48 = dktX5_costOf_2 := dk_seg dksX5_costOf_1 24 rfl rfl
theorem dX5_costOf_0 : decode cX5_costOf 0 = .ok (.aload_n 0, 1) := dk_42 (dk_at dksX5_costOf_0 0 rfl rfl)
theorem dX5_costOf_1 : decode cX5_costOf 1 = .ok (.iload_n 1, 1) := dk_27 (dk_at dksX5_costOf_0 1 rfl rfl)
theorem dX5_costOf_2 : decode cX5_costOf 2 = .ok (.invokevirtual 53, 3) := dk_182 0 53 (dk_at dksX5_costOf_0 2 rfl rfl)
theorem dX5_costOf_5 : decode cX5_costOf 5 = .ok (.astore_n 2, 1) := dk_77 (dk_at dksX5_costOf_0 5 rfl rfl)
theorem dX5_costOf_6 : decode cX5_costOf 6 = .ok (.aload_n 2, 1) := dk_44 (dk_at dksX5_costOf_0 6 rfl rfl)
theorem dX5_costOf_7 : decode cX5_costOf 7 = .ok (.invokevirtual 112, 3) := dk_182 0 112 (dk_at dksX5_costOf_0 7 rfl rfl)
theorem dX5_costOf_10 : decode cX5_costOf 10 = .ok (.ifCond .ne 26, 3) := dk_154 0 26 (dk_at dksX5_costOf_0 10 rfl rfl)
theorem dX5_costOf_13 : decode cX5_costOf 13 = .ok (.aload_n 2, 1) := dk_44 (dk_at dksX5_costOf_0 13 rfl rfl)
theorem dX5_costOf_14 : decode cX5_costOf 14 = .ok (.getstatic 54, 3) := dk_178 0 54 (dk_at dksX5_costOf_0 14 rfl rfl)
theorem dX5_costOf_17 : decode cX5_costOf 17 = .ok (.invokevirtual 60, 3) := dk_182 0 60 (dk_at dksX5_costOf_0 17 rfl rfl)
theorem dX5_costOf_20 : decode cX5_costOf 20 = .ok (.ifCond .eq 14, 3) := dk_153 0 14 (dk_at dksX5_costOf_0 20 rfl rfl)
theorem dX5_costOf_23 : decode cX5_costOf 23 = .ok (.aload_n 0, 1) := dk_42 (dk_at dksX5_costOf_0 23 rfl rfl)
theorem dX5_costOf_24 : decode cX5_costOf 24 = .ok (.getfield 26, 3) := dk_180 0 26 (dk_at dksX5_costOf_1 0 rfl rfl)
theorem dX5_costOf_27 : decode cX5_costOf 27 = .ok (.iconst 0, 1) := dk_3 (dk_at dksX5_costOf_1 3 rfl rfl)
theorem dX5_costOf_28 : decode cX5_costOf 28 = .ok (.invokevirtual 96, 3) := dk_182 0 96 (dk_at dksX5_costOf_1 4 rfl rfl)
theorem dX5_costOf_31 : decode cX5_costOf 31 = .ok (.goto 4, 3) := dk_167 0 4 (dk_at dksX5_costOf_1 7 rfl rfl)
theorem dX5_costOf_34 : decode cX5_costOf 34 = .ok (.iconst 0, 1) := dk_3 (dk_at dksX5_costOf_1 10 rfl rfl)
theorem dX5_costOf_35 : decode cX5_costOf 35 = .ok (.ireturn, 1) := dk_172 (dk_at dksX5_costOf_1 11 rfl rfl)
theorem dX5_costOf_36 : decode cX5_costOf 36 = .ok (.aload_n 0, 1) := dk_42 (dk_at dksX5_costOf_1 12 rfl rfl)
theorem dX5_costOf_37 : decode cX5_costOf 37 = .ok (.aload_n 2, 1) := dk_44 (dk_at dksX5_costOf_1 13 rfl rfl)
theorem dX5_costOf_38 : decode cX5_costOf 38 = .ok (.invokevirtual 116, 3) := dk_182 0 116 (dk_at dksX5_costOf_1 14 rfl rfl)
theorem dX5_costOf_41 : decode cX5_costOf 41 = .ok (.aload_n 0, 1) := dk_42 (dk_at dksX5_costOf_1 17 rfl rfl)
theorem dX5_costOf_42 : decode cX5_costOf 42 = .ok (.aload_n 2, 1) := dk_44 (dk_at dksX5_costOf_1 18 rfl rfl)
theorem dX5_costOf_43 : decode cX5_costOf 43 = .ok (.invokevirtual 119, 3) := dk_182 0 119 (dk_at dksX5_costOf_1 19 rfl rfl)
theorem dX5_costOf_46 : decode cX5_costOf 46 = .ok (.aload_n 0, 1) := dk_42 (dk_at dksX5_costOf_1 22 rfl rfl)
theorem dX5_costOf_47 : decode cX5_costOf 47 = .ok (.aload_n 2, 1) := dk_44 (dk_at dksX5_costOf_1 23 rfl rfl)
theorem dX5_costOf_48 : decode cX5_costOf 48 = .ok (.invokevirtual 122, 3) := dk_182 0 122 (dk_at dksX5_costOf_2 0 rfl rfl)
theorem dX5_costOf_51 : decode cX5_costOf 51 = .ok (.invokestatic 125, 3) := dk_184 0 125 (dk_at dksX5_costOf_2 3 rfl rfl)
theorem dX5_costOf_54 : decode cX5_costOf 54 = .ok (.invokestatic 125, 3) := dk_184 0 125 (dk_at dksX5_costOf_2 6 rfl rfl)
theorem dX5_costOf_57 : decode cX5_costOf 57 = .ok (.ireturn, 1) := dk_172 (dk_at dksX5_costOf_2 9 rfl rfl)
abbrev cX5_at : ByteArray := prog_3_method_2_code
def yX5_at : MethodName := ⟨RX5, "at", "(I)LSpillslotWorks$Node;"⟩
def dkwX5_at_0 : List UInt8 := [42, 180, 0, 22, 27, 182, 0, 49, 176]
abbrev dktX5_at_0 : List UInt8 := dkwX5_at_0 ++ []
theorem dksX5_at_0 : cX5_at.data.toList.drop 0 = dktX5_at_0 := by decide +kernel
theorem dX5_at_0 : decode cX5_at 0 = .ok (.aload_n 0, 1) := dk_42 (dk_at dksX5_at_0 0 rfl rfl)
theorem dX5_at_1 : decode cX5_at 1 = .ok (.getfield 22, 3) := dk_180 0 22 (dk_at dksX5_at_0 1 rfl rfl)
theorem dX5_at_4 : decode cX5_at 4 = .ok (.iload_n 1, 1) := dk_27 (dk_at dksX5_at_0 4 rfl rfl)
theorem dX5_at_5 : decode cX5_at 5 = .ok (.invokevirtual 49, 3) := dk_182 0 49 (dk_at dksX5_at_0 5 rfl rfl)
theorem dX5_at_8 : decode cX5_at 8 = .ok (.areturn, 1) := dk_176 (dk_at dksX5_at_0 8 rfl rfl)
abbrev cX5_plainCost : ByteArray := prog_3_method_8_code
def yX5_plainCost : MethodName := ⟨RX5, "plainCost", "(LSpillslotWorks$Node;)I"⟩
def dkwX5_plainCost_1 : List UInt8 := [180, 0, 41, 43, 180, 0, 81, 46, 96, 172]
abbrev dktX5_plainCost_1 : List UInt8 := dkwX5_plainCost_1 ++ []
def dkwX5_plainCost_0 : List UInt8 := [42, 180, 0, 26, 43, 184, 0, 92, 182, 0, 96, 42, 180, 0, 41, 43, 180, 0, 66, 46, 96, 42]
abbrev dktX5_plainCost_0 : List UInt8 := dkwX5_plainCost_0 ++ dktX5_plainCost_1
theorem dksX5_plainCost_0 : cX5_plainCost.data.toList.drop 0 = dktX5_plainCost_0 := by decide +kernel
theorem dksX5_plainCost_1 : cX5_plainCost.data.toList.drop 22 = dktX5_plainCost_1 := dk_seg dksX5_plainCost_0 22 rfl rfl
theorem dX5_plainCost_0 : decode cX5_plainCost 0 = .ok (.aload_n 0, 1) := dk_42 (dk_at dksX5_plainCost_0 0 rfl rfl)
theorem dX5_plainCost_1 : decode cX5_plainCost 1 = .ok (.getfield 26, 3) := dk_180 0 26 (dk_at dksX5_plainCost_0 1 rfl rfl)
theorem dX5_plainCost_4 : decode cX5_plainCost 4 = .ok (.aload_n 1, 1) := dk_43 (dk_at dksX5_plainCost_0 4 rfl rfl)
theorem dX5_plainCost_5 : decode cX5_plainCost 5 = .ok (.invokestatic 92, 3) := dk_184 0 92 (dk_at dksX5_plainCost_0 5 rfl rfl)
theorem dX5_plainCost_8 : decode cX5_plainCost 8 = .ok (.invokevirtual 96, 3) := dk_182 0 96 (dk_at dksX5_plainCost_0 8 rfl rfl)
theorem dX5_plainCost_11 : decode cX5_plainCost 11 = .ok (.aload_n 0, 1) := dk_42 (dk_at dksX5_plainCost_0 11 rfl rfl)
theorem dX5_plainCost_12 : decode cX5_plainCost 12 = .ok (.getfield 41, 3) := dk_180 0 41 (dk_at dksX5_plainCost_0 12 rfl rfl)
theorem dX5_plainCost_15 : decode cX5_plainCost 15 = .ok (.aload_n 1, 1) := dk_43 (dk_at dksX5_plainCost_0 15 rfl rfl)
theorem dX5_plainCost_16 : decode cX5_plainCost 16 = .ok (.getfield 66, 3) := dk_180 0 66 (dk_at dksX5_plainCost_0 16 rfl rfl)
theorem dX5_plainCost_19 : decode cX5_plainCost 19 = .ok (.iaload, 1) := dk_46 (dk_at dksX5_plainCost_0 19 rfl rfl)
theorem dX5_plainCost_20 : decode cX5_plainCost 20 = .ok (.iadd, 1) := dk_96 (dk_at dksX5_plainCost_0 20 rfl rfl)
theorem dX5_plainCost_21 : decode cX5_plainCost 21 = .ok (.aload_n 0, 1) := dk_42 (dk_at dksX5_plainCost_0 21 rfl rfl)
theorem dX5_plainCost_22 : decode cX5_plainCost 22 = .ok (.getfield 41, 3) := dk_180 0 41 (dk_at dksX5_plainCost_1 0 rfl rfl)
theorem dX5_plainCost_25 : decode cX5_plainCost 25 = .ok (.aload_n 1, 1) := dk_43 (dk_at dksX5_plainCost_1 3 rfl rfl)
theorem dX5_plainCost_26 : decode cX5_plainCost 26 = .ok (.getfield 81, 3) := dk_180 0 81 (dk_at dksX5_plainCost_1 4 rfl rfl)
theorem dX5_plainCost_29 : decode cX5_plainCost 29 = .ok (.iaload, 1) := dk_46 (dk_at dksX5_plainCost_1 7 rfl rfl)
theorem dX5_plainCost_30 : decode cX5_plainCost 30 = .ok (.iadd, 1) := dk_96 (dk_at dksX5_plainCost_1 8 rfl rfl)
theorem dX5_plainCost_31 : decode cX5_plainCost 31 = .ok (.ireturn, 1) := dk_172 (dk_at dksX5_plainCost_1 9 rfl rfl)
abbrev cX5_opOf : ByteArray := prog_3_method_7_code
def yX5_opOf : MethodName := ⟨RX5, "opOf", "(LSpillslotWorks$Node;)I"⟩
def dkwX5_opOf_1 : List UInt8 := [6, 167, 0, 19, 42, 178, 0, 89, 182, 0, 60, 153, 0, 7, 7, 167, 0, 5, 16, 9, 172]
abbrev dktX5_opOf_1 : List UInt8 := dkwX5_opOf_1 ++ []
def dkwX5_opOf_0 : List UInt8 := [42, 178, 0, 75, 182, 0, 60, 153, 0, 7, 5, 167, 0, 33, 42, 178, 0, 78, 182, 0, 60, 153, 0, 7]
abbrev dktX5_opOf_0 : List UInt8 := dkwX5_opOf_0 ++ dktX5_opOf_1
theorem dksX5_opOf_0 : cX5_opOf.data.toList.drop 0 = dktX5_opOf_0 := by decide +kernel
theorem dksX5_opOf_1 : cX5_opOf.data.toList.drop 24 = dktX5_opOf_1 := dk_seg dksX5_opOf_0 24 rfl rfl
theorem dX5_opOf_0 : decode cX5_opOf 0 = .ok (.aload_n 0, 1) := dk_42 (dk_at dksX5_opOf_0 0 rfl rfl)
theorem dX5_opOf_1 : decode cX5_opOf 1 = .ok (.getstatic 75, 3) := dk_178 0 75 (dk_at dksX5_opOf_0 1 rfl rfl)
theorem dX5_opOf_4 : decode cX5_opOf 4 = .ok (.invokevirtual 60, 3) := dk_182 0 60 (dk_at dksX5_opOf_0 4 rfl rfl)
theorem dX5_opOf_7 : decode cX5_opOf 7 = .ok (.ifCond .eq 7, 3) := dk_153 0 7 (dk_at dksX5_opOf_0 7 rfl rfl)
theorem dX5_opOf_10 : decode cX5_opOf 10 = .ok (.iconst 2, 1) := dk_5 (dk_at dksX5_opOf_0 10 rfl rfl)
theorem dX5_opOf_11 : decode cX5_opOf 11 = .ok (.goto 33, 3) := dk_167 0 33 (dk_at dksX5_opOf_0 11 rfl rfl)
theorem dX5_opOf_14 : decode cX5_opOf 14 = .ok (.aload_n 0, 1) := dk_42 (dk_at dksX5_opOf_0 14 rfl rfl)
theorem dX5_opOf_15 : decode cX5_opOf 15 = .ok (.getstatic 78, 3) := dk_178 0 78 (dk_at dksX5_opOf_0 15 rfl rfl)
theorem dX5_opOf_18 : decode cX5_opOf 18 = .ok (.invokevirtual 60, 3) := dk_182 0 60 (dk_at dksX5_opOf_0 18 rfl rfl)
theorem dX5_opOf_21 : decode cX5_opOf 21 = .ok (.ifCond .eq 7, 3) := dk_153 0 7 (dk_at dksX5_opOf_0 21 rfl rfl)
theorem dX5_opOf_24 : decode cX5_opOf 24 = .ok (.iconst 3, 1) := dk_6 (dk_at dksX5_opOf_1 0 rfl rfl)
theorem dX5_opOf_25 : decode cX5_opOf 25 = .ok (.goto 19, 3) := dk_167 0 19 (dk_at dksX5_opOf_1 1 rfl rfl)
theorem dX5_opOf_28 : decode cX5_opOf 28 = .ok (.aload_n 0, 1) := dk_42 (dk_at dksX5_opOf_1 4 rfl rfl)
theorem dX5_opOf_29 : decode cX5_opOf 29 = .ok (.getstatic 89, 3) := dk_178 0 89 (dk_at dksX5_opOf_1 5 rfl rfl)
theorem dX5_opOf_32 : decode cX5_opOf 32 = .ok (.invokevirtual 60, 3) := dk_182 0 60 (dk_at dksX5_opOf_1 8 rfl rfl)
theorem dX5_opOf_35 : decode cX5_opOf 35 = .ok (.ifCond .eq 7, 3) := dk_153 0 7 (dk_at dksX5_opOf_1 11 rfl rfl)
theorem dX5_opOf_38 : decode cX5_opOf 38 = .ok (.iconst 4, 1) := dk_7 (dk_at dksX5_opOf_1 14 rfl rfl)
theorem dX5_opOf_39 : decode cX5_opOf 39 = .ok (.goto 5, 3) := dk_167 0 5 (dk_at dksX5_opOf_1 15 rfl rfl)
theorem dX5_opOf_42 : decode cX5_opOf 42 = .ok (.bipush 9, 2) := dk_16 9 (dk_at dksX5_opOf_1 18 rfl rfl)
theorem dX5_opOf_44 : decode cX5_opOf 44 = .ok (.ireturn, 1) := dk_172 (dk_at dksX5_opOf_1 20 rfl rfl)
abbrev cX5_smallCost : ByteArray := prog_3_method_9_code
def yX5_smallCost : MethodName := ⟨RX5, "smallCost", "(LSpillslotWorks$Node;)I"⟩
def dkwX5_smallCost_1 : List UInt8 := [180, 0, 41, 43, 42, 43, 182, 0, 99, 184, 0, 105, 46, 96, 172]
abbrev dktX5_smallCost_1 : List UInt8 := dkwX5_smallCost_1 ++ []
def dkwX5_smallCost_0 : List UInt8 := [42, 43, 182, 0, 99, 2, 160, 0, 8, 18, 104, 167, 0, 26, 42, 180, 0, 26, 8, 182, 0, 96, 42]
abbrev dktX5_smallCost_0 : List UInt8 := dkwX5_smallCost_0 ++ dktX5_smallCost_1
theorem dksX5_smallCost_0 : cX5_smallCost.data.toList.drop 0 = dktX5_smallCost_0 := by decide +kernel
theorem dksX5_smallCost_1 : cX5_smallCost.data.toList.drop 23 = dktX5_smallCost_1 := dk_seg dksX5_smallCost_0 23 rfl rfl
theorem dX5_smallCost_0 : decode cX5_smallCost 0 = .ok (.aload_n 0, 1) := dk_42 (dk_at dksX5_smallCost_0 0 rfl rfl)
theorem dX5_smallCost_1 : decode cX5_smallCost 1 = .ok (.aload_n 1, 1) := dk_43 (dk_at dksX5_smallCost_0 1 rfl rfl)
theorem dX5_smallCost_2 : decode cX5_smallCost 2 = .ok (.invokevirtual 99, 3) := dk_182 0 99 (dk_at dksX5_smallCost_0 2 rfl rfl)
theorem dX5_smallCost_5 : decode cX5_smallCost 5 = .ok (.iconst (-1), 1) := dk_2 (dk_at dksX5_smallCost_0 5 rfl rfl)
theorem dX5_smallCost_6 : decode cX5_smallCost 6 = .ok (.if_icmp .ne 8, 3) := dk_160 0 8 (dk_at dksX5_smallCost_0 6 rfl rfl)
theorem dX5_smallCost_9 : decode cX5_smallCost 9 = .ok (.ldc 104, 2) := dk_18 104 (dk_at dksX5_smallCost_0 9 rfl rfl)
theorem dX5_smallCost_11 : decode cX5_smallCost 11 = .ok (.goto 26, 3) := dk_167 0 26 (dk_at dksX5_smallCost_0 11 rfl rfl)
theorem dX5_smallCost_14 : decode cX5_smallCost 14 = .ok (.aload_n 0, 1) := dk_42 (dk_at dksX5_smallCost_0 14 rfl rfl)
theorem dX5_smallCost_15 : decode cX5_smallCost 15 = .ok (.getfield 26, 3) := dk_180 0 26 (dk_at dksX5_smallCost_0 15 rfl rfl)
theorem dX5_smallCost_18 : decode cX5_smallCost 18 = .ok (.iconst 5, 1) := dk_8 (dk_at dksX5_smallCost_0 18 rfl rfl)
theorem dX5_smallCost_19 : decode cX5_smallCost 19 = .ok (.invokevirtual 96, 3) := dk_182 0 96 (dk_at dksX5_smallCost_0 19 rfl rfl)
theorem dX5_smallCost_22 : decode cX5_smallCost 22 = .ok (.aload_n 0, 1) := dk_42 (dk_at dksX5_smallCost_0 22 rfl rfl)
theorem dX5_smallCost_23 : decode cX5_smallCost 23 = .ok (.getfield 41, 3) := dk_180 0 41 (dk_at dksX5_smallCost_1 0 rfl rfl)
theorem dX5_smallCost_26 : decode cX5_smallCost 26 = .ok (.aload_n 1, 1) := dk_43 (dk_at dksX5_smallCost_1 3 rfl rfl)
theorem dX5_smallCost_27 : decode cX5_smallCost 27 = .ok (.aload_n 0, 1) := dk_42 (dk_at dksX5_smallCost_1 4 rfl rfl)
theorem dX5_smallCost_28 : decode cX5_smallCost 28 = .ok (.aload_n 1, 1) := dk_43 (dk_at dksX5_smallCost_1 5 rfl rfl)
theorem dX5_smallCost_29 : decode cX5_smallCost 29 = .ok (.invokevirtual 99, 3) := dk_182 0 99 (dk_at dksX5_smallCost_1 6 rfl rfl)
theorem dX5_smallCost_32 : decode cX5_smallCost 32 = .ok (.invokestatic 105, 3) := dk_184 0 105 (dk_at dksX5_smallCost_1 9 rfl rfl)
theorem dX5_smallCost_35 : decode cX5_smallCost 35 = .ok (.iaload, 1) := dk_46 (dk_at dksX5_smallCost_1 12 rfl rfl)
theorem dX5_smallCost_36 : decode cX5_smallCost 36 = .ok (.iadd, 1) := dk_96 (dk_at dksX5_smallCost_1 13 rfl rfl)
theorem dX5_smallCost_37 : decode cX5_smallCost 37 = .ok (.ireturn, 1) := dk_172 (dk_at dksX5_smallCost_1 14 rfl rfl)
abbrev cX5_small : ByteArray := prog_3_method_4_code
def yX5_small : MethodName := ⟨RX5, "small", "(LSpillslotWorks$Node;)I"⟩
def dkwX5_small_2 : List UInt8 := [42, 43, 180, 0, 66, 182, 0, 84, 153, 0, 10, 43, 180, 0, 66, 167, 0, 4, 2, 172]
abbrev dktX5_small_2 : List UInt8 := dkwX5_small_2 ++ []
def dkwX5_small_1 : List UInt8 := [180, 0, 81, 182, 0, 84, 153, 0, 8, 43, 180, 0, 81, 172, 43, 178, 0, 75, 182, 0, 60, 153, 0, 21]
abbrev dktX5_small_1 : List UInt8 := dkwX5_small_1 ++ dktX5_small_2
def dkwX5_small_0 : List UInt8 := [43, 178, 0, 75, 182, 0, 60, 154, 0, 13, 43, 178, 0, 78, 182, 0, 60, 153, 0, 19, 42, 43]
abbrev dktX5_small_0 : List UInt8 := dkwX5_small_0 ++ dktX5_small_1
theorem dksX5_small_0 : cX5_small.data.toList.drop 0 = dktX5_small_0 := by decide +kernel
theorem dksX5_small_1 : cX5_small.data.toList.drop 22 = dktX5_small_1 := dk_seg dksX5_small_0 22 rfl rfl
theorem dksX5_small_2 : cX5_small.data.toList.drop 46 = dktX5_small_2 := dk_seg dksX5_small_1 24 rfl rfl
theorem dX5_small_0 : decode cX5_small 0 = .ok (.aload_n 1, 1) := dk_43 (dk_at dksX5_small_0 0 rfl rfl)
theorem dX5_small_1 : decode cX5_small 1 = .ok (.getstatic 75, 3) := dk_178 0 75 (dk_at dksX5_small_0 1 rfl rfl)
theorem dX5_small_4 : decode cX5_small 4 = .ok (.invokevirtual 60, 3) := dk_182 0 60 (dk_at dksX5_small_0 4 rfl rfl)
theorem dX5_small_7 : decode cX5_small 7 = .ok (.ifCond .ne 13, 3) := dk_154 0 13 (dk_at dksX5_small_0 7 rfl rfl)
theorem dX5_small_10 : decode cX5_small 10 = .ok (.aload_n 1, 1) := dk_43 (dk_at dksX5_small_0 10 rfl rfl)
theorem dX5_small_11 : decode cX5_small 11 = .ok (.getstatic 78, 3) := dk_178 0 78 (dk_at dksX5_small_0 11 rfl rfl)
theorem dX5_small_14 : decode cX5_small 14 = .ok (.invokevirtual 60, 3) := dk_182 0 60 (dk_at dksX5_small_0 14 rfl rfl)
theorem dX5_small_17 : decode cX5_small 17 = .ok (.ifCond .eq 19, 3) := dk_153 0 19 (dk_at dksX5_small_0 17 rfl rfl)
theorem dX5_small_20 : decode cX5_small 20 = .ok (.aload_n 0, 1) := dk_42 (dk_at dksX5_small_0 20 rfl rfl)
theorem dX5_small_21 : decode cX5_small 21 = .ok (.aload_n 1, 1) := dk_43 (dk_at dksX5_small_0 21 rfl rfl)
theorem dX5_small_22 : decode cX5_small 22 = .ok (.getfield 81, 3) := dk_180 0 81 (dk_at dksX5_small_1 0 rfl rfl)
theorem dX5_small_25 : decode cX5_small 25 = .ok (.invokevirtual 84, 3) := dk_182 0 84 (dk_at dksX5_small_1 3 rfl rfl)
theorem dX5_small_28 : decode cX5_small 28 = .ok (.ifCond .eq 8, 3) := dk_153 0 8 (dk_at dksX5_small_1 6 rfl rfl)
theorem dX5_small_31 : decode cX5_small 31 = .ok (.aload_n 1, 1) := dk_43 (dk_at dksX5_small_1 9 rfl rfl)
theorem dX5_small_32 : decode cX5_small 32 = .ok (.getfield 81, 3) := dk_180 0 81 (dk_at dksX5_small_1 10 rfl rfl)
theorem dX5_small_35 : decode cX5_small 35 = .ok (.ireturn, 1) := dk_172 (dk_at dksX5_small_1 13 rfl rfl)
theorem dX5_small_36 : decode cX5_small 36 = .ok (.aload_n 1, 1) := dk_43 (dk_at dksX5_small_1 14 rfl rfl)
theorem dX5_small_37 : decode cX5_small 37 = .ok (.getstatic 75, 3) := dk_178 0 75 (dk_at dksX5_small_1 15 rfl rfl)
theorem dX5_small_40 : decode cX5_small 40 = .ok (.invokevirtual 60, 3) := dk_182 0 60 (dk_at dksX5_small_1 18 rfl rfl)
theorem dX5_small_43 : decode cX5_small 43 = .ok (.ifCond .eq 21, 3) := dk_153 0 21 (dk_at dksX5_small_1 21 rfl rfl)
theorem dX5_small_46 : decode cX5_small 46 = .ok (.aload_n 0, 1) := dk_42 (dk_at dksX5_small_2 0 rfl rfl)
theorem dX5_small_47 : decode cX5_small 47 = .ok (.aload_n 1, 1) := dk_43 (dk_at dksX5_small_2 1 rfl rfl)
theorem dX5_small_48 : decode cX5_small 48 = .ok (.getfield 66, 3) := dk_180 0 66 (dk_at dksX5_small_2 2 rfl rfl)
theorem dX5_small_51 : decode cX5_small 51 = .ok (.invokevirtual 84, 3) := dk_182 0 84 (dk_at dksX5_small_2 5 rfl rfl)
theorem dX5_small_54 : decode cX5_small 54 = .ok (.ifCond .eq 10, 3) := dk_153 0 10 (dk_at dksX5_small_2 8 rfl rfl)
theorem dX5_small_57 : decode cX5_small 57 = .ok (.aload_n 1, 1) := dk_43 (dk_at dksX5_small_2 11 rfl rfl)
theorem dX5_small_58 : decode cX5_small 58 = .ok (.getfield 66, 3) := dk_180 0 66 (dk_at dksX5_small_2 12 rfl rfl)
theorem dX5_small_61 : decode cX5_small 61 = .ok (.goto 4, 3) := dk_167 0 4 (dk_at dksX5_small_2 15 rfl rfl)
theorem dX5_small_64 : decode cX5_small 64 = .ok (.iconst (-1), 1) := dk_2 (dk_at dksX5_small_2 18 rfl rfl)
theorem dX5_small_65 : decode cX5_small 65 = .ok (.ireturn, 1) := dk_172 (dk_at dksX5_small_2 19 rfl rfl)
abbrev cX5_isSmall : ByteArray := prog_3_method_3_code
def yX5_isSmall : MethodName := ⟨RX5, "isSmall", "(I)Z"⟩
def dkwX5_isSmall_1 : List UInt8 := [180, 0, 66, 182, 0, 69, 153, 0, 7, 4, 167, 0, 4, 3, 172]
abbrev dktX5_isSmall_1 : List UInt8 := dkwX5_isSmall_1 ++ []
def dkwX5_isSmall_0 : List UInt8 := [42, 27, 182, 0, 53, 178, 0, 54, 182, 0, 60, 153, 0, 25, 42, 180, 0, 26, 42, 27, 182, 0, 53]
abbrev dktX5_isSmall_0 : List UInt8 := dkwX5_isSmall_0 ++ dktX5_isSmall_1
theorem dksX5_isSmall_0 : cX5_isSmall.data.toList.drop 0 = dktX5_isSmall_0 := by decide +kernel
theorem dksX5_isSmall_1 : cX5_isSmall.data.toList.drop 23 = dktX5_isSmall_1 := dk_seg dksX5_isSmall_0 23 rfl rfl
theorem dX5_isSmall_0 : decode cX5_isSmall 0 = .ok (.aload_n 0, 1) := dk_42 (dk_at dksX5_isSmall_0 0 rfl rfl)
theorem dX5_isSmall_1 : decode cX5_isSmall 1 = .ok (.iload_n 1, 1) := dk_27 (dk_at dksX5_isSmall_0 1 rfl rfl)
theorem dX5_isSmall_2 : decode cX5_isSmall 2 = .ok (.invokevirtual 53, 3) := dk_182 0 53 (dk_at dksX5_isSmall_0 2 rfl rfl)
theorem dX5_isSmall_5 : decode cX5_isSmall 5 = .ok (.getstatic 54, 3) := dk_178 0 54 (dk_at dksX5_isSmall_0 5 rfl rfl)
theorem dX5_isSmall_8 : decode cX5_isSmall 8 = .ok (.invokevirtual 60, 3) := dk_182 0 60 (dk_at dksX5_isSmall_0 8 rfl rfl)
theorem dX5_isSmall_11 : decode cX5_isSmall 11 = .ok (.ifCond .eq 25, 3) := dk_153 0 25 (dk_at dksX5_isSmall_0 11 rfl rfl)
theorem dX5_isSmall_14 : decode cX5_isSmall 14 = .ok (.aload_n 0, 1) := dk_42 (dk_at dksX5_isSmall_0 14 rfl rfl)
theorem dX5_isSmall_15 : decode cX5_isSmall 15 = .ok (.getfield 26, 3) := dk_180 0 26 (dk_at dksX5_isSmall_0 15 rfl rfl)
theorem dX5_isSmall_18 : decode cX5_isSmall 18 = .ok (.aload_n 0, 1) := dk_42 (dk_at dksX5_isSmall_0 18 rfl rfl)
theorem dX5_isSmall_19 : decode cX5_isSmall 19 = .ok (.iload_n 1, 1) := dk_27 (dk_at dksX5_isSmall_0 19 rfl rfl)
theorem dX5_isSmall_20 : decode cX5_isSmall 20 = .ok (.invokevirtual 53, 3) := dk_182 0 53 (dk_at dksX5_isSmall_0 20 rfl rfl)
theorem dX5_isSmall_23 : decode cX5_isSmall 23 = .ok (.getfield 66, 3) := dk_180 0 66 (dk_at dksX5_isSmall_1 0 rfl rfl)
theorem dX5_isSmall_26 : decode cX5_isSmall 26 = .ok (.invokevirtual 69, 3) := dk_182 0 69 (dk_at dksX5_isSmall_1 3 rfl rfl)
theorem dX5_isSmall_29 : decode cX5_isSmall 29 = .ok (.ifCond .eq 7, 3) := dk_153 0 7 (dk_at dksX5_isSmall_1 6 rfl rfl)
theorem dX5_isSmall_32 : decode cX5_isSmall 32 = .ok (.iconst 1, 1) := dk_4 (dk_at dksX5_isSmall_1 9 rfl rfl)
theorem dX5_isSmall_33 : decode cX5_isSmall 33 = .ok (.goto 4, 3) := dk_167 0 4 (dk_at dksX5_isSmall_1 10 rfl rfl)
theorem dX5_isSmall_36 : decode cX5_isSmall 36 = .ok (.iconst 0, 1) := dk_3 (dk_at dksX5_isSmall_1 13 rfl rfl)
theorem dX5_isSmall_37 : decode cX5_isSmall 37 = .ok (.ireturn, 1) := dk_172 (dk_at dksX5_isSmall_1 14 rfl rfl)
abbrev cX5_other : ByteArray := prog_3_method_6_code
def yX5_other : MethodName := ⟨RX5, "other", "(LSpillslotWorks$Node;I)I"⟩
def dkwX5_other_0 : List UInt8 := [27, 42, 180, 0, 66, 160, 0, 10, 42, 180, 0, 81, 167, 0, 7, 42, 180, 0, 66, 172]
abbrev dktX5_other_0 : List UInt8 := dkwX5_other_0 ++ []
theorem dksX5_other_0 : cX5_other.data.toList.drop 0 = dktX5_other_0 := by decide +kernel
theorem dX5_other_0 : decode cX5_other 0 = .ok (.iload_n 1, 1) := dk_27 (dk_at dksX5_other_0 0 rfl rfl)
theorem dX5_other_1 : decode cX5_other 1 = .ok (.aload_n 0, 1) := dk_42 (dk_at dksX5_other_0 1 rfl rfl)
theorem dX5_other_2 : decode cX5_other 2 = .ok (.getfield 66, 3) := dk_180 0 66 (dk_at dksX5_other_0 2 rfl rfl)
theorem dX5_other_5 : decode cX5_other 5 = .ok (.if_icmp .ne 10, 3) := dk_160 0 10 (dk_at dksX5_other_0 5 rfl rfl)
theorem dX5_other_8 : decode cX5_other 8 = .ok (.aload_n 0, 1) := dk_42 (dk_at dksX5_other_0 8 rfl rfl)
theorem dX5_other_9 : decode cX5_other 9 = .ok (.getfield 81, 3) := dk_180 0 81 (dk_at dksX5_other_0 9 rfl rfl)
theorem dX5_other_12 : decode cX5_other 12 = .ok (.goto 7, 3) := dk_167 0 7 (dk_at dksX5_other_0 12 rfl rfl)
theorem dX5_other_15 : decode cX5_other 15 = .ok (.aload_n 0, 1) := dk_42 (dk_at dksX5_other_0 15 rfl rfl)
theorem dX5_other_16 : decode cX5_other 16 = .ok (.getfield 66, 3) := dk_180 0 66 (dk_at dksX5_other_0 16 rfl rfl)
theorem dX5_other_19 : decode cX5_other 19 = .ok (.ireturn, 1) := dk_172 (dk_at dksX5_other_0 19 rfl rfl)
abbrev cX5_fusedCost : ByteArray := prog_3_method_10_code
def yX5_fusedCost : MethodName := ⟨RX5, "fusedCost", "(LSpillslotWorks$Node;)I"⟩
def dkwX5_fusedCost_2 : List UInt8 := [180, 0, 81, 46, 96, 42, 180, 0, 41, 43, 28, 184, 0, 105, 46, 96, 172]
abbrev dktX5_fusedCost_2 : List UInt8 := dkwX5_fusedCost_2 ++ []
def dkwX5_fusedCost_1 : List UInt8 := [180, 0, 41, 42, 28, 182, 0, 53, 180, 0, 66, 46, 96, 42, 180, 0, 41, 42, 28, 182, 0, 53]
abbrev dktX5_fusedCost_1 : List UInt8 := dkwX5_fusedCost_1 ++ dktX5_fusedCost_2
def dkwX5_fusedCost_0 : List UInt8 := [42, 43, 182, 0, 109, 61, 28, 2, 160, 0, 6, 18, 104, 172, 42, 180, 0, 26, 16, 6, 182, 0, 96, 42]
abbrev dktX5_fusedCost_0 : List UInt8 := dkwX5_fusedCost_0 ++ dktX5_fusedCost_1
theorem dksX5_fusedCost_0 : cX5_fusedCost.data.toList.drop 0 = dktX5_fusedCost_0 := by decide +kernel
theorem dksX5_fusedCost_1 : cX5_fusedCost.data.toList.drop 24 = dktX5_fusedCost_1 := dk_seg dksX5_fusedCost_0 24 rfl rfl
theorem dksX5_fusedCost_2 : cX5_fusedCost.data.toList.drop 46 = dktX5_fusedCost_2 := dk_seg dksX5_fusedCost_1 22 rfl rfl
theorem dX5_fusedCost_0 : decode cX5_fusedCost 0 = .ok (.aload_n 0, 1) := dk_42 (dk_at dksX5_fusedCost_0 0 rfl rfl)
theorem dX5_fusedCost_1 : decode cX5_fusedCost 1 = .ok (.aload_n 1, 1) := dk_43 (dk_at dksX5_fusedCost_0 1 rfl rfl)
theorem dX5_fusedCost_2 : decode cX5_fusedCost 2 = .ok (.invokevirtual 109, 3) := dk_182 0 109 (dk_at dksX5_fusedCost_0 2 rfl rfl)
theorem dX5_fusedCost_5 : decode cX5_fusedCost 5 = .ok (.istore_n 2, 1) := dk_61 (dk_at dksX5_fusedCost_0 5 rfl rfl)
theorem dX5_fusedCost_6 : decode cX5_fusedCost 6 = .ok (.iload_n 2, 1) := dk_28 (dk_at dksX5_fusedCost_0 6 rfl rfl)
theorem dX5_fusedCost_7 : decode cX5_fusedCost 7 = .ok (.iconst (-1), 1) := dk_2 (dk_at dksX5_fusedCost_0 7 rfl rfl)
theorem dX5_fusedCost_8 : decode cX5_fusedCost 8 = .ok (.if_icmp .ne 6, 3) := dk_160 0 6 (dk_at dksX5_fusedCost_0 8 rfl rfl)
theorem dX5_fusedCost_11 : decode cX5_fusedCost 11 = .ok (.ldc 104, 2) := dk_18 104 (dk_at dksX5_fusedCost_0 11 rfl rfl)
theorem dX5_fusedCost_13 : decode cX5_fusedCost 13 = .ok (.ireturn, 1) := dk_172 (dk_at dksX5_fusedCost_0 13 rfl rfl)
theorem dX5_fusedCost_14 : decode cX5_fusedCost 14 = .ok (.aload_n 0, 1) := dk_42 (dk_at dksX5_fusedCost_0 14 rfl rfl)
theorem dX5_fusedCost_15 : decode cX5_fusedCost 15 = .ok (.getfield 26, 3) := dk_180 0 26 (dk_at dksX5_fusedCost_0 15 rfl rfl)
theorem dX5_fusedCost_18 : decode cX5_fusedCost 18 = .ok (.bipush 6, 2) := dk_16 6 (dk_at dksX5_fusedCost_0 18 rfl rfl)
theorem dX5_fusedCost_20 : decode cX5_fusedCost 20 = .ok (.invokevirtual 96, 3) := dk_182 0 96 (dk_at dksX5_fusedCost_0 20 rfl rfl)
theorem dX5_fusedCost_23 : decode cX5_fusedCost 23 = .ok (.aload_n 0, 1) := dk_42 (dk_at dksX5_fusedCost_0 23 rfl rfl)
theorem dX5_fusedCost_24 : decode cX5_fusedCost 24 = .ok (.getfield 41, 3) := dk_180 0 41 (dk_at dksX5_fusedCost_1 0 rfl rfl)
theorem dX5_fusedCost_27 : decode cX5_fusedCost 27 = .ok (.aload_n 0, 1) := dk_42 (dk_at dksX5_fusedCost_1 3 rfl rfl)
theorem dX5_fusedCost_28 : decode cX5_fusedCost 28 = .ok (.iload_n 2, 1) := dk_28 (dk_at dksX5_fusedCost_1 4 rfl rfl)
theorem dX5_fusedCost_29 : decode cX5_fusedCost 29 = .ok (.invokevirtual 53, 3) := dk_182 0 53 (dk_at dksX5_fusedCost_1 5 rfl rfl)
theorem dX5_fusedCost_32 : decode cX5_fusedCost 32 = .ok (.getfield 66, 3) := dk_180 0 66 (dk_at dksX5_fusedCost_1 8 rfl rfl)
theorem dX5_fusedCost_35 : decode cX5_fusedCost 35 = .ok (.iaload, 1) := dk_46 (dk_at dksX5_fusedCost_1 11 rfl rfl)
theorem dX5_fusedCost_36 : decode cX5_fusedCost 36 = .ok (.iadd, 1) := dk_96 (dk_at dksX5_fusedCost_1 12 rfl rfl)
theorem dX5_fusedCost_37 : decode cX5_fusedCost 37 = .ok (.aload_n 0, 1) := dk_42 (dk_at dksX5_fusedCost_1 13 rfl rfl)
theorem dX5_fusedCost_38 : decode cX5_fusedCost 38 = .ok (.getfield 41, 3) := dk_180 0 41 (dk_at dksX5_fusedCost_1 14 rfl rfl)
theorem dX5_fusedCost_41 : decode cX5_fusedCost 41 = .ok (.aload_n 0, 1) := dk_42 (dk_at dksX5_fusedCost_1 17 rfl rfl)
theorem dX5_fusedCost_42 : decode cX5_fusedCost 42 = .ok (.iload_n 2, 1) := dk_28 (dk_at dksX5_fusedCost_1 18 rfl rfl)
theorem dX5_fusedCost_43 : decode cX5_fusedCost 43 = .ok (.invokevirtual 53, 3) := dk_182 0 53 (dk_at dksX5_fusedCost_1 19 rfl rfl)
theorem dX5_fusedCost_46 : decode cX5_fusedCost 46 = .ok (.getfield 81, 3) := dk_180 0 81 (dk_at dksX5_fusedCost_2 0 rfl rfl)
theorem dX5_fusedCost_49 : decode cX5_fusedCost 49 = .ok (.iaload, 1) := dk_46 (dk_at dksX5_fusedCost_2 3 rfl rfl)
theorem dX5_fusedCost_50 : decode cX5_fusedCost 50 = .ok (.iadd, 1) := dk_96 (dk_at dksX5_fusedCost_2 4 rfl rfl)
theorem dX5_fusedCost_51 : decode cX5_fusedCost 51 = .ok (.aload_n 0, 1) := dk_42 (dk_at dksX5_fusedCost_2 5 rfl rfl)
theorem dX5_fusedCost_52 : decode cX5_fusedCost 52 = .ok (.getfield 41, 3) := dk_180 0 41 (dk_at dksX5_fusedCost_2 6 rfl rfl)
theorem dX5_fusedCost_55 : decode cX5_fusedCost 55 = .ok (.aload_n 1, 1) := dk_43 (dk_at dksX5_fusedCost_2 9 rfl rfl)
theorem dX5_fusedCost_56 : decode cX5_fusedCost 56 = .ok (.iload_n 2, 1) := dk_28 (dk_at dksX5_fusedCost_2 10 rfl rfl)
theorem dX5_fusedCost_57 : decode cX5_fusedCost 57 = .ok (.invokestatic 105, 3) := dk_184 0 105 (dk_at dksX5_fusedCost_2 11 rfl rfl)
theorem dX5_fusedCost_60 : decode cX5_fusedCost 60 = .ok (.iaload, 1) := dk_46 (dk_at dksX5_fusedCost_2 14 rfl rfl)
theorem dX5_fusedCost_61 : decode cX5_fusedCost 61 = .ok (.iadd, 1) := dk_96 (dk_at dksX5_fusedCost_2 15 rfl rfl)
theorem dX5_fusedCost_62 : decode cX5_fusedCost 62 = .ok (.ireturn, 1) := dk_172 (dk_at dksX5_fusedCost_2 16 rfl rfl)
abbrev cX5_fused : ByteArray := prog_3_method_5_code
def yX5_fused : MethodName := ⟨RX5, "fused", "(LSpillslotWorks$Node;)I"⟩
def dkwX5_fused_2 : List UInt8 := [180, 0, 81, 182, 0, 53, 178, 0, 89, 182, 0, 60, 153, 0, 10, 43, 180, 0, 81, 167, 0, 4, 2, 172]
abbrev dktX5_fused_2 : List UInt8 := dkwX5_fused_2 ++ []
def dkwX5_fused_1 : List UInt8 := [180, 0, 66, 182, 0, 53, 178, 0, 89, 182, 0, 60, 153, 0, 10, 43, 180, 0, 66, 167, 0, 28, 42, 43]
abbrev dktX5_fused_1 : List UInt8 := dkwX5_fused_1 ++ dktX5_fused_2
def dkwX5_fused_0 : List UInt8 := [42, 180, 0, 26, 180, 0, 85, 153, 0, 13, 43, 178, 0, 75, 182, 0, 60, 154, 0, 5, 2, 172, 42, 43]
abbrev dktX5_fused_0 : List UInt8 := dkwX5_fused_0 ++ dktX5_fused_1
theorem dksX5_fused_0 : cX5_fused.data.toList.drop 0 = dktX5_fused_0 := by decide +kernel
theorem dksX5_fused_1 : cX5_fused.data.toList.drop 24 = dktX5_fused_1 := dk_seg dksX5_fused_0 24 rfl rfl
theorem dksX5_fused_2 : cX5_fused.data.toList.drop 48 = dktX5_fused_2 := dk_seg dksX5_fused_1 24 rfl rfl
theorem dX5_fused_0 : decode cX5_fused 0 = .ok (.aload_n 0, 1) := dk_42 (dk_at dksX5_fused_0 0 rfl rfl)
theorem dX5_fused_1 : decode cX5_fused 1 = .ok (.getfield 26, 3) := dk_180 0 26 (dk_at dksX5_fused_0 1 rfl rfl)
theorem dX5_fused_4 : decode cX5_fused 4 = .ok (.getfield 85, 3) := dk_180 0 85 (dk_at dksX5_fused_0 4 rfl rfl)
theorem dX5_fused_7 : decode cX5_fused 7 = .ok (.ifCond .eq 13, 3) := dk_153 0 13 (dk_at dksX5_fused_0 7 rfl rfl)
theorem dX5_fused_10 : decode cX5_fused 10 = .ok (.aload_n 1, 1) := dk_43 (dk_at dksX5_fused_0 10 rfl rfl)
theorem dX5_fused_11 : decode cX5_fused 11 = .ok (.getstatic 75, 3) := dk_178 0 75 (dk_at dksX5_fused_0 11 rfl rfl)
theorem dX5_fused_14 : decode cX5_fused 14 = .ok (.invokevirtual 60, 3) := dk_182 0 60 (dk_at dksX5_fused_0 14 rfl rfl)
theorem dX5_fused_17 : decode cX5_fused 17 = .ok (.ifCond .ne 5, 3) := dk_154 0 5 (dk_at dksX5_fused_0 17 rfl rfl)
theorem dX5_fused_20 : decode cX5_fused 20 = .ok (.iconst (-1), 1) := dk_2 (dk_at dksX5_fused_0 20 rfl rfl)
theorem dX5_fused_21 : decode cX5_fused 21 = .ok (.ireturn, 1) := dk_172 (dk_at dksX5_fused_0 21 rfl rfl)
theorem dX5_fused_22 : decode cX5_fused 22 = .ok (.aload_n 0, 1) := dk_42 (dk_at dksX5_fused_0 22 rfl rfl)
theorem dX5_fused_23 : decode cX5_fused 23 = .ok (.aload_n 1, 1) := dk_43 (dk_at dksX5_fused_0 23 rfl rfl)
theorem dX5_fused_24 : decode cX5_fused 24 = .ok (.getfield 66, 3) := dk_180 0 66 (dk_at dksX5_fused_1 0 rfl rfl)
theorem dX5_fused_27 : decode cX5_fused 27 = .ok (.invokevirtual 53, 3) := dk_182 0 53 (dk_at dksX5_fused_1 3 rfl rfl)
theorem dX5_fused_30 : decode cX5_fused 30 = .ok (.getstatic 89, 3) := dk_178 0 89 (dk_at dksX5_fused_1 6 rfl rfl)
theorem dX5_fused_33 : decode cX5_fused 33 = .ok (.invokevirtual 60, 3) := dk_182 0 60 (dk_at dksX5_fused_1 9 rfl rfl)
theorem dX5_fused_36 : decode cX5_fused 36 = .ok (.ifCond .eq 10, 3) := dk_153 0 10 (dk_at dksX5_fused_1 12 rfl rfl)
theorem dX5_fused_39 : decode cX5_fused 39 = .ok (.aload_n 1, 1) := dk_43 (dk_at dksX5_fused_1 15 rfl rfl)
theorem dX5_fused_40 : decode cX5_fused 40 = .ok (.getfield 66, 3) := dk_180 0 66 (dk_at dksX5_fused_1 16 rfl rfl)
theorem dX5_fused_43 : decode cX5_fused 43 = .ok (.goto 28, 3) := dk_167 0 28 (dk_at dksX5_fused_1 19 rfl rfl)
theorem dX5_fused_46 : decode cX5_fused 46 = .ok (.aload_n 0, 1) := dk_42 (dk_at dksX5_fused_1 22 rfl rfl)
theorem dX5_fused_47 : decode cX5_fused 47 = .ok (.aload_n 1, 1) := dk_43 (dk_at dksX5_fused_1 23 rfl rfl)
theorem dX5_fused_48 : decode cX5_fused 48 = .ok (.getfield 81, 3) := dk_180 0 81 (dk_at dksX5_fused_2 0 rfl rfl)
theorem dX5_fused_51 : decode cX5_fused 51 = .ok (.invokevirtual 53, 3) := dk_182 0 53 (dk_at dksX5_fused_2 3 rfl rfl)
theorem dX5_fused_54 : decode cX5_fused 54 = .ok (.getstatic 89, 3) := dk_178 0 89 (dk_at dksX5_fused_2 6 rfl rfl)
theorem dX5_fused_57 : decode cX5_fused 57 = .ok (.invokevirtual 60, 3) := dk_182 0 60 (dk_at dksX5_fused_2 9 rfl rfl)
theorem dX5_fused_60 : decode cX5_fused 60 = .ok (.ifCond .eq 10, 3) := dk_153 0 10 (dk_at dksX5_fused_2 12 rfl rfl)
theorem dX5_fused_63 : decode cX5_fused 63 = .ok (.aload_n 1, 1) := dk_43 (dk_at dksX5_fused_2 15 rfl rfl)
theorem dX5_fused_64 : decode cX5_fused 64 = .ok (.getfield 81, 3) := dk_180 0 81 (dk_at dksX5_fused_2 16 rfl rfl)
theorem dX5_fused_67 : decode cX5_fused 67 = .ok (.goto 4, 3) := dk_167 0 4 (dk_at dksX5_fused_2 19 rfl rfl)
theorem dX5_fused_70 : decode cX5_fused 70 = .ok (.iconst (-1), 1) := dk_2 (dk_at dksX5_fused_2 22 rfl rfl)
theorem dX5_fused_71 : decode cX5_fused 71 = .ok (.ireturn, 1) := dk_172 (dk_at dksX5_fused_2 23 rfl rfl)
abbrev cX5_all : ByteArray := prog_3_method_16_code
def yX5_all : MethodName := ⟨RX5, "all", "()Ljava/util/List;"⟩
def dkwX5_all_8 : List UInt8 := [132, 3, 1, 167, 255, 220, 43, 176]
abbrev dktX5_all_8 : List UInt8 := dkwX5_all_8 ++ []
def dkwX5_all_7 : List UInt8 := [162, 0, 29, 43, 42, 180, 0, 12, 29, 185, 0, 161, 2, 0, 192, 0, 137, 185, 0, 145, 2, 0, 87]
abbrev dktX5_all_7 : List UInt8 := dkwX5_all_7 ++ dktX5_all_8
def dkwX5_all_6 : List UInt8 := [185, 0, 145, 2, 0, 87, 132, 3, 1, 167, 255, 218, 3, 62, 29, 42, 180, 0, 12, 185, 0, 35, 1, 0]
abbrev dktX5_all_6 : List UInt8 := dkwX5_all_6 ++ dktX5_all_7
def dkwX5_all_5 : List UInt8 := [184, 0, 176, 153, 0, 24, 43, 187, 0, 137, 89, 3, 29, 3, 2, 3, 188, 10, 183, 0, 142]
abbrev dktX5_all_5 : List UInt8 := dkwX5_all_5 ++ dktX5_all_6
def dkwX5_all_4 : List UInt8 := [187, 0, 9, 89, 183, 0, 11, 76, 42, 182, 0, 173, 61, 3, 62, 29, 16, 8, 162, 0, 38, 28, 29]
abbrev dktX5_all_4 : List UInt8 := dkwX5_all_4 ++ dktX5_all_5
def dkwX5_all_3 : List UInt8 := [182, 0, 134, 87, 132, 2, 1, 167, 255, 212, 42, 89, 180, 0, 139, 4, 96, 181, 0, 139, 167, 255, 169]
abbrev dktX5_all_3 : List UInt8 := dkwX5_all_3 ++ dktX5_all_4
def dkwX5_all_2 : List UInt8 := [185, 0, 161, 2, 0, 192, 0, 165, 180, 0, 167, 43, 28, 185, 0, 161, 2, 0, 192, 0, 165, 180, 0, 170]
abbrev dktX5_all_2 : List UInt8 := dkwX5_all_2 ++ dktX5_all_3
def dkwX5_all_1 : List UInt8 := [185, 0, 161, 2, 0, 192, 0, 36, 76, 3, 61, 28, 43, 185, 0, 35, 1, 0, 162, 0, 40, 42, 43, 28]
abbrev dktX5_all_1 : List UInt8 := dkwX5_all_1 ++ dktX5_all_2
def dkwX5_all_0 : List UInt8 := [42, 3, 181, 0, 139, 42, 180, 0, 139, 7, 162, 0, 85, 42, 180, 0, 22, 180, 0, 158, 42, 180, 0, 139]
abbrev dktX5_all_0 : List UInt8 := dkwX5_all_0 ++ dktX5_all_1
theorem dksX5_all_0 : cX5_all.data.toList.drop 0 = dktX5_all_0 := by decide +kernel
theorem dksX5_all_1 : cX5_all.data.toList.drop 24 = dktX5_all_1 := dk_seg dksX5_all_0 24 rfl rfl
theorem dksX5_all_2 : cX5_all.data.toList.drop 48 = dktX5_all_2 := dk_seg dksX5_all_1 24 rfl rfl
theorem dksX5_all_3 : cX5_all.data.toList.drop 72 = dktX5_all_3 := dk_seg dksX5_all_2 24 rfl rfl
theorem dksX5_all_4 : cX5_all.data.toList.drop 95 = dktX5_all_4 := dk_seg dksX5_all_3 23 rfl rfl
theorem dksX5_all_5 : cX5_all.data.toList.drop 118 = dktX5_all_5 := dk_seg dksX5_all_4 23 rfl rfl
theorem dksX5_all_6 : cX5_all.data.toList.drop 139 = dktX5_all_6 := dk_seg dksX5_all_5 21 rfl rfl
theorem dksX5_all_7 : cX5_all.data.toList.drop 163 = dktX5_all_7 := dk_seg dksX5_all_6 24 rfl rfl
theorem dksX5_all_8 : cX5_all.data.toList.drop 186 = dktX5_all_8 := dk_seg dksX5_all_7 23 rfl rfl
theorem dX5_all_0 : decode cX5_all 0 = .ok (.aload_n 0, 1) := dk_42 (dk_at dksX5_all_0 0 rfl rfl)
theorem dX5_all_1 : decode cX5_all 1 = .ok (.iconst 0, 1) := dk_3 (dk_at dksX5_all_0 1 rfl rfl)
theorem dX5_all_2 : decode cX5_all 2 = .ok (.putfield 139, 3) := dk_181 0 139 (dk_at dksX5_all_0 2 rfl rfl)
theorem dX5_all_5 : decode cX5_all 5 = .ok (.aload_n 0, 1) := dk_42 (dk_at dksX5_all_0 5 rfl rfl)
theorem dX5_all_6 : decode cX5_all 6 = .ok (.getfield 139, 3) := dk_180 0 139 (dk_at dksX5_all_0 6 rfl rfl)
theorem dX5_all_9 : decode cX5_all 9 = .ok (.iconst 4, 1) := dk_7 (dk_at dksX5_all_0 9 rfl rfl)
theorem dX5_all_10 : decode cX5_all 10 = .ok (.if_icmp .ge 85, 3) := dk_162 0 85 (dk_at dksX5_all_0 10 rfl rfl)
theorem dX5_all_13 : decode cX5_all 13 = .ok (.aload_n 0, 1) := dk_42 (dk_at dksX5_all_0 13 rfl rfl)
theorem dX5_all_14 : decode cX5_all 14 = .ok (.getfield 22, 3) := dk_180 0 22 (dk_at dksX5_all_0 14 rfl rfl)
theorem dX5_all_17 : decode cX5_all 17 = .ok (.getfield 158, 3) := dk_180 0 158 (dk_at dksX5_all_0 17 rfl rfl)
theorem dX5_all_20 : decode cX5_all 20 = .ok (.aload_n 0, 1) := dk_42 (dk_at dksX5_all_0 20 rfl rfl)
theorem dX5_all_21 : decode cX5_all 21 = .ok (.getfield 139, 3) := dk_180 0 139 (dk_at dksX5_all_0 21 rfl rfl)
theorem dX5_all_24 : decode cX5_all 24 = .ok (.invokeinterface 161 2, 5) := by decide +kernel
theorem dX5_all_29 : decode cX5_all 29 = .ok (.checkcast 36, 3) := dk_192 0 36 (dk_at dksX5_all_1 5 rfl rfl)
theorem dX5_all_32 : decode cX5_all 32 = .ok (.astore_n 1, 1) := dk_76 (dk_at dksX5_all_1 8 rfl rfl)
theorem dX5_all_33 : decode cX5_all 33 = .ok (.iconst 0, 1) := dk_3 (dk_at dksX5_all_1 9 rfl rfl)
theorem dX5_all_34 : decode cX5_all 34 = .ok (.istore_n 2, 1) := dk_61 (dk_at dksX5_all_1 10 rfl rfl)
theorem dX5_all_35 : decode cX5_all 35 = .ok (.iload_n 2, 1) := dk_28 (dk_at dksX5_all_1 11 rfl rfl)
theorem dX5_all_36 : decode cX5_all 36 = .ok (.aload_n 1, 1) := dk_43 (dk_at dksX5_all_1 12 rfl rfl)
theorem dX5_all_37 : decode cX5_all 37 = .ok (.invokeinterface 35 1, 5) := by decide +kernel
theorem dX5_all_42 : decode cX5_all 42 = .ok (.if_icmp .ge 40, 3) := dk_162 0 40 (dk_at dksX5_all_1 18 rfl rfl)
theorem dX5_all_45 : decode cX5_all 45 = .ok (.aload_n 0, 1) := dk_42 (dk_at dksX5_all_1 21 rfl rfl)
theorem dX5_all_46 : decode cX5_all 46 = .ok (.aload_n 1, 1) := dk_43 (dk_at dksX5_all_1 22 rfl rfl)
theorem dX5_all_47 : decode cX5_all 47 = .ok (.iload_n 2, 1) := dk_28 (dk_at dksX5_all_1 23 rfl rfl)
theorem dX5_all_48 : decode cX5_all 48 = .ok (.invokeinterface 161 2, 5) := by decide +kernel
theorem dX5_all_53 : decode cX5_all 53 = .ok (.checkcast 165, 3) := dk_192 0 165 (dk_at dksX5_all_2 5 rfl rfl)
theorem dX5_all_56 : decode cX5_all 56 = .ok (.getfield 167, 3) := dk_180 0 167 (dk_at dksX5_all_2 8 rfl rfl)
theorem dX5_all_59 : decode cX5_all 59 = .ok (.aload_n 1, 1) := dk_43 (dk_at dksX5_all_2 11 rfl rfl)
theorem dX5_all_60 : decode cX5_all 60 = .ok (.iload_n 2, 1) := dk_28 (dk_at dksX5_all_2 12 rfl rfl)
theorem dX5_all_61 : decode cX5_all 61 = .ok (.invokeinterface 161 2, 5) := by decide +kernel
theorem dX5_all_66 : decode cX5_all 66 = .ok (.checkcast 165, 3) := dk_192 0 165 (dk_at dksX5_all_2 18 rfl rfl)
theorem dX5_all_69 : decode cX5_all 69 = .ok (.getfield 170, 3) := dk_180 0 170 (dk_at dksX5_all_2 21 rfl rfl)
theorem dX5_all_72 : decode cX5_all 72 = .ok (.invokevirtual 134, 3) := dk_182 0 134 (dk_at dksX5_all_3 0 rfl rfl)
theorem dX5_all_75 : decode cX5_all 75 = .ok (.pop, 1) := dk_87 (dk_at dksX5_all_3 3 rfl rfl)
theorem dX5_all_76 : decode cX5_all 76 = .ok (.iinc 2 1, 3) := dk_132 2 1 (dk_at dksX5_all_3 4 rfl rfl)
theorem dX5_all_79 : decode cX5_all 79 = .ok (.goto (-44), 3) := dk_167 255 212 (dk_at dksX5_all_3 7 rfl rfl)
theorem dX5_all_82 : decode cX5_all 82 = .ok (.aload_n 0, 1) := dk_42 (dk_at dksX5_all_3 10 rfl rfl)
theorem dX5_all_83 : decode cX5_all 83 = .ok (.dup, 1) := dk_89 (dk_at dksX5_all_3 11 rfl rfl)
theorem dX5_all_84 : decode cX5_all 84 = .ok (.getfield 139, 3) := dk_180 0 139 (dk_at dksX5_all_3 12 rfl rfl)
theorem dX5_all_87 : decode cX5_all 87 = .ok (.iconst 1, 1) := dk_4 (dk_at dksX5_all_3 15 rfl rfl)
theorem dX5_all_88 : decode cX5_all 88 = .ok (.iadd, 1) := dk_96 (dk_at dksX5_all_3 16 rfl rfl)
theorem dX5_all_89 : decode cX5_all 89 = .ok (.putfield 139, 3) := dk_181 0 139 (dk_at dksX5_all_3 17 rfl rfl)
theorem dX5_all_92 : decode cX5_all 92 = .ok (.goto (-87), 3) := dk_167 255 169 (dk_at dksX5_all_3 20 rfl rfl)
theorem dX5_all_95 : decode cX5_all 95 = .ok (.new 9, 3) := dk_187 0 9 (dk_at dksX5_all_4 0 rfl rfl)
theorem dX5_all_98 : decode cX5_all 98 = .ok (.dup, 1) := dk_89 (dk_at dksX5_all_4 3 rfl rfl)
theorem dX5_all_99 : decode cX5_all 99 = .ok (.invokespecial 11, 3) := dk_183 0 11 (dk_at dksX5_all_4 4 rfl rfl)
theorem dX5_all_102 : decode cX5_all 102 = .ok (.astore_n 1, 1) := dk_76 (dk_at dksX5_all_4 7 rfl rfl)
theorem dX5_all_103 : decode cX5_all 103 = .ok (.aload_n 0, 1) := dk_42 (dk_at dksX5_all_4 8 rfl rfl)
theorem dX5_all_104 : decode cX5_all 104 = .ok (.invokevirtual 173, 3) := dk_182 0 173 (dk_at dksX5_all_4 9 rfl rfl)
theorem dX5_all_107 : decode cX5_all 107 = .ok (.istore_n 2, 1) := dk_61 (dk_at dksX5_all_4 12 rfl rfl)
theorem dX5_all_108 : decode cX5_all 108 = .ok (.iconst 0, 1) := dk_3 (dk_at dksX5_all_4 13 rfl rfl)
theorem dX5_all_109 : decode cX5_all 109 = .ok (.istore_n 3, 1) := dk_62 (dk_at dksX5_all_4 14 rfl rfl)
theorem dX5_all_110 : decode cX5_all 110 = .ok (.iload_n 3, 1) := dk_29 (dk_at dksX5_all_4 15 rfl rfl)
theorem dX5_all_111 : decode cX5_all 111 = .ok (.bipush 8, 2) := dk_16 8 (dk_at dksX5_all_4 16 rfl rfl)
theorem dX5_all_113 : decode cX5_all 113 = .ok (.if_icmp .ge 38, 3) := dk_162 0 38 (dk_at dksX5_all_4 18 rfl rfl)
theorem dX5_all_116 : decode cX5_all 116 = .ok (.iload_n 2, 1) := dk_28 (dk_at dksX5_all_4 21 rfl rfl)
theorem dX5_all_117 : decode cX5_all 117 = .ok (.iload_n 3, 1) := dk_29 (dk_at dksX5_all_4 22 rfl rfl)
theorem dX5_all_118 : decode cX5_all 118 = .ok (.invokestatic 176, 3) := dk_184 0 176 (dk_at dksX5_all_5 0 rfl rfl)
theorem dX5_all_121 : decode cX5_all 121 = .ok (.ifCond .eq 24, 3) := dk_153 0 24 (dk_at dksX5_all_5 3 rfl rfl)
theorem dX5_all_124 : decode cX5_all 124 = .ok (.aload_n 1, 1) := dk_43 (dk_at dksX5_all_5 6 rfl rfl)
theorem dX5_all_125 : decode cX5_all 125 = .ok (.new 137, 3) := dk_187 0 137 (dk_at dksX5_all_5 7 rfl rfl)
theorem dX5_all_128 : decode cX5_all 128 = .ok (.dup, 1) := dk_89 (dk_at dksX5_all_5 10 rfl rfl)
theorem dX5_all_129 : decode cX5_all 129 = .ok (.iconst 0, 1) := dk_3 (dk_at dksX5_all_5 11 rfl rfl)
theorem dX5_all_130 : decode cX5_all 130 = .ok (.iload_n 3, 1) := dk_29 (dk_at dksX5_all_5 12 rfl rfl)
theorem dX5_all_131 : decode cX5_all 131 = .ok (.iconst 0, 1) := dk_3 (dk_at dksX5_all_5 13 rfl rfl)
theorem dX5_all_132 : decode cX5_all 132 = .ok (.iconst (-1), 1) := dk_2 (dk_at dksX5_all_5 14 rfl rfl)
theorem dX5_all_133 : decode cX5_all 133 = .ok (.iconst 0, 1) := dk_3 (dk_at dksX5_all_5 15 rfl rfl)
theorem dX5_all_134 : decode cX5_all 134 = .ok (.newarray .int, 2) := dk_188_10 (dk_at dksX5_all_5 16 rfl rfl)
theorem dX5_all_136 : decode cX5_all 136 = .ok (.invokespecial 142, 3) := dk_183 0 142 (dk_at dksX5_all_5 18 rfl rfl)
theorem dX5_all_139 : decode cX5_all 139 = .ok (.invokeinterface 145 2, 5) := by decide +kernel
theorem dX5_all_144 : decode cX5_all 144 = .ok (.pop, 1) := dk_87 (dk_at dksX5_all_6 5 rfl rfl)
theorem dX5_all_145 : decode cX5_all 145 = .ok (.iinc 3 1, 3) := dk_132 3 1 (dk_at dksX5_all_6 6 rfl rfl)
theorem dX5_all_148 : decode cX5_all 148 = .ok (.goto (-38), 3) := dk_167 255 218 (dk_at dksX5_all_6 9 rfl rfl)
theorem dX5_all_151 : decode cX5_all 151 = .ok (.iconst 0, 1) := dk_3 (dk_at dksX5_all_6 12 rfl rfl)
theorem dX5_all_152 : decode cX5_all 152 = .ok (.istore_n 3, 1) := dk_62 (dk_at dksX5_all_6 13 rfl rfl)
theorem dX5_all_153 : decode cX5_all 153 = .ok (.iload_n 3, 1) := dk_29 (dk_at dksX5_all_6 14 rfl rfl)
theorem dX5_all_154 : decode cX5_all 154 = .ok (.aload_n 0, 1) := dk_42 (dk_at dksX5_all_6 15 rfl rfl)
theorem dX5_all_155 : decode cX5_all 155 = .ok (.getfield 12, 3) := dk_180 0 12 (dk_at dksX5_all_6 16 rfl rfl)
theorem dX5_all_158 : decode cX5_all 158 = .ok (.invokeinterface 35 1, 5) := by decide +kernel
theorem dX5_all_163 : decode cX5_all 163 = .ok (.if_icmp .ge 29, 3) := dk_162 0 29 (dk_at dksX5_all_7 0 rfl rfl)
theorem dX5_all_166 : decode cX5_all 166 = .ok (.aload_n 1, 1) := dk_43 (dk_at dksX5_all_7 3 rfl rfl)
theorem dX5_all_167 : decode cX5_all 167 = .ok (.aload_n 0, 1) := dk_42 (dk_at dksX5_all_7 4 rfl rfl)
theorem dX5_all_168 : decode cX5_all 168 = .ok (.getfield 12, 3) := dk_180 0 12 (dk_at dksX5_all_7 5 rfl rfl)
theorem dX5_all_171 : decode cX5_all 171 = .ok (.iload_n 3, 1) := dk_29 (dk_at dksX5_all_7 8 rfl rfl)
theorem dX5_all_172 : decode cX5_all 172 = .ok (.invokeinterface 161 2, 5) := by decide +kernel
theorem dX5_all_177 : decode cX5_all 177 = .ok (.checkcast 137, 3) := dk_192 0 137 (dk_at dksX5_all_7 14 rfl rfl)
theorem dX5_all_180 : decode cX5_all 180 = .ok (.invokeinterface 145 2, 5) := by decide +kernel
theorem dX5_all_185 : decode cX5_all 185 = .ok (.pop, 1) := dk_87 (dk_at dksX5_all_7 22 rfl rfl)
theorem dX5_all_186 : decode cX5_all 186 = .ok (.iinc 3 1, 3) := dk_132 3 1 (dk_at dksX5_all_8 0 rfl rfl)
theorem dX5_all_189 : decode cX5_all 189 = .ok (.goto (-36), 3) := dk_167 255 220 (dk_at dksX5_all_8 3 rfl rfl)
theorem dX5_all_192 : decode cX5_all 192 = .ok (.aload_n 1, 1) := dk_43 (dk_at dksX5_all_8 6 rfl rfl)
theorem dX5_all_193 : decode cX5_all 193 = .ok (.areturn, 1) := dk_176 (dk_at dksX5_all_8 7 rfl rfl)
abbrev cX5_emit : ByteArray := prog_3_method_14_code
def yX5_emit : MethodName := ⟨RX5, "emit", "(II)I"⟩
def dkwX5_emit_8 : List UInt8 := [172, 42, 45, 28, 182, 0, 155, 172]
abbrev dktX5_emit_8 : List UInt8 := dkwX5_emit_8 ++ []
def dkwX5_emit_7 : List UInt8 := [21, 4, 4, 188, 10, 89, 3, 42, 45, 42, 45, 182, 0, 99, 184, 0, 105, 182, 0, 152, 79, 182, 0, 149]
abbrev dktX5_emit_7 : List UInt8 := dkwX5_emit_7 ++ dktX5_emit_8
def dkwX5_emit_6 : List UInt8 := [180, 0, 66, 54, 4, 42, 8, 28, 45, 178, 0, 78, 182, 0, 60, 153, 0, 9, 21, 4, 116, 167, 0, 5]
abbrev dktX5_emit_6 : List UInt8 := dkwX5_emit_6 ++ dktX5_emit_7
def dkwX5_emit_5 : List UInt8 := [180, 0, 41, 27, 46, 42, 45, 182, 0, 119, 160, 0, 61, 42, 42, 45, 182, 0, 99, 182, 0, 53]
abbrev dktX5_emit_5 : List UInt8 := dkwX5_emit_5 ++ dktX5_emit_6
def dkwX5_emit_4 : List UInt8 := [184, 0, 92, 28, 3, 5, 188, 10, 89, 3, 21, 4, 79, 89, 4, 21, 5, 79, 182, 0, 149, 172, 42]
abbrev dktX5_emit_4 : List UInt8 := dkwX5_emit_4 ++ dktX5_emit_5
def dkwX5_emit_3 : List UInt8 := [42, 45, 180, 0, 66, 182, 0, 152, 54, 4, 42, 45, 180, 0, 81, 182, 0, 152, 54, 5, 42, 45]
abbrev dktX5_emit_3 : List UInt8 := dkwX5_emit_3 ++ dktX5_emit_4
def dkwX5_emit_2 : List UInt8 := [180, 0, 66, 3, 188, 10, 182, 0, 149, 172, 42, 180, 0, 41, 27, 46, 42, 45, 182, 0, 116, 160, 0, 47]
abbrev dktX5_emit_2 : List UInt8 := dkwX5_emit_2 ++ dktX5_emit_3
def dkwX5_emit_1 : List UInt8 := [3, 45, 180, 0, 66, 79, 182, 0, 149, 172, 45, 178, 0, 54, 182, 0, 60, 153, 0, 17, 42, 3, 28, 45]
abbrev dktX5_emit_1 : List UInt8 := dkwX5_emit_1 ++ dktX5_emit_2
def dkwX5_emit_0 : List UInt8 := [42, 27, 182, 0, 53, 78, 45, 178, 0, 131, 182, 0, 60, 153, 0, 21, 42, 4, 28, 3, 4, 188, 10, 89]
abbrev dktX5_emit_0 : List UInt8 := dkwX5_emit_0 ++ dktX5_emit_1
theorem dksX5_emit_0 : cX5_emit.data.toList.drop 0 = dktX5_emit_0 := by decide +kernel
theorem dksX5_emit_1 : cX5_emit.data.toList.drop 24 = dktX5_emit_1 := dk_seg dksX5_emit_0 24 rfl rfl
theorem dksX5_emit_2 : cX5_emit.data.toList.drop 48 = dktX5_emit_2 := dk_seg dksX5_emit_1 24 rfl rfl
theorem dksX5_emit_3 : cX5_emit.data.toList.drop 72 = dktX5_emit_3 := dk_seg dksX5_emit_2 24 rfl rfl
theorem dksX5_emit_4 : cX5_emit.data.toList.drop 94 = dktX5_emit_4 := dk_seg dksX5_emit_3 22 rfl rfl
theorem dksX5_emit_5 : cX5_emit.data.toList.drop 117 = dktX5_emit_5 := dk_seg dksX5_emit_4 23 rfl rfl
theorem dksX5_emit_6 : cX5_emit.data.toList.drop 139 = dktX5_emit_6 := dk_seg dksX5_emit_5 22 rfl rfl
theorem dksX5_emit_7 : cX5_emit.data.toList.drop 163 = dktX5_emit_7 := dk_seg dksX5_emit_6 24 rfl rfl
theorem dksX5_emit_8 : cX5_emit.data.toList.drop 187 = dktX5_emit_8 := dk_seg dksX5_emit_7 24 rfl rfl
theorem dX5_emit_0 : decode cX5_emit 0 = .ok (.aload_n 0, 1) := dk_42 (dk_at dksX5_emit_0 0 rfl rfl)
theorem dX5_emit_1 : decode cX5_emit 1 = .ok (.iload_n 1, 1) := dk_27 (dk_at dksX5_emit_0 1 rfl rfl)
theorem dX5_emit_2 : decode cX5_emit 2 = .ok (.invokevirtual 53, 3) := dk_182 0 53 (dk_at dksX5_emit_0 2 rfl rfl)
theorem dX5_emit_5 : decode cX5_emit 5 = .ok (.astore_n 3, 1) := dk_78 (dk_at dksX5_emit_0 5 rfl rfl)
theorem dX5_emit_6 : decode cX5_emit 6 = .ok (.aload_n 3, 1) := dk_45 (dk_at dksX5_emit_0 6 rfl rfl)
theorem dX5_emit_7 : decode cX5_emit 7 = .ok (.getstatic 131, 3) := dk_178 0 131 (dk_at dksX5_emit_0 7 rfl rfl)
theorem dX5_emit_10 : decode cX5_emit 10 = .ok (.invokevirtual 60, 3) := dk_182 0 60 (dk_at dksX5_emit_0 10 rfl rfl)
theorem dX5_emit_13 : decode cX5_emit 13 = .ok (.ifCond .eq 21, 3) := dk_153 0 21 (dk_at dksX5_emit_0 13 rfl rfl)
theorem dX5_emit_16 : decode cX5_emit 16 = .ok (.aload_n 0, 1) := dk_42 (dk_at dksX5_emit_0 16 rfl rfl)
theorem dX5_emit_17 : decode cX5_emit 17 = .ok (.iconst 1, 1) := dk_4 (dk_at dksX5_emit_0 17 rfl rfl)
theorem dX5_emit_18 : decode cX5_emit 18 = .ok (.iload_n 2, 1) := dk_28 (dk_at dksX5_emit_0 18 rfl rfl)
theorem dX5_emit_19 : decode cX5_emit 19 = .ok (.iconst 0, 1) := dk_3 (dk_at dksX5_emit_0 19 rfl rfl)
theorem dX5_emit_20 : decode cX5_emit 20 = .ok (.iconst 1, 1) := dk_4 (dk_at dksX5_emit_0 20 rfl rfl)
theorem dX5_emit_21 : decode cX5_emit 21 = .ok (.newarray .int, 2) := dk_188_10 (dk_at dksX5_emit_0 21 rfl rfl)
theorem dX5_emit_23 : decode cX5_emit 23 = .ok (.dup, 1) := dk_89 (dk_at dksX5_emit_0 23 rfl rfl)
theorem dX5_emit_24 : decode cX5_emit 24 = .ok (.iconst 0, 1) := dk_3 (dk_at dksX5_emit_1 0 rfl rfl)
theorem dX5_emit_25 : decode cX5_emit 25 = .ok (.aload_n 3, 1) := dk_45 (dk_at dksX5_emit_1 1 rfl rfl)
theorem dX5_emit_26 : decode cX5_emit 26 = .ok (.getfield 66, 3) := dk_180 0 66 (dk_at dksX5_emit_1 2 rfl rfl)
theorem dX5_emit_29 : decode cX5_emit 29 = .ok (.iastore, 1) := dk_79 (dk_at dksX5_emit_1 5 rfl rfl)
theorem dX5_emit_30 : decode cX5_emit 30 = .ok (.invokevirtual 149, 3) := dk_182 0 149 (dk_at dksX5_emit_1 6 rfl rfl)
theorem dX5_emit_33 : decode cX5_emit 33 = .ok (.ireturn, 1) := dk_172 (dk_at dksX5_emit_1 9 rfl rfl)
theorem dX5_emit_34 : decode cX5_emit 34 = .ok (.aload_n 3, 1) := dk_45 (dk_at dksX5_emit_1 10 rfl rfl)
theorem dX5_emit_35 : decode cX5_emit 35 = .ok (.getstatic 54, 3) := dk_178 0 54 (dk_at dksX5_emit_1 11 rfl rfl)
theorem dX5_emit_38 : decode cX5_emit 38 = .ok (.invokevirtual 60, 3) := dk_182 0 60 (dk_at dksX5_emit_1 14 rfl rfl)
theorem dX5_emit_41 : decode cX5_emit 41 = .ok (.ifCond .eq 17, 3) := dk_153 0 17 (dk_at dksX5_emit_1 17 rfl rfl)
theorem dX5_emit_44 : decode cX5_emit 44 = .ok (.aload_n 0, 1) := dk_42 (dk_at dksX5_emit_1 20 rfl rfl)
theorem dX5_emit_45 : decode cX5_emit 45 = .ok (.iconst 0, 1) := dk_3 (dk_at dksX5_emit_1 21 rfl rfl)
theorem dX5_emit_46 : decode cX5_emit 46 = .ok (.iload_n 2, 1) := dk_28 (dk_at dksX5_emit_1 22 rfl rfl)
theorem dX5_emit_47 : decode cX5_emit 47 = .ok (.aload_n 3, 1) := dk_45 (dk_at dksX5_emit_1 23 rfl rfl)
theorem dX5_emit_48 : decode cX5_emit 48 = .ok (.getfield 66, 3) := dk_180 0 66 (dk_at dksX5_emit_2 0 rfl rfl)
theorem dX5_emit_51 : decode cX5_emit 51 = .ok (.iconst 0, 1) := dk_3 (dk_at dksX5_emit_2 3 rfl rfl)
theorem dX5_emit_52 : decode cX5_emit 52 = .ok (.newarray .int, 2) := dk_188_10 (dk_at dksX5_emit_2 4 rfl rfl)
theorem dX5_emit_54 : decode cX5_emit 54 = .ok (.invokevirtual 149, 3) := dk_182 0 149 (dk_at dksX5_emit_2 6 rfl rfl)
theorem dX5_emit_57 : decode cX5_emit 57 = .ok (.ireturn, 1) := dk_172 (dk_at dksX5_emit_2 9 rfl rfl)
theorem dX5_emit_58 : decode cX5_emit 58 = .ok (.aload_n 0, 1) := dk_42 (dk_at dksX5_emit_2 10 rfl rfl)
theorem dX5_emit_59 : decode cX5_emit 59 = .ok (.getfield 41, 3) := dk_180 0 41 (dk_at dksX5_emit_2 11 rfl rfl)
theorem dX5_emit_62 : decode cX5_emit 62 = .ok (.iload_n 1, 1) := dk_27 (dk_at dksX5_emit_2 14 rfl rfl)
theorem dX5_emit_63 : decode cX5_emit 63 = .ok (.iaload, 1) := dk_46 (dk_at dksX5_emit_2 15 rfl rfl)
theorem dX5_emit_64 : decode cX5_emit 64 = .ok (.aload_n 0, 1) := dk_42 (dk_at dksX5_emit_2 16 rfl rfl)
theorem dX5_emit_65 : decode cX5_emit 65 = .ok (.aload_n 3, 1) := dk_45 (dk_at dksX5_emit_2 17 rfl rfl)
theorem dX5_emit_66 : decode cX5_emit 66 = .ok (.invokevirtual 116, 3) := dk_182 0 116 (dk_at dksX5_emit_2 18 rfl rfl)
theorem dX5_emit_69 : decode cX5_emit 69 = .ok (.if_icmp .ne 47, 3) := dk_160 0 47 (dk_at dksX5_emit_2 21 rfl rfl)
theorem dX5_emit_72 : decode cX5_emit 72 = .ok (.aload_n 0, 1) := dk_42 (dk_at dksX5_emit_3 0 rfl rfl)
theorem dX5_emit_73 : decode cX5_emit 73 = .ok (.aload_n 3, 1) := dk_45 (dk_at dksX5_emit_3 1 rfl rfl)
theorem dX5_emit_74 : decode cX5_emit 74 = .ok (.getfield 66, 3) := dk_180 0 66 (dk_at dksX5_emit_3 2 rfl rfl)
theorem dX5_emit_77 : decode cX5_emit 77 = .ok (.invokevirtual 152, 3) := dk_182 0 152 (dk_at dksX5_emit_3 5 rfl rfl)
theorem dX5_emit_80 : decode cX5_emit 80 = .ok (.istore 4, 2) := dk_54 4 (dk_at dksX5_emit_3 8 rfl rfl)
theorem dX5_emit_82 : decode cX5_emit 82 = .ok (.aload_n 0, 1) := dk_42 (dk_at dksX5_emit_3 10 rfl rfl)
theorem dX5_emit_83 : decode cX5_emit 83 = .ok (.aload_n 3, 1) := dk_45 (dk_at dksX5_emit_3 11 rfl rfl)
theorem dX5_emit_84 : decode cX5_emit 84 = .ok (.getfield 81, 3) := dk_180 0 81 (dk_at dksX5_emit_3 12 rfl rfl)
theorem dX5_emit_87 : decode cX5_emit 87 = .ok (.invokevirtual 152, 3) := dk_182 0 152 (dk_at dksX5_emit_3 15 rfl rfl)
theorem dX5_emit_90 : decode cX5_emit 90 = .ok (.istore 5, 2) := dk_54 5 (dk_at dksX5_emit_3 18 rfl rfl)
theorem dX5_emit_92 : decode cX5_emit 92 = .ok (.aload_n 0, 1) := dk_42 (dk_at dksX5_emit_3 20 rfl rfl)
theorem dX5_emit_93 : decode cX5_emit 93 = .ok (.aload_n 3, 1) := dk_45 (dk_at dksX5_emit_3 21 rfl rfl)
theorem dX5_emit_94 : decode cX5_emit 94 = .ok (.invokestatic 92, 3) := dk_184 0 92 (dk_at dksX5_emit_4 0 rfl rfl)
theorem dX5_emit_97 : decode cX5_emit 97 = .ok (.iload_n 2, 1) := dk_28 (dk_at dksX5_emit_4 3 rfl rfl)
theorem dX5_emit_98 : decode cX5_emit 98 = .ok (.iconst 0, 1) := dk_3 (dk_at dksX5_emit_4 4 rfl rfl)
theorem dX5_emit_99 : decode cX5_emit 99 = .ok (.iconst 2, 1) := dk_5 (dk_at dksX5_emit_4 5 rfl rfl)
theorem dX5_emit_100 : decode cX5_emit 100 = .ok (.newarray .int, 2) := dk_188_10 (dk_at dksX5_emit_4 6 rfl rfl)
theorem dX5_emit_102 : decode cX5_emit 102 = .ok (.dup, 1) := dk_89 (dk_at dksX5_emit_4 8 rfl rfl)
theorem dX5_emit_103 : decode cX5_emit 103 = .ok (.iconst 0, 1) := dk_3 (dk_at dksX5_emit_4 9 rfl rfl)
theorem dX5_emit_104 : decode cX5_emit 104 = .ok (.iload 4, 2) := dk_21 4 (dk_at dksX5_emit_4 10 rfl rfl)
theorem dX5_emit_106 : decode cX5_emit 106 = .ok (.iastore, 1) := dk_79 (dk_at dksX5_emit_4 12 rfl rfl)
theorem dX5_emit_107 : decode cX5_emit 107 = .ok (.dup, 1) := dk_89 (dk_at dksX5_emit_4 13 rfl rfl)
theorem dX5_emit_108 : decode cX5_emit 108 = .ok (.iconst 1, 1) := dk_4 (dk_at dksX5_emit_4 14 rfl rfl)
theorem dX5_emit_109 : decode cX5_emit 109 = .ok (.iload 5, 2) := dk_21 5 (dk_at dksX5_emit_4 15 rfl rfl)
theorem dX5_emit_111 : decode cX5_emit 111 = .ok (.iastore, 1) := dk_79 (dk_at dksX5_emit_4 17 rfl rfl)
theorem dX5_emit_112 : decode cX5_emit 112 = .ok (.invokevirtual 149, 3) := dk_182 0 149 (dk_at dksX5_emit_4 18 rfl rfl)
theorem dX5_emit_115 : decode cX5_emit 115 = .ok (.ireturn, 1) := dk_172 (dk_at dksX5_emit_4 21 rfl rfl)
theorem dX5_emit_116 : decode cX5_emit 116 = .ok (.aload_n 0, 1) := dk_42 (dk_at dksX5_emit_4 22 rfl rfl)
theorem dX5_emit_117 : decode cX5_emit 117 = .ok (.getfield 41, 3) := dk_180 0 41 (dk_at dksX5_emit_5 0 rfl rfl)
theorem dX5_emit_120 : decode cX5_emit 120 = .ok (.iload_n 1, 1) := dk_27 (dk_at dksX5_emit_5 3 rfl rfl)
theorem dX5_emit_121 : decode cX5_emit 121 = .ok (.iaload, 1) := dk_46 (dk_at dksX5_emit_5 4 rfl rfl)
theorem dX5_emit_122 : decode cX5_emit 122 = .ok (.aload_n 0, 1) := dk_42 (dk_at dksX5_emit_5 5 rfl rfl)
theorem dX5_emit_123 : decode cX5_emit 123 = .ok (.aload_n 3, 1) := dk_45 (dk_at dksX5_emit_5 6 rfl rfl)
theorem dX5_emit_124 : decode cX5_emit 124 = .ok (.invokevirtual 119, 3) := dk_182 0 119 (dk_at dksX5_emit_5 7 rfl rfl)
theorem dX5_emit_127 : decode cX5_emit 127 = .ok (.if_icmp .ne 61, 3) := dk_160 0 61 (dk_at dksX5_emit_5 10 rfl rfl)
theorem dX5_emit_130 : decode cX5_emit 130 = .ok (.aload_n 0, 1) := dk_42 (dk_at dksX5_emit_5 13 rfl rfl)
theorem dX5_emit_131 : decode cX5_emit 131 = .ok (.aload_n 0, 1) := dk_42 (dk_at dksX5_emit_5 14 rfl rfl)
theorem dX5_emit_132 : decode cX5_emit 132 = .ok (.aload_n 3, 1) := dk_45 (dk_at dksX5_emit_5 15 rfl rfl)
theorem dX5_emit_133 : decode cX5_emit 133 = .ok (.invokevirtual 99, 3) := dk_182 0 99 (dk_at dksX5_emit_5 16 rfl rfl)
theorem dX5_emit_136 : decode cX5_emit 136 = .ok (.invokevirtual 53, 3) := dk_182 0 53 (dk_at dksX5_emit_5 19 rfl rfl)
theorem dX5_emit_139 : decode cX5_emit 139 = .ok (.getfield 66, 3) := dk_180 0 66 (dk_at dksX5_emit_6 0 rfl rfl)
theorem dX5_emit_142 : decode cX5_emit 142 = .ok (.istore 4, 2) := dk_54 4 (dk_at dksX5_emit_6 3 rfl rfl)
theorem dX5_emit_144 : decode cX5_emit 144 = .ok (.aload_n 0, 1) := dk_42 (dk_at dksX5_emit_6 5 rfl rfl)
theorem dX5_emit_145 : decode cX5_emit 145 = .ok (.iconst 5, 1) := dk_8 (dk_at dksX5_emit_6 6 rfl rfl)
theorem dX5_emit_146 : decode cX5_emit 146 = .ok (.iload_n 2, 1) := dk_28 (dk_at dksX5_emit_6 7 rfl rfl)
theorem dX5_emit_147 : decode cX5_emit 147 = .ok (.aload_n 3, 1) := dk_45 (dk_at dksX5_emit_6 8 rfl rfl)
theorem dX5_emit_148 : decode cX5_emit 148 = .ok (.getstatic 78, 3) := dk_178 0 78 (dk_at dksX5_emit_6 9 rfl rfl)
theorem dX5_emit_151 : decode cX5_emit 151 = .ok (.invokevirtual 60, 3) := dk_182 0 60 (dk_at dksX5_emit_6 12 rfl rfl)
theorem dX5_emit_154 : decode cX5_emit 154 = .ok (.ifCond .eq 9, 3) := dk_153 0 9 (dk_at dksX5_emit_6 15 rfl rfl)
theorem dX5_emit_157 : decode cX5_emit 157 = .ok (.iload 4, 2) := dk_21 4 (dk_at dksX5_emit_6 18 rfl rfl)
theorem dX5_emit_159 : decode cX5_emit 159 = .ok (.ineg, 1) := dk_116 (dk_at dksX5_emit_6 20 rfl rfl)
theorem dX5_emit_160 : decode cX5_emit 160 = .ok (.goto 5, 3) := dk_167 0 5 (dk_at dksX5_emit_6 21 rfl rfl)
theorem dX5_emit_163 : decode cX5_emit 163 = .ok (.iload 4, 2) := dk_21 4 (dk_at dksX5_emit_7 0 rfl rfl)
theorem dX5_emit_165 : decode cX5_emit 165 = .ok (.iconst 1, 1) := dk_4 (dk_at dksX5_emit_7 2 rfl rfl)
theorem dX5_emit_166 : decode cX5_emit 166 = .ok (.newarray .int, 2) := dk_188_10 (dk_at dksX5_emit_7 3 rfl rfl)
theorem dX5_emit_168 : decode cX5_emit 168 = .ok (.dup, 1) := dk_89 (dk_at dksX5_emit_7 5 rfl rfl)
theorem dX5_emit_169 : decode cX5_emit 169 = .ok (.iconst 0, 1) := dk_3 (dk_at dksX5_emit_7 6 rfl rfl)
theorem dX5_emit_170 : decode cX5_emit 170 = .ok (.aload_n 0, 1) := dk_42 (dk_at dksX5_emit_7 7 rfl rfl)
theorem dX5_emit_171 : decode cX5_emit 171 = .ok (.aload_n 3, 1) := dk_45 (dk_at dksX5_emit_7 8 rfl rfl)
theorem dX5_emit_172 : decode cX5_emit 172 = .ok (.aload_n 0, 1) := dk_42 (dk_at dksX5_emit_7 9 rfl rfl)
theorem dX5_emit_173 : decode cX5_emit 173 = .ok (.aload_n 3, 1) := dk_45 (dk_at dksX5_emit_7 10 rfl rfl)
theorem dX5_emit_174 : decode cX5_emit 174 = .ok (.invokevirtual 99, 3) := dk_182 0 99 (dk_at dksX5_emit_7 11 rfl rfl)
theorem dX5_emit_177 : decode cX5_emit 177 = .ok (.invokestatic 105, 3) := dk_184 0 105 (dk_at dksX5_emit_7 14 rfl rfl)
theorem dX5_emit_180 : decode cX5_emit 180 = .ok (.invokevirtual 152, 3) := dk_182 0 152 (dk_at dksX5_emit_7 17 rfl rfl)
theorem dX5_emit_183 : decode cX5_emit 183 = .ok (.iastore, 1) := dk_79 (dk_at dksX5_emit_7 20 rfl rfl)
theorem dX5_emit_184 : decode cX5_emit 184 = .ok (.invokevirtual 149, 3) := dk_182 0 149 (dk_at dksX5_emit_7 21 rfl rfl)
theorem dX5_emit_187 : decode cX5_emit 187 = .ok (.ireturn, 1) := dk_172 (dk_at dksX5_emit_8 0 rfl rfl)
theorem dX5_emit_188 : decode cX5_emit 188 = .ok (.aload_n 0, 1) := dk_42 (dk_at dksX5_emit_8 1 rfl rfl)
theorem dX5_emit_189 : decode cX5_emit 189 = .ok (.aload_n 3, 1) := dk_45 (dk_at dksX5_emit_8 2 rfl rfl)
theorem dX5_emit_190 : decode cX5_emit 190 = .ok (.iload_n 2, 1) := dk_28 (dk_at dksX5_emit_8 3 rfl rfl)
theorem dX5_emit_191 : decode cX5_emit 191 = .ok (.invokevirtual 155, 3) := dk_182 0 155 (dk_at dksX5_emit_8 4 rfl rfl)
theorem dX5_emit_194 : decode cX5_emit 194 = .ok (.ireturn, 1) := dk_172 (dk_at dksX5_emit_8 7 rfl rfl)
abbrev cX5_emit_2 : ByteArray := prog_3_method_13_code
def yX5_emit_2 : MethodName := ⟨RX5, "emit", "(III[I)I"⟩
def dkwX5_emit_2_2 : List UInt8 := [42, 180, 0, 139, 25, 4, 183, 0, 142, 185, 0, 145, 2, 0, 87, 21, 5, 172]
abbrev dktX5_emit_2_2 : List UInt8 := dkwX5_emit_2_2 ++ []
def dkwX5_emit_2_1 : List UInt8 := [160, 0, 7, 4, 167, 0, 4, 3, 96, 181, 0, 18, 42, 180, 0, 12, 187, 0, 137, 89, 27, 21, 5, 29]
abbrev dktX5_emit_2_1 : List UInt8 := dkwX5_emit_2_1 ++ dktX5_emit_2_2
def dkwX5_emit_2_0 : List UInt8 := [28, 2, 160, 0, 10, 42, 180, 0, 18, 167, 0, 4, 28, 54, 5, 42, 89, 180, 0, 18, 28, 2]
abbrev dktX5_emit_2_0 : List UInt8 := dkwX5_emit_2_0 ++ dktX5_emit_2_1
theorem dksX5_emit_2_0 : cX5_emit_2.data.toList.drop 0 = dktX5_emit_2_0 := by decide +kernel
theorem dksX5_emit_2_1 : cX5_emit_2.data.toList.drop 22 = dktX5_emit_2_1 := dk_seg dksX5_emit_2_0 22 rfl rfl
theorem dksX5_emit_2_2 : cX5_emit_2.data.toList.drop 46 = dktX5_emit_2_2 := dk_seg dksX5_emit_2_1 24 rfl rfl
theorem dX5_emit_2_0 : decode cX5_emit_2 0 = .ok (.iload_n 2, 1) := dk_28 (dk_at dksX5_emit_2_0 0 rfl rfl)
theorem dX5_emit_2_1 : decode cX5_emit_2 1 = .ok (.iconst (-1), 1) := dk_2 (dk_at dksX5_emit_2_0 1 rfl rfl)
theorem dX5_emit_2_2 : decode cX5_emit_2 2 = .ok (.if_icmp .ne 10, 3) := dk_160 0 10 (dk_at dksX5_emit_2_0 2 rfl rfl)
theorem dX5_emit_2_5 : decode cX5_emit_2 5 = .ok (.aload_n 0, 1) := dk_42 (dk_at dksX5_emit_2_0 5 rfl rfl)
theorem dX5_emit_2_6 : decode cX5_emit_2 6 = .ok (.getfield 18, 3) := dk_180 0 18 (dk_at dksX5_emit_2_0 6 rfl rfl)
theorem dX5_emit_2_9 : decode cX5_emit_2 9 = .ok (.goto 4, 3) := dk_167 0 4 (dk_at dksX5_emit_2_0 9 rfl rfl)
theorem dX5_emit_2_12 : decode cX5_emit_2 12 = .ok (.iload_n 2, 1) := dk_28 (dk_at dksX5_emit_2_0 12 rfl rfl)
theorem dX5_emit_2_13 : decode cX5_emit_2 13 = .ok (.istore 5, 2) := dk_54 5 (dk_at dksX5_emit_2_0 13 rfl rfl)
theorem dX5_emit_2_15 : decode cX5_emit_2 15 = .ok (.aload_n 0, 1) := dk_42 (dk_at dksX5_emit_2_0 15 rfl rfl)
theorem dX5_emit_2_16 : decode cX5_emit_2 16 = .ok (.dup, 1) := dk_89 (dk_at dksX5_emit_2_0 16 rfl rfl)
theorem dX5_emit_2_17 : decode cX5_emit_2 17 = .ok (.getfield 18, 3) := dk_180 0 18 (dk_at dksX5_emit_2_0 17 rfl rfl)
theorem dX5_emit_2_20 : decode cX5_emit_2 20 = .ok (.iload_n 2, 1) := dk_28 (dk_at dksX5_emit_2_0 20 rfl rfl)
theorem dX5_emit_2_21 : decode cX5_emit_2 21 = .ok (.iconst (-1), 1) := dk_2 (dk_at dksX5_emit_2_0 21 rfl rfl)
theorem dX5_emit_2_22 : decode cX5_emit_2 22 = .ok (.if_icmp .ne 7, 3) := dk_160 0 7 (dk_at dksX5_emit_2_1 0 rfl rfl)
theorem dX5_emit_2_25 : decode cX5_emit_2 25 = .ok (.iconst 1, 1) := dk_4 (dk_at dksX5_emit_2_1 3 rfl rfl)
theorem dX5_emit_2_26 : decode cX5_emit_2 26 = .ok (.goto 4, 3) := dk_167 0 4 (dk_at dksX5_emit_2_1 4 rfl rfl)
theorem dX5_emit_2_29 : decode cX5_emit_2 29 = .ok (.iconst 0, 1) := dk_3 (dk_at dksX5_emit_2_1 7 rfl rfl)
theorem dX5_emit_2_30 : decode cX5_emit_2 30 = .ok (.iadd, 1) := dk_96 (dk_at dksX5_emit_2_1 8 rfl rfl)
theorem dX5_emit_2_31 : decode cX5_emit_2 31 = .ok (.putfield 18, 3) := dk_181 0 18 (dk_at dksX5_emit_2_1 9 rfl rfl)
theorem dX5_emit_2_34 : decode cX5_emit_2 34 = .ok (.aload_n 0, 1) := dk_42 (dk_at dksX5_emit_2_1 12 rfl rfl)
theorem dX5_emit_2_35 : decode cX5_emit_2 35 = .ok (.getfield 12, 3) := dk_180 0 12 (dk_at dksX5_emit_2_1 13 rfl rfl)
theorem dX5_emit_2_38 : decode cX5_emit_2 38 = .ok (.new 137, 3) := dk_187 0 137 (dk_at dksX5_emit_2_1 16 rfl rfl)
theorem dX5_emit_2_41 : decode cX5_emit_2 41 = .ok (.dup, 1) := dk_89 (dk_at dksX5_emit_2_1 19 rfl rfl)
theorem dX5_emit_2_42 : decode cX5_emit_2 42 = .ok (.iload_n 1, 1) := dk_27 (dk_at dksX5_emit_2_1 20 rfl rfl)
theorem dX5_emit_2_43 : decode cX5_emit_2 43 = .ok (.iload 5, 2) := dk_21 5 (dk_at dksX5_emit_2_1 21 rfl rfl)
theorem dX5_emit_2_45 : decode cX5_emit_2 45 = .ok (.iload_n 3, 1) := dk_29 (dk_at dksX5_emit_2_1 23 rfl rfl)
theorem dX5_emit_2_46 : decode cX5_emit_2 46 = .ok (.aload_n 0, 1) := dk_42 (dk_at dksX5_emit_2_2 0 rfl rfl)
theorem dX5_emit_2_47 : decode cX5_emit_2 47 = .ok (.getfield 139, 3) := dk_180 0 139 (dk_at dksX5_emit_2_2 1 rfl rfl)
theorem dX5_emit_2_50 : decode cX5_emit_2 50 = .ok (.aload 4, 2) := dk_25 4 (dk_at dksX5_emit_2_2 4 rfl rfl)
theorem dX5_emit_2_52 : decode cX5_emit_2 52 = .ok (.invokespecial 142, 3) := dk_183 0 142 (dk_at dksX5_emit_2_2 6 rfl rfl)
theorem dX5_emit_2_55 : decode cX5_emit_2 55 = .ok (.invokeinterface 145 2, 5) := by decide +kernel
theorem dX5_emit_2_60 : decode cX5_emit_2 60 = .ok (.pop, 1) := dk_87 (dk_at dksX5_emit_2_2 14 rfl rfl)
theorem dX5_emit_2_61 : decode cX5_emit_2 61 = .ok (.iload 5, 2) := dk_21 5 (dk_at dksX5_emit_2_2 15 rfl rfl)
theorem dX5_emit_2_63 : decode cX5_emit_2 63 = .ok (.ireturn, 1) := dk_172 (dk_at dksX5_emit_2_2 17 rfl rfl)
abbrev cX5_value : ByteArray := prog_3_method_12_code
def yX5_value : MethodName := ⟨RX5, "value", "(I)I"⟩
def dkwX5_value_1 : List UInt8 := [167, 0, 9, 42, 27, 2, 182, 0, 134, 172]
abbrev dktX5_value_1 : List UInt8 := dkwX5_value_1 ++ []
def dkwX5_value_0 : List UInt8 := [42, 27, 182, 0, 53, 178, 0, 131, 182, 0, 60, 153, 0, 14, 42, 27, 182, 0, 53, 180, 0, 66]
abbrev dktX5_value_0 : List UInt8 := dkwX5_value_0 ++ dktX5_value_1
theorem dksX5_value_0 : cX5_value.data.toList.drop 0 = dktX5_value_0 := by decide +kernel
theorem dksX5_value_1 : cX5_value.data.toList.drop 22 = dktX5_value_1 := dk_seg dksX5_value_0 22 rfl rfl
theorem dX5_value_0 : decode cX5_value 0 = .ok (.aload_n 0, 1) := dk_42 (dk_at dksX5_value_0 0 rfl rfl)
theorem dX5_value_1 : decode cX5_value 1 = .ok (.iload_n 1, 1) := dk_27 (dk_at dksX5_value_0 1 rfl rfl)
theorem dX5_value_2 : decode cX5_value 2 = .ok (.invokevirtual 53, 3) := dk_182 0 53 (dk_at dksX5_value_0 2 rfl rfl)
theorem dX5_value_5 : decode cX5_value 5 = .ok (.getstatic 131, 3) := dk_178 0 131 (dk_at dksX5_value_0 5 rfl rfl)
theorem dX5_value_8 : decode cX5_value 8 = .ok (.invokevirtual 60, 3) := dk_182 0 60 (dk_at dksX5_value_0 8 rfl rfl)
theorem dX5_value_11 : decode cX5_value 11 = .ok (.ifCond .eq 14, 3) := dk_153 0 14 (dk_at dksX5_value_0 11 rfl rfl)
theorem dX5_value_14 : decode cX5_value 14 = .ok (.aload_n 0, 1) := dk_42 (dk_at dksX5_value_0 14 rfl rfl)
theorem dX5_value_15 : decode cX5_value 15 = .ok (.iload_n 1, 1) := dk_27 (dk_at dksX5_value_0 15 rfl rfl)
theorem dX5_value_16 : decode cX5_value 16 = .ok (.invokevirtual 53, 3) := dk_182 0 53 (dk_at dksX5_value_0 16 rfl rfl)
theorem dX5_value_19 : decode cX5_value 19 = .ok (.getfield 66, 3) := dk_180 0 66 (dk_at dksX5_value_0 19 rfl rfl)
theorem dX5_value_22 : decode cX5_value 22 = .ok (.goto 9, 3) := dk_167 0 9 (dk_at dksX5_value_1 0 rfl rfl)
theorem dX5_value_25 : decode cX5_value 25 = .ok (.aload_n 0, 1) := dk_42 (dk_at dksX5_value_1 3 rfl rfl)
theorem dX5_value_26 : decode cX5_value 26 = .ok (.iload_n 1, 1) := dk_27 (dk_at dksX5_value_1 4 rfl rfl)
theorem dX5_value_27 : decode cX5_value 27 = .ok (.iconst (-1), 1) := dk_2 (dk_at dksX5_value_1 5 rfl rfl)
theorem dX5_value_28 : decode cX5_value 28 = .ok (.invokevirtual 134, 3) := dk_182 0 134 (dk_at dksX5_value_1 6 rfl rfl)
theorem dX5_value_31 : decode cX5_value 31 = .ok (.ireturn, 1) := dk_172 (dk_at dksX5_value_1 9 rfl rfl)
abbrev cX5_emitFused : ByteArray := prog_3_method_15_code
def yX5_emitFused : MethodName := ⟨RX5, "emitFused", "(LSpillslotWorks$Node;I)I"⟩
def dkwX5_emitFused_4 : List UInt8 := [188, 10, 89, 3, 21, 6, 79, 89, 4, 21, 7, 79, 89, 5, 21, 8, 79, 182, 0, 149, 172]
abbrev dktX5_emitFused_4 : List UInt8 := dkwX5_emitFused_4 ++ []
def dkwX5_emitFused_3 : List UInt8 := [153, 0, 8, 21, 5, 167, 0, 11, 42, 43, 180, 0, 81, 182, 0, 152, 54, 8, 42, 16, 6, 28, 3, 6]
abbrev dktX5_emitFused_3 : List UInt8 := dkwX5_emitFused_3 ++ dktX5_emitFused_4
def dkwX5_emitFused_2 : List UInt8 := [180, 0, 66, 182, 0, 152, 54, 6, 42, 42, 29, 182, 0, 53, 180, 0, 81, 182, 0, 152, 54, 7, 21, 4]
abbrev dktX5_emitFused_2 : List UInt8 := dkwX5_emitFused_2 ++ dktX5_emitFused_3
def dkwX5_emitFused_1 : List UInt8 := [153, 0, 14, 42, 43, 180, 0, 66, 182, 0, 152, 167, 0, 4, 2, 54, 5, 42, 42, 29, 182, 0, 53]
abbrev dktX5_emitFused_1 : List UInt8 := dkwX5_emitFused_1 ++ dktX5_emitFused_2
def dkwX5_emitFused_0 : List UInt8 := [42, 43, 182, 0, 109, 62, 29, 43, 180, 0, 81, 160, 0, 7, 4, 167, 0, 4, 3, 54, 4, 21, 4]
abbrev dktX5_emitFused_0 : List UInt8 := dkwX5_emitFused_0 ++ dktX5_emitFused_1
theorem dksX5_emitFused_0 : cX5_emitFused.data.toList.drop 0 = dktX5_emitFused_0 := by decide +kernel
theorem dksX5_emitFused_1 : cX5_emitFused.data.toList.drop 23 = dktX5_emitFused_1 := dk_seg dksX5_emitFused_0 23 rfl rfl
theorem dksX5_emitFused_2 : cX5_emitFused.data.toList.drop 46 = dktX5_emitFused_2 := dk_seg dksX5_emitFused_1 23 rfl rfl
theorem dksX5_emitFused_3 : cX5_emitFused.data.toList.drop 70 = dktX5_emitFused_3 := dk_seg dksX5_emitFused_2 24 rfl rfl
theorem dksX5_emitFused_4 : cX5_emitFused.data.toList.drop 94 = dktX5_emitFused_4 := dk_seg dksX5_emitFused_3 24 rfl rfl
theorem dX5_emitFused_0 : decode cX5_emitFused 0 = .ok (.aload_n 0, 1) := dk_42 (dk_at dksX5_emitFused_0 0 rfl rfl)
theorem dX5_emitFused_1 : decode cX5_emitFused 1 = .ok (.aload_n 1, 1) := dk_43 (dk_at dksX5_emitFused_0 1 rfl rfl)
theorem dX5_emitFused_2 : decode cX5_emitFused 2 = .ok (.invokevirtual 109, 3) := dk_182 0 109 (dk_at dksX5_emitFused_0 2 rfl rfl)
theorem dX5_emitFused_5 : decode cX5_emitFused 5 = .ok (.istore_n 3, 1) := dk_62 (dk_at dksX5_emitFused_0 5 rfl rfl)
theorem dX5_emitFused_6 : decode cX5_emitFused 6 = .ok (.iload_n 3, 1) := dk_29 (dk_at dksX5_emitFused_0 6 rfl rfl)
theorem dX5_emitFused_7 : decode cX5_emitFused 7 = .ok (.aload_n 1, 1) := dk_43 (dk_at dksX5_emitFused_0 7 rfl rfl)
theorem dX5_emitFused_8 : decode cX5_emitFused 8 = .ok (.getfield 81, 3) := dk_180 0 81 (dk_at dksX5_emitFused_0 8 rfl rfl)
theorem dX5_emitFused_11 : decode cX5_emitFused 11 = .ok (.if_icmp .ne 7, 3) := dk_160 0 7 (dk_at dksX5_emitFused_0 11 rfl rfl)
theorem dX5_emitFused_14 : decode cX5_emitFused 14 = .ok (.iconst 1, 1) := dk_4 (dk_at dksX5_emitFused_0 14 rfl rfl)
theorem dX5_emitFused_15 : decode cX5_emitFused 15 = .ok (.goto 4, 3) := dk_167 0 4 (dk_at dksX5_emitFused_0 15 rfl rfl)
theorem dX5_emitFused_18 : decode cX5_emitFused 18 = .ok (.iconst 0, 1) := dk_3 (dk_at dksX5_emitFused_0 18 rfl rfl)
theorem dX5_emitFused_19 : decode cX5_emitFused 19 = .ok (.istore 4, 2) := dk_54 4 (dk_at dksX5_emitFused_0 19 rfl rfl)
theorem dX5_emitFused_21 : decode cX5_emitFused 21 = .ok (.iload 4, 2) := dk_21 4 (dk_at dksX5_emitFused_0 21 rfl rfl)
theorem dX5_emitFused_23 : decode cX5_emitFused 23 = .ok (.ifCond .eq 14, 3) := dk_153 0 14 (dk_at dksX5_emitFused_1 0 rfl rfl)
theorem dX5_emitFused_26 : decode cX5_emitFused 26 = .ok (.aload_n 0, 1) := dk_42 (dk_at dksX5_emitFused_1 3 rfl rfl)
theorem dX5_emitFused_27 : decode cX5_emitFused 27 = .ok (.aload_n 1, 1) := dk_43 (dk_at dksX5_emitFused_1 4 rfl rfl)
theorem dX5_emitFused_28 : decode cX5_emitFused 28 = .ok (.getfield 66, 3) := dk_180 0 66 (dk_at dksX5_emitFused_1 5 rfl rfl)
theorem dX5_emitFused_31 : decode cX5_emitFused 31 = .ok (.invokevirtual 152, 3) := dk_182 0 152 (dk_at dksX5_emitFused_1 8 rfl rfl)
theorem dX5_emitFused_34 : decode cX5_emitFused 34 = .ok (.goto 4, 3) := dk_167 0 4 (dk_at dksX5_emitFused_1 11 rfl rfl)
theorem dX5_emitFused_37 : decode cX5_emitFused 37 = .ok (.iconst (-1), 1) := dk_2 (dk_at dksX5_emitFused_1 14 rfl rfl)
theorem dX5_emitFused_38 : decode cX5_emitFused 38 = .ok (.istore 5, 2) := dk_54 5 (dk_at dksX5_emitFused_1 15 rfl rfl)
theorem dX5_emitFused_40 : decode cX5_emitFused 40 = .ok (.aload_n 0, 1) := dk_42 (dk_at dksX5_emitFused_1 17 rfl rfl)
theorem dX5_emitFused_41 : decode cX5_emitFused 41 = .ok (.aload_n 0, 1) := dk_42 (dk_at dksX5_emitFused_1 18 rfl rfl)
theorem dX5_emitFused_42 : decode cX5_emitFused 42 = .ok (.iload_n 3, 1) := dk_29 (dk_at dksX5_emitFused_1 19 rfl rfl)
theorem dX5_emitFused_43 : decode cX5_emitFused 43 = .ok (.invokevirtual 53, 3) := dk_182 0 53 (dk_at dksX5_emitFused_1 20 rfl rfl)
theorem dX5_emitFused_46 : decode cX5_emitFused 46 = .ok (.getfield 66, 3) := dk_180 0 66 (dk_at dksX5_emitFused_2 0 rfl rfl)
theorem dX5_emitFused_49 : decode cX5_emitFused 49 = .ok (.invokevirtual 152, 3) := dk_182 0 152 (dk_at dksX5_emitFused_2 3 rfl rfl)
theorem dX5_emitFused_52 : decode cX5_emitFused 52 = .ok (.istore 6, 2) := dk_54 6 (dk_at dksX5_emitFused_2 6 rfl rfl)
theorem dX5_emitFused_54 : decode cX5_emitFused 54 = .ok (.aload_n 0, 1) := dk_42 (dk_at dksX5_emitFused_2 8 rfl rfl)
theorem dX5_emitFused_55 : decode cX5_emitFused 55 = .ok (.aload_n 0, 1) := dk_42 (dk_at dksX5_emitFused_2 9 rfl rfl)
theorem dX5_emitFused_56 : decode cX5_emitFused 56 = .ok (.iload_n 3, 1) := dk_29 (dk_at dksX5_emitFused_2 10 rfl rfl)
theorem dX5_emitFused_57 : decode cX5_emitFused 57 = .ok (.invokevirtual 53, 3) := dk_182 0 53 (dk_at dksX5_emitFused_2 11 rfl rfl)
theorem dX5_emitFused_60 : decode cX5_emitFused 60 = .ok (.getfield 81, 3) := dk_180 0 81 (dk_at dksX5_emitFused_2 14 rfl rfl)
theorem dX5_emitFused_63 : decode cX5_emitFused 63 = .ok (.invokevirtual 152, 3) := dk_182 0 152 (dk_at dksX5_emitFused_2 17 rfl rfl)
theorem dX5_emitFused_66 : decode cX5_emitFused 66 = .ok (.istore 7, 2) := dk_54 7 (dk_at dksX5_emitFused_2 20 rfl rfl)
theorem dX5_emitFused_68 : decode cX5_emitFused 68 = .ok (.iload 4, 2) := dk_21 4 (dk_at dksX5_emitFused_2 22 rfl rfl)
theorem dX5_emitFused_70 : decode cX5_emitFused 70 = .ok (.ifCond .eq 8, 3) := dk_153 0 8 (dk_at dksX5_emitFused_3 0 rfl rfl)
theorem dX5_emitFused_73 : decode cX5_emitFused 73 = .ok (.iload 5, 2) := dk_21 5 (dk_at dksX5_emitFused_3 3 rfl rfl)
theorem dX5_emitFused_75 : decode cX5_emitFused 75 = .ok (.goto 11, 3) := dk_167 0 11 (dk_at dksX5_emitFused_3 5 rfl rfl)
theorem dX5_emitFused_78 : decode cX5_emitFused 78 = .ok (.aload_n 0, 1) := dk_42 (dk_at dksX5_emitFused_3 8 rfl rfl)
theorem dX5_emitFused_79 : decode cX5_emitFused 79 = .ok (.aload_n 1, 1) := dk_43 (dk_at dksX5_emitFused_3 9 rfl rfl)
theorem dX5_emitFused_80 : decode cX5_emitFused 80 = .ok (.getfield 81, 3) := dk_180 0 81 (dk_at dksX5_emitFused_3 10 rfl rfl)
theorem dX5_emitFused_83 : decode cX5_emitFused 83 = .ok (.invokevirtual 152, 3) := dk_182 0 152 (dk_at dksX5_emitFused_3 13 rfl rfl)
theorem dX5_emitFused_86 : decode cX5_emitFused 86 = .ok (.istore 8, 2) := dk_54 8 (dk_at dksX5_emitFused_3 16 rfl rfl)
theorem dX5_emitFused_88 : decode cX5_emitFused 88 = .ok (.aload_n 0, 1) := dk_42 (dk_at dksX5_emitFused_3 18 rfl rfl)
theorem dX5_emitFused_89 : decode cX5_emitFused 89 = .ok (.bipush 6, 2) := dk_16 6 (dk_at dksX5_emitFused_3 19 rfl rfl)
theorem dX5_emitFused_91 : decode cX5_emitFused 91 = .ok (.iload_n 2, 1) := dk_28 (dk_at dksX5_emitFused_3 21 rfl rfl)
theorem dX5_emitFused_92 : decode cX5_emitFused 92 = .ok (.iconst 0, 1) := dk_3 (dk_at dksX5_emitFused_3 22 rfl rfl)
theorem dX5_emitFused_93 : decode cX5_emitFused 93 = .ok (.iconst 3, 1) := dk_6 (dk_at dksX5_emitFused_3 23 rfl rfl)
theorem dX5_emitFused_94 : decode cX5_emitFused 94 = .ok (.newarray .int, 2) := dk_188_10 (dk_at dksX5_emitFused_4 0 rfl rfl)
theorem dX5_emitFused_96 : decode cX5_emitFused 96 = .ok (.dup, 1) := dk_89 (dk_at dksX5_emitFused_4 2 rfl rfl)
theorem dX5_emitFused_97 : decode cX5_emitFused 97 = .ok (.iconst 0, 1) := dk_3 (dk_at dksX5_emitFused_4 3 rfl rfl)
theorem dX5_emitFused_98 : decode cX5_emitFused 98 = .ok (.iload 6, 2) := dk_21 6 (dk_at dksX5_emitFused_4 4 rfl rfl)
theorem dX5_emitFused_100 : decode cX5_emitFused 100 = .ok (.iastore, 1) := dk_79 (dk_at dksX5_emitFused_4 6 rfl rfl)
theorem dX5_emitFused_101 : decode cX5_emitFused 101 = .ok (.dup, 1) := dk_89 (dk_at dksX5_emitFused_4 7 rfl rfl)
theorem dX5_emitFused_102 : decode cX5_emitFused 102 = .ok (.iconst 1, 1) := dk_4 (dk_at dksX5_emitFused_4 8 rfl rfl)
theorem dX5_emitFused_103 : decode cX5_emitFused 103 = .ok (.iload 7, 2) := dk_21 7 (dk_at dksX5_emitFused_4 9 rfl rfl)
theorem dX5_emitFused_105 : decode cX5_emitFused 105 = .ok (.iastore, 1) := dk_79 (dk_at dksX5_emitFused_4 11 rfl rfl)
theorem dX5_emitFused_106 : decode cX5_emitFused 106 = .ok (.dup, 1) := dk_89 (dk_at dksX5_emitFused_4 12 rfl rfl)
theorem dX5_emitFused_107 : decode cX5_emitFused 107 = .ok (.iconst 2, 1) := dk_5 (dk_at dksX5_emitFused_4 13 rfl rfl)
theorem dX5_emitFused_108 : decode cX5_emitFused 108 = .ok (.iload 8, 2) := dk_21 8 (dk_at dksX5_emitFused_4 14 rfl rfl)
theorem dX5_emitFused_110 : decode cX5_emitFused 110 = .ok (.iastore, 1) := dk_79 (dk_at dksX5_emitFused_4 16 rfl rfl)
theorem dX5_emitFused_111 : decode cX5_emitFused 111 = .ok (.invokevirtual 149, 3) := dk_182 0 149 (dk_at dksX5_emitFused_4 17 rfl rfl)
theorem dX5_emitFused_114 : decode cX5_emitFused 114 = .ok (.ireturn, 1) := dk_172 (dk_at dksX5_emitFused_4 20 rfl rfl)
abbrev cX5_entry : ByteArray := prog_3_method_17_code
def yX5_entry : MethodName := ⟨RX5, "entry", "()I"⟩
def dkwX5_entry_6 : List UInt8 := [128, 172]
abbrev dktX5_entry_6 : List UInt8 := dkwX5_entry_6 ++ []
def dkwX5_entry_5 : List UInt8 := [167, 0, 4, 3, 128, 60, 132, 3, 1, 167, 255, 137, 28, 42, 180, 0, 22, 180, 0, 186, 27, 2, 130, 126]
abbrev dktX5_entry_5 : List UInt8 := dkwX5_entry_5 ++ dktX5_entry_6
def dkwX5_entry_4 : List UInt8 := [16, 8, 162, 0, 24, 4, 42, 180, 0, 12, 29, 185, 0, 161, 2, 0, 192, 0, 137, 180, 0, 183, 120]
abbrev dktX5_entry_4 : List UInt8 := dkwX5_entry_4 ++ dktX5_entry_5
def dkwX5_entry_3 : List UInt8 := [132, 4, 1, 167, 255, 205, 27, 42, 180, 0, 12, 29, 185, 0, 161, 2, 0, 192, 0, 137, 180, 0, 183]
abbrev dktX5_entry_3 : List UInt8 := dkwX5_entry_3 ++ dktX5_entry_4
def dkwX5_entry_2 : List UInt8 := [158, 0, 19, 27, 21, 4, 184, 0, 176, 154, 0, 10, 4, 21, 4, 120, 167, 0, 4, 3, 128, 61]
abbrev dktX5_entry_2 : List UInt8 := dkwX5_entry_2 ++ dktX5_entry_3
def dkwX5_entry_1 : List UInt8 := [16, 8, 162, 0, 50, 28, 42, 180, 0, 12, 29, 185, 0, 161, 2, 0, 192, 0, 137, 21, 4, 182, 0, 180]
abbrev dktX5_entry_1 : List UInt8 := dkwX5_entry_1 ++ dktX5_entry_2
def dkwX5_entry_0 : List UInt8 := [3, 60, 3, 61, 3, 62, 29, 42, 180, 0, 12, 185, 0, 35, 1, 0, 162, 0, 112, 3, 54, 4, 21, 4]
abbrev dktX5_entry_0 : List UInt8 := dkwX5_entry_0 ++ dktX5_entry_1
theorem dksX5_entry_0 : cX5_entry.data.toList.drop 0 = dktX5_entry_0 := by decide +kernel
theorem dksX5_entry_1 : cX5_entry.data.toList.drop 24 = dktX5_entry_1 := dk_seg dksX5_entry_0 24 rfl rfl
theorem dksX5_entry_2 : cX5_entry.data.toList.drop 48 = dktX5_entry_2 := dk_seg dksX5_entry_1 24 rfl rfl
theorem dksX5_entry_3 : cX5_entry.data.toList.drop 70 = dktX5_entry_3 := dk_seg dksX5_entry_2 22 rfl rfl
theorem dksX5_entry_4 : cX5_entry.data.toList.drop 93 = dktX5_entry_4 := dk_seg dksX5_entry_3 23 rfl rfl
theorem dksX5_entry_5 : cX5_entry.data.toList.drop 116 = dktX5_entry_5 := dk_seg dksX5_entry_4 23 rfl rfl
theorem dksX5_entry_6 : cX5_entry.data.toList.drop 140 = dktX5_entry_6 := dk_seg dksX5_entry_5 24 rfl rfl
theorem dX5_entry_0 : decode cX5_entry 0 = .ok (.iconst 0, 1) := dk_3 (dk_at dksX5_entry_0 0 rfl rfl)
theorem dX5_entry_1 : decode cX5_entry 1 = .ok (.istore_n 1, 1) := dk_60 (dk_at dksX5_entry_0 1 rfl rfl)
theorem dX5_entry_2 : decode cX5_entry 2 = .ok (.iconst 0, 1) := dk_3 (dk_at dksX5_entry_0 2 rfl rfl)
theorem dX5_entry_3 : decode cX5_entry 3 = .ok (.istore_n 2, 1) := dk_61 (dk_at dksX5_entry_0 3 rfl rfl)
theorem dX5_entry_4 : decode cX5_entry 4 = .ok (.iconst 0, 1) := dk_3 (dk_at dksX5_entry_0 4 rfl rfl)
theorem dX5_entry_5 : decode cX5_entry 5 = .ok (.istore_n 3, 1) := dk_62 (dk_at dksX5_entry_0 5 rfl rfl)
theorem dX5_entry_6 : decode cX5_entry 6 = .ok (.iload_n 3, 1) := dk_29 (dk_at dksX5_entry_0 6 rfl rfl)
theorem dX5_entry_7 : decode cX5_entry 7 = .ok (.aload_n 0, 1) := dk_42 (dk_at dksX5_entry_0 7 rfl rfl)
theorem dX5_entry_8 : decode cX5_entry 8 = .ok (.getfield 12, 3) := dk_180 0 12 (dk_at dksX5_entry_0 8 rfl rfl)
theorem dX5_entry_11 : decode cX5_entry 11 = .ok (.invokeinterface 35 1, 5) := by decide +kernel
theorem dX5_entry_16 : decode cX5_entry 16 = .ok (.if_icmp .ge 112, 3) := dk_162 0 112 (dk_at dksX5_entry_0 16 rfl rfl)
theorem dX5_entry_19 : decode cX5_entry 19 = .ok (.iconst 0, 1) := dk_3 (dk_at dksX5_entry_0 19 rfl rfl)
theorem dX5_entry_20 : decode cX5_entry 20 = .ok (.istore 4, 2) := dk_54 4 (dk_at dksX5_entry_0 20 rfl rfl)
theorem dX5_entry_22 : decode cX5_entry 22 = .ok (.iload 4, 2) := dk_21 4 (dk_at dksX5_entry_0 22 rfl rfl)
theorem dX5_entry_24 : decode cX5_entry 24 = .ok (.bipush 8, 2) := dk_16 8 (dk_at dksX5_entry_1 0 rfl rfl)
theorem dX5_entry_26 : decode cX5_entry 26 = .ok (.if_icmp .ge 50, 3) := dk_162 0 50 (dk_at dksX5_entry_1 2 rfl rfl)
theorem dX5_entry_29 : decode cX5_entry 29 = .ok (.iload_n 2, 1) := dk_28 (dk_at dksX5_entry_1 5 rfl rfl)
theorem dX5_entry_30 : decode cX5_entry 30 = .ok (.aload_n 0, 1) := dk_42 (dk_at dksX5_entry_1 6 rfl rfl)
theorem dX5_entry_31 : decode cX5_entry 31 = .ok (.getfield 12, 3) := dk_180 0 12 (dk_at dksX5_entry_1 7 rfl rfl)
theorem dX5_entry_34 : decode cX5_entry 34 = .ok (.iload_n 3, 1) := dk_29 (dk_at dksX5_entry_1 10 rfl rfl)
theorem dX5_entry_35 : decode cX5_entry 35 = .ok (.invokeinterface 161 2, 5) := by decide +kernel
theorem dX5_entry_40 : decode cX5_entry 40 = .ok (.checkcast 137, 3) := dk_192 0 137 (dk_at dksX5_entry_1 16 rfl rfl)
theorem dX5_entry_43 : decode cX5_entry 43 = .ok (.iload 4, 2) := dk_21 4 (dk_at dksX5_entry_1 19 rfl rfl)
theorem dX5_entry_45 : decode cX5_entry 45 = .ok (.invokevirtual 180, 3) := dk_182 0 180 (dk_at dksX5_entry_1 21 rfl rfl)
theorem dX5_entry_48 : decode cX5_entry 48 = .ok (.ifCond .le 19, 3) := dk_158 0 19 (dk_at dksX5_entry_2 0 rfl rfl)
theorem dX5_entry_51 : decode cX5_entry 51 = .ok (.iload_n 1, 1) := dk_27 (dk_at dksX5_entry_2 3 rfl rfl)
theorem dX5_entry_52 : decode cX5_entry 52 = .ok (.iload 4, 2) := dk_21 4 (dk_at dksX5_entry_2 4 rfl rfl)
theorem dX5_entry_54 : decode cX5_entry 54 = .ok (.invokestatic 176, 3) := dk_184 0 176 (dk_at dksX5_entry_2 6 rfl rfl)
theorem dX5_entry_57 : decode cX5_entry 57 = .ok (.ifCond .ne 10, 3) := dk_154 0 10 (dk_at dksX5_entry_2 9 rfl rfl)
theorem dX5_entry_60 : decode cX5_entry 60 = .ok (.iconst 1, 1) := dk_4 (dk_at dksX5_entry_2 12 rfl rfl)
theorem dX5_entry_61 : decode cX5_entry 61 = .ok (.iload 4, 2) := dk_21 4 (dk_at dksX5_entry_2 13 rfl rfl)
theorem dX5_entry_63 : decode cX5_entry 63 = .ok (.ishl, 1) := dk_120 (dk_at dksX5_entry_2 15 rfl rfl)
theorem dX5_entry_64 : decode cX5_entry 64 = .ok (.goto 4, 3) := dk_167 0 4 (dk_at dksX5_entry_2 16 rfl rfl)
theorem dX5_entry_67 : decode cX5_entry 67 = .ok (.iconst 0, 1) := dk_3 (dk_at dksX5_entry_2 19 rfl rfl)
theorem dX5_entry_68 : decode cX5_entry 68 = .ok (.ior, 1) := dk_128 (dk_at dksX5_entry_2 20 rfl rfl)
theorem dX5_entry_69 : decode cX5_entry 69 = .ok (.istore_n 2, 1) := dk_61 (dk_at dksX5_entry_2 21 rfl rfl)
theorem dX5_entry_70 : decode cX5_entry 70 = .ok (.iinc 4 1, 3) := dk_132 4 1 (dk_at dksX5_entry_3 0 rfl rfl)
theorem dX5_entry_73 : decode cX5_entry 73 = .ok (.goto (-51), 3) := dk_167 255 205 (dk_at dksX5_entry_3 3 rfl rfl)
theorem dX5_entry_76 : decode cX5_entry 76 = .ok (.iload_n 1, 1) := dk_27 (dk_at dksX5_entry_3 6 rfl rfl)
theorem dX5_entry_77 : decode cX5_entry 77 = .ok (.aload_n 0, 1) := dk_42 (dk_at dksX5_entry_3 7 rfl rfl)
theorem dX5_entry_78 : decode cX5_entry 78 = .ok (.getfield 12, 3) := dk_180 0 12 (dk_at dksX5_entry_3 8 rfl rfl)
theorem dX5_entry_81 : decode cX5_entry 81 = .ok (.iload_n 3, 1) := dk_29 (dk_at dksX5_entry_3 11 rfl rfl)
theorem dX5_entry_82 : decode cX5_entry 82 = .ok (.invokeinterface 161 2, 5) := by decide +kernel
theorem dX5_entry_87 : decode cX5_entry 87 = .ok (.checkcast 137, 3) := dk_192 0 137 (dk_at dksX5_entry_3 17 rfl rfl)
theorem dX5_entry_90 : decode cX5_entry 90 = .ok (.getfield 183, 3) := dk_180 0 183 (dk_at dksX5_entry_3 20 rfl rfl)
theorem dX5_entry_93 : decode cX5_entry 93 = .ok (.bipush 8, 2) := dk_16 8 (dk_at dksX5_entry_4 0 rfl rfl)
theorem dX5_entry_95 : decode cX5_entry 95 = .ok (.if_icmp .ge 24, 3) := dk_162 0 24 (dk_at dksX5_entry_4 2 rfl rfl)
theorem dX5_entry_98 : decode cX5_entry 98 = .ok (.iconst 1, 1) := dk_4 (dk_at dksX5_entry_4 5 rfl rfl)
theorem dX5_entry_99 : decode cX5_entry 99 = .ok (.aload_n 0, 1) := dk_42 (dk_at dksX5_entry_4 6 rfl rfl)
theorem dX5_entry_100 : decode cX5_entry 100 = .ok (.getfield 12, 3) := dk_180 0 12 (dk_at dksX5_entry_4 7 rfl rfl)
theorem dX5_entry_103 : decode cX5_entry 103 = .ok (.iload_n 3, 1) := dk_29 (dk_at dksX5_entry_4 10 rfl rfl)
theorem dX5_entry_104 : decode cX5_entry 104 = .ok (.invokeinterface 161 2, 5) := by decide +kernel
theorem dX5_entry_109 : decode cX5_entry 109 = .ok (.checkcast 137, 3) := dk_192 0 137 (dk_at dksX5_entry_4 16 rfl rfl)
theorem dX5_entry_112 : decode cX5_entry 112 = .ok (.getfield 183, 3) := dk_180 0 183 (dk_at dksX5_entry_4 19 rfl rfl)
theorem dX5_entry_115 : decode cX5_entry 115 = .ok (.ishl, 1) := dk_120 (dk_at dksX5_entry_4 22 rfl rfl)
theorem dX5_entry_116 : decode cX5_entry 116 = .ok (.goto 4, 3) := dk_167 0 4 (dk_at dksX5_entry_5 0 rfl rfl)
theorem dX5_entry_119 : decode cX5_entry 119 = .ok (.iconst 0, 1) := dk_3 (dk_at dksX5_entry_5 3 rfl rfl)
theorem dX5_entry_120 : decode cX5_entry 120 = .ok (.ior, 1) := dk_128 (dk_at dksX5_entry_5 4 rfl rfl)
theorem dX5_entry_121 : decode cX5_entry 121 = .ok (.istore_n 1, 1) := dk_60 (dk_at dksX5_entry_5 5 rfl rfl)
theorem dX5_entry_122 : decode cX5_entry 122 = .ok (.iinc 3 1, 3) := dk_132 3 1 (dk_at dksX5_entry_5 6 rfl rfl)
theorem dX5_entry_125 : decode cX5_entry 125 = .ok (.goto (-119), 3) := dk_167 255 137 (dk_at dksX5_entry_5 9 rfl rfl)
theorem dX5_entry_128 : decode cX5_entry 128 = .ok (.iload_n 2, 1) := dk_28 (dk_at dksX5_entry_5 12 rfl rfl)
theorem dX5_entry_129 : decode cX5_entry 129 = .ok (.aload_n 0, 1) := dk_42 (dk_at dksX5_entry_5 13 rfl rfl)
theorem dX5_entry_130 : decode cX5_entry 130 = .ok (.getfield 22, 3) := dk_180 0 22 (dk_at dksX5_entry_5 14 rfl rfl)
theorem dX5_entry_133 : decode cX5_entry 133 = .ok (.getfield 186, 3) := dk_180 0 186 (dk_at dksX5_entry_5 17 rfl rfl)
theorem dX5_entry_136 : decode cX5_entry 136 = .ok (.iload_n 1, 1) := dk_27 (dk_at dksX5_entry_5 20 rfl rfl)
theorem dX5_entry_137 : decode cX5_entry 137 = .ok (.iconst (-1), 1) := dk_2 (dk_at dksX5_entry_5 21 rfl rfl)
theorem dX5_entry_138 : decode cX5_entry 138 = .ok (.ixor, 1) := dk_130 (dk_at dksX5_entry_5 22 rfl rfl)
theorem dX5_entry_139 : decode cX5_entry 139 = .ok (.iand, 1) := dk_126 (dk_at dksX5_entry_5 23 rfl rfl)
theorem dX5_entry_140 : decode cX5_entry 140 = .ok (.ior, 1) := dk_128 (dk_at dksX5_entry_6 0 rfl rfl)
theorem dX5_entry_141 : decode cX5_entry 141 = .ok (.ireturn, 1) := dk_172 (dk_at dksX5_entry_6 1 rfl rfl)
theorem q131 : (Jvm.Cond.initialized "SpillslotWorks$Chooser") ∈ lw_all := lw_g (lw_at lw_m1 12 rfl) rfl
theorem q254 : (Jvm.Cond.selects "SpillslotWorks$Chooser" ({ cls := "java/lang/Object", name := "getClass", desc := "()Ljava/lang/Class;" } : Jvm.MethodName) ({ cls := "java/lang/Object", name := "getClass", desc := "()Ljava/lang/Class;" } : Jvm.MethodName)) ∈ lw_all := lw_g (lw_at lw_m1 135 rfl) rfl
theorem q302 : (Jvm.Cond.fieldLinkNest "SpillslotWorks$Chooser" (30 : Nat) "SpillslotWorks$Program" "nodes" "Ljava/util/List;" "SpillslotWorks") ∈ lw_tbl := lw_at lw_m1 183 rfl
theorem q305 : (Jvm.Cond.fieldLinkNest "SpillslotWorks$Chooser" (158 : Nat) "SpillslotWorks$Program" "blocks" "Ljava/util/List;" "SpillslotWorks") ∈ lw_tbl := lw_at lw_m1 186 rfl
theorem q313 : (Jvm.Cond.fieldLinkNest "SpillslotWorks$Chooser" (186 : Nat) "SpillslotWorks$Program" "out" "I" "SpillslotWorks") ∈ lw_tbl := lw_at lw_m1 194 rfl
theorem q341 : (Jvm.Cond.fieldLinkNest "SpillslotWorks$Chooser" (85 : Nat) "SpillslotWorks$Machine" "isFused" "Z" "SpillslotWorks") ∈ lw_tbl := lw_at lw_m1 222 rfl
theorem q368 : (Jvm.Cond.instantiable "SpillslotWorks$Chooser" (6 : Nat)) ∈ lw_all := lw_g (lw_at lw_m2 9 rfl) rfl
theorem q370 : (Jvm.Cond.instanceMethod ({ cls := "SpillslotWorks$Chooser", name := "<init>", desc := "(LSpillslotWorks$Program;LSpillslotWorks$Machine;)V" } : Jvm.MethodName)) ∈ lw_all := lw_g (lw_at lw_m2 11 rfl) rfl
theorem q371 : (Jvm.Cond.code ({ cls := "SpillslotWorks$Chooser", name := "<init>", desc := "(LSpillslotWorks$Program;LSpillslotWorks$Machine;)V" } : Jvm.MethodName) prog_3_method_1_code (4 : Nat) (Option.none : Option Jvm.ClassFile.FieldType)) ∈ lw_all := lw_g (lw_at lw_m2 12 rfl) rfl
theorem q372 : (Jvm.Cond.methodLink "SpillslotWorks$Chooser" (3 : Nat) ({ cls := "java/lang/Object", name := "<init>", desc := "()V" } : Jvm.MethodName)) ∈ lw_all := lw_g (lw_at lw_m2 13 rfl) rfl
theorem q373 : (Jvm.Cond.classLink "SpillslotWorks$Chooser" (9 : Nat) "java/util/ArrayList") ∈ lw_all := lw_g (lw_at lw_m2 14 rfl) rfl
theorem q374 : (Jvm.Cond.methodLink "SpillslotWorks$Chooser" (11 : Nat) ({ cls := "java/util/ArrayList", name := "<init>", desc := "()V" } : Jvm.MethodName)) ∈ lw_all := lw_g (lw_at lw_m2 15 rfl) rfl
theorem q375 : (Jvm.Cond.interfaceEntry "SpillslotWorks$Chooser" (35 : Nat)) ∈ lw_tbl := lw_at lw_m2 16 rfl
theorem q376 : (Jvm.Cond.methodLink "SpillslotWorks$Chooser" (35 : Nat) ({ cls := "java/util/List", name := "size", desc := "()I" } : Jvm.MethodName)) ∈ lw_all := lw_g (lw_at lw_m2 17 rfl) rfl
theorem q384 : (Jvm.Cond.methodLink "SpillslotWorks$Chooser" (45 : Nat) ({ cls := "SpillslotWorks$Chooser", name := "costOf", desc := "(I)I" } : Jvm.MethodName)) ∈ lw_all := lw_g (lw_at lw_m2 25 rfl) rfl
theorem q385 : (Jvm.Cond.privateMethod ({ cls := "SpillslotWorks$Chooser", name := "costOf", desc := "(I)I" } : Jvm.MethodName)) ∈ lw_tbl := lw_at lw_m2 26 rfl
theorem q386 : (Jvm.Cond.instanceMethod ({ cls := "SpillslotWorks$Chooser", name := "costOf", desc := "(I)I" } : Jvm.MethodName)) ∈ lw_all := lw_g (lw_at lw_m2 27 rfl) rfl
theorem q387 : (Jvm.Cond.code ({ cls := "SpillslotWorks$Chooser", name := "costOf", desc := "(I)I" } : Jvm.MethodName) prog_3_method_11_code (3 : Nat) (Option.some Jvm.ClassFile.FieldType.int)) ∈ lw_all := lw_g (lw_at lw_m2 28 rfl) rfl
theorem q388 : (Jvm.Cond.methodLink "SpillslotWorks$Chooser" (53 : Nat) ({ cls := "SpillslotWorks$Chooser", name := "at", desc := "(I)LSpillslotWorks$Node;" } : Jvm.MethodName)) ∈ lw_all := lw_g (lw_at lw_m2 29 rfl) rfl
theorem q389 : (Jvm.Cond.privateMethod ({ cls := "SpillslotWorks$Chooser", name := "at", desc := "(I)LSpillslotWorks$Node;" } : Jvm.MethodName)) ∈ lw_tbl := lw_at lw_m2 30 rfl
theorem q390 : (Jvm.Cond.instanceMethod ({ cls := "SpillslotWorks$Chooser", name := "at", desc := "(I)LSpillslotWorks$Node;" } : Jvm.MethodName)) ∈ lw_all := lw_g (lw_at lw_m2 31 rfl) rfl
theorem q391 : (Jvm.Cond.code ({ cls := "SpillslotWorks$Chooser", name := "at", desc := "(I)LSpillslotWorks$Node;" } : Jvm.MethodName) prog_3_method_2_code (2 : Nat) (Option.some (Jvm.ClassFile.FieldType.object "SpillslotWorks$Node"))) ∈ lw_all := lw_g (lw_at lw_m2 32 rfl) rfl
theorem q392 : (Jvm.Cond.methodLink "SpillslotWorks$Chooser" (49 : Nat) ({ cls := "SpillslotWorks$Program", name := "at", desc := "(I)LSpillslotWorks$Node;" } : Jvm.MethodName)) ∈ lw_all := lw_g (lw_at lw_m2 33 rfl) rfl
theorem q416 : (Jvm.Cond.methodLink "SpillslotWorks$Chooser" (112 : Nat) ({ cls := "SpillslotWorks$Node", name := "isOfTwo", desc := "()Z" } : Jvm.MethodName)) ∈ lw_all := lw_g (lw_at lw_m2 57 rfl) rfl
theorem q428 : (Jvm.Cond.fieldLink "SpillslotWorks$Chooser" (54 : Nat) "SpillslotWorks$Kind" "NUMBER" "LSpillslotWorks$Kind;") ∈ lw_all := lw_g (lw_at lw_m2 69 rfl) rfl
theorem q430 : (Jvm.Cond.methodLink "SpillslotWorks$Chooser" (60 : Nat) ({ cls := "SpillslotWorks$Node", name := "is", desc := "(LSpillslotWorks$Kind;)Z" } : Jvm.MethodName)) ∈ lw_all := lw_g (lw_at lw_m2 71 rfl) rfl
theorem q434 : (Jvm.Cond.methodLink "SpillslotWorks$Chooser" (96 : Nat) ({ cls := "SpillslotWorks$Machine", name := "latency", desc := "(I)I" } : Jvm.MethodName)) ∈ lw_all := lw_g (lw_at lw_m2 75 rfl) rfl
theorem q438 : (Jvm.Cond.methodLink "SpillslotWorks$Chooser" (116 : Nat) ({ cls := "SpillslotWorks$Chooser", name := "plainCost", desc := "(LSpillslotWorks$Node;)I" } : Jvm.MethodName)) ∈ lw_all := lw_g (lw_at lw_m2 79 rfl) rfl
theorem q439 : (Jvm.Cond.privateMethod ({ cls := "SpillslotWorks$Chooser", name := "plainCost", desc := "(LSpillslotWorks$Node;)I" } : Jvm.MethodName)) ∈ lw_tbl := lw_at lw_m2 80 rfl
theorem q440 : (Jvm.Cond.instanceMethod ({ cls := "SpillslotWorks$Chooser", name := "plainCost", desc := "(LSpillslotWorks$Node;)I" } : Jvm.MethodName)) ∈ lw_all := lw_g (lw_at lw_m2 81 rfl) rfl
theorem q441 : (Jvm.Cond.code ({ cls := "SpillslotWorks$Chooser", name := "plainCost", desc := "(LSpillslotWorks$Node;)I" } : Jvm.MethodName) prog_3_method_8_code (2 : Nat) (Option.some Jvm.ClassFile.FieldType.int)) ∈ lw_all := lw_g (lw_at lw_m2 82 rfl) rfl
theorem q442 : (Jvm.Cond.methodLink "SpillslotWorks$Chooser" (92 : Nat) ({ cls := "SpillslotWorks$Chooser", name := "opOf", desc := "(LSpillslotWorks$Node;)I" } : Jvm.MethodName)) ∈ lw_all := lw_g (lw_at lw_m2 83 rfl) rfl
theorem q443 : (Jvm.Cond.static ({ cls := "SpillslotWorks$Chooser", name := "opOf", desc := "(LSpillslotWorks$Node;)I" } : Jvm.MethodName)) ∈ lw_all := lw_g (lw_at lw_m2 84 rfl) rfl
theorem q444 : (Jvm.Cond.code ({ cls := "SpillslotWorks$Chooser", name := "opOf", desc := "(LSpillslotWorks$Node;)I" } : Jvm.MethodName) prog_3_method_7_code (1 : Nat) (Option.some Jvm.ClassFile.FieldType.int)) ∈ lw_all := lw_g (lw_at lw_m2 85 rfl) rfl
theorem q445 : (Jvm.Cond.fieldLink "SpillslotWorks$Chooser" (75 : Nat) "SpillslotWorks$Kind" "ADD" "LSpillslotWorks$Kind;") ∈ lw_all := lw_g (lw_at lw_m2 86 rfl) rfl
theorem q446 : (Jvm.Cond.fieldLink "SpillslotWorks$Chooser" (78 : Nat) "SpillslotWorks$Kind" "SUB" "LSpillslotWorks$Kind;") ∈ lw_all := lw_g (lw_at lw_m2 87 rfl) rfl
theorem q448 : (Jvm.Cond.fieldLink "SpillslotWorks$Chooser" (89 : Nat) "SpillslotWorks$Kind" "MUL" "LSpillslotWorks$Kind;") ∈ lw_all := lw_g (lw_at lw_m2 89 rfl) rfl
theorem q450 : (Jvm.Cond.methodLink "SpillslotWorks$Chooser" (119 : Nat) ({ cls := "SpillslotWorks$Chooser", name := "smallCost", desc := "(LSpillslotWorks$Node;)I" } : Jvm.MethodName)) ∈ lw_all := lw_g (lw_at lw_m2 91 rfl) rfl
theorem q451 : (Jvm.Cond.privateMethod ({ cls := "SpillslotWorks$Chooser", name := "smallCost", desc := "(LSpillslotWorks$Node;)I" } : Jvm.MethodName)) ∈ lw_tbl := lw_at lw_m2 92 rfl
theorem q452 : (Jvm.Cond.instanceMethod ({ cls := "SpillslotWorks$Chooser", name := "smallCost", desc := "(LSpillslotWorks$Node;)I" } : Jvm.MethodName)) ∈ lw_all := lw_g (lw_at lw_m2 93 rfl) rfl
theorem q453 : (Jvm.Cond.code ({ cls := "SpillslotWorks$Chooser", name := "smallCost", desc := "(LSpillslotWorks$Node;)I" } : Jvm.MethodName) prog_3_method_9_code (2 : Nat) (Option.some Jvm.ClassFile.FieldType.int)) ∈ lw_all := lw_g (lw_at lw_m2 94 rfl) rfl
theorem q454 : (Jvm.Cond.methodLink "SpillslotWorks$Chooser" (99 : Nat) ({ cls := "SpillslotWorks$Chooser", name := "small", desc := "(LSpillslotWorks$Node;)I" } : Jvm.MethodName)) ∈ lw_all := lw_g (lw_at lw_m2 95 rfl) rfl
theorem q455 : (Jvm.Cond.privateMethod ({ cls := "SpillslotWorks$Chooser", name := "small", desc := "(LSpillslotWorks$Node;)I" } : Jvm.MethodName)) ∈ lw_tbl := lw_at lw_m2 96 rfl
theorem q456 : (Jvm.Cond.instanceMethod ({ cls := "SpillslotWorks$Chooser", name := "small", desc := "(LSpillslotWorks$Node;)I" } : Jvm.MethodName)) ∈ lw_all := lw_g (lw_at lw_m2 97 rfl) rfl
theorem q457 : (Jvm.Cond.code ({ cls := "SpillslotWorks$Chooser", name := "small", desc := "(LSpillslotWorks$Node;)I" } : Jvm.MethodName) prog_3_method_4_code (2 : Nat) (Option.some Jvm.ClassFile.FieldType.int)) ∈ lw_all := lw_g (lw_at lw_m2 98 rfl) rfl
theorem q458 : (Jvm.Cond.methodLink "SpillslotWorks$Chooser" (84 : Nat) ({ cls := "SpillslotWorks$Chooser", name := "isSmall", desc := "(I)Z" } : Jvm.MethodName)) ∈ lw_all := lw_g (lw_at lw_m2 99 rfl) rfl
theorem q459 : (Jvm.Cond.privateMethod ({ cls := "SpillslotWorks$Chooser", name := "isSmall", desc := "(I)Z" } : Jvm.MethodName)) ∈ lw_tbl := lw_at lw_m2 100 rfl
theorem q460 : (Jvm.Cond.instanceMethod ({ cls := "SpillslotWorks$Chooser", name := "isSmall", desc := "(I)Z" } : Jvm.MethodName)) ∈ lw_all := lw_g (lw_at lw_m2 101 rfl) rfl
theorem q461 : (Jvm.Cond.code ({ cls := "SpillslotWorks$Chooser", name := "isSmall", desc := "(I)Z" } : Jvm.MethodName) prog_3_method_3_code (2 : Nat) (Option.some Jvm.ClassFile.FieldType.boolean)) ∈ lw_all := lw_g (lw_at lw_m2 102 rfl) rfl
theorem q462 : (Jvm.Cond.methodLink "SpillslotWorks$Chooser" (69 : Nat) ({ cls := "SpillslotWorks$Machine", name := "isSmall", desc := "(I)Z" } : Jvm.MethodName)) ∈ lw_all := lw_g (lw_at lw_m2 103 rfl) rfl
theorem q466 : (Jvm.Cond.constant "SpillslotWorks$Chooser" (104 : Nat) (2147483647 : Int32)) ∈ lw_all := lw_g (lw_at lw_m2 107 rfl) rfl
theorem q467 : (Jvm.Cond.methodLink "SpillslotWorks$Chooser" (105 : Nat) ({ cls := "SpillslotWorks$Chooser", name := "other", desc := "(LSpillslotWorks$Node;I)I" } : Jvm.MethodName)) ∈ lw_all := lw_g (lw_at lw_m2 108 rfl) rfl
theorem q468 : (Jvm.Cond.static ({ cls := "SpillslotWorks$Chooser", name := "other", desc := "(LSpillslotWorks$Node;I)I" } : Jvm.MethodName)) ∈ lw_all := lw_g (lw_at lw_m2 109 rfl) rfl
theorem q469 : (Jvm.Cond.code ({ cls := "SpillslotWorks$Chooser", name := "other", desc := "(LSpillslotWorks$Node;I)I" } : Jvm.MethodName) prog_3_method_6_code (2 : Nat) (Option.some Jvm.ClassFile.FieldType.int)) ∈ lw_all := lw_g (lw_at lw_m2 110 rfl) rfl
theorem q470 : (Jvm.Cond.methodLink "SpillslotWorks$Chooser" (122 : Nat) ({ cls := "SpillslotWorks$Chooser", name := "fusedCost", desc := "(LSpillslotWorks$Node;)I" } : Jvm.MethodName)) ∈ lw_all := lw_g (lw_at lw_m2 111 rfl) rfl
theorem q471 : (Jvm.Cond.privateMethod ({ cls := "SpillslotWorks$Chooser", name := "fusedCost", desc := "(LSpillslotWorks$Node;)I" } : Jvm.MethodName)) ∈ lw_tbl := lw_at lw_m2 112 rfl
theorem q472 : (Jvm.Cond.instanceMethod ({ cls := "SpillslotWorks$Chooser", name := "fusedCost", desc := "(LSpillslotWorks$Node;)I" } : Jvm.MethodName)) ∈ lw_all := lw_g (lw_at lw_m2 113 rfl) rfl
theorem q473 : (Jvm.Cond.code ({ cls := "SpillslotWorks$Chooser", name := "fusedCost", desc := "(LSpillslotWorks$Node;)I" } : Jvm.MethodName) prog_3_method_10_code (3 : Nat) (Option.some Jvm.ClassFile.FieldType.int)) ∈ lw_all := lw_g (lw_at lw_m2 114 rfl) rfl
theorem q474 : (Jvm.Cond.methodLink "SpillslotWorks$Chooser" (109 : Nat) ({ cls := "SpillslotWorks$Chooser", name := "fused", desc := "(LSpillslotWorks$Node;)I" } : Jvm.MethodName)) ∈ lw_all := lw_g (lw_at lw_m2 115 rfl) rfl
theorem q475 : (Jvm.Cond.privateMethod ({ cls := "SpillslotWorks$Chooser", name := "fused", desc := "(LSpillslotWorks$Node;)I" } : Jvm.MethodName)) ∈ lw_tbl := lw_at lw_m2 116 rfl
theorem q476 : (Jvm.Cond.instanceMethod ({ cls := "SpillslotWorks$Chooser", name := "fused", desc := "(LSpillslotWorks$Node;)I" } : Jvm.MethodName)) ∈ lw_all := lw_g (lw_at lw_m2 117 rfl) rfl
theorem q477 : (Jvm.Cond.code ({ cls := "SpillslotWorks$Chooser", name := "fused", desc := "(LSpillslotWorks$Node;)I" } : Jvm.MethodName) prog_3_method_5_code (2 : Nat) (Option.some Jvm.ClassFile.FieldType.int)) ∈ lw_all := lw_g (lw_at lw_m2 118 rfl) rfl
theorem q478 : (Jvm.Cond.methodLink "SpillslotWorks$Chooser" (125 : Nat) ({ cls := "java/lang/Math", name := "min", desc := "(II)I" } : Jvm.MethodName)) ∈ lw_all := lw_g (lw_at lw_m2 119 rfl) rfl
theorem q479 : (Jvm.Cond.fieldLink "SpillslotWorks$Chooser" (22 : Nat) "SpillslotWorks$Chooser" "program" "LSpillslotWorks$Program;") ∈ lw_all := lw_g (lw_at lw_m2 120 rfl) rfl
theorem q480 : (Jvm.Cond.fieldLink "SpillslotWorks$Chooser" (26 : Nat) "SpillslotWorks$Chooser" "machine" "LSpillslotWorks$Machine;") ∈ lw_all := lw_g (lw_at lw_m2 121 rfl) rfl
theorem q482 : (Jvm.Cond.fieldLink "SpillslotWorks$Chooser" (41 : Nat) "SpillslotWorks$Chooser" "costs" "[I") ∈ lw_all := lw_g (lw_at lw_m2 123 rfl) rfl
theorem q483 : (Jvm.Cond.fieldLink "SpillslotWorks$Chooser" (12 : Nat) "SpillslotWorks$Chooser" "ops" "Ljava/util/List;") ∈ lw_all := lw_g (lw_at lw_m2 124 rfl) rfl
theorem q484 : (Jvm.Cond.fieldLink "SpillslotWorks$Chooser" (18 : Nat) "SpillslotWorks$Chooser" "values" "I") ∈ lw_all := lw_g (lw_at lw_m2 125 rfl) rfl
theorem q486 : (Jvm.Cond.fieldLink "SpillslotWorks$Chooser" (139 : Nat) "SpillslotWorks$Chooser" "block" "I") ∈ lw_all := lw_g (lw_at lw_m2 127 rfl) rfl
theorem q487 : (Jvm.Cond.laysFinal "SpillslotWorks$Chooser" "SpillslotWorks$Chooser" "program" "LSpillslotWorks$Program;") ∈ lw_all := lw_g (lw_at lw_m2 128 rfl) rfl
theorem q488 : (Jvm.Cond.soleField "SpillslotWorks$Chooser" "program") ∈ lw_all := lw_g (lw_at lw_m2 129 rfl) rfl
theorem q489 : (Jvm.Cond.laysFinal "SpillslotWorks$Chooser" "SpillslotWorks$Chooser" "machine" "LSpillslotWorks$Machine;") ∈ lw_all := lw_g (lw_at lw_m2 130 rfl) rfl
theorem q490 : (Jvm.Cond.soleField "SpillslotWorks$Chooser" "machine") ∈ lw_all := lw_g (lw_at lw_m2 131 rfl) rfl
theorem q491 : (Jvm.Cond.laysFinal "SpillslotWorks$Chooser" "SpillslotWorks$Chooser" "costs" "[I") ∈ lw_all := lw_g (lw_at lw_m2 132 rfl) rfl
theorem q492 : (Jvm.Cond.soleField "SpillslotWorks$Chooser" "costs") ∈ lw_all := lw_g (lw_at lw_m2 133 rfl) rfl
theorem q493 : (Jvm.Cond.laysFinal "SpillslotWorks$Chooser" "SpillslotWorks$Chooser" "ops" "Ljava/util/List;") ∈ lw_all := lw_g (lw_at lw_m2 134 rfl) rfl
theorem q494 : (Jvm.Cond.soleField "SpillslotWorks$Chooser" "ops") ∈ lw_all := lw_g (lw_at lw_m2 135 rfl) rfl
theorem q495 : (Jvm.Cond.lays "SpillslotWorks$Chooser" "SpillslotWorks$Chooser" "values" "I") ∈ lw_all := lw_g (lw_at lw_m2 136 rfl) rfl
theorem q496 : (Jvm.Cond.soleField "SpillslotWorks$Chooser" "values") ∈ lw_all := lw_g (lw_at lw_m2 137 rfl) rfl
theorem q497 : (Jvm.Cond.lays "SpillslotWorks$Chooser" "SpillslotWorks$Chooser" "block" "I") ∈ lw_all := lw_g (lw_at lw_m2 138 rfl) rfl
theorem q498 : (Jvm.Cond.soleField "SpillslotWorks$Chooser" "block") ∈ lw_all := lw_g (lw_at lw_m2 139 rfl) rfl
theorem q499 : (Jvm.Cond.superclass "SpillslotWorks$Chooser" "java/lang/Object") ∈ lw_all := lw_g (lw_at lw_m2 140 rfl) rfl
theorem q503 : (Jvm.Cond.instanceMethod ({ cls := "SpillslotWorks$Chooser", name := "all", desc := "()Ljava/util/List;" } : Jvm.MethodName)) ∈ lw_all := lw_g (lw_at lw_m2 144 rfl) rfl
theorem q504 : (Jvm.Cond.selects "SpillslotWorks$Chooser" ({ cls := "SpillslotWorks$Chooser", name := "all", desc := "()Ljava/util/List;" } : Jvm.MethodName) ({ cls := "SpillslotWorks$Chooser", name := "all", desc := "()Ljava/util/List;" } : Jvm.MethodName)) ∈ lw_all := lw_g (lw_at lw_m2 145 rfl) rfl
theorem q505 : (Jvm.Cond.code ({ cls := "SpillslotWorks$Chooser", name := "all", desc := "()Ljava/util/List;" } : Jvm.MethodName) prog_3_method_16_code (4 : Nat) (Option.some (Jvm.ClassFile.FieldType.object "java/util/List"))) ∈ lw_all := lw_g (lw_at lw_m2 146 rfl) rfl
theorem q506 : (Jvm.Cond.interfaceEntry "SpillslotWorks$Chooser" (161 : Nat)) ∈ lw_tbl := lw_at lw_m2 147 rfl
theorem q507 : (Jvm.Cond.methodLink "SpillslotWorks$Chooser" (161 : Nat) ({ cls := "java/util/List", name := "get", desc := "(I)Ljava/lang/Object;" } : Jvm.MethodName)) ∈ lw_all := lw_g (lw_at lw_m2 148 rfl) rfl
theorem q508 : (Jvm.Cond.classLink "SpillslotWorks$Chooser" (36 : Nat) "java/util/List") ∈ lw_all := lw_g (lw_at lw_m2 149 rfl) rfl
theorem q509 : (Jvm.Cond.classLink "SpillslotWorks$Chooser" (165 : Nat) "SpillslotWorks$Statement") ∈ lw_all := lw_g (lw_at lw_m2 150 rfl) rfl
theorem q510 : (Jvm.Cond.methodLink "SpillslotWorks$Chooser" (134 : Nat) ({ cls := "SpillslotWorks$Chooser", name := "emit", desc := "(II)I" } : Jvm.MethodName)) ∈ lw_all := lw_g (lw_at lw_m2 151 rfl) rfl
theorem q511 : (Jvm.Cond.privateMethod ({ cls := "SpillslotWorks$Chooser", name := "emit", desc := "(II)I" } : Jvm.MethodName)) ∈ lw_tbl := lw_at lw_m2 152 rfl
theorem q512 : (Jvm.Cond.instanceMethod ({ cls := "SpillslotWorks$Chooser", name := "emit", desc := "(II)I" } : Jvm.MethodName)) ∈ lw_all := lw_g (lw_at lw_m2 153 rfl) rfl
theorem q513 : (Jvm.Cond.code ({ cls := "SpillslotWorks$Chooser", name := "emit", desc := "(II)I" } : Jvm.MethodName) prog_3_method_14_code (6 : Nat) (Option.some Jvm.ClassFile.FieldType.int)) ∈ lw_all := lw_g (lw_at lw_m2 154 rfl) rfl
theorem q514 : (Jvm.Cond.fieldLink "SpillslotWorks$Chooser" (131 : Nat) "SpillslotWorks$Kind" "USE" "LSpillslotWorks$Kind;") ∈ lw_all := lw_g (lw_at lw_m2 155 rfl) rfl
theorem q516 : (Jvm.Cond.methodLink "SpillslotWorks$Chooser" (149 : Nat) ({ cls := "SpillslotWorks$Chooser", name := "emit", desc := "(III[I)I" } : Jvm.MethodName)) ∈ lw_all := lw_g (lw_at lw_m2 157 rfl) rfl
theorem q517 : (Jvm.Cond.privateMethod ({ cls := "SpillslotWorks$Chooser", name := "emit", desc := "(III[I)I" } : Jvm.MethodName)) ∈ lw_tbl := lw_at lw_m2 158 rfl
theorem q518 : (Jvm.Cond.instanceMethod ({ cls := "SpillslotWorks$Chooser", name := "emit", desc := "(III[I)I" } : Jvm.MethodName)) ∈ lw_all := lw_g (lw_at lw_m2 159 rfl) rfl
theorem q519 : (Jvm.Cond.code ({ cls := "SpillslotWorks$Chooser", name := "emit", desc := "(III[I)I" } : Jvm.MethodName) prog_3_method_13_code (6 : Nat) (Option.some Jvm.ClassFile.FieldType.int)) ∈ lw_all := lw_g (lw_at lw_m2 160 rfl) rfl
theorem q520 : (Jvm.Cond.classLink "SpillslotWorks$Chooser" (137 : Nat) "SpillslotWorks$Op") ∈ lw_all := lw_g (lw_at lw_m2 161 rfl) rfl
theorem q522 : (Jvm.Cond.methodLink "SpillslotWorks$Chooser" (142 : Nat) ({ cls := "SpillslotWorks$Op", name := "<init>", desc := "(IIII[I)V" } : Jvm.MethodName)) ∈ lw_all := lw_g (lw_at lw_m2 163 rfl) rfl
theorem q534 : (Jvm.Cond.fieldLinkNest "SpillslotWorks$Chooser" (183 : Nat) "SpillslotWorks$Op" "write" "I" "SpillslotWorks") ∈ lw_tbl := lw_at lw_m2 175 rfl
theorem q564 : (Jvm.Cond.interfaceEntry "SpillslotWorks$Chooser" (145 : Nat)) ∈ lw_tbl := lw_at lw_m2 205 rfl
theorem q565 : (Jvm.Cond.methodLink "SpillslotWorks$Chooser" (145 : Nat) ({ cls := "java/util/List", name := "add", desc := "(Ljava/lang/Object;)Z" } : Jvm.MethodName)) ∈ lw_all := lw_g (lw_at lw_m2 206 rfl) rfl
theorem q566 : (Jvm.Cond.methodLink "SpillslotWorks$Chooser" (152 : Nat) ({ cls := "SpillslotWorks$Chooser", name := "value", desc := "(I)I" } : Jvm.MethodName)) ∈ lw_all := lw_g (lw_at lw_m2 207 rfl) rfl
theorem q567 : (Jvm.Cond.privateMethod ({ cls := "SpillslotWorks$Chooser", name := "value", desc := "(I)I" } : Jvm.MethodName)) ∈ lw_tbl := lw_at lw_m2 208 rfl
theorem q568 : (Jvm.Cond.instanceMethod ({ cls := "SpillslotWorks$Chooser", name := "value", desc := "(I)I" } : Jvm.MethodName)) ∈ lw_all := lw_g (lw_at lw_m2 209 rfl) rfl
theorem q569 : (Jvm.Cond.code ({ cls := "SpillslotWorks$Chooser", name := "value", desc := "(I)I" } : Jvm.MethodName) prog_3_method_12_code (2 : Nat) (Option.some Jvm.ClassFile.FieldType.int)) ∈ lw_all := lw_g (lw_at lw_m2 210 rfl) rfl
theorem q570 : (Jvm.Cond.methodLink "SpillslotWorks$Chooser" (155 : Nat) ({ cls := "SpillslotWorks$Chooser", name := "emitFused", desc := "(LSpillslotWorks$Node;I)I" } : Jvm.MethodName)) ∈ lw_all := lw_g (lw_at lw_m2 211 rfl) rfl
theorem q571 : (Jvm.Cond.privateMethod ({ cls := "SpillslotWorks$Chooser", name := "emitFused", desc := "(LSpillslotWorks$Node;I)I" } : Jvm.MethodName)) ∈ lw_tbl := lw_at lw_m2 212 rfl
theorem q572 : (Jvm.Cond.instanceMethod ({ cls := "SpillslotWorks$Chooser", name := "emitFused", desc := "(LSpillslotWorks$Node;I)I" } : Jvm.MethodName)) ∈ lw_all := lw_g (lw_at lw_m2 213 rfl) rfl
theorem q573 : (Jvm.Cond.code ({ cls := "SpillslotWorks$Chooser", name := "emitFused", desc := "(LSpillslotWorks$Node;I)I" } : Jvm.MethodName) prog_3_method_15_code (9 : Nat) (Option.some Jvm.ClassFile.FieldType.int)) ∈ lw_all := lw_g (lw_at lw_m2 214 rfl) rfl
theorem q574 : (Jvm.Cond.methodLink "SpillslotWorks$Chooser" (173 : Nat) ({ cls := "SpillslotWorks$Chooser", name := "entry", desc := "()I" } : Jvm.MethodName)) ∈ lw_all := lw_g (lw_at lw_m2 215 rfl) rfl
theorem q575 : (Jvm.Cond.privateMethod ({ cls := "SpillslotWorks$Chooser", name := "entry", desc := "()I" } : Jvm.MethodName)) ∈ lw_tbl := lw_at lw_m2 216 rfl
theorem q576 : (Jvm.Cond.instanceMethod ({ cls := "SpillslotWorks$Chooser", name := "entry", desc := "()I" } : Jvm.MethodName)) ∈ lw_all := lw_g (lw_at lw_m2 217 rfl) rfl
theorem q577 : (Jvm.Cond.code ({ cls := "SpillslotWorks$Chooser", name := "entry", desc := "()I" } : Jvm.MethodName) prog_3_method_17_code (5 : Nat) (Option.some Jvm.ClassFile.FieldType.int)) ∈ lw_all := lw_g (lw_at lw_m2 218 rfl) rfl
theorem q578 : (Jvm.Cond.methodLink "SpillslotWorks$Chooser" (180 : Nat) ({ cls := "SpillslotWorks$Op", name := "reads", desc := "(I)I" } : Jvm.MethodName)) ∈ lw_all := lw_g (lw_at lw_m2 219 rfl) rfl
theorem q582 : (Jvm.Cond.methodLinkNest "SpillslotWorks$Chooser" (176 : Nat) ({ cls := "SpillslotWorks", name := "has", desc := "(II)Z" } : Jvm.MethodName) "SpillslotWorks") ∈ lw_tbl := lw_at lw_m2 223 rfl
theorem q1652 : (Jvm.Cond.fieldLinkNest "SpillslotWorks$Chooser" (66 : Nat) "SpillslotWorks$Node" "a" "I" "SpillslotWorks") ∈ lw_tbl := lw_at lw_m7 93 rfl
theorem q1655 : (Jvm.Cond.fieldLinkNest "SpillslotWorks$Chooser" (81 : Nat) "SpillslotWorks$Node" "b" "I" "SpillslotWorks") ∈ lw_tbl := lw_at lw_m7 96 rfl
theorem q1711 : (Jvm.Cond.fieldLinkNest "SpillslotWorks$Chooser" (170 : Nat) "SpillslotWorks$Statement" "variable" "I" "SpillslotWorks") ∈ lw_tbl := lw_at lw_m7 152 rfl
theorem q1714 : (Jvm.Cond.fieldLinkNest "SpillslotWorks$Chooser" (167 : Nat) "SpillslotWorks$Statement" "node" "I" "SpillslotWorks") ∈ lw_tbl := lw_at lw_m7 155 rfl
theorem q2297 : (Jvm.Cond.selects "SpillslotWorks$Chooser" ({ cls := "java/lang/Object", name := "equals", desc := "(Ljava/lang/Object;)Z" } : Jvm.MethodName) ({ cls := "java/lang/Object", name := "equals", desc := "(Ljava/lang/Object;)Z" } : Jvm.MethodName)) ∈ lw_all := lw_g (lw_at lw_m10 18 rfl) rfl
theorem q2860 : (Jvm.Cond.castable "SpillslotWorks$Chooser" "java/lang/Object") ∈ lw_tbl := lw_at lw_m12 101 rfl
theorem in_X5 : ∀ w ∈ wsX50, w ∈ lw_all := lw_in wsX50 [487, 489, 491, 493, 495, 497] (by decide +kernel) (by decide +kernel)
