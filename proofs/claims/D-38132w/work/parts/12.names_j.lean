/-! SpillslotWorks$Instruction -/
set_option maxRecDepth 100000
def RX11 : String := "SpillslotWorks$Instruction"
def TX11 : u_T := fun k => match k with
  | 0 => ("SpillslotWorks$Instruction", "op", "I", true)
  | 1 => ("SpillslotWorks$Instruction", "first", "I", true)
  | 2 => ("SpillslotWorks$Instruction", "second", "I", true)
  | 3 => ("SpillslotWorks$Instruction", "third", "I", true)
  | 4 => ("SpillslotWorks$Instruction", "fourth", "I", true)
  | 5 => ("SpillslotWorks$Instruction", "point", "I", true)
  | _ => ("SpillslotWorks$Instruction", "begin", "I", false)
def tyX11 : Nat → FieldType := fun k => match k with
  | 0 => .int
  | 1 => .int
  | 2 => .int
  | 3 => .int
  | 4 => .int
  | 5 => .int
  | _ => .int
abbrev wsX110 : List Cond := u_ws RX11 TX11 7
theorem nmX11 : ∀ a, a < 7 → ∀ b, b < 7 → a ≠ b → (TX11 a).2.1 ≠ (TX11 b).2.1 := by decide +kernel
theorem tyX11_ok : ∀ k, k < 7 → parseFieldDescriptor (TX11 k).2.2.1 = some (tyX11 k) := by decide +kernel
abbrev cX11_init : ByteArray := prog_4_method_1_code
def yX11_init : MethodName := ⟨RX11, "<init>", "(IIIIII)V"⟩
def dkwX11_init_1 : List UInt8 := [42, 21, 4, 181, 0, 24, 42, 21, 5, 181, 0, 27, 42, 21, 6, 181, 0, 30, 177]
abbrev dktX11_init_1 : List UInt8 := dkwX11_init_1 ++ []
def dkwX11_init_0 : List UInt8 := [42, 183, 0, 3, 42, 2, 181, 0, 9, 42, 27, 181, 0, 15, 42, 28, 181, 0, 18, 42, 29, 181, 0, 21]
abbrev dktX11_init_0 : List UInt8 := dkwX11_init_0 ++ dktX11_init_1
theorem dksX11_init_0 : cX11_init.data.toList.drop 0 = dktX11_init_0 := by decide +kernel
theorem dksX11_init_1 : cX11_init.data.toList.drop 24 = dktX11_init_1 := dk_seg dksX11_init_0 24 rfl rfl
theorem dX11_init_0 : decode cX11_init 0 = .ok (.aload_n 0, 1) := dk_42 (dk_at dksX11_init_0 0 rfl rfl)
theorem dX11_init_1 : decode cX11_init 1 = .ok (.invokespecial 3, 3) := dk_183 0 3 (dk_at dksX11_init_0 1 rfl rfl)
theorem dX11_init_4 : decode cX11_init 4 = .ok (.aload_n 0, 1) := dk_42 (dk_at dksX11_init_0 4 rfl rfl)
theorem dX11_init_5 : decode cX11_init 5 = .ok (.iconst (-1), 1) := dk_2 (dk_at dksX11_init_0 5 rfl rfl)
theorem dX11_init_6 : decode cX11_init 6 = .ok (.putfield 9, 3) := dk_181 0 9 (dk_at dksX11_init_0 6 rfl rfl)
theorem dX11_init_9 : decode cX11_init 9 = .ok (.aload_n 0, 1) := dk_42 (dk_at dksX11_init_0 9 rfl rfl)
theorem dX11_init_10 : decode cX11_init 10 = .ok (.iload_n 1, 1) := dk_27 (dk_at dksX11_init_0 10 rfl rfl)
theorem dX11_init_11 : decode cX11_init 11 = .ok (.putfield 15, 3) := dk_181 0 15 (dk_at dksX11_init_0 11 rfl rfl)
theorem dX11_init_14 : decode cX11_init 14 = .ok (.aload_n 0, 1) := dk_42 (dk_at dksX11_init_0 14 rfl rfl)
theorem dX11_init_15 : decode cX11_init 15 = .ok (.iload_n 2, 1) := dk_28 (dk_at dksX11_init_0 15 rfl rfl)
theorem dX11_init_16 : decode cX11_init 16 = .ok (.putfield 18, 3) := dk_181 0 18 (dk_at dksX11_init_0 16 rfl rfl)
theorem dX11_init_19 : decode cX11_init 19 = .ok (.aload_n 0, 1) := dk_42 (dk_at dksX11_init_0 19 rfl rfl)
theorem dX11_init_20 : decode cX11_init 20 = .ok (.iload_n 3, 1) := dk_29 (dk_at dksX11_init_0 20 rfl rfl)
theorem dX11_init_21 : decode cX11_init 21 = .ok (.putfield 21, 3) := dk_181 0 21 (dk_at dksX11_init_0 21 rfl rfl)
theorem dX11_init_24 : decode cX11_init 24 = .ok (.aload_n 0, 1) := dk_42 (dk_at dksX11_init_1 0 rfl rfl)
theorem dX11_init_25 : decode cX11_init 25 = .ok (.iload 4, 2) := dk_21 4 (dk_at dksX11_init_1 1 rfl rfl)
theorem dX11_init_27 : decode cX11_init 27 = .ok (.putfield 24, 3) := dk_181 0 24 (dk_at dksX11_init_1 3 rfl rfl)
theorem dX11_init_30 : decode cX11_init 30 = .ok (.aload_n 0, 1) := dk_42 (dk_at dksX11_init_1 6 rfl rfl)
theorem dX11_init_31 : decode cX11_init 31 = .ok (.iload 5, 2) := dk_21 5 (dk_at dksX11_init_1 7 rfl rfl)
theorem dX11_init_33 : decode cX11_init 33 = .ok (.putfield 27, 3) := dk_181 0 27 (dk_at dksX11_init_1 9 rfl rfl)
theorem dX11_init_36 : decode cX11_init 36 = .ok (.aload_n 0, 1) := dk_42 (dk_at dksX11_init_1 12 rfl rfl)
theorem dX11_init_37 : decode cX11_init 37 = .ok (.iload 6, 2) := dk_21 6 (dk_at dksX11_init_1 13 rfl rfl)
theorem dX11_init_39 : decode cX11_init 39 = .ok (.putfield 30, 3) := dk_181 0 30 (dk_at dksX11_init_1 15 rfl rfl)
theorem dX11_init_42 : decode cX11_init 42 = .ok (.return_, 1) := dk_177 (dk_at dksX11_init_1 18 rfl rfl)
abbrev cX11_operand : ByteArray := prog_4_method_2_code
def yX11_operand : MethodName := ⟨RX11, "operand", "(I)I"⟩
def dkwX11_operand_1 : List UInt8 := [5, 160, 0, 10, 42, 180, 0, 27, 167, 0, 7, 42, 180, 0, 30, 172]
abbrev dktX11_operand_1 : List UInt8 := dkwX11_operand_1 ++ []
def dkwX11_operand_0 : List UInt8 := [27, 154, 0, 10, 42, 180, 0, 21, 167, 0, 31, 27, 4, 160, 0, 10, 42, 180, 0, 24, 167, 0, 19, 27]
abbrev dktX11_operand_0 : List UInt8 := dkwX11_operand_0 ++ dktX11_operand_1
theorem dksX11_operand_0 : cX11_operand.data.toList.drop 0 = dktX11_operand_0 := by decide +kernel
theorem dksX11_operand_1 : cX11_operand.data.toList.drop 24 = dktX11_operand_1 := dk_seg dksX11_operand_0 24 rfl rfl
theorem dX11_operand_0 : decode cX11_operand 0 = .ok (.iload_n 1, 1) := dk_27 (dk_at dksX11_operand_0 0 rfl rfl)
theorem dX11_operand_1 : decode cX11_operand 1 = .ok (.ifCond .ne 10, 3) := dk_154 0 10 (dk_at dksX11_operand_0 1 rfl rfl)
theorem dX11_operand_4 : decode cX11_operand 4 = .ok (.aload_n 0, 1) := dk_42 (dk_at dksX11_operand_0 4 rfl rfl)
theorem dX11_operand_5 : decode cX11_operand 5 = .ok (.getfield 21, 3) := dk_180 0 21 (dk_at dksX11_operand_0 5 rfl rfl)
theorem dX11_operand_8 : decode cX11_operand 8 = .ok (.goto 31, 3) := dk_167 0 31 (dk_at dksX11_operand_0 8 rfl rfl)
theorem dX11_operand_11 : decode cX11_operand 11 = .ok (.iload_n 1, 1) := dk_27 (dk_at dksX11_operand_0 11 rfl rfl)
theorem dX11_operand_12 : decode cX11_operand 12 = .ok (.iconst 1, 1) := dk_4 (dk_at dksX11_operand_0 12 rfl rfl)
theorem dX11_operand_13 : decode cX11_operand 13 = .ok (.if_icmp .ne 10, 3) := dk_160 0 10 (dk_at dksX11_operand_0 13 rfl rfl)
theorem dX11_operand_16 : decode cX11_operand 16 = .ok (.aload_n 0, 1) := dk_42 (dk_at dksX11_operand_0 16 rfl rfl)
theorem dX11_operand_17 : decode cX11_operand 17 = .ok (.getfield 24, 3) := dk_180 0 24 (dk_at dksX11_operand_0 17 rfl rfl)
theorem dX11_operand_20 : decode cX11_operand 20 = .ok (.goto 19, 3) := dk_167 0 19 (dk_at dksX11_operand_0 20 rfl rfl)
theorem dX11_operand_23 : decode cX11_operand 23 = .ok (.iload_n 1, 1) := dk_27 (dk_at dksX11_operand_0 23 rfl rfl)
theorem dX11_operand_24 : decode cX11_operand 24 = .ok (.iconst 2, 1) := dk_5 (dk_at dksX11_operand_1 0 rfl rfl)
theorem dX11_operand_25 : decode cX11_operand 25 = .ok (.if_icmp .ne 10, 3) := dk_160 0 10 (dk_at dksX11_operand_1 1 rfl rfl)
theorem dX11_operand_28 : decode cX11_operand 28 = .ok (.aload_n 0, 1) := dk_42 (dk_at dksX11_operand_1 4 rfl rfl)
theorem dX11_operand_29 : decode cX11_operand 29 = .ok (.getfield 27, 3) := dk_180 0 27 (dk_at dksX11_operand_1 5 rfl rfl)
theorem dX11_operand_32 : decode cX11_operand 32 = .ok (.goto 7, 3) := dk_167 0 7 (dk_at dksX11_operand_1 8 rfl rfl)
theorem dX11_operand_35 : decode cX11_operand 35 = .ok (.aload_n 0, 1) := dk_42 (dk_at dksX11_operand_1 11 rfl rfl)
theorem dX11_operand_36 : decode cX11_operand 36 = .ok (.getfield 30, 3) := dk_180 0 30 (dk_at dksX11_operand_1 12 rfl rfl)
theorem dX11_operand_39 : decode cX11_operand 39 = .ok (.ireturn, 1) := dk_172 (dk_at dksX11_operand_1 15 rfl rfl)
theorem q153 : (Jvm.Cond.initialized "SpillslotWorks$Instruction") ∈ lw_all := lw_g (lw_at lw_m1 34 rfl) rfl
theorem q255 : (Jvm.Cond.selects "SpillslotWorks$Instruction" ({ cls := "java/lang/Object", name := "getClass", desc := "()Ljava/lang/Class;" } : Jvm.MethodName) ({ cls := "java/lang/Object", name := "getClass", desc := "()Ljava/lang/Class;" } : Jvm.MethodName)) ∈ lw_all := lw_g (lw_at lw_m1 136 rfl) rfl
theorem q1216 : (Jvm.Cond.instantiable "SpillslotWorks$Instruction" (7 : Nat)) ∈ lw_all := lw_g (lw_at lw_m5 137 rfl) rfl
theorem q1218 : (Jvm.Cond.instanceMethod ({ cls := "SpillslotWorks$Instruction", name := "<init>", desc := "(IIIIII)V" } : Jvm.MethodName)) ∈ lw_all := lw_g (lw_at lw_m5 139 rfl) rfl
theorem q1219 : (Jvm.Cond.code ({ cls := "SpillslotWorks$Instruction", name := "<init>", desc := "(IIIIII)V" } : Jvm.MethodName) prog_4_method_1_code (7 : Nat) (Option.none : Option Jvm.ClassFile.FieldType)) ∈ lw_all := lw_g (lw_at lw_m5 140 rfl) rfl
theorem q1220 : (Jvm.Cond.methodLink "SpillslotWorks$Instruction" (3 : Nat) ({ cls := "java/lang/Object", name := "<init>", desc := "()V" } : Jvm.MethodName)) ∈ lw_all := lw_g (lw_at lw_m5 141 rfl) rfl
theorem q1221 : (Jvm.Cond.fieldLink "SpillslotWorks$Instruction" (15 : Nat) "SpillslotWorks$Instruction" "op" "I") ∈ lw_all := lw_g (lw_at lw_m5 142 rfl) rfl
theorem q1225 : (Jvm.Cond.fieldLink "SpillslotWorks$Instruction" (21 : Nat) "SpillslotWorks$Instruction" "first" "I") ∈ lw_all := lw_g (lw_at lw_m5 146 rfl) rfl
theorem q1226 : (Jvm.Cond.fieldLink "SpillslotWorks$Instruction" (24 : Nat) "SpillslotWorks$Instruction" "second" "I") ∈ lw_all := lw_g (lw_at lw_m5 147 rfl) rfl
theorem q1227 : (Jvm.Cond.fieldLink "SpillslotWorks$Instruction" (27 : Nat) "SpillslotWorks$Instruction" "third" "I") ∈ lw_all := lw_g (lw_at lw_m5 148 rfl) rfl
theorem q1228 : (Jvm.Cond.fieldLink "SpillslotWorks$Instruction" (30 : Nat) "SpillslotWorks$Instruction" "fourth" "I") ∈ lw_all := lw_g (lw_at lw_m5 149 rfl) rfl
theorem q1229 : (Jvm.Cond.fieldLink "SpillslotWorks$Instruction" (18 : Nat) "SpillslotWorks$Instruction" "point" "I") ∈ lw_all := lw_g (lw_at lw_m5 150 rfl) rfl
theorem q1232 : (Jvm.Cond.fieldLink "SpillslotWorks$Instruction" (9 : Nat) "SpillslotWorks$Instruction" "begin" "I") ∈ lw_all := lw_g (lw_at lw_m5 153 rfl) rfl
theorem q1235 : (Jvm.Cond.laysFinal "SpillslotWorks$Instruction" "SpillslotWorks$Instruction" "op" "I") ∈ lw_all := lw_g (lw_at lw_m5 156 rfl) rfl
theorem q1236 : (Jvm.Cond.soleField "SpillslotWorks$Instruction" "op") ∈ lw_all := lw_g (lw_at lw_m5 157 rfl) rfl
theorem q1237 : (Jvm.Cond.laysFinal "SpillslotWorks$Instruction" "SpillslotWorks$Instruction" "first" "I") ∈ lw_all := lw_g (lw_at lw_m5 158 rfl) rfl
theorem q1238 : (Jvm.Cond.soleField "SpillslotWorks$Instruction" "first") ∈ lw_all := lw_g (lw_at lw_m5 159 rfl) rfl
theorem q1239 : (Jvm.Cond.laysFinal "SpillslotWorks$Instruction" "SpillslotWorks$Instruction" "second" "I") ∈ lw_all := lw_g (lw_at lw_m5 160 rfl) rfl
theorem q1240 : (Jvm.Cond.soleField "SpillslotWorks$Instruction" "second") ∈ lw_all := lw_g (lw_at lw_m5 161 rfl) rfl
theorem q1241 : (Jvm.Cond.laysFinal "SpillslotWorks$Instruction" "SpillslotWorks$Instruction" "third" "I") ∈ lw_all := lw_g (lw_at lw_m5 162 rfl) rfl
theorem q1242 : (Jvm.Cond.soleField "SpillslotWorks$Instruction" "third") ∈ lw_all := lw_g (lw_at lw_m5 163 rfl) rfl
theorem q1243 : (Jvm.Cond.laysFinal "SpillslotWorks$Instruction" "SpillslotWorks$Instruction" "fourth" "I") ∈ lw_all := lw_g (lw_at lw_m5 164 rfl) rfl
theorem q1244 : (Jvm.Cond.soleField "SpillslotWorks$Instruction" "fourth") ∈ lw_all := lw_g (lw_at lw_m5 165 rfl) rfl
theorem q1245 : (Jvm.Cond.laysFinal "SpillslotWorks$Instruction" "SpillslotWorks$Instruction" "point" "I") ∈ lw_all := lw_g (lw_at lw_m5 166 rfl) rfl
theorem q1246 : (Jvm.Cond.soleField "SpillslotWorks$Instruction" "point") ∈ lw_all := lw_g (lw_at lw_m5 167 rfl) rfl
theorem q1247 : (Jvm.Cond.lays "SpillslotWorks$Instruction" "SpillslotWorks$Instruction" "begin" "I") ∈ lw_all := lw_g (lw_at lw_m5 168 rfl) rfl
theorem q1248 : (Jvm.Cond.soleField "SpillslotWorks$Instruction" "begin") ∈ lw_all := lw_g (lw_at lw_m5 169 rfl) rfl
theorem q1249 : (Jvm.Cond.superclass "SpillslotWorks$Instruction" "java/lang/Object") ∈ lw_all := lw_g (lw_at lw_m5 170 rfl) rfl
theorem q1347 : (Jvm.Cond.instanceMethod ({ cls := "SpillslotWorks$Instruction", name := "operand", desc := "(I)I" } : Jvm.MethodName)) ∈ lw_all := lw_g (lw_at lw_m6 28 rfl) rfl
theorem q1348 : (Jvm.Cond.selects "SpillslotWorks$Instruction" ({ cls := "SpillslotWorks$Instruction", name := "operand", desc := "(I)I" } : Jvm.MethodName) ({ cls := "SpillslotWorks$Instruction", name := "operand", desc := "(I)I" } : Jvm.MethodName)) ∈ lw_all := lw_g (lw_at lw_m6 29 rfl) rfl
theorem q1349 : (Jvm.Cond.code ({ cls := "SpillslotWorks$Instruction", name := "operand", desc := "(I)I" } : Jvm.MethodName) prog_4_method_2_code (2 : Nat) (Option.some Jvm.ClassFile.FieldType.int)) ∈ lw_all := lw_g (lw_at lw_m6 30 rfl) rfl
theorem q2298 : (Jvm.Cond.selects "SpillslotWorks$Instruction" ({ cls := "java/lang/Object", name := "equals", desc := "(Ljava/lang/Object;)Z" } : Jvm.MethodName) ({ cls := "java/lang/Object", name := "equals", desc := "(Ljava/lang/Object;)Z" } : Jvm.MethodName)) ∈ lw_all := lw_g (lw_at lw_m10 19 rfl) rfl
theorem q2871 : (Jvm.Cond.castable "SpillslotWorks$Instruction" "java/lang/Object") ∈ lw_tbl := lw_at lw_m12 112 rfl
theorem in_X11 : ∀ w ∈ wsX110, w ∈ lw_all := lw_in wsX110 [1235, 1237, 1239, 1241, 1243, 1245, 1247] (by decide +kernel) (by decide +kernel)
/-! SpillslotWorks$Run -/
def RX12 : String := "SpillslotWorks$Run"
def TX12 : u_T := fun k => match k with
  | 0 => ("SpillslotWorks$Run", "machine", "LSpillslotWorks$Machine;", true)
  | 1 => ("SpillslotWorks$Run", "registers", "[I", true)
  | 2 => ("SpillslotWorks$Run", "ready", "[I", true)
  | 3 => ("SpillslotWorks$Run", "slots", "[I", true)
  | 4 => ("SpillslotWorks$Run", "done", "I", false)
  | 5 => ("SpillslotWorks$Run", "begin", "I", false)
  | 6 => ("SpillslotWorks$Run", "stalls", "I", false)
  | _ => ("SpillslotWorks$Run", "cycles", "I", false)
def tyX12 : Nat → FieldType := fun k => match k with
  | 0 => .object "SpillslotWorks$Machine"
  | 1 => .array .int
  | 2 => .array .int
  | 3 => .array .int
  | 4 => .int
  | 5 => .int
  | 6 => .int
  | _ => .int
abbrev wsX120 : List Cond := u_ws RX12 TX12 8
theorem nmX12 : ∀ a, a < 8 → ∀ b, b < 8 → a ≠ b → (TX12 a).2.1 ≠ (TX12 b).2.1 := by decide +kernel
theorem tyX12_ok : ∀ k, k < 8 → parseFieldDescriptor (TX12 k).2.2.1 = some (tyX12 k) := by decide +kernel
abbrev cX12_init : ByteArray := prog_13_method_1_code
def yX12_init : MethodName := ⟨RX12, "<init>", "(LSpillslotWorks$Machine;I)V"⟩
def dkwX12_init_1 : List UInt8 := [181, 0, 18, 42, 43, 181, 0, 22, 42, 28, 188, 10, 181, 0, 26, 177]
abbrev dktX12_init_1 : List UInt8 := dkwX12_init_1 ++ []
def dkwX12_init_0 : List UInt8 := [42, 183, 0, 3, 42, 16, 11, 188, 10, 181, 0, 9, 42, 16, 11, 188, 10, 181, 0, 15, 42, 2]
abbrev dktX12_init_0 : List UInt8 := dkwX12_init_0 ++ dktX12_init_1
theorem dksX12_init_0 : cX12_init.data.toList.drop 0 = dktX12_init_0 := by decide +kernel
theorem dksX12_init_1 : cX12_init.data.toList.drop 22 = dktX12_init_1 := dk_seg dksX12_init_0 22 rfl rfl
theorem dX12_init_0 : decode cX12_init 0 = .ok (.aload_n 0, 1) := dk_42 (dk_at dksX12_init_0 0 rfl rfl)
theorem dX12_init_1 : decode cX12_init 1 = .ok (.invokespecial 3, 3) := dk_183 0 3 (dk_at dksX12_init_0 1 rfl rfl)
theorem dX12_init_4 : decode cX12_init 4 = .ok (.aload_n 0, 1) := dk_42 (dk_at dksX12_init_0 4 rfl rfl)
theorem dX12_init_5 : decode cX12_init 5 = .ok (.bipush 11, 2) := dk_16 11 (dk_at dksX12_init_0 5 rfl rfl)
theorem dX12_init_7 : decode cX12_init 7 = .ok (.newarray .int, 2) := dk_188_10 (dk_at dksX12_init_0 7 rfl rfl)
theorem dX12_init_9 : decode cX12_init 9 = .ok (.putfield 9, 3) := dk_181 0 9 (dk_at dksX12_init_0 9 rfl rfl)
theorem dX12_init_12 : decode cX12_init 12 = .ok (.aload_n 0, 1) := dk_42 (dk_at dksX12_init_0 12 rfl rfl)
theorem dX12_init_13 : decode cX12_init 13 = .ok (.bipush 11, 2) := dk_16 11 (dk_at dksX12_init_0 13 rfl rfl)
theorem dX12_init_15 : decode cX12_init 15 = .ok (.newarray .int, 2) := dk_188_10 (dk_at dksX12_init_0 15 rfl rfl)
theorem dX12_init_17 : decode cX12_init 17 = .ok (.putfield 15, 3) := dk_181 0 15 (dk_at dksX12_init_0 17 rfl rfl)
theorem dX12_init_20 : decode cX12_init 20 = .ok (.aload_n 0, 1) := dk_42 (dk_at dksX12_init_0 20 rfl rfl)
theorem dX12_init_21 : decode cX12_init 21 = .ok (.iconst (-1), 1) := dk_2 (dk_at dksX12_init_0 21 rfl rfl)
theorem dX12_init_22 : decode cX12_init 22 = .ok (.putfield 18, 3) := dk_181 0 18 (dk_at dksX12_init_1 0 rfl rfl)
theorem dX12_init_25 : decode cX12_init 25 = .ok (.aload_n 0, 1) := dk_42 (dk_at dksX12_init_1 3 rfl rfl)
theorem dX12_init_26 : decode cX12_init 26 = .ok (.aload_n 1, 1) := dk_43 (dk_at dksX12_init_1 4 rfl rfl)
theorem dX12_init_27 : decode cX12_init 27 = .ok (.putfield 22, 3) := dk_181 0 22 (dk_at dksX12_init_1 5 rfl rfl)
theorem dX12_init_30 : decode cX12_init 30 = .ok (.aload_n 0, 1) := dk_42 (dk_at dksX12_init_1 8 rfl rfl)
theorem dX12_init_31 : decode cX12_init 31 = .ok (.iload_n 2, 1) := dk_28 (dk_at dksX12_init_1 9 rfl rfl)
theorem dX12_init_32 : decode cX12_init 32 = .ok (.newarray .int, 2) := dk_188_10 (dk_at dksX12_init_1 10 rfl rfl)
theorem dX12_init_34 : decode cX12_init 34 = .ok (.putfield 26, 3) := dk_181 0 26 (dk_at dksX12_init_1 12 rfl rfl)
theorem dX12_init_37 : decode cX12_init 37 = .ok (.return_, 1) := dk_177 (dk_at dksX12_init_1 15 rfl rfl)
abbrev cX12_run : ByteArray := prog_13_method_2_code
def yX12_run : MethodName := ⟨RX12, "run", "(Ljava/util/List;Ljava/util/List;I)V"⟩
def dkwX12_run_2 : List UInt8 := [21, 4, 185, 0, 35, 2, 0, 192, 0, 39, 182, 0, 49, 132, 4, 1, 167, 255, 197, 177]
abbrev dktX12_run_2 : List UInt8 := dkwX12_run_2 ++ []
def dkwX12_run_1 : List UInt8 := [192, 0, 39, 180, 0, 41, 185, 0, 35, 2, 0, 192, 0, 44, 180, 0, 46, 29, 160, 0, 18, 42, 43]
abbrev dktX12_run_1 : List UInt8 := dkwX12_run_1 ++ dktX12_run_2
def dkwX12_run_0 : List UInt8 := [3, 54, 4, 21, 4, 43, 185, 0, 29, 1, 0, 162, 0, 54, 44, 43, 21, 4, 185, 0, 35, 2, 0]
abbrev dktX12_run_0 : List UInt8 := dkwX12_run_0 ++ dktX12_run_1
theorem dksX12_run_0 : cX12_run.data.toList.drop 0 = dktX12_run_0 := by decide +kernel
theorem dksX12_run_1 : cX12_run.data.toList.drop 23 = dktX12_run_1 := dk_seg dksX12_run_0 23 rfl rfl
theorem dksX12_run_2 : cX12_run.data.toList.drop 46 = dktX12_run_2 := dk_seg dksX12_run_1 23 rfl rfl
theorem dX12_run_0 : decode cX12_run 0 = .ok (.iconst 0, 1) := dk_3 (dk_at dksX12_run_0 0 rfl rfl)
theorem dX12_run_1 : decode cX12_run 1 = .ok (.istore 4, 2) := dk_54 4 (dk_at dksX12_run_0 1 rfl rfl)
theorem dX12_run_3 : decode cX12_run 3 = .ok (.iload 4, 2) := dk_21 4 (dk_at dksX12_run_0 3 rfl rfl)
theorem dX12_run_5 : decode cX12_run 5 = .ok (.aload_n 1, 1) := dk_43 (dk_at dksX12_run_0 5 rfl rfl)
theorem dX12_run_6 : decode cX12_run 6 = .ok (.invokeinterface 29 1, 5) := by decide +kernel
theorem dX12_run_11 : decode cX12_run 11 = .ok (.if_icmp .ge 54, 3) := dk_162 0 54 (dk_at dksX12_run_0 11 rfl rfl)
theorem dX12_run_14 : decode cX12_run 14 = .ok (.aload_n 2, 1) := dk_44 (dk_at dksX12_run_0 14 rfl rfl)
theorem dX12_run_15 : decode cX12_run 15 = .ok (.aload_n 1, 1) := dk_43 (dk_at dksX12_run_0 15 rfl rfl)
theorem dX12_run_16 : decode cX12_run 16 = .ok (.iload 4, 2) := dk_21 4 (dk_at dksX12_run_0 16 rfl rfl)
theorem dX12_run_18 : decode cX12_run 18 = .ok (.invokeinterface 35 2, 5) := by decide +kernel
theorem dX12_run_23 : decode cX12_run 23 = .ok (.checkcast 39, 3) := dk_192 0 39 (dk_at dksX12_run_1 0 rfl rfl)
theorem dX12_run_26 : decode cX12_run 26 = .ok (.getfield 41, 3) := dk_180 0 41 (dk_at dksX12_run_1 3 rfl rfl)
theorem dX12_run_29 : decode cX12_run 29 = .ok (.invokeinterface 35 2, 5) := by decide +kernel
theorem dX12_run_34 : decode cX12_run 34 = .ok (.checkcast 44, 3) := dk_192 0 44 (dk_at dksX12_run_1 11 rfl rfl)
theorem dX12_run_37 : decode cX12_run 37 = .ok (.getfield 46, 3) := dk_180 0 46 (dk_at dksX12_run_1 14 rfl rfl)
theorem dX12_run_40 : decode cX12_run 40 = .ok (.iload_n 3, 1) := dk_29 (dk_at dksX12_run_1 17 rfl rfl)
theorem dX12_run_41 : decode cX12_run 41 = .ok (.if_icmp .ne 18, 3) := dk_160 0 18 (dk_at dksX12_run_1 18 rfl rfl)
theorem dX12_run_44 : decode cX12_run 44 = .ok (.aload_n 0, 1) := dk_42 (dk_at dksX12_run_1 21 rfl rfl)
theorem dX12_run_45 : decode cX12_run 45 = .ok (.aload_n 1, 1) := dk_43 (dk_at dksX12_run_1 22 rfl rfl)
theorem dX12_run_46 : decode cX12_run 46 = .ok (.iload 4, 2) := dk_21 4 (dk_at dksX12_run_2 0 rfl rfl)
theorem dX12_run_48 : decode cX12_run 48 = .ok (.invokeinterface 35 2, 5) := by decide +kernel
theorem dX12_run_53 : decode cX12_run 53 = .ok (.checkcast 39, 3) := dk_192 0 39 (dk_at dksX12_run_2 7 rfl rfl)
theorem dX12_run_56 : decode cX12_run 56 = .ok (.invokevirtual 49, 3) := dk_182 0 49 (dk_at dksX12_run_2 10 rfl rfl)
theorem dX12_run_59 : decode cX12_run 59 = .ok (.iinc 4 1, 3) := dk_132 4 1 (dk_at dksX12_run_2 13 rfl rfl)
theorem dX12_run_62 : decode cX12_run 62 = .ok (.goto (-59), 3) := dk_167 255 197 (dk_at dksX12_run_2 16 rfl rfl)
theorem dX12_run_65 : decode cX12_run 65 = .ok (.return_, 1) := dk_177 (dk_at dksX12_run_2 19 rfl rfl)
abbrev cX12_step : ByteArray := prog_13_method_5_code
def yX12_step : MethodName := ⟨RX12, "step", "(LSpillslotWorks$Instruction;)V"⟩
def dkwX12_step_6 : List UInt8 := [182, 0, 79, 96, 181, 0, 84, 42, 43, 182, 0, 87, 177]
abbrev dktX12_step_6 : List UInt8 := dkwX12_step_6 ++ []
def dkwX12_step_5 : List UInt8 := [160, 0, 7, 29, 167, 0, 7, 43, 180, 0, 78, 181, 0, 78, 42, 29, 42, 180, 0, 22, 43, 180, 0, 53]
abbrev dktX12_step_5 : List UInt8 := dkwX12_step_5 ++ dktX12_step_6
def dkwX12_step_4 : List UInt8 := [181, 0, 72, 42, 29, 181, 0, 18, 42, 89, 180, 0, 75, 4, 96, 181, 0, 75, 43, 43, 180, 0, 78, 2]
abbrev dktX12_step_4 : List UInt8 := dkwX12_step_4 ++ dktX12_step_5
def dkwX12_step_3 : List UInt8 := [182, 0, 69, 46, 184, 0, 56, 62, 132, 4, 1, 167, 255, 225, 42, 89, 180, 0, 72, 29, 28, 100, 96]
abbrev dktX12_step_3 : List UInt8 := dkwX12_step_3 ++ dktX12_step_4
def dkwX12_step_2 : List UInt8 := [54, 4, 21, 4, 43, 180, 0, 53, 184, 0, 66, 163, 0, 25, 29, 42, 180, 0, 15, 43, 21, 4]
abbrev dktX12_step_2 : List UInt8 := dkwX12_step_2 ++ dktX12_step_3
def dkwX12_step_1 : List UInt8 := [180, 0, 15, 4, 46, 184, 0, 56, 184, 0, 56, 167, 0, 4, 28, 62, 43, 180, 0, 53, 184, 0, 62]
abbrev dktX12_step_1 : List UInt8 := dkwX12_step_1 ++ dktX12_step_2
def dkwX12_step_0 : List UInt8 := [42, 180, 0, 18, 4, 96, 61, 43, 180, 0, 53, 16, 9, 160, 0, 25, 28, 42, 180, 0, 15, 3, 46, 42]
abbrev dktX12_step_0 : List UInt8 := dkwX12_step_0 ++ dktX12_step_1
theorem dksX12_step_0 : cX12_step.data.toList.drop 0 = dktX12_step_0 := by decide +kernel
theorem dksX12_step_1 : cX12_step.data.toList.drop 24 = dktX12_step_1 := dk_seg dksX12_step_0 24 rfl rfl
theorem dksX12_step_2 : cX12_step.data.toList.drop 47 = dktX12_step_2 := dk_seg dksX12_step_1 23 rfl rfl
theorem dksX12_step_3 : cX12_step.data.toList.drop 69 = dktX12_step_3 := dk_seg dksX12_step_2 22 rfl rfl
theorem dksX12_step_4 : cX12_step.data.toList.drop 92 = dktX12_step_4 := dk_seg dksX12_step_3 23 rfl rfl
theorem dksX12_step_5 : cX12_step.data.toList.drop 116 = dktX12_step_5 := dk_seg dksX12_step_4 24 rfl rfl
theorem dksX12_step_6 : cX12_step.data.toList.drop 140 = dktX12_step_6 := dk_seg dksX12_step_5 24 rfl rfl
theorem dX12_step_0 : decode cX12_step 0 = .ok (.aload_n 0, 1) := dk_42 (dk_at dksX12_step_0 0 rfl rfl)
theorem dX12_step_1 : decode cX12_step 1 = .ok (.getfield 18, 3) := dk_180 0 18 (dk_at dksX12_step_0 1 rfl rfl)
theorem dX12_step_4 : decode cX12_step 4 = .ok (.iconst 1, 1) := dk_4 (dk_at dksX12_step_0 4 rfl rfl)
theorem dX12_step_5 : decode cX12_step 5 = .ok (.iadd, 1) := dk_96 (dk_at dksX12_step_0 5 rfl rfl)
theorem dX12_step_6 : decode cX12_step 6 = .ok (.istore_n 2, 1) := dk_61 (dk_at dksX12_step_0 6 rfl rfl)
theorem dX12_step_7 : decode cX12_step 7 = .ok (.aload_n 1, 1) := dk_43 (dk_at dksX12_step_0 7 rfl rfl)
theorem dX12_step_8 : decode cX12_step 8 = .ok (.getfield 53, 3) := dk_180 0 53 (dk_at dksX12_step_0 8 rfl rfl)
theorem dX12_step_11 : decode cX12_step 11 = .ok (.bipush 9, 2) := dk_16 9 (dk_at dksX12_step_0 11 rfl rfl)
theorem dX12_step_13 : decode cX12_step 13 = .ok (.if_icmp .ne 25, 3) := dk_160 0 25 (dk_at dksX12_step_0 13 rfl rfl)
theorem dX12_step_16 : decode cX12_step 16 = .ok (.iload_n 2, 1) := dk_28 (dk_at dksX12_step_0 16 rfl rfl)
theorem dX12_step_17 : decode cX12_step 17 = .ok (.aload_n 0, 1) := dk_42 (dk_at dksX12_step_0 17 rfl rfl)
theorem dX12_step_18 : decode cX12_step 18 = .ok (.getfield 15, 3) := dk_180 0 15 (dk_at dksX12_step_0 18 rfl rfl)
theorem dX12_step_21 : decode cX12_step 21 = .ok (.iconst 0, 1) := dk_3 (dk_at dksX12_step_0 21 rfl rfl)
theorem dX12_step_22 : decode cX12_step 22 = .ok (.iaload, 1) := dk_46 (dk_at dksX12_step_0 22 rfl rfl)
theorem dX12_step_23 : decode cX12_step 23 = .ok (.aload_n 0, 1) := dk_42 (dk_at dksX12_step_0 23 rfl rfl)
theorem dX12_step_24 : decode cX12_step 24 = .ok (.getfield 15, 3) := dk_180 0 15 (dk_at dksX12_step_1 0 rfl rfl)
theorem dX12_step_27 : decode cX12_step 27 = .ok (.iconst 1, 1) := dk_4 (dk_at dksX12_step_1 3 rfl rfl)
theorem dX12_step_28 : decode cX12_step 28 = .ok (.iaload, 1) := dk_46 (dk_at dksX12_step_1 4 rfl rfl)
theorem dX12_step_29 : decode cX12_step 29 = .ok (.invokestatic 56, 3) := dk_184 0 56 (dk_at dksX12_step_1 5 rfl rfl)
theorem dX12_step_32 : decode cX12_step 32 = .ok (.invokestatic 56, 3) := dk_184 0 56 (dk_at dksX12_step_1 8 rfl rfl)
theorem dX12_step_35 : decode cX12_step 35 = .ok (.goto 4, 3) := dk_167 0 4 (dk_at dksX12_step_1 11 rfl rfl)
theorem dX12_step_38 : decode cX12_step 38 = .ok (.iload_n 2, 1) := dk_28 (dk_at dksX12_step_1 14 rfl rfl)
theorem dX12_step_39 : decode cX12_step 39 = .ok (.istore_n 3, 1) := dk_62 (dk_at dksX12_step_1 15 rfl rfl)
theorem dX12_step_40 : decode cX12_step 40 = .ok (.aload_n 1, 1) := dk_43 (dk_at dksX12_step_1 16 rfl rfl)
theorem dX12_step_41 : decode cX12_step 41 = .ok (.getfield 53, 3) := dk_180 0 53 (dk_at dksX12_step_1 17 rfl rfl)
theorem dX12_step_44 : decode cX12_step 44 = .ok (.invokestatic 62, 3) := dk_184 0 62 (dk_at dksX12_step_1 20 rfl rfl)
theorem dX12_step_47 : decode cX12_step 47 = .ok (.istore 4, 2) := dk_54 4 (dk_at dksX12_step_2 0 rfl rfl)
theorem dX12_step_49 : decode cX12_step 49 = .ok (.iload 4, 2) := dk_21 4 (dk_at dksX12_step_2 2 rfl rfl)
theorem dX12_step_51 : decode cX12_step 51 = .ok (.aload_n 1, 1) := dk_43 (dk_at dksX12_step_2 4 rfl rfl)
theorem dX12_step_52 : decode cX12_step 52 = .ok (.getfield 53, 3) := dk_180 0 53 (dk_at dksX12_step_2 5 rfl rfl)
theorem dX12_step_55 : decode cX12_step 55 = .ok (.invokestatic 66, 3) := dk_184 0 66 (dk_at dksX12_step_2 8 rfl rfl)
theorem dX12_step_58 : decode cX12_step 58 = .ok (.if_icmp .gt 25, 3) := dk_163 0 25 (dk_at dksX12_step_2 11 rfl rfl)
theorem dX12_step_61 : decode cX12_step 61 = .ok (.iload_n 3, 1) := dk_29 (dk_at dksX12_step_2 14 rfl rfl)
theorem dX12_step_62 : decode cX12_step 62 = .ok (.aload_n 0, 1) := dk_42 (dk_at dksX12_step_2 15 rfl rfl)
theorem dX12_step_63 : decode cX12_step 63 = .ok (.getfield 15, 3) := dk_180 0 15 (dk_at dksX12_step_2 16 rfl rfl)
theorem dX12_step_66 : decode cX12_step 66 = .ok (.aload_n 1, 1) := dk_43 (dk_at dksX12_step_2 19 rfl rfl)
theorem dX12_step_67 : decode cX12_step 67 = .ok (.iload 4, 2) := dk_21 4 (dk_at dksX12_step_2 20 rfl rfl)
theorem dX12_step_69 : decode cX12_step 69 = .ok (.invokevirtual 69, 3) := dk_182 0 69 (dk_at dksX12_step_3 0 rfl rfl)
theorem dX12_step_72 : decode cX12_step 72 = .ok (.iaload, 1) := dk_46 (dk_at dksX12_step_3 3 rfl rfl)
theorem dX12_step_73 : decode cX12_step 73 = .ok (.invokestatic 56, 3) := dk_184 0 56 (dk_at dksX12_step_3 4 rfl rfl)
theorem dX12_step_76 : decode cX12_step 76 = .ok (.istore_n 3, 1) := dk_62 (dk_at dksX12_step_3 7 rfl rfl)
theorem dX12_step_77 : decode cX12_step 77 = .ok (.iinc 4 1, 3) := dk_132 4 1 (dk_at dksX12_step_3 8 rfl rfl)
theorem dX12_step_80 : decode cX12_step 80 = .ok (.goto (-31), 3) := dk_167 255 225 (dk_at dksX12_step_3 11 rfl rfl)
theorem dX12_step_83 : decode cX12_step 83 = .ok (.aload_n 0, 1) := dk_42 (dk_at dksX12_step_3 14 rfl rfl)
theorem dX12_step_84 : decode cX12_step 84 = .ok (.dup, 1) := dk_89 (dk_at dksX12_step_3 15 rfl rfl)
theorem dX12_step_85 : decode cX12_step 85 = .ok (.getfield 72, 3) := dk_180 0 72 (dk_at dksX12_step_3 16 rfl rfl)
theorem dX12_step_88 : decode cX12_step 88 = .ok (.iload_n 3, 1) := dk_29 (dk_at dksX12_step_3 19 rfl rfl)
theorem dX12_step_89 : decode cX12_step 89 = .ok (.iload_n 2, 1) := dk_28 (dk_at dksX12_step_3 20 rfl rfl)
theorem dX12_step_90 : decode cX12_step 90 = .ok (.isub, 1) := dk_100 (dk_at dksX12_step_3 21 rfl rfl)
theorem dX12_step_91 : decode cX12_step 91 = .ok (.iadd, 1) := dk_96 (dk_at dksX12_step_3 22 rfl rfl)
theorem dX12_step_92 : decode cX12_step 92 = .ok (.putfield 72, 3) := dk_181 0 72 (dk_at dksX12_step_4 0 rfl rfl)
theorem dX12_step_95 : decode cX12_step 95 = .ok (.aload_n 0, 1) := dk_42 (dk_at dksX12_step_4 3 rfl rfl)
theorem dX12_step_96 : decode cX12_step 96 = .ok (.iload_n 3, 1) := dk_29 (dk_at dksX12_step_4 4 rfl rfl)
theorem dX12_step_97 : decode cX12_step 97 = .ok (.putfield 18, 3) := dk_181 0 18 (dk_at dksX12_step_4 5 rfl rfl)
theorem dX12_step_100 : decode cX12_step 100 = .ok (.aload_n 0, 1) := dk_42 (dk_at dksX12_step_4 8 rfl rfl)
theorem dX12_step_101 : decode cX12_step 101 = .ok (.dup, 1) := dk_89 (dk_at dksX12_step_4 9 rfl rfl)
theorem dX12_step_102 : decode cX12_step 102 = .ok (.getfield 75, 3) := dk_180 0 75 (dk_at dksX12_step_4 10 rfl rfl)
theorem dX12_step_105 : decode cX12_step 105 = .ok (.iconst 1, 1) := dk_4 (dk_at dksX12_step_4 13 rfl rfl)
theorem dX12_step_106 : decode cX12_step 106 = .ok (.iadd, 1) := dk_96 (dk_at dksX12_step_4 14 rfl rfl)
theorem dX12_step_107 : decode cX12_step 107 = .ok (.putfield 75, 3) := dk_181 0 75 (dk_at dksX12_step_4 15 rfl rfl)
theorem dX12_step_110 : decode cX12_step 110 = .ok (.aload_n 1, 1) := dk_43 (dk_at dksX12_step_4 18 rfl rfl)
theorem dX12_step_111 : decode cX12_step 111 = .ok (.aload_n 1, 1) := dk_43 (dk_at dksX12_step_4 19 rfl rfl)
theorem dX12_step_112 : decode cX12_step 112 = .ok (.getfield 78, 3) := dk_180 0 78 (dk_at dksX12_step_4 20 rfl rfl)
theorem dX12_step_115 : decode cX12_step 115 = .ok (.iconst (-1), 1) := dk_2 (dk_at dksX12_step_4 23 rfl rfl)
theorem dX12_step_116 : decode cX12_step 116 = .ok (.if_icmp .ne 7, 3) := dk_160 0 7 (dk_at dksX12_step_5 0 rfl rfl)
theorem dX12_step_119 : decode cX12_step 119 = .ok (.iload_n 3, 1) := dk_29 (dk_at dksX12_step_5 3 rfl rfl)
theorem dX12_step_120 : decode cX12_step 120 = .ok (.goto 7, 3) := dk_167 0 7 (dk_at dksX12_step_5 4 rfl rfl)
theorem dX12_step_123 : decode cX12_step 123 = .ok (.aload_n 1, 1) := dk_43 (dk_at dksX12_step_5 7 rfl rfl)
theorem dX12_step_124 : decode cX12_step 124 = .ok (.getfield 78, 3) := dk_180 0 78 (dk_at dksX12_step_5 8 rfl rfl)
theorem dX12_step_127 : decode cX12_step 127 = .ok (.putfield 78, 3) := dk_181 0 78 (dk_at dksX12_step_5 11 rfl rfl)
theorem dX12_step_130 : decode cX12_step 130 = .ok (.aload_n 0, 1) := dk_42 (dk_at dksX12_step_5 14 rfl rfl)
theorem dX12_step_131 : decode cX12_step 131 = .ok (.iload_n 3, 1) := dk_29 (dk_at dksX12_step_5 15 rfl rfl)
theorem dX12_step_132 : decode cX12_step 132 = .ok (.aload_n 0, 1) := dk_42 (dk_at dksX12_step_5 16 rfl rfl)
theorem dX12_step_133 : decode cX12_step 133 = .ok (.getfield 22, 3) := dk_180 0 22 (dk_at dksX12_step_5 17 rfl rfl)
theorem dX12_step_136 : decode cX12_step 136 = .ok (.aload_n 1, 1) := dk_43 (dk_at dksX12_step_5 20 rfl rfl)
theorem dX12_step_137 : decode cX12_step 137 = .ok (.getfield 53, 3) := dk_180 0 53 (dk_at dksX12_step_5 21 rfl rfl)
theorem dX12_step_140 : decode cX12_step 140 = .ok (.invokevirtual 79, 3) := dk_182 0 79 (dk_at dksX12_step_6 0 rfl rfl)
theorem dX12_step_143 : decode cX12_step 143 = .ok (.iadd, 1) := dk_96 (dk_at dksX12_step_6 3 rfl rfl)
theorem dX12_step_144 : decode cX12_step 144 = .ok (.putfield 84, 3) := dk_181 0 84 (dk_at dksX12_step_6 4 rfl rfl)
theorem dX12_step_147 : decode cX12_step 147 = .ok (.aload_n 0, 1) := dk_42 (dk_at dksX12_step_6 7 rfl rfl)
theorem dX12_step_148 : decode cX12_step 148 = .ok (.aload_n 1, 1) := dk_43 (dk_at dksX12_step_6 8 rfl rfl)
theorem dX12_step_149 : decode cX12_step 149 = .ok (.invokevirtual 87, 3) := dk_182 0 87 (dk_at dksX12_step_6 9 rfl rfl)
theorem dX12_step_152 : decode cX12_step 152 = .ok (.return_, 1) := dk_177 (dk_at dksX12_step_6 12 rfl rfl)
abbrev cX12_firstRead : ByteArray := prog_13_method_3_code
def yX12_firstRead : MethodName := ⟨RX12, "firstRead", "(I)I"⟩
def dkwX12_firstRead_0 : List UInt8 := [26, 16, 8, 160, 0, 7, 3, 167, 0, 4, 4, 172]
abbrev dktX12_firstRead_0 : List UInt8 := dkwX12_firstRead_0 ++ []
theorem dksX12_firstRead_0 : cX12_firstRead.data.toList.drop 0 = dktX12_firstRead_0 := by decide +kernel
theorem dX12_firstRead_0 : decode cX12_firstRead 0 = .ok (.iload_n 0, 1) := dk_26 (dk_at dksX12_firstRead_0 0 rfl rfl)
theorem dX12_firstRead_1 : decode cX12_firstRead 1 = .ok (.bipush 8, 2) := dk_16 8 (dk_at dksX12_firstRead_0 1 rfl rfl)
theorem dX12_firstRead_3 : decode cX12_firstRead 3 = .ok (.if_icmp .ne 7, 3) := dk_160 0 7 (dk_at dksX12_firstRead_0 3 rfl rfl)
theorem dX12_firstRead_6 : decode cX12_firstRead 6 = .ok (.iconst 0, 1) := dk_3 (dk_at dksX12_firstRead_0 6 rfl rfl)
theorem dX12_firstRead_7 : decode cX12_firstRead 7 = .ok (.goto 4, 3) := dk_167 0 4 (dk_at dksX12_firstRead_0 7 rfl rfl)
theorem dX12_firstRead_10 : decode cX12_firstRead 10 = .ok (.iconst 1, 1) := dk_4 (dk_at dksX12_firstRead_0 10 rfl rfl)
theorem dX12_firstRead_11 : decode cX12_firstRead 11 = .ok (.ireturn, 1) := dk_172 (dk_at dksX12_firstRead_0 11 rfl rfl)
abbrev cX12_lastRead : ByteArray := prog_13_method_4_code
def yX12_lastRead : MethodName := ⟨RX12, "lastRead", "(I)I"⟩
def dkwX12_lastRead_2 : List UInt8 := [2, 172, 3, 172, 4, 172, 6, 172, 5, 172]
abbrev dktX12_lastRead_2 : List UInt8 := dkwX12_lastRead_2 ++ []
def dkwX12_lastRead_1 : List UInt8 := [170, 0, 0, 0, 0, 0, 63, 0, 0, 0, 0, 0, 0, 0, 9, 0, 0, 0, 55, 0, 0, 0, 59, 0, 0, 0, 63, 0, 0, 0, 63, 0, 0, 0, 63, 0, 0, 0, 59, 0, 0, 0, 61, 0, 0, 0, 55, 0, 0, 0, 57, 0, 0, 0, 55]
abbrev dktX12_lastRead_1 : List UInt8 := dkwX12_lastRead_1 ++ dktX12_lastRead_2
def dkwX12_lastRead_0 : List UInt8 := [26]
abbrev dktX12_lastRead_0 : List UInt8 := dkwX12_lastRead_0 ++ dktX12_lastRead_1
theorem dksX12_lastRead_0 : cX12_lastRead.data.toList.drop 0 = dktX12_lastRead_0 := by decide +kernel
theorem dksX12_lastRead_1 : cX12_lastRead.data.toList.drop 1 = dktX12_lastRead_1 := dk_seg dksX12_lastRead_0 1 rfl rfl
theorem dksX12_lastRead_2 : cX12_lastRead.data.toList.drop 56 = dktX12_lastRead_2 := dk_seg dksX12_lastRead_1 55 rfl rfl
theorem dX12_lastRead_0 : decode cX12_lastRead 0 = .ok (.iload_n 0, 1) := dk_26 (dk_at dksX12_lastRead_0 0 rfl rfl)
theorem dX12_lastRead_1 : decode cX12_lastRead 1 = .ok (.tableswitch 63 0 9 #[55, 59, 63, 63, 63, 59, 61, 55, 57, 55], 55) := by decide +kernel
theorem dX12_lastRead_56 : decode cX12_lastRead 56 = .ok (.iconst (-1), 1) := dk_2 (dk_at dksX12_lastRead_2 0 rfl rfl)
theorem dX12_lastRead_57 : decode cX12_lastRead 57 = .ok (.ireturn, 1) := dk_172 (dk_at dksX12_lastRead_2 1 rfl rfl)
theorem dX12_lastRead_58 : decode cX12_lastRead 58 = .ok (.iconst 0, 1) := dk_3 (dk_at dksX12_lastRead_2 2 rfl rfl)
theorem dX12_lastRead_59 : decode cX12_lastRead 59 = .ok (.ireturn, 1) := dk_172 (dk_at dksX12_lastRead_2 3 rfl rfl)
theorem dX12_lastRead_60 : decode cX12_lastRead 60 = .ok (.iconst 1, 1) := dk_4 (dk_at dksX12_lastRead_2 4 rfl rfl)
theorem dX12_lastRead_61 : decode cX12_lastRead 61 = .ok (.ireturn, 1) := dk_172 (dk_at dksX12_lastRead_2 5 rfl rfl)
theorem dX12_lastRead_62 : decode cX12_lastRead 62 = .ok (.iconst 3, 1) := dk_6 (dk_at dksX12_lastRead_2 6 rfl rfl)
theorem dX12_lastRead_63 : decode cX12_lastRead 63 = .ok (.ireturn, 1) := dk_172 (dk_at dksX12_lastRead_2 7 rfl rfl)
theorem dX12_lastRead_64 : decode cX12_lastRead 64 = .ok (.iconst 2, 1) := dk_5 (dk_at dksX12_lastRead_2 8 rfl rfl)
theorem dX12_lastRead_65 : decode cX12_lastRead 65 = .ok (.ireturn, 1) := dk_172 (dk_at dksX12_lastRead_2 9 rfl rfl)
abbrev cX12_act : ByteArray := prog_13_method_7_code
def yX12_act : MethodName := ⟨RX12, "act", "(LSpillslotWorks$Instruction;)V"⟩
def dkwX12_act_4 : List UInt8 := [182, 0, 69, 42, 180, 0, 84, 79, 177]
abbrev dktX12_act_4 : List UInt8 := dkwX12_act_4 ++ []
def dkwX12_act_3 : List UInt8 := [167, 0, 32, 42, 180, 0, 9, 43, 3, 182, 0, 69, 42, 43, 182, 0, 97, 79, 42, 180, 0, 15, 43, 3]
abbrev dktX12_act_3 : List UInt8 := dkwX12_act_3 ++ dktX12_act_4
def dkwX12_act_2 : List UInt8 := [42, 180, 0, 26, 43, 4, 182, 0, 69, 42, 43, 3, 182, 0, 90, 79, 167, 0, 39, 42, 182, 0, 94]
abbrev dktX12_act_2 : List UInt8 := dkwX12_act_2 ++ dktX12_act_3
def dkwX12_act_1 : List UInt8 := [171, 0, 0, 0, 0, 0, 0, 54, 0, 0, 0, 2, 0, 0, 0, 8, 0, 0, 0, 28, 0, 0, 0, 9, 0, 0, 0, 47]
abbrev dktX12_act_1 : List UInt8 := dkwX12_act_1 ++ dktX12_act_2
def dkwX12_act_0 : List UInt8 := [43, 180, 0, 53]
abbrev dktX12_act_0 : List UInt8 := dkwX12_act_0 ++ dktX12_act_1
theorem dksX12_act_0 : cX12_act.data.toList.drop 0 = dktX12_act_0 := by decide +kernel
theorem dksX12_act_1 : cX12_act.data.toList.drop 4 = dktX12_act_1 := dk_seg dksX12_act_0 4 rfl rfl
theorem dksX12_act_2 : cX12_act.data.toList.drop 32 = dktX12_act_2 := dk_seg dksX12_act_1 28 rfl rfl
theorem dksX12_act_3 : cX12_act.data.toList.drop 55 = dktX12_act_3 := dk_seg dksX12_act_2 23 rfl rfl
theorem dksX12_act_4 : cX12_act.data.toList.drop 79 = dktX12_act_4 := dk_seg dksX12_act_3 24 rfl rfl
theorem dX12_act_0 : decode cX12_act 0 = .ok (.aload_n 1, 1) := dk_43 (dk_at dksX12_act_0 0 rfl rfl)
theorem dX12_act_1 : decode cX12_act 1 = .ok (.getfield 53, 3) := dk_180 0 53 (dk_at dksX12_act_0 1 rfl rfl)
theorem dX12_act_4 : decode cX12_act 4 = .ok (.lookupswitch 54 #[(8, 28), (9, 47)], 28) := by decide +kernel
theorem dX12_act_32 : decode cX12_act 32 = .ok (.aload_n 0, 1) := dk_42 (dk_at dksX12_act_2 0 rfl rfl)
theorem dX12_act_33 : decode cX12_act 33 = .ok (.getfield 26, 3) := dk_180 0 26 (dk_at dksX12_act_2 1 rfl rfl)
theorem dX12_act_36 : decode cX12_act 36 = .ok (.aload_n 1, 1) := dk_43 (dk_at dksX12_act_2 4 rfl rfl)
theorem dX12_act_37 : decode cX12_act 37 = .ok (.iconst 1, 1) := dk_4 (dk_at dksX12_act_2 5 rfl rfl)
theorem dX12_act_38 : decode cX12_act 38 = .ok (.invokevirtual 69, 3) := dk_182 0 69 (dk_at dksX12_act_2 6 rfl rfl)
theorem dX12_act_41 : decode cX12_act 41 = .ok (.aload_n 0, 1) := dk_42 (dk_at dksX12_act_2 9 rfl rfl)
theorem dX12_act_42 : decode cX12_act 42 = .ok (.aload_n 1, 1) := dk_43 (dk_at dksX12_act_2 10 rfl rfl)
theorem dX12_act_43 : decode cX12_act 43 = .ok (.iconst 0, 1) := dk_3 (dk_at dksX12_act_2 11 rfl rfl)
theorem dX12_act_44 : decode cX12_act 44 = .ok (.invokevirtual 90, 3) := dk_182 0 90 (dk_at dksX12_act_2 12 rfl rfl)
theorem dX12_act_47 : decode cX12_act 47 = .ok (.iastore, 1) := dk_79 (dk_at dksX12_act_2 15 rfl rfl)
theorem dX12_act_48 : decode cX12_act 48 = .ok (.goto 39, 3) := dk_167 0 39 (dk_at dksX12_act_2 16 rfl rfl)
theorem dX12_act_51 : decode cX12_act 51 = .ok (.aload_n 0, 1) := dk_42 (dk_at dksX12_act_2 19 rfl rfl)
theorem dX12_act_52 : decode cX12_act 52 = .ok (.invokevirtual 94, 3) := dk_182 0 94 (dk_at dksX12_act_2 20 rfl rfl)
theorem dX12_act_55 : decode cX12_act 55 = .ok (.goto 32, 3) := dk_167 0 32 (dk_at dksX12_act_3 0 rfl rfl)
theorem dX12_act_58 : decode cX12_act 58 = .ok (.aload_n 0, 1) := dk_42 (dk_at dksX12_act_3 3 rfl rfl)
theorem dX12_act_59 : decode cX12_act 59 = .ok (.getfield 9, 3) := dk_180 0 9 (dk_at dksX12_act_3 4 rfl rfl)
theorem dX12_act_62 : decode cX12_act 62 = .ok (.aload_n 1, 1) := dk_43 (dk_at dksX12_act_3 7 rfl rfl)
theorem dX12_act_63 : decode cX12_act 63 = .ok (.iconst 0, 1) := dk_3 (dk_at dksX12_act_3 8 rfl rfl)
theorem dX12_act_64 : decode cX12_act 64 = .ok (.invokevirtual 69, 3) := dk_182 0 69 (dk_at dksX12_act_3 9 rfl rfl)
theorem dX12_act_67 : decode cX12_act 67 = .ok (.aload_n 0, 1) := dk_42 (dk_at dksX12_act_3 12 rfl rfl)
theorem dX12_act_68 : decode cX12_act 68 = .ok (.aload_n 1, 1) := dk_43 (dk_at dksX12_act_3 13 rfl rfl)
theorem dX12_act_69 : decode cX12_act 69 = .ok (.invokevirtual 97, 3) := dk_182 0 97 (dk_at dksX12_act_3 14 rfl rfl)
theorem dX12_act_72 : decode cX12_act 72 = .ok (.iastore, 1) := dk_79 (dk_at dksX12_act_3 17 rfl rfl)
theorem dX12_act_73 : decode cX12_act 73 = .ok (.aload_n 0, 1) := dk_42 (dk_at dksX12_act_3 18 rfl rfl)
theorem dX12_act_74 : decode cX12_act 74 = .ok (.getfield 15, 3) := dk_180 0 15 (dk_at dksX12_act_3 19 rfl rfl)
theorem dX12_act_77 : decode cX12_act 77 = .ok (.aload_n 1, 1) := dk_43 (dk_at dksX12_act_3 22 rfl rfl)
theorem dX12_act_78 : decode cX12_act 78 = .ok (.iconst 0, 1) := dk_3 (dk_at dksX12_act_3 23 rfl rfl)
theorem dX12_act_79 : decode cX12_act 79 = .ok (.invokevirtual 69, 3) := dk_182 0 69 (dk_at dksX12_act_4 0 rfl rfl)
theorem dX12_act_82 : decode cX12_act 82 = .ok (.aload_n 0, 1) := dk_42 (dk_at dksX12_act_4 3 rfl rfl)
theorem dX12_act_83 : decode cX12_act 83 = .ok (.getfield 84, 3) := dk_180 0 84 (dk_at dksX12_act_4 4 rfl rfl)
theorem dX12_act_86 : decode cX12_act 86 = .ok (.iastore, 1) := dk_79 (dk_at dksX12_act_4 7 rfl rfl)
theorem dX12_act_87 : decode cX12_act 87 = .ok (.return_, 1) := dk_177 (dk_at dksX12_act_4 8 rfl rfl)
abbrev cX12_at : ByteArray := prog_13_method_6_code
def yX12_at : MethodName := ⟨RX12, "at", "(LSpillslotWorks$Instruction;I)I"⟩
def dkwX12_at_0 : List UInt8 := [42, 180, 0, 9, 43, 28, 182, 0, 69, 46, 172]
abbrev dktX12_at_0 : List UInt8 := dkwX12_at_0 ++ []
theorem dksX12_at_0 : cX12_at.data.toList.drop 0 = dktX12_at_0 := by decide +kernel
theorem dX12_at_0 : decode cX12_at 0 = .ok (.aload_n 0, 1) := dk_42 (dk_at dksX12_at_0 0 rfl rfl)
theorem dX12_at_1 : decode cX12_at 1 = .ok (.getfield 9, 3) := dk_180 0 9 (dk_at dksX12_at_0 1 rfl rfl)
theorem dX12_at_4 : decode cX12_at 4 = .ok (.aload_n 1, 1) := dk_43 (dk_at dksX12_at_0 4 rfl rfl)
theorem dX12_at_5 : decode cX12_at 5 = .ok (.iload_n 2, 1) := dk_28 (dk_at dksX12_at_0 5 rfl rfl)
theorem dX12_at_6 : decode cX12_at 6 = .ok (.invokevirtual 69, 3) := dk_182 0 69 (dk_at dksX12_at_0 6 rfl rfl)
theorem dX12_at_9 : decode cX12_at 9 = .ok (.iaload, 1) := dk_46 (dk_at dksX12_at_0 9 rfl rfl)
theorem dX12_at_10 : decode cX12_at 10 = .ok (.ireturn, 1) := dk_172 (dk_at dksX12_at_0 10 rfl rfl)
abbrev cX12_call : ByteArray := prog_13_method_9_code
def yX12_call : MethodName := ⟨RX12, "call", "()V"⟩
def dkwX12_call_3 : List UInt8 := [42, 180, 0, 15, 3, 42, 180, 0, 84, 79, 177]
abbrev dktX12_call_3 : List UInt8 := dkwX12_call_3 ++ []
def dkwX12_call_2 : List UInt8 := [79, 42, 180, 0, 15, 28, 42, 180, 0, 18, 79, 132, 2, 1, 167, 255, 213, 42, 180, 0, 9, 3, 27, 79]
abbrev dktX12_call_2 : List UInt8 := dkwX12_call_2 ++ dktX12_call_3
def dkwX12_call_1 : List UInt8 := [180, 0, 104, 162, 0, 38, 42, 180, 0, 22, 28, 182, 0, 106, 154, 0, 21, 42, 180, 0, 9, 28, 18, 110]
abbrev dktX12_call_1 : List UInt8 := dkwX12_call_1 ++ dktX12_call_2
def dkwX12_call_0 : List UInt8 := [42, 180, 0, 9, 3, 46, 42, 180, 0, 9, 4, 46, 184, 0, 101, 60, 3, 61, 28, 42, 180, 0, 22]
abbrev dktX12_call_0 : List UInt8 := dkwX12_call_0 ++ dktX12_call_1
theorem dksX12_call_0 : cX12_call.data.toList.drop 0 = dktX12_call_0 := by decide +kernel
theorem dksX12_call_1 : cX12_call.data.toList.drop 23 = dktX12_call_1 := dk_seg dksX12_call_0 23 rfl rfl
theorem dksX12_call_2 : cX12_call.data.toList.drop 47 = dktX12_call_2 := dk_seg dksX12_call_1 24 rfl rfl
theorem dksX12_call_3 : cX12_call.data.toList.drop 71 = dktX12_call_3 := dk_seg dksX12_call_2 24 rfl rfl
theorem dX12_call_0 : decode cX12_call 0 = .ok (.aload_n 0, 1) := dk_42 (dk_at dksX12_call_0 0 rfl rfl)
theorem dX12_call_1 : decode cX12_call 1 = .ok (.getfield 9, 3) := dk_180 0 9 (dk_at dksX12_call_0 1 rfl rfl)
theorem dX12_call_4 : decode cX12_call 4 = .ok (.iconst 0, 1) := dk_3 (dk_at dksX12_call_0 4 rfl rfl)
theorem dX12_call_5 : decode cX12_call 5 = .ok (.iaload, 1) := dk_46 (dk_at dksX12_call_0 5 rfl rfl)
theorem dX12_call_6 : decode cX12_call 6 = .ok (.aload_n 0, 1) := dk_42 (dk_at dksX12_call_0 6 rfl rfl)
theorem dX12_call_7 : decode cX12_call 7 = .ok (.getfield 9, 3) := dk_180 0 9 (dk_at dksX12_call_0 7 rfl rfl)
theorem dX12_call_10 : decode cX12_call 10 = .ok (.iconst 1, 1) := dk_4 (dk_at dksX12_call_0 10 rfl rfl)
theorem dX12_call_11 : decode cX12_call 11 = .ok (.iaload, 1) := dk_46 (dk_at dksX12_call_0 11 rfl rfl)
theorem dX12_call_12 : decode cX12_call 12 = .ok (.invokestatic 101, 3) := dk_184 0 101 (dk_at dksX12_call_0 12 rfl rfl)
theorem dX12_call_15 : decode cX12_call 15 = .ok (.istore_n 1, 1) := dk_60 (dk_at dksX12_call_0 15 rfl rfl)
theorem dX12_call_16 : decode cX12_call 16 = .ok (.iconst 0, 1) := dk_3 (dk_at dksX12_call_0 16 rfl rfl)
theorem dX12_call_17 : decode cX12_call 17 = .ok (.istore_n 2, 1) := dk_61 (dk_at dksX12_call_0 17 rfl rfl)
theorem dX12_call_18 : decode cX12_call 18 = .ok (.iload_n 2, 1) := dk_28 (dk_at dksX12_call_0 18 rfl rfl)
theorem dX12_call_19 : decode cX12_call 19 = .ok (.aload_n 0, 1) := dk_42 (dk_at dksX12_call_0 19 rfl rfl)
theorem dX12_call_20 : decode cX12_call 20 = .ok (.getfield 22, 3) := dk_180 0 22 (dk_at dksX12_call_0 20 rfl rfl)
theorem dX12_call_23 : decode cX12_call 23 = .ok (.getfield 104, 3) := dk_180 0 104 (dk_at dksX12_call_1 0 rfl rfl)
theorem dX12_call_26 : decode cX12_call 26 = .ok (.if_icmp .ge 38, 3) := dk_162 0 38 (dk_at dksX12_call_1 3 rfl rfl)
theorem dX12_call_29 : decode cX12_call 29 = .ok (.aload_n 0, 1) := dk_42 (dk_at dksX12_call_1 6 rfl rfl)
theorem dX12_call_30 : decode cX12_call 30 = .ok (.getfield 22, 3) := dk_180 0 22 (dk_at dksX12_call_1 7 rfl rfl)
theorem dX12_call_33 : decode cX12_call 33 = .ok (.iload_n 2, 1) := dk_28 (dk_at dksX12_call_1 10 rfl rfl)
theorem dX12_call_34 : decode cX12_call 34 = .ok (.invokevirtual 106, 3) := dk_182 0 106 (dk_at dksX12_call_1 11 rfl rfl)
theorem dX12_call_37 : decode cX12_call 37 = .ok (.ifCond .ne 21, 3) := dk_154 0 21 (dk_at dksX12_call_1 14 rfl rfl)
theorem dX12_call_40 : decode cX12_call 40 = .ok (.aload_n 0, 1) := dk_42 (dk_at dksX12_call_1 17 rfl rfl)
theorem dX12_call_41 : decode cX12_call 41 = .ok (.getfield 9, 3) := dk_180 0 9 (dk_at dksX12_call_1 18 rfl rfl)
theorem dX12_call_44 : decode cX12_call 44 = .ok (.iload_n 2, 1) := dk_28 (dk_at dksX12_call_1 21 rfl rfl)
theorem dX12_call_45 : decode cX12_call 45 = .ok (.ldc 110, 2) := dk_18 110 (dk_at dksX12_call_1 22 rfl rfl)
theorem dX12_call_47 : decode cX12_call 47 = .ok (.iastore, 1) := dk_79 (dk_at dksX12_call_2 0 rfl rfl)
theorem dX12_call_48 : decode cX12_call 48 = .ok (.aload_n 0, 1) := dk_42 (dk_at dksX12_call_2 1 rfl rfl)
theorem dX12_call_49 : decode cX12_call 49 = .ok (.getfield 15, 3) := dk_180 0 15 (dk_at dksX12_call_2 2 rfl rfl)
theorem dX12_call_52 : decode cX12_call 52 = .ok (.iload_n 2, 1) := dk_28 (dk_at dksX12_call_2 5 rfl rfl)
theorem dX12_call_53 : decode cX12_call 53 = .ok (.aload_n 0, 1) := dk_42 (dk_at dksX12_call_2 6 rfl rfl)
theorem dX12_call_54 : decode cX12_call 54 = .ok (.getfield 18, 3) := dk_180 0 18 (dk_at dksX12_call_2 7 rfl rfl)
theorem dX12_call_57 : decode cX12_call 57 = .ok (.iastore, 1) := dk_79 (dk_at dksX12_call_2 10 rfl rfl)
theorem dX12_call_58 : decode cX12_call 58 = .ok (.iinc 2 1, 3) := dk_132 2 1 (dk_at dksX12_call_2 11 rfl rfl)
theorem dX12_call_61 : decode cX12_call 61 = .ok (.goto (-43), 3) := dk_167 255 213 (dk_at dksX12_call_2 14 rfl rfl)
theorem dX12_call_64 : decode cX12_call 64 = .ok (.aload_n 0, 1) := dk_42 (dk_at dksX12_call_2 17 rfl rfl)
theorem dX12_call_65 : decode cX12_call 65 = .ok (.getfield 9, 3) := dk_180 0 9 (dk_at dksX12_call_2 18 rfl rfl)
theorem dX12_call_68 : decode cX12_call 68 = .ok (.iconst 0, 1) := dk_3 (dk_at dksX12_call_2 21 rfl rfl)
theorem dX12_call_69 : decode cX12_call 69 = .ok (.iload_n 1, 1) := dk_27 (dk_at dksX12_call_2 22 rfl rfl)
theorem dX12_call_70 : decode cX12_call 70 = .ok (.iastore, 1) := dk_79 (dk_at dksX12_call_2 23 rfl rfl)
theorem dX12_call_71 : decode cX12_call 71 = .ok (.aload_n 0, 1) := dk_42 (dk_at dksX12_call_3 0 rfl rfl)
theorem dX12_call_72 : decode cX12_call 72 = .ok (.getfield 15, 3) := dk_180 0 15 (dk_at dksX12_call_3 1 rfl rfl)
theorem dX12_call_75 : decode cX12_call 75 = .ok (.iconst 0, 1) := dk_3 (dk_at dksX12_call_3 4 rfl rfl)
theorem dX12_call_76 : decode cX12_call 76 = .ok (.aload_n 0, 1) := dk_42 (dk_at dksX12_call_3 5 rfl rfl)
theorem dX12_call_77 : decode cX12_call 77 = .ok (.getfield 84, 3) := dk_180 0 84 (dk_at dksX12_call_3 6 rfl rfl)
theorem dX12_call_80 : decode cX12_call 80 = .ok (.iastore, 1) := dk_79 (dk_at dksX12_call_3 9 rfl rfl)
theorem dX12_call_81 : decode cX12_call 81 = .ok (.return_, 1) := dk_177 (dk_at dksX12_call_3 10 rfl rfl)
abbrev cX12_reckoned : ByteArray := prog_13_method_8_code
def yX12_reckoned : MethodName := ⟨RX12, "reckoned", "(LSpillslotWorks$Instruction;)I"⟩
def dkwX12_reckoned_6 : List UInt8 := [180, 0, 26, 43, 4, 182, 0, 69, 46, 172]
abbrev dktX12_reckoned_6 : List UInt8 := dkwX12_reckoned_6 ++ []
def dkwX12_reckoned_5 : List UInt8 := [42, 43, 4, 182, 0, 90, 42, 43, 5, 182, 0, 90, 104, 42, 43, 6, 182, 0, 90, 96, 172, 42]
abbrev dktX12_reckoned_5 : List UInt8 := dkwX12_reckoned_5 ++ dktX12_reckoned_6
def dkwX12_reckoned_4 : List UInt8 := [182, 0, 90, 42, 43, 5, 182, 0, 90, 104, 172, 42, 43, 4, 182, 0, 90, 43, 5, 182, 0, 69, 96, 172]
abbrev dktX12_reckoned_4 : List UInt8 := dkwX12_reckoned_4 ++ dktX12_reckoned_5
def dkwX12_reckoned_3 : List UInt8 := [182, 0, 90, 96, 172, 42, 43, 4, 182, 0, 90, 42, 43, 5, 182, 0, 90, 100, 172, 42, 43, 4]
abbrev dktX12_reckoned_3 : List UInt8 := dkwX12_reckoned_3 ++ dktX12_reckoned_4
def dkwX12_reckoned_2 : List UInt8 := [43, 4, 182, 0, 69, 172, 42, 43, 4, 182, 0, 90, 172, 42, 43, 4, 182, 0, 90, 42, 43, 5]
abbrev dktX12_reckoned_2 : List UInt8 := dkwX12_reckoned_2 ++ dktX12_reckoned_3
def dkwX12_reckoned_1 : List UInt8 := [170, 0, 0, 0, 0, 0, 0, 133, 0, 0, 0, 0, 0, 0, 0, 6, 0, 0, 0, 44, 0, 0, 0, 50, 0, 0, 0, 57, 0, 0, 0, 71, 0, 0, 0, 85, 0, 0, 0, 99, 0, 0, 0, 112]
abbrev dktX12_reckoned_1 : List UInt8 := dkwX12_reckoned_1 ++ dktX12_reckoned_2
def dkwX12_reckoned_0 : List UInt8 := [43, 180, 0, 53]
abbrev dktX12_reckoned_0 : List UInt8 := dkwX12_reckoned_0 ++ dktX12_reckoned_1
theorem dksX12_reckoned_0 : cX12_reckoned.data.toList.drop 0 = dktX12_reckoned_0 := by decide +kernel
theorem dksX12_reckoned_1 : cX12_reckoned.data.toList.drop 4 = dktX12_reckoned_1 := dk_seg dksX12_reckoned_0 4 rfl rfl
theorem dksX12_reckoned_2 : cX12_reckoned.data.toList.drop 48 = dktX12_reckoned_2 := dk_seg dksX12_reckoned_1 44 rfl rfl
theorem dksX12_reckoned_3 : cX12_reckoned.data.toList.drop 70 = dktX12_reckoned_3 := dk_seg dksX12_reckoned_2 22 rfl rfl
theorem dksX12_reckoned_4 : cX12_reckoned.data.toList.drop 92 = dktX12_reckoned_4 := dk_seg dksX12_reckoned_3 22 rfl rfl
theorem dksX12_reckoned_5 : cX12_reckoned.data.toList.drop 116 = dktX12_reckoned_5 := dk_seg dksX12_reckoned_4 24 rfl rfl
theorem dksX12_reckoned_6 : cX12_reckoned.data.toList.drop 138 = dktX12_reckoned_6 := dk_seg dksX12_reckoned_5 22 rfl rfl
theorem dX12_reckoned_0 : decode cX12_reckoned 0 = .ok (.aload_n 1, 1) := dk_43 (dk_at dksX12_reckoned_0 0 rfl rfl)
theorem dX12_reckoned_1 : decode cX12_reckoned 1 = .ok (.getfield 53, 3) := dk_180 0 53 (dk_at dksX12_reckoned_0 1 rfl rfl)
theorem dX12_reckoned_4 : decode cX12_reckoned 4 = .ok (.tableswitch 133 0 6 #[44, 50, 57, 71, 85, 99, 112], 44) := by decide +kernel
theorem dX12_reckoned_48 : decode cX12_reckoned 48 = .ok (.aload_n 1, 1) := dk_43 (dk_at dksX12_reckoned_2 0 rfl rfl)
theorem dX12_reckoned_49 : decode cX12_reckoned 49 = .ok (.iconst 1, 1) := dk_4 (dk_at dksX12_reckoned_2 1 rfl rfl)
theorem dX12_reckoned_50 : decode cX12_reckoned 50 = .ok (.invokevirtual 69, 3) := dk_182 0 69 (dk_at dksX12_reckoned_2 2 rfl rfl)
theorem dX12_reckoned_53 : decode cX12_reckoned 53 = .ok (.ireturn, 1) := dk_172 (dk_at dksX12_reckoned_2 5 rfl rfl)
theorem dX12_reckoned_54 : decode cX12_reckoned 54 = .ok (.aload_n 0, 1) := dk_42 (dk_at dksX12_reckoned_2 6 rfl rfl)
theorem dX12_reckoned_55 : decode cX12_reckoned 55 = .ok (.aload_n 1, 1) := dk_43 (dk_at dksX12_reckoned_2 7 rfl rfl)
theorem dX12_reckoned_56 : decode cX12_reckoned 56 = .ok (.iconst 1, 1) := dk_4 (dk_at dksX12_reckoned_2 8 rfl rfl)
theorem dX12_reckoned_57 : decode cX12_reckoned 57 = .ok (.invokevirtual 90, 3) := dk_182 0 90 (dk_at dksX12_reckoned_2 9 rfl rfl)
theorem dX12_reckoned_60 : decode cX12_reckoned 60 = .ok (.ireturn, 1) := dk_172 (dk_at dksX12_reckoned_2 12 rfl rfl)
theorem dX12_reckoned_61 : decode cX12_reckoned 61 = .ok (.aload_n 0, 1) := dk_42 (dk_at dksX12_reckoned_2 13 rfl rfl)
theorem dX12_reckoned_62 : decode cX12_reckoned 62 = .ok (.aload_n 1, 1) := dk_43 (dk_at dksX12_reckoned_2 14 rfl rfl)
theorem dX12_reckoned_63 : decode cX12_reckoned 63 = .ok (.iconst 1, 1) := dk_4 (dk_at dksX12_reckoned_2 15 rfl rfl)
theorem dX12_reckoned_64 : decode cX12_reckoned 64 = .ok (.invokevirtual 90, 3) := dk_182 0 90 (dk_at dksX12_reckoned_2 16 rfl rfl)
theorem dX12_reckoned_67 : decode cX12_reckoned 67 = .ok (.aload_n 0, 1) := dk_42 (dk_at dksX12_reckoned_2 19 rfl rfl)
theorem dX12_reckoned_68 : decode cX12_reckoned 68 = .ok (.aload_n 1, 1) := dk_43 (dk_at dksX12_reckoned_2 20 rfl rfl)
theorem dX12_reckoned_69 : decode cX12_reckoned 69 = .ok (.iconst 2, 1) := dk_5 (dk_at dksX12_reckoned_2 21 rfl rfl)
theorem dX12_reckoned_70 : decode cX12_reckoned 70 = .ok (.invokevirtual 90, 3) := dk_182 0 90 (dk_at dksX12_reckoned_3 0 rfl rfl)
theorem dX12_reckoned_73 : decode cX12_reckoned 73 = .ok (.iadd, 1) := dk_96 (dk_at dksX12_reckoned_3 3 rfl rfl)
theorem dX12_reckoned_74 : decode cX12_reckoned 74 = .ok (.ireturn, 1) := dk_172 (dk_at dksX12_reckoned_3 4 rfl rfl)
theorem dX12_reckoned_75 : decode cX12_reckoned 75 = .ok (.aload_n 0, 1) := dk_42 (dk_at dksX12_reckoned_3 5 rfl rfl)
theorem dX12_reckoned_76 : decode cX12_reckoned 76 = .ok (.aload_n 1, 1) := dk_43 (dk_at dksX12_reckoned_3 6 rfl rfl)
theorem dX12_reckoned_77 : decode cX12_reckoned 77 = .ok (.iconst 1, 1) := dk_4 (dk_at dksX12_reckoned_3 7 rfl rfl)
theorem dX12_reckoned_78 : decode cX12_reckoned 78 = .ok (.invokevirtual 90, 3) := dk_182 0 90 (dk_at dksX12_reckoned_3 8 rfl rfl)
theorem dX12_reckoned_81 : decode cX12_reckoned 81 = .ok (.aload_n 0, 1) := dk_42 (dk_at dksX12_reckoned_3 11 rfl rfl)
theorem dX12_reckoned_82 : decode cX12_reckoned 82 = .ok (.aload_n 1, 1) := dk_43 (dk_at dksX12_reckoned_3 12 rfl rfl)
theorem dX12_reckoned_83 : decode cX12_reckoned 83 = .ok (.iconst 2, 1) := dk_5 (dk_at dksX12_reckoned_3 13 rfl rfl)
theorem dX12_reckoned_84 : decode cX12_reckoned 84 = .ok (.invokevirtual 90, 3) := dk_182 0 90 (dk_at dksX12_reckoned_3 14 rfl rfl)
theorem dX12_reckoned_87 : decode cX12_reckoned 87 = .ok (.isub, 1) := dk_100 (dk_at dksX12_reckoned_3 17 rfl rfl)
theorem dX12_reckoned_88 : decode cX12_reckoned 88 = .ok (.ireturn, 1) := dk_172 (dk_at dksX12_reckoned_3 18 rfl rfl)
theorem dX12_reckoned_89 : decode cX12_reckoned 89 = .ok (.aload_n 0, 1) := dk_42 (dk_at dksX12_reckoned_3 19 rfl rfl)
theorem dX12_reckoned_90 : decode cX12_reckoned 90 = .ok (.aload_n 1, 1) := dk_43 (dk_at dksX12_reckoned_3 20 rfl rfl)
theorem dX12_reckoned_91 : decode cX12_reckoned 91 = .ok (.iconst 1, 1) := dk_4 (dk_at dksX12_reckoned_3 21 rfl rfl)
theorem dX12_reckoned_92 : decode cX12_reckoned 92 = .ok (.invokevirtual 90, 3) := dk_182 0 90 (dk_at dksX12_reckoned_4 0 rfl rfl)
theorem dX12_reckoned_95 : decode cX12_reckoned 95 = .ok (.aload_n 0, 1) := dk_42 (dk_at dksX12_reckoned_4 3 rfl rfl)
theorem dX12_reckoned_96 : decode cX12_reckoned 96 = .ok (.aload_n 1, 1) := dk_43 (dk_at dksX12_reckoned_4 4 rfl rfl)
theorem dX12_reckoned_97 : decode cX12_reckoned 97 = .ok (.iconst 2, 1) := dk_5 (dk_at dksX12_reckoned_4 5 rfl rfl)
theorem dX12_reckoned_98 : decode cX12_reckoned 98 = .ok (.invokevirtual 90, 3) := dk_182 0 90 (dk_at dksX12_reckoned_4 6 rfl rfl)
theorem dX12_reckoned_101 : decode cX12_reckoned 101 = .ok (.imul, 1) := dk_104 (dk_at dksX12_reckoned_4 9 rfl rfl)
theorem dX12_reckoned_102 : decode cX12_reckoned 102 = .ok (.ireturn, 1) := dk_172 (dk_at dksX12_reckoned_4 10 rfl rfl)
theorem dX12_reckoned_103 : decode cX12_reckoned 103 = .ok (.aload_n 0, 1) := dk_42 (dk_at dksX12_reckoned_4 11 rfl rfl)
theorem dX12_reckoned_104 : decode cX12_reckoned 104 = .ok (.aload_n 1, 1) := dk_43 (dk_at dksX12_reckoned_4 12 rfl rfl)
theorem dX12_reckoned_105 : decode cX12_reckoned 105 = .ok (.iconst 1, 1) := dk_4 (dk_at dksX12_reckoned_4 13 rfl rfl)
theorem dX12_reckoned_106 : decode cX12_reckoned 106 = .ok (.invokevirtual 90, 3) := dk_182 0 90 (dk_at dksX12_reckoned_4 14 rfl rfl)
theorem dX12_reckoned_109 : decode cX12_reckoned 109 = .ok (.aload_n 1, 1) := dk_43 (dk_at dksX12_reckoned_4 17 rfl rfl)
theorem dX12_reckoned_110 : decode cX12_reckoned 110 = .ok (.iconst 2, 1) := dk_5 (dk_at dksX12_reckoned_4 18 rfl rfl)
theorem dX12_reckoned_111 : decode cX12_reckoned 111 = .ok (.invokevirtual 69, 3) := dk_182 0 69 (dk_at dksX12_reckoned_4 19 rfl rfl)
theorem dX12_reckoned_114 : decode cX12_reckoned 114 = .ok (.iadd, 1) := dk_96 (dk_at dksX12_reckoned_4 22 rfl rfl)
theorem dX12_reckoned_115 : decode cX12_reckoned 115 = .ok (.ireturn, 1) := dk_172 (dk_at dksX12_reckoned_4 23 rfl rfl)
theorem dX12_reckoned_116 : decode cX12_reckoned 116 = .ok (.aload_n 0, 1) := dk_42 (dk_at dksX12_reckoned_5 0 rfl rfl)
theorem dX12_reckoned_117 : decode cX12_reckoned 117 = .ok (.aload_n 1, 1) := dk_43 (dk_at dksX12_reckoned_5 1 rfl rfl)
theorem dX12_reckoned_118 : decode cX12_reckoned 118 = .ok (.iconst 1, 1) := dk_4 (dk_at dksX12_reckoned_5 2 rfl rfl)
theorem dX12_reckoned_119 : decode cX12_reckoned 119 = .ok (.invokevirtual 90, 3) := dk_182 0 90 (dk_at dksX12_reckoned_5 3 rfl rfl)
theorem dX12_reckoned_122 : decode cX12_reckoned 122 = .ok (.aload_n 0, 1) := dk_42 (dk_at dksX12_reckoned_5 6 rfl rfl)
theorem dX12_reckoned_123 : decode cX12_reckoned 123 = .ok (.aload_n 1, 1) := dk_43 (dk_at dksX12_reckoned_5 7 rfl rfl)
theorem dX12_reckoned_124 : decode cX12_reckoned 124 = .ok (.iconst 2, 1) := dk_5 (dk_at dksX12_reckoned_5 8 rfl rfl)
theorem dX12_reckoned_125 : decode cX12_reckoned 125 = .ok (.invokevirtual 90, 3) := dk_182 0 90 (dk_at dksX12_reckoned_5 9 rfl rfl)
theorem dX12_reckoned_128 : decode cX12_reckoned 128 = .ok (.imul, 1) := dk_104 (dk_at dksX12_reckoned_5 12 rfl rfl)
theorem dX12_reckoned_129 : decode cX12_reckoned 129 = .ok (.aload_n 0, 1) := dk_42 (dk_at dksX12_reckoned_5 13 rfl rfl)
theorem dX12_reckoned_130 : decode cX12_reckoned 130 = .ok (.aload_n 1, 1) := dk_43 (dk_at dksX12_reckoned_5 14 rfl rfl)
theorem dX12_reckoned_131 : decode cX12_reckoned 131 = .ok (.iconst 3, 1) := dk_6 (dk_at dksX12_reckoned_5 15 rfl rfl)
theorem dX12_reckoned_132 : decode cX12_reckoned 132 = .ok (.invokevirtual 90, 3) := dk_182 0 90 (dk_at dksX12_reckoned_5 16 rfl rfl)
theorem dX12_reckoned_135 : decode cX12_reckoned 135 = .ok (.iadd, 1) := dk_96 (dk_at dksX12_reckoned_5 19 rfl rfl)
theorem dX12_reckoned_136 : decode cX12_reckoned 136 = .ok (.ireturn, 1) := dk_172 (dk_at dksX12_reckoned_5 20 rfl rfl)
theorem dX12_reckoned_137 : decode cX12_reckoned 137 = .ok (.aload_n 0, 1) := dk_42 (dk_at dksX12_reckoned_5 21 rfl rfl)
theorem dX12_reckoned_138 : decode cX12_reckoned 138 = .ok (.getfield 26, 3) := dk_180 0 26 (dk_at dksX12_reckoned_6 0 rfl rfl)
theorem dX12_reckoned_141 : decode cX12_reckoned 141 = .ok (.aload_n 1, 1) := dk_43 (dk_at dksX12_reckoned_6 3 rfl rfl)
theorem dX12_reckoned_142 : decode cX12_reckoned 142 = .ok (.iconst 1, 1) := dk_4 (dk_at dksX12_reckoned_6 4 rfl rfl)
theorem dX12_reckoned_143 : decode cX12_reckoned 143 = .ok (.invokevirtual 69, 3) := dk_182 0 69 (dk_at dksX12_reckoned_6 5 rfl rfl)
theorem dX12_reckoned_146 : decode cX12_reckoned 146 = .ok (.iaload, 1) := dk_46 (dk_at dksX12_reckoned_6 8 rfl rfl)
theorem dX12_reckoned_147 : decode cX12_reckoned 147 = .ok (.ireturn, 1) := dk_172 (dk_at dksX12_reckoned_6 9 rfl rfl)
theorem q154 : (Jvm.Cond.initialized "SpillslotWorks$Run") ∈ lw_all := lw_g (lw_at lw_m1 35 rfl) rfl
theorem q264 : (Jvm.Cond.selects "SpillslotWorks$Run" ({ cls := "java/lang/Object", name := "getClass", desc := "()Ljava/lang/Class;" } : Jvm.MethodName) ({ cls := "java/lang/Object", name := "getClass", desc := "()Ljava/lang/Class;" } : Jvm.MethodName)) ∈ lw_all := lw_g (lw_at lw_m1 145 rfl) rfl
theorem q335 : (Jvm.Cond.fieldLinkNest "SpillslotWorks$Run" (104 : Nat) "SpillslotWorks$Machine" "registers" "I" "SpillslotWorks") ∈ lw_tbl := lw_at lw_m1 216 rfl
theorem q547 : (Jvm.Cond.fieldLinkNest "SpillslotWorks$Run" (46 : Nat) "SpillslotWorks$Op" "block" "I" "SpillslotWorks") ∈ lw_tbl := lw_at lw_m2 188 rfl
theorem q1223 : (Jvm.Cond.fieldLinkNest "SpillslotWorks$Run" (53 : Nat) "SpillslotWorks$Instruction" "op" "I" "SpillslotWorks") ∈ lw_tbl := lw_at lw_m5 144 rfl
theorem q1230 : (Jvm.Cond.fieldLinkNest "SpillslotWorks$Run" (41 : Nat) "SpillslotWorks$Instruction" "point" "I" "SpillslotWorks") ∈ lw_tbl := lw_at lw_m5 151 rfl
theorem q1233 : (Jvm.Cond.fieldLinkNest "SpillslotWorks$Run" (78 : Nat) "SpillslotWorks$Instruction" "begin" "I" "SpillslotWorks") ∈ lw_tbl := lw_at lw_m5 154 rfl
theorem q1282 : (Jvm.Cond.instantiable "SpillslotWorks$Run" (8 : Nat)) ∈ lw_all := lw_g (lw_at lw_m5 203 rfl) rfl
theorem q1289 : (Jvm.Cond.instanceMethod ({ cls := "SpillslotWorks$Run", name := "<init>", desc := "(LSpillslotWorks$Machine;I)V" } : Jvm.MethodName)) ∈ lw_all := lw_g (lw_at lw_m5 210 rfl) rfl
theorem q1290 : (Jvm.Cond.code ({ cls := "SpillslotWorks$Run", name := "<init>", desc := "(LSpillslotWorks$Machine;I)V" } : Jvm.MethodName) prog_13_method_1_code (3 : Nat) (Option.none : Option Jvm.ClassFile.FieldType)) ∈ lw_all := lw_g (lw_at lw_m5 211 rfl) rfl
theorem q1291 : (Jvm.Cond.methodLink "SpillslotWorks$Run" (3 : Nat) ({ cls := "java/lang/Object", name := "<init>", desc := "()V" } : Jvm.MethodName)) ∈ lw_all := lw_g (lw_at lw_m5 212 rfl) rfl
theorem q1292 : (Jvm.Cond.fieldLink "SpillslotWorks$Run" (22 : Nat) "SpillslotWorks$Run" "machine" "LSpillslotWorks$Machine;") ∈ lw_all := lw_g (lw_at lw_m5 213 rfl) rfl
theorem q1293 : (Jvm.Cond.fieldLink "SpillslotWorks$Run" (9 : Nat) "SpillslotWorks$Run" "registers" "[I") ∈ lw_all := lw_g (lw_at lw_m5 214 rfl) rfl
theorem q1295 : (Jvm.Cond.fieldLink "SpillslotWorks$Run" (15 : Nat) "SpillslotWorks$Run" "ready" "[I") ∈ lw_all := lw_g (lw_at lw_m5 216 rfl) rfl
theorem q1296 : (Jvm.Cond.fieldLink "SpillslotWorks$Run" (26 : Nat) "SpillslotWorks$Run" "slots" "[I") ∈ lw_all := lw_g (lw_at lw_m5 217 rfl) rfl
theorem q1299 : (Jvm.Cond.fieldLink "SpillslotWorks$Run" (75 : Nat) "SpillslotWorks$Run" "done" "I") ∈ lw_all := lw_g (lw_at lw_m5 220 rfl) rfl
theorem q1301 : (Jvm.Cond.fieldLink "SpillslotWorks$Run" (18 : Nat) "SpillslotWorks$Run" "begin" "I") ∈ lw_all := lw_g (lw_at lw_m5 222 rfl) rfl
theorem q1303 : (Jvm.Cond.fieldLink "SpillslotWorks$Run" (72 : Nat) "SpillslotWorks$Run" "stalls" "I") ∈ lw_all := lw_g (lw_at lw_m5 224 rfl) rfl
theorem q1306 : (Jvm.Cond.fieldLink "SpillslotWorks$Run" (84 : Nat) "SpillslotWorks$Run" "cycles" "I") ∈ lw_all := lw_g (lw_at lw_m5 227 rfl) rfl
theorem q1308 : (Jvm.Cond.laysFinal "SpillslotWorks$Run" "SpillslotWorks$Run" "machine" "LSpillslotWorks$Machine;") ∈ lw_all := lw_g (lw_at lw_m5 229 rfl) rfl
theorem q1309 : (Jvm.Cond.soleField "SpillslotWorks$Run" "machine") ∈ lw_all := lw_g (lw_at lw_m5 230 rfl) rfl
theorem q1310 : (Jvm.Cond.laysFinal "SpillslotWorks$Run" "SpillslotWorks$Run" "registers" "[I") ∈ lw_all := lw_g (lw_at lw_m5 231 rfl) rfl
theorem q1311 : (Jvm.Cond.soleField "SpillslotWorks$Run" "registers") ∈ lw_all := lw_g (lw_at lw_m5 232 rfl) rfl
theorem q1312 : (Jvm.Cond.laysFinal "SpillslotWorks$Run" "SpillslotWorks$Run" "ready" "[I") ∈ lw_all := lw_g (lw_at lw_m5 233 rfl) rfl
theorem q1313 : (Jvm.Cond.soleField "SpillslotWorks$Run" "ready") ∈ lw_all := lw_g (lw_at lw_m5 234 rfl) rfl
theorem q1314 : (Jvm.Cond.laysFinal "SpillslotWorks$Run" "SpillslotWorks$Run" "slots" "[I") ∈ lw_all := lw_g (lw_at lw_m5 235 rfl) rfl
theorem q1315 : (Jvm.Cond.soleField "SpillslotWorks$Run" "slots") ∈ lw_all := lw_g (lw_at lw_m5 236 rfl) rfl
theorem q1316 : (Jvm.Cond.lays "SpillslotWorks$Run" "SpillslotWorks$Run" "done" "I") ∈ lw_all := lw_g (lw_at lw_m5 237 rfl) rfl
theorem q1317 : (Jvm.Cond.soleField "SpillslotWorks$Run" "done") ∈ lw_all := lw_g (lw_at lw_m5 238 rfl) rfl
theorem q1318 : (Jvm.Cond.lays "SpillslotWorks$Run" "SpillslotWorks$Run" "begin" "I") ∈ lw_all := lw_g (lw_at lw_m5 239 rfl) rfl
theorem q1319 : (Jvm.Cond.soleField "SpillslotWorks$Run" "begin") ∈ lw_all := lw_g (lw_at lw_m6 0 rfl) rfl
theorem q1320 : (Jvm.Cond.lays "SpillslotWorks$Run" "SpillslotWorks$Run" "stalls" "I") ∈ lw_all := lw_g (lw_at lw_m6 1 rfl) rfl
theorem q1321 : (Jvm.Cond.soleField "SpillslotWorks$Run" "stalls") ∈ lw_all := lw_g (lw_at lw_m6 2 rfl) rfl
theorem q1322 : (Jvm.Cond.lays "SpillslotWorks$Run" "SpillslotWorks$Run" "cycles" "I") ∈ lw_all := lw_g (lw_at lw_m6 3 rfl) rfl
theorem q1323 : (Jvm.Cond.soleField "SpillslotWorks$Run" "cycles") ∈ lw_all := lw_g (lw_at lw_m6 4 rfl) rfl
theorem q1324 : (Jvm.Cond.superclass "SpillslotWorks$Run" "java/lang/Object") ∈ lw_all := lw_g (lw_at lw_m6 5 rfl) rfl
theorem q1326 : (Jvm.Cond.instanceMethod ({ cls := "SpillslotWorks$Run", name := "run", desc := "(Ljava/util/List;Ljava/util/List;I)V" } : Jvm.MethodName)) ∈ lw_all := lw_g (lw_at lw_m6 7 rfl) rfl
theorem q1327 : (Jvm.Cond.selects "SpillslotWorks$Run" ({ cls := "SpillslotWorks$Run", name := "run", desc := "(Ljava/util/List;Ljava/util/List;I)V" } : Jvm.MethodName) ({ cls := "SpillslotWorks$Run", name := "run", desc := "(Ljava/util/List;Ljava/util/List;I)V" } : Jvm.MethodName)) ∈ lw_all := lw_g (lw_at lw_m6 8 rfl) rfl
theorem q1328 : (Jvm.Cond.code ({ cls := "SpillslotWorks$Run", name := "run", desc := "(Ljava/util/List;Ljava/util/List;I)V" } : Jvm.MethodName) prog_13_method_2_code (5 : Nat) (Option.none : Option Jvm.ClassFile.FieldType)) ∈ lw_all := lw_g (lw_at lw_m6 9 rfl) rfl
theorem q1329 : (Jvm.Cond.interfaceEntry "SpillslotWorks$Run" (29 : Nat)) ∈ lw_tbl := lw_at lw_m6 10 rfl
theorem q1330 : (Jvm.Cond.methodLink "SpillslotWorks$Run" (29 : Nat) ({ cls := "java/util/List", name := "size", desc := "()I" } : Jvm.MethodName)) ∈ lw_all := lw_g (lw_at lw_m6 11 rfl) rfl
theorem q1331 : (Jvm.Cond.interfaceEntry "SpillslotWorks$Run" (35 : Nat)) ∈ lw_tbl := lw_at lw_m6 12 rfl
theorem q1332 : (Jvm.Cond.methodLink "SpillslotWorks$Run" (35 : Nat) ({ cls := "java/util/List", name := "get", desc := "(I)Ljava/lang/Object;" } : Jvm.MethodName)) ∈ lw_all := lw_g (lw_at lw_m6 13 rfl) rfl
theorem q1333 : (Jvm.Cond.classLink "SpillslotWorks$Run" (39 : Nat) "SpillslotWorks$Instruction") ∈ lw_all := lw_g (lw_at lw_m6 14 rfl) rfl
theorem q1334 : (Jvm.Cond.classLink "SpillslotWorks$Run" (44 : Nat) "SpillslotWorks$Op") ∈ lw_all := lw_g (lw_at lw_m6 15 rfl) rfl
theorem q1335 : (Jvm.Cond.methodLink "SpillslotWorks$Run" (49 : Nat) ({ cls := "SpillslotWorks$Run", name := "step", desc := "(LSpillslotWorks$Instruction;)V" } : Jvm.MethodName)) ∈ lw_all := lw_g (lw_at lw_m6 16 rfl) rfl
theorem q1336 : (Jvm.Cond.privateMethod ({ cls := "SpillslotWorks$Run", name := "step", desc := "(LSpillslotWorks$Instruction;)V" } : Jvm.MethodName)) ∈ lw_tbl := lw_at lw_m6 17 rfl
theorem q1337 : (Jvm.Cond.instanceMethod ({ cls := "SpillslotWorks$Run", name := "step", desc := "(LSpillslotWorks$Instruction;)V" } : Jvm.MethodName)) ∈ lw_all := lw_g (lw_at lw_m6 18 rfl) rfl
theorem q1338 : (Jvm.Cond.code ({ cls := "SpillslotWorks$Run", name := "step", desc := "(LSpillslotWorks$Instruction;)V" } : Jvm.MethodName) prog_13_method_5_code (5 : Nat) (Option.none : Option Jvm.ClassFile.FieldType)) ∈ lw_all := lw_g (lw_at lw_m6 19 rfl) rfl
theorem q1339 : (Jvm.Cond.methodLink "SpillslotWorks$Run" (56 : Nat) ({ cls := "java/lang/Math", name := "max", desc := "(II)I" } : Jvm.MethodName)) ∈ lw_all := lw_g (lw_at lw_m6 20 rfl) rfl
theorem q1340 : (Jvm.Cond.methodLink "SpillslotWorks$Run" (62 : Nat) ({ cls := "SpillslotWorks$Run", name := "firstRead", desc := "(I)I" } : Jvm.MethodName)) ∈ lw_all := lw_g (lw_at lw_m6 21 rfl) rfl
theorem q1341 : (Jvm.Cond.static ({ cls := "SpillslotWorks$Run", name := "firstRead", desc := "(I)I" } : Jvm.MethodName)) ∈ lw_all := lw_g (lw_at lw_m6 22 rfl) rfl
theorem q1342 : (Jvm.Cond.code ({ cls := "SpillslotWorks$Run", name := "firstRead", desc := "(I)I" } : Jvm.MethodName) prog_13_method_3_code (1 : Nat) (Option.some Jvm.ClassFile.FieldType.int)) ∈ lw_all := lw_g (lw_at lw_m6 23 rfl) rfl
theorem q1343 : (Jvm.Cond.methodLink "SpillslotWorks$Run" (66 : Nat) ({ cls := "SpillslotWorks$Run", name := "lastRead", desc := "(I)I" } : Jvm.MethodName)) ∈ lw_all := lw_g (lw_at lw_m6 24 rfl) rfl
theorem q1344 : (Jvm.Cond.static ({ cls := "SpillslotWorks$Run", name := "lastRead", desc := "(I)I" } : Jvm.MethodName)) ∈ lw_all := lw_g (lw_at lw_m6 25 rfl) rfl
theorem q1345 : (Jvm.Cond.code ({ cls := "SpillslotWorks$Run", name := "lastRead", desc := "(I)I" } : Jvm.MethodName) prog_13_method_4_code (1 : Nat) (Option.some Jvm.ClassFile.FieldType.int)) ∈ lw_all := lw_g (lw_at lw_m6 26 rfl) rfl
theorem q1346 : (Jvm.Cond.methodLink "SpillslotWorks$Run" (69 : Nat) ({ cls := "SpillslotWorks$Instruction", name := "operand", desc := "(I)I" } : Jvm.MethodName)) ∈ lw_all := lw_g (lw_at lw_m6 27 rfl) rfl
theorem q1350 : (Jvm.Cond.methodLink "SpillslotWorks$Run" (79 : Nat) ({ cls := "SpillslotWorks$Machine", name := "latency", desc := "(I)I" } : Jvm.MethodName)) ∈ lw_all := lw_g (lw_at lw_m6 31 rfl) rfl
theorem q1351 : (Jvm.Cond.methodLink "SpillslotWorks$Run" (87 : Nat) ({ cls := "SpillslotWorks$Run", name := "act", desc := "(LSpillslotWorks$Instruction;)V" } : Jvm.MethodName)) ∈ lw_all := lw_g (lw_at lw_m6 32 rfl) rfl
theorem q1352 : (Jvm.Cond.privateMethod ({ cls := "SpillslotWorks$Run", name := "act", desc := "(LSpillslotWorks$Instruction;)V" } : Jvm.MethodName)) ∈ lw_tbl := lw_at lw_m6 33 rfl
theorem q1353 : (Jvm.Cond.instanceMethod ({ cls := "SpillslotWorks$Run", name := "act", desc := "(LSpillslotWorks$Instruction;)V" } : Jvm.MethodName)) ∈ lw_all := lw_g (lw_at lw_m6 34 rfl) rfl
theorem q1354 : (Jvm.Cond.code ({ cls := "SpillslotWorks$Run", name := "act", desc := "(LSpillslotWorks$Instruction;)V" } : Jvm.MethodName) prog_13_method_7_code (2 : Nat) (Option.none : Option Jvm.ClassFile.FieldType)) ∈ lw_all := lw_g (lw_at lw_m6 35 rfl) rfl
theorem q1355 : (Jvm.Cond.methodLink "SpillslotWorks$Run" (90 : Nat) ({ cls := "SpillslotWorks$Run", name := "at", desc := "(LSpillslotWorks$Instruction;I)I" } : Jvm.MethodName)) ∈ lw_all := lw_g (lw_at lw_m6 36 rfl) rfl
theorem q1356 : (Jvm.Cond.privateMethod ({ cls := "SpillslotWorks$Run", name := "at", desc := "(LSpillslotWorks$Instruction;I)I" } : Jvm.MethodName)) ∈ lw_tbl := lw_at lw_m6 37 rfl
theorem q1357 : (Jvm.Cond.instanceMethod ({ cls := "SpillslotWorks$Run", name := "at", desc := "(LSpillslotWorks$Instruction;I)I" } : Jvm.MethodName)) ∈ lw_all := lw_g (lw_at lw_m6 38 rfl) rfl
theorem q1358 : (Jvm.Cond.code ({ cls := "SpillslotWorks$Run", name := "at", desc := "(LSpillslotWorks$Instruction;I)I" } : Jvm.MethodName) prog_13_method_6_code (3 : Nat) (Option.some Jvm.ClassFile.FieldType.int)) ∈ lw_all := lw_g (lw_at lw_m6 39 rfl) rfl
theorem q1359 : (Jvm.Cond.methodLink "SpillslotWorks$Run" (94 : Nat) ({ cls := "SpillslotWorks$Run", name := "call", desc := "()V" } : Jvm.MethodName)) ∈ lw_all := lw_g (lw_at lw_m6 40 rfl) rfl
theorem q1360 : (Jvm.Cond.privateMethod ({ cls := "SpillslotWorks$Run", name := "call", desc := "()V" } : Jvm.MethodName)) ∈ lw_tbl := lw_at lw_m6 41 rfl
theorem q1361 : (Jvm.Cond.instanceMethod ({ cls := "SpillslotWorks$Run", name := "call", desc := "()V" } : Jvm.MethodName)) ∈ lw_all := lw_g (lw_at lw_m6 42 rfl) rfl
theorem q1362 : (Jvm.Cond.code ({ cls := "SpillslotWorks$Run", name := "call", desc := "()V" } : Jvm.MethodName) prog_13_method_9_code (3 : Nat) (Option.none : Option Jvm.ClassFile.FieldType)) ∈ lw_all := lw_g (lw_at lw_m6 43 rfl) rfl
theorem q1363 : (Jvm.Cond.methodLinkNest "SpillslotWorks$Run" (101 : Nat) ({ cls := "SpillslotWorks", name := "callOf", desc := "(II)I" } : Jvm.MethodName) "SpillslotWorks") ∈ lw_tbl := lw_at lw_m6 44 rfl
theorem q1366 : (Jvm.Cond.methodLink "SpillslotWorks$Run" (106 : Nat) ({ cls := "SpillslotWorks$Machine", name := "isKept", desc := "(I)Z" } : Jvm.MethodName)) ∈ lw_all := lw_g (lw_at lw_m6 47 rfl) rfl
theorem q1367 : (Jvm.Cond.constant "SpillslotWorks$Run" (110 : Nat) (-77777 : Int32)) ∈ lw_all := lw_g (lw_at lw_m6 48 rfl) rfl
theorem q1368 : (Jvm.Cond.methodLink "SpillslotWorks$Run" (97 : Nat) ({ cls := "SpillslotWorks$Run", name := "reckoned", desc := "(LSpillslotWorks$Instruction;)I" } : Jvm.MethodName)) ∈ lw_all := lw_g (lw_at lw_m6 49 rfl) rfl
theorem q1369 : (Jvm.Cond.privateMethod ({ cls := "SpillslotWorks$Run", name := "reckoned", desc := "(LSpillslotWorks$Instruction;)I" } : Jvm.MethodName)) ∈ lw_tbl := lw_at lw_m6 50 rfl
theorem q1370 : (Jvm.Cond.instanceMethod ({ cls := "SpillslotWorks$Run", name := "reckoned", desc := "(LSpillslotWorks$Instruction;)I" } : Jvm.MethodName)) ∈ lw_all := lw_g (lw_at lw_m6 51 rfl) rfl
theorem q1371 : (Jvm.Cond.code ({ cls := "SpillslotWorks$Run", name := "reckoned", desc := "(LSpillslotWorks$Instruction;)I" } : Jvm.MethodName) prog_13_method_8_code (2 : Nat) (Option.some Jvm.ClassFile.FieldType.int)) ∈ lw_all := lw_g (lw_at lw_m6 52 rfl) rfl
theorem q2309 : (Jvm.Cond.selects "SpillslotWorks$Run" ({ cls := "java/lang/Object", name := "equals", desc := "(Ljava/lang/Object;)Z" } : Jvm.MethodName) ({ cls := "java/lang/Object", name := "equals", desc := "(Ljava/lang/Object;)Z" } : Jvm.MethodName)) ∈ lw_all := lw_g (lw_at lw_m10 30 rfl) rfl
theorem q2872 : (Jvm.Cond.castable "SpillslotWorks$Run" "java/lang/Object") ∈ lw_tbl := lw_at lw_m12 113 rfl
theorem in_X12 : ∀ w ∈ wsX120, w ∈ lw_all := lw_in wsX120 [1308, 1310, 1312, 1314, 1316, 1318, 1320, 1322] (by decide +kernel) (by decide +kernel)
/-! SpillslotWorksModel$Program -/
def RX14 : String := "SpillslotWorksModel$Program"
def TX14 : u_T := fun k => match k with
  | 0 => ("SpillslotWorksModel$Program", "nodes", "Ljava/util/ArrayList;", true)
  | 1 => ("SpillslotWorksModel$Program", "blocks", "Ljava/util/ArrayList;", true)
  | 2 => ("SpillslotWorksModel$Program", "times", "[I", true)
  | 3 => ("SpillslotWorksModel$Program", "latencies", "[I", true)
  | _ => ("SpillslotWorksModel$Program", "out", "I", false)
def tyX14 : Nat → FieldType := fun k => match k with
  | 0 => .object "java/util/ArrayList"
  | 1 => .object "java/util/ArrayList"
  | 2 => .array .int
  | 3 => .array .int
  | _ => .int
abbrev wsX140 : List Cond := u_ws RX14 TX14 5
theorem nmX14 : ∀ a, a < 5 → ∀ b, b < 5 → a ≠ b → (TX14 a).2.1 ≠ (TX14 b).2.1 := by decide +kernel
theorem tyX14_ok : ∀ k, k < 5 → parseFieldDescriptor (TX14 k).2.2.1 = some (tyX14 k) := by decide +kernel
abbrev cX14_init : ByteArray := prog_26_method_1_code
def yX14_init : MethodName := ⟨RX14, "<init>", "()V"⟩
def dkwX14_init_5 : List UInt8 := [87, 132, 1, 1, 167, 255, 233, 177]
abbrev dktX14_init_5 : List UInt8 := dkwX14_init_5 ++ []
def dkwX14_init_4 : List UInt8 := [181, 0, 28, 3, 60, 27, 7, 162, 0, 24, 42, 180, 0, 18, 187, 0, 9, 89, 183, 0, 11, 182, 0, 32]
abbrev dktX14_init_4 : List UInt8 := dkwX14_init_4 ++ dktX14_init_5
def dkwX14_init_3 : List UInt8 := [89, 7, 6, 79, 89, 8, 5, 79, 89, 16, 6, 4, 79, 89, 16, 7, 8, 79, 181, 0, 25, 42, 4]
abbrev dktX14_init_3 : List UInt8 := dkwX14_init_3 ++ dktX14_init_4
def dkwX14_init_2 : List UInt8 := [181, 0, 21, 42, 16, 8, 188, 10, 89, 3, 4, 79, 89, 4, 4, 79, 89, 5, 4, 79, 89, 6, 6, 79]
abbrev dktX14_init_2 : List UInt8 := dkwX14_init_2 ++ dktX14_init_3
def dkwX14_init_1 : List UInt8 := [181, 0, 18, 42, 7, 188, 10, 89, 3, 4, 79, 89, 4, 4, 79, 89, 5, 4, 79, 89, 6, 4, 79]
abbrev dktX14_init_1 : List UInt8 := dkwX14_init_1 ++ dktX14_init_2
def dkwX14_init_0 : List UInt8 := [42, 183, 0, 3, 42, 187, 0, 9, 89, 183, 0, 11, 181, 0, 12, 42, 187, 0, 9, 89, 183, 0, 11]
abbrev dktX14_init_0 : List UInt8 := dkwX14_init_0 ++ dktX14_init_1
theorem dksX14_init_0 : cX14_init.data.toList.drop 0 = dktX14_init_0 := by decide +kernel
theorem dksX14_init_1 : cX14_init.data.toList.drop 23 = dktX14_init_1 := dk_seg dksX14_init_0 23 rfl rfl
theorem dksX14_init_2 : cX14_init.data.toList.drop 46 = dktX14_init_2 := dk_seg dksX14_init_1 23 rfl rfl
theorem dksX14_init_3 : cX14_init.data.toList.drop 70 = dktX14_init_3 := dk_seg dksX14_init_2 24 rfl rfl
theorem dksX14_init_4 : cX14_init.data.toList.drop 93 = dktX14_init_4 := dk_seg dksX14_init_3 23 rfl rfl
theorem dksX14_init_5 : cX14_init.data.toList.drop 117 = dktX14_init_5 := dk_seg dksX14_init_4 24 rfl rfl
theorem dX14_init_0 : decode cX14_init 0 = .ok (.aload_n 0, 1) := dk_42 (dk_at dksX14_init_0 0 rfl rfl)
theorem dX14_init_1 : decode cX14_init 1 = .ok (.invokespecial 3, 3) := dk_183 0 3 (dk_at dksX14_init_0 1 rfl rfl)
theorem dX14_init_4 : decode cX14_init 4 = .ok (.aload_n 0, 1) := dk_42 (dk_at dksX14_init_0 4 rfl rfl)
theorem dX14_init_5 : decode cX14_init 5 = .ok (.new 9, 3) := dk_187 0 9 (dk_at dksX14_init_0 5 rfl rfl)
theorem dX14_init_8 : decode cX14_init 8 = .ok (.dup, 1) := dk_89 (dk_at dksX14_init_0 8 rfl rfl)
theorem dX14_init_9 : decode cX14_init 9 = .ok (.invokespecial 11, 3) := dk_183 0 11 (dk_at dksX14_init_0 9 rfl rfl)
theorem dX14_init_12 : decode cX14_init 12 = .ok (.putfield 12, 3) := dk_181 0 12 (dk_at dksX14_init_0 12 rfl rfl)
theorem dX14_init_15 : decode cX14_init 15 = .ok (.aload_n 0, 1) := dk_42 (dk_at dksX14_init_0 15 rfl rfl)
theorem dX14_init_16 : decode cX14_init 16 = .ok (.new 9, 3) := dk_187 0 9 (dk_at dksX14_init_0 16 rfl rfl)
theorem dX14_init_19 : decode cX14_init 19 = .ok (.dup, 1) := dk_89 (dk_at dksX14_init_0 19 rfl rfl)
theorem dX14_init_20 : decode cX14_init 20 = .ok (.invokespecial 11, 3) := dk_183 0 11 (dk_at dksX14_init_0 20 rfl rfl)
theorem dX14_init_23 : decode cX14_init 23 = .ok (.putfield 18, 3) := dk_181 0 18 (dk_at dksX14_init_1 0 rfl rfl)
theorem dX14_init_26 : decode cX14_init 26 = .ok (.aload_n 0, 1) := dk_42 (dk_at dksX14_init_1 3 rfl rfl)
theorem dX14_init_27 : decode cX14_init 27 = .ok (.iconst 4, 1) := dk_7 (dk_at dksX14_init_1 4 rfl rfl)
theorem dX14_init_28 : decode cX14_init 28 = .ok (.newarray .int, 2) := dk_188_10 (dk_at dksX14_init_1 5 rfl rfl)
theorem dX14_init_30 : decode cX14_init 30 = .ok (.dup, 1) := dk_89 (dk_at dksX14_init_1 7 rfl rfl)
theorem dX14_init_31 : decode cX14_init 31 = .ok (.iconst 0, 1) := dk_3 (dk_at dksX14_init_1 8 rfl rfl)
theorem dX14_init_32 : decode cX14_init 32 = .ok (.iconst 1, 1) := dk_4 (dk_at dksX14_init_1 9 rfl rfl)
theorem dX14_init_33 : decode cX14_init 33 = .ok (.iastore, 1) := dk_79 (dk_at dksX14_init_1 10 rfl rfl)
theorem dX14_init_34 : decode cX14_init 34 = .ok (.dup, 1) := dk_89 (dk_at dksX14_init_1 11 rfl rfl)
theorem dX14_init_35 : decode cX14_init 35 = .ok (.iconst 1, 1) := dk_4 (dk_at dksX14_init_1 12 rfl rfl)
theorem dX14_init_36 : decode cX14_init 36 = .ok (.iconst 1, 1) := dk_4 (dk_at dksX14_init_1 13 rfl rfl)
theorem dX14_init_37 : decode cX14_init 37 = .ok (.iastore, 1) := dk_79 (dk_at dksX14_init_1 14 rfl rfl)
theorem dX14_init_38 : decode cX14_init 38 = .ok (.dup, 1) := dk_89 (dk_at dksX14_init_1 15 rfl rfl)
theorem dX14_init_39 : decode cX14_init 39 = .ok (.iconst 2, 1) := dk_5 (dk_at dksX14_init_1 16 rfl rfl)
theorem dX14_init_40 : decode cX14_init 40 = .ok (.iconst 1, 1) := dk_4 (dk_at dksX14_init_1 17 rfl rfl)
theorem dX14_init_41 : decode cX14_init 41 = .ok (.iastore, 1) := dk_79 (dk_at dksX14_init_1 18 rfl rfl)
theorem dX14_init_42 : decode cX14_init 42 = .ok (.dup, 1) := dk_89 (dk_at dksX14_init_1 19 rfl rfl)
theorem dX14_init_43 : decode cX14_init 43 = .ok (.iconst 3, 1) := dk_6 (dk_at dksX14_init_1 20 rfl rfl)
theorem dX14_init_44 : decode cX14_init 44 = .ok (.iconst 1, 1) := dk_4 (dk_at dksX14_init_1 21 rfl rfl)
theorem dX14_init_45 : decode cX14_init 45 = .ok (.iastore, 1) := dk_79 (dk_at dksX14_init_1 22 rfl rfl)
theorem dX14_init_46 : decode cX14_init 46 = .ok (.putfield 21, 3) := dk_181 0 21 (dk_at dksX14_init_2 0 rfl rfl)
theorem dX14_init_49 : decode cX14_init 49 = .ok (.aload_n 0, 1) := dk_42 (dk_at dksX14_init_2 3 rfl rfl)
theorem dX14_init_50 : decode cX14_init 50 = .ok (.bipush 8, 2) := dk_16 8 (dk_at dksX14_init_2 4 rfl rfl)
theorem dX14_init_52 : decode cX14_init 52 = .ok (.newarray .int, 2) := dk_188_10 (dk_at dksX14_init_2 6 rfl rfl)
theorem dX14_init_54 : decode cX14_init 54 = .ok (.dup, 1) := dk_89 (dk_at dksX14_init_2 8 rfl rfl)
theorem dX14_init_55 : decode cX14_init 55 = .ok (.iconst 0, 1) := dk_3 (dk_at dksX14_init_2 9 rfl rfl)
theorem dX14_init_56 : decode cX14_init 56 = .ok (.iconst 1, 1) := dk_4 (dk_at dksX14_init_2 10 rfl rfl)
theorem dX14_init_57 : decode cX14_init 57 = .ok (.iastore, 1) := dk_79 (dk_at dksX14_init_2 11 rfl rfl)
theorem dX14_init_58 : decode cX14_init 58 = .ok (.dup, 1) := dk_89 (dk_at dksX14_init_2 12 rfl rfl)
theorem dX14_init_59 : decode cX14_init 59 = .ok (.iconst 1, 1) := dk_4 (dk_at dksX14_init_2 13 rfl rfl)
theorem dX14_init_60 : decode cX14_init 60 = .ok (.iconst 1, 1) := dk_4 (dk_at dksX14_init_2 14 rfl rfl)
theorem dX14_init_61 : decode cX14_init 61 = .ok (.iastore, 1) := dk_79 (dk_at dksX14_init_2 15 rfl rfl)
theorem dX14_init_62 : decode cX14_init 62 = .ok (.dup, 1) := dk_89 (dk_at dksX14_init_2 16 rfl rfl)
theorem dX14_init_63 : decode cX14_init 63 = .ok (.iconst 2, 1) := dk_5 (dk_at dksX14_init_2 17 rfl rfl)
theorem dX14_init_64 : decode cX14_init 64 = .ok (.iconst 1, 1) := dk_4 (dk_at dksX14_init_2 18 rfl rfl)
theorem dX14_init_65 : decode cX14_init 65 = .ok (.iastore, 1) := dk_79 (dk_at dksX14_init_2 19 rfl rfl)
theorem dX14_init_66 : decode cX14_init 66 = .ok (.dup, 1) := dk_89 (dk_at dksX14_init_2 20 rfl rfl)
theorem dX14_init_67 : decode cX14_init 67 = .ok (.iconst 3, 1) := dk_6 (dk_at dksX14_init_2 21 rfl rfl)
theorem dX14_init_68 : decode cX14_init 68 = .ok (.iconst 3, 1) := dk_6 (dk_at dksX14_init_2 22 rfl rfl)
theorem dX14_init_69 : decode cX14_init 69 = .ok (.iastore, 1) := dk_79 (dk_at dksX14_init_2 23 rfl rfl)
theorem dX14_init_70 : decode cX14_init 70 = .ok (.dup, 1) := dk_89 (dk_at dksX14_init_3 0 rfl rfl)
theorem dX14_init_71 : decode cX14_init 71 = .ok (.iconst 4, 1) := dk_7 (dk_at dksX14_init_3 1 rfl rfl)
theorem dX14_init_72 : decode cX14_init 72 = .ok (.iconst 3, 1) := dk_6 (dk_at dksX14_init_3 2 rfl rfl)
theorem dX14_init_73 : decode cX14_init 73 = .ok (.iastore, 1) := dk_79 (dk_at dksX14_init_3 3 rfl rfl)
theorem dX14_init_74 : decode cX14_init 74 = .ok (.dup, 1) := dk_89 (dk_at dksX14_init_3 4 rfl rfl)
theorem dX14_init_75 : decode cX14_init 75 = .ok (.iconst 5, 1) := dk_8 (dk_at dksX14_init_3 5 rfl rfl)
theorem dX14_init_76 : decode cX14_init 76 = .ok (.iconst 2, 1) := dk_5 (dk_at dksX14_init_3 6 rfl rfl)
theorem dX14_init_77 : decode cX14_init 77 = .ok (.iastore, 1) := dk_79 (dk_at dksX14_init_3 7 rfl rfl)
theorem dX14_init_78 : decode cX14_init 78 = .ok (.dup, 1) := dk_89 (dk_at dksX14_init_3 8 rfl rfl)
theorem dX14_init_79 : decode cX14_init 79 = .ok (.bipush 6, 2) := dk_16 6 (dk_at dksX14_init_3 9 rfl rfl)
theorem dX14_init_81 : decode cX14_init 81 = .ok (.iconst 1, 1) := dk_4 (dk_at dksX14_init_3 11 rfl rfl)
theorem dX14_init_82 : decode cX14_init 82 = .ok (.iastore, 1) := dk_79 (dk_at dksX14_init_3 12 rfl rfl)
theorem dX14_init_83 : decode cX14_init 83 = .ok (.dup, 1) := dk_89 (dk_at dksX14_init_3 13 rfl rfl)
theorem dX14_init_84 : decode cX14_init 84 = .ok (.bipush 7, 2) := dk_16 7 (dk_at dksX14_init_3 14 rfl rfl)
theorem dX14_init_86 : decode cX14_init 86 = .ok (.iconst 5, 1) := dk_8 (dk_at dksX14_init_3 16 rfl rfl)
theorem dX14_init_87 : decode cX14_init 87 = .ok (.iastore, 1) := dk_79 (dk_at dksX14_init_3 17 rfl rfl)
theorem dX14_init_88 : decode cX14_init 88 = .ok (.putfield 25, 3) := dk_181 0 25 (dk_at dksX14_init_3 18 rfl rfl)
theorem dX14_init_91 : decode cX14_init 91 = .ok (.aload_n 0, 1) := dk_42 (dk_at dksX14_init_3 21 rfl rfl)
theorem dX14_init_92 : decode cX14_init 92 = .ok (.iconst 1, 1) := dk_4 (dk_at dksX14_init_3 22 rfl rfl)
theorem dX14_init_93 : decode cX14_init 93 = .ok (.putfield 28, 3) := dk_181 0 28 (dk_at dksX14_init_4 0 rfl rfl)
theorem dX14_init_96 : decode cX14_init 96 = .ok (.iconst 0, 1) := dk_3 (dk_at dksX14_init_4 3 rfl rfl)
theorem dX14_init_97 : decode cX14_init 97 = .ok (.istore_n 1, 1) := dk_60 (dk_at dksX14_init_4 4 rfl rfl)
theorem dX14_init_98 : decode cX14_init 98 = .ok (.iload_n 1, 1) := dk_27 (dk_at dksX14_init_4 5 rfl rfl)
theorem dX14_init_99 : decode cX14_init 99 = .ok (.iconst 4, 1) := dk_7 (dk_at dksX14_init_4 6 rfl rfl)
theorem dX14_init_100 : decode cX14_init 100 = .ok (.if_icmp .ge 24, 3) := dk_162 0 24 (dk_at dksX14_init_4 7 rfl rfl)
theorem dX14_init_103 : decode cX14_init 103 = .ok (.aload_n 0, 1) := dk_42 (dk_at dksX14_init_4 10 rfl rfl)
theorem dX14_init_104 : decode cX14_init 104 = .ok (.getfield 18, 3) := dk_180 0 18 (dk_at dksX14_init_4 11 rfl rfl)
theorem dX14_init_107 : decode cX14_init 107 = .ok (.new 9, 3) := dk_187 0 9 (dk_at dksX14_init_4 14 rfl rfl)
theorem dX14_init_110 : decode cX14_init 110 = .ok (.dup, 1) := dk_89 (dk_at dksX14_init_4 17 rfl rfl)
theorem dX14_init_111 : decode cX14_init 111 = .ok (.invokespecial 11, 3) := dk_183 0 11 (dk_at dksX14_init_4 18 rfl rfl)
theorem dX14_init_114 : decode cX14_init 114 = .ok (.invokevirtual 32, 3) := dk_182 0 32 (dk_at dksX14_init_4 21 rfl rfl)
theorem dX14_init_117 : decode cX14_init 117 = .ok (.pop, 1) := dk_87 (dk_at dksX14_init_5 0 rfl rfl)
theorem dX14_init_118 : decode cX14_init 118 = .ok (.iinc 1 1, 3) := dk_132 1 1 (dk_at dksX14_init_5 1 rfl rfl)
theorem dX14_init_121 : decode cX14_init 121 = .ok (.goto (-23), 3) := dk_167 255 233 (dk_at dksX14_init_5 4 rfl rfl)
theorem dX14_init_124 : decode cX14_init 124 = .ok (.return_, 1) := dk_177 (dk_at dksX14_init_5 7 rfl rfl)
abbrev cX14_of : ByteArray := prog_26_method_2_code
def yX14_of : MethodName := ⟨RX14, "of", "(I)LSpillslotWorksModel$Node;"⟩
def dkwX14_of_0 : List UInt8 := [42, 180, 0, 12, 27, 182, 0, 36, 192, 0, 40, 176]
abbrev dktX14_of_0 : List UInt8 := dkwX14_of_0 ++ []
theorem dksX14_of_0 : cX14_of.data.toList.drop 0 = dktX14_of_0 := by decide +kernel
theorem dX14_of_0 : decode cX14_of 0 = .ok (.aload_n 0, 1) := dk_42 (dk_at dksX14_of_0 0 rfl rfl)
theorem dX14_of_1 : decode cX14_of 1 = .ok (.getfield 12, 3) := dk_180 0 12 (dk_at dksX14_of_0 1 rfl rfl)
theorem dX14_of_4 : decode cX14_of 4 = .ok (.iload_n 1, 1) := dk_27 (dk_at dksX14_of_0 4 rfl rfl)
theorem dX14_of_5 : decode cX14_of 5 = .ok (.invokevirtual 36, 3) := dk_182 0 36 (dk_at dksX14_of_0 5 rfl rfl)
theorem dX14_of_8 : decode cX14_of 8 = .ok (.checkcast 40, 3) := dk_192 0 40 (dk_at dksX14_of_0 8 rfl rfl)
theorem dX14_of_11 : decode cX14_of 11 = .ok (.areturn, 1) := dk_176 (dk_at dksX14_of_0 11 rfl rfl)
abbrev cX14_meant : ByteArray := prog_26_method_5_code
def yX14_meant : MethodName := ⟨RX14, "meant", "()[I"⟩
def dkwX14_meant_3 : List UInt8 := [46, 43, 182, 0, 52, 79, 167, 255, 219, 132, 3, 1, 167, 255, 187, 132, 2, 1, 167, 255, 174, 43, 176]
abbrev dktX14_meant_3 : List UInt8 := dkwX14_meant_3 ++ []
def dkwX14_meant_2 : List UInt8 := [153, 0, 33, 25, 4, 185, 0, 69, 1, 0, 192, 0, 73, 58, 5, 43, 25, 5, 3, 46, 42, 25, 5, 4]
abbrev dktX14_meant_2 : List UInt8 := dkwX14_meant_2 ++ dktX14_meant_3
def dkwX14_meant_1 : List UInt8 := [42, 180, 0, 18, 28, 182, 0, 36, 192, 0, 9, 182, 0, 59, 58, 4, 25, 4, 185, 0, 63, 1, 0]
abbrev dktX14_meant_1 : List UInt8 := dkwX14_meant_1 ++ dktX14_meant_2
def dkwX14_meant_0 : List UInt8 := [16, 8, 188, 10, 76, 3, 61, 28, 7, 162, 0, 83, 3, 62, 29, 42, 180, 0, 21, 28, 46, 162, 0, 65]
abbrev dktX14_meant_0 : List UInt8 := dkwX14_meant_0 ++ dktX14_meant_1
theorem dksX14_meant_0 : cX14_meant.data.toList.drop 0 = dktX14_meant_0 := by decide +kernel
theorem dksX14_meant_1 : cX14_meant.data.toList.drop 24 = dktX14_meant_1 := dk_seg dksX14_meant_0 24 rfl rfl
theorem dksX14_meant_2 : cX14_meant.data.toList.drop 47 = dktX14_meant_2 := dk_seg dksX14_meant_1 23 rfl rfl
theorem dksX14_meant_3 : cX14_meant.data.toList.drop 71 = dktX14_meant_3 := dk_seg dksX14_meant_2 24 rfl rfl
theorem dX14_meant_0 : decode cX14_meant 0 = .ok (.bipush 8, 2) := dk_16 8 (dk_at dksX14_meant_0 0 rfl rfl)
theorem dX14_meant_2 : decode cX14_meant 2 = .ok (.newarray .int, 2) := dk_188_10 (dk_at dksX14_meant_0 2 rfl rfl)
theorem dX14_meant_4 : decode cX14_meant 4 = .ok (.astore_n 1, 1) := dk_76 (dk_at dksX14_meant_0 4 rfl rfl)
theorem dX14_meant_5 : decode cX14_meant 5 = .ok (.iconst 0, 1) := dk_3 (dk_at dksX14_meant_0 5 rfl rfl)
theorem dX14_meant_6 : decode cX14_meant 6 = .ok (.istore_n 2, 1) := dk_61 (dk_at dksX14_meant_0 6 rfl rfl)
theorem dX14_meant_7 : decode cX14_meant 7 = .ok (.iload_n 2, 1) := dk_28 (dk_at dksX14_meant_0 7 rfl rfl)
theorem dX14_meant_8 : decode cX14_meant 8 = .ok (.iconst 4, 1) := dk_7 (dk_at dksX14_meant_0 8 rfl rfl)
theorem dX14_meant_9 : decode cX14_meant 9 = .ok (.if_icmp .ge 83, 3) := dk_162 0 83 (dk_at dksX14_meant_0 9 rfl rfl)
theorem dX14_meant_12 : decode cX14_meant 12 = .ok (.iconst 0, 1) := dk_3 (dk_at dksX14_meant_0 12 rfl rfl)
theorem dX14_meant_13 : decode cX14_meant 13 = .ok (.istore_n 3, 1) := dk_62 (dk_at dksX14_meant_0 13 rfl rfl)
theorem dX14_meant_14 : decode cX14_meant 14 = .ok (.iload_n 3, 1) := dk_29 (dk_at dksX14_meant_0 14 rfl rfl)
theorem dX14_meant_15 : decode cX14_meant 15 = .ok (.aload_n 0, 1) := dk_42 (dk_at dksX14_meant_0 15 rfl rfl)
theorem dX14_meant_16 : decode cX14_meant 16 = .ok (.getfield 21, 3) := dk_180 0 21 (dk_at dksX14_meant_0 16 rfl rfl)
theorem dX14_meant_19 : decode cX14_meant 19 = .ok (.iload_n 2, 1) := dk_28 (dk_at dksX14_meant_0 19 rfl rfl)
theorem dX14_meant_20 : decode cX14_meant 20 = .ok (.iaload, 1) := dk_46 (dk_at dksX14_meant_0 20 rfl rfl)
theorem dX14_meant_21 : decode cX14_meant 21 = .ok (.if_icmp .ge 65, 3) := dk_162 0 65 (dk_at dksX14_meant_0 21 rfl rfl)
theorem dX14_meant_24 : decode cX14_meant 24 = .ok (.aload_n 0, 1) := dk_42 (dk_at dksX14_meant_1 0 rfl rfl)
theorem dX14_meant_25 : decode cX14_meant 25 = .ok (.getfield 18, 3) := dk_180 0 18 (dk_at dksX14_meant_1 1 rfl rfl)
theorem dX14_meant_28 : decode cX14_meant 28 = .ok (.iload_n 2, 1) := dk_28 (dk_at dksX14_meant_1 4 rfl rfl)
theorem dX14_meant_29 : decode cX14_meant 29 = .ok (.invokevirtual 36, 3) := dk_182 0 36 (dk_at dksX14_meant_1 5 rfl rfl)
theorem dX14_meant_32 : decode cX14_meant 32 = .ok (.checkcast 9, 3) := dk_192 0 9 (dk_at dksX14_meant_1 8 rfl rfl)
theorem dX14_meant_35 : decode cX14_meant 35 = .ok (.invokevirtual 59, 3) := dk_182 0 59 (dk_at dksX14_meant_1 11 rfl rfl)
theorem dX14_meant_38 : decode cX14_meant 38 = .ok (.astore 4, 2) := dk_58 4 (dk_at dksX14_meant_1 14 rfl rfl)
theorem dX14_meant_40 : decode cX14_meant 40 = .ok (.aload 4, 2) := dk_25 4 (dk_at dksX14_meant_1 16 rfl rfl)
theorem dX14_meant_42 : decode cX14_meant 42 = .ok (.invokeinterface 63 1, 5) := by decide +kernel
theorem dX14_meant_47 : decode cX14_meant 47 = .ok (.ifCond .eq 33, 3) := dk_153 0 33 (dk_at dksX14_meant_2 0 rfl rfl)
theorem dX14_meant_50 : decode cX14_meant 50 = .ok (.aload 4, 2) := dk_25 4 (dk_at dksX14_meant_2 3 rfl rfl)
theorem dX14_meant_52 : decode cX14_meant 52 = .ok (.invokeinterface 69 1, 5) := by decide +kernel
theorem dX14_meant_57 : decode cX14_meant 57 = .ok (.checkcast 73, 3) := dk_192 0 73 (dk_at dksX14_meant_2 10 rfl rfl)
theorem dX14_meant_60 : decode cX14_meant 60 = .ok (.astore 5, 2) := dk_58 5 (dk_at dksX14_meant_2 13 rfl rfl)
theorem dX14_meant_62 : decode cX14_meant 62 = .ok (.aload_n 1, 1) := dk_43 (dk_at dksX14_meant_2 15 rfl rfl)
theorem dX14_meant_63 : decode cX14_meant 63 = .ok (.aload 5, 2) := dk_25 5 (dk_at dksX14_meant_2 16 rfl rfl)
theorem dX14_meant_65 : decode cX14_meant 65 = .ok (.iconst 0, 1) := dk_3 (dk_at dksX14_meant_2 18 rfl rfl)
theorem dX14_meant_66 : decode cX14_meant 66 = .ok (.iaload, 1) := dk_46 (dk_at dksX14_meant_2 19 rfl rfl)
theorem dX14_meant_67 : decode cX14_meant 67 = .ok (.aload_n 0, 1) := dk_42 (dk_at dksX14_meant_2 20 rfl rfl)
theorem dX14_meant_68 : decode cX14_meant 68 = .ok (.aload 5, 2) := dk_25 5 (dk_at dksX14_meant_2 21 rfl rfl)
theorem dX14_meant_70 : decode cX14_meant 70 = .ok (.iconst 1, 1) := dk_4 (dk_at dksX14_meant_2 23 rfl rfl)
theorem dX14_meant_71 : decode cX14_meant 71 = .ok (.iaload, 1) := dk_46 (dk_at dksX14_meant_3 0 rfl rfl)
theorem dX14_meant_72 : decode cX14_meant 72 = .ok (.aload_n 1, 1) := dk_43 (dk_at dksX14_meant_3 1 rfl rfl)
theorem dX14_meant_73 : decode cX14_meant 73 = .ok (.invokevirtual 52, 3) := dk_182 0 52 (dk_at dksX14_meant_3 2 rfl rfl)
theorem dX14_meant_76 : decode cX14_meant 76 = .ok (.iastore, 1) := dk_79 (dk_at dksX14_meant_3 5 rfl rfl)
theorem dX14_meant_77 : decode cX14_meant 77 = .ok (.goto (-37), 3) := dk_167 255 219 (dk_at dksX14_meant_3 6 rfl rfl)
theorem dX14_meant_80 : decode cX14_meant 80 = .ok (.iinc 3 1, 3) := dk_132 3 1 (dk_at dksX14_meant_3 9 rfl rfl)
theorem dX14_meant_83 : decode cX14_meant 83 = .ok (.goto (-69), 3) := dk_167 255 187 (dk_at dksX14_meant_3 12 rfl rfl)
theorem dX14_meant_86 : decode cX14_meant 86 = .ok (.iinc 2 1, 3) := dk_132 2 1 (dk_at dksX14_meant_3 15 rfl rfl)
theorem dX14_meant_89 : decode cX14_meant 89 = .ok (.goto (-82), 3) := dk_167 255 174 (dk_at dksX14_meant_3 18 rfl rfl)
theorem dX14_meant_92 : decode cX14_meant 92 = .ok (.aload_n 1, 1) := dk_43 (dk_at dksX14_meant_3 21 rfl rfl)
theorem dX14_meant_93 : decode cX14_meant 93 = .ok (.areturn, 1) := dk_176 (dk_at dksX14_meant_3 22 rfl rfl)
abbrev cX14_meant_2 : ByteArray := prog_26_method_4_code
def yX14_meant_2 : MethodName := ⟨RX14, "meant", "(I[I)I"⟩
def dkwX14_meant_2_4 : List UInt8 := [160, 0, 11, 21, 4, 21, 5, 104, 167, 0, 14, 6, 21, 4, 104, 5, 21, 5, 104, 96, 4, 96, 172]
abbrev dktX14_meant_2_4 : List UInt8 := dkwX14_meant_2_4 ++ []
def dkwX14_meant_2_3 : List UInt8 := [167, 0, 46, 45, 180, 0, 46, 6, 160, 0, 11, 21, 4, 21, 5, 100, 167, 0, 30, 45, 180, 0, 46, 7]
abbrev dktX14_meant_2_3 : List UInt8 := dkwX14_meant_2_3 ++ dktX14_meant_2_4
def dkwX14_meant_2_2 : List UInt8 := [180, 0, 56, 44, 182, 0, 52, 54, 5, 45, 180, 0, 46, 5, 160, 0, 11, 21, 4, 21, 5, 96]
abbrev dktX14_meant_2_2 : List UInt8 := dkwX14_meant_2_2 ++ dktX14_meant_2_3
def dkwX14_meant_2_1 : List UInt8 := [160, 0, 10, 44, 45, 180, 0, 49, 46, 172, 42, 45, 180, 0, 49, 44, 182, 0, 52, 54, 4, 42, 45]
abbrev dktX14_meant_2_1 : List UInt8 := dkwX14_meant_2_1 ++ dktX14_meant_2_2
def dkwX14_meant_2_0 : List UInt8 := [42, 27, 182, 0, 42, 78, 45, 180, 0, 46, 154, 0, 8, 45, 180, 0, 49, 172, 45, 180, 0, 46, 4]
abbrev dktX14_meant_2_0 : List UInt8 := dkwX14_meant_2_0 ++ dktX14_meant_2_1
theorem dksX14_meant_2_0 : cX14_meant_2.data.toList.drop 0 = dktX14_meant_2_0 := by decide +kernel
theorem dksX14_meant_2_1 : cX14_meant_2.data.toList.drop 23 = dktX14_meant_2_1 := dk_seg dksX14_meant_2_0 23 rfl rfl
theorem dksX14_meant_2_2 : cX14_meant_2.data.toList.drop 46 = dktX14_meant_2_2 := dk_seg dksX14_meant_2_1 23 rfl rfl
theorem dksX14_meant_2_3 : cX14_meant_2.data.toList.drop 68 = dktX14_meant_2_3 := dk_seg dksX14_meant_2_2 22 rfl rfl
theorem dksX14_meant_2_4 : cX14_meant_2.data.toList.drop 92 = dktX14_meant_2_4 := dk_seg dksX14_meant_2_3 24 rfl rfl
theorem dX14_meant_2_0 : decode cX14_meant_2 0 = .ok (.aload_n 0, 1) := dk_42 (dk_at dksX14_meant_2_0 0 rfl rfl)
theorem dX14_meant_2_1 : decode cX14_meant_2 1 = .ok (.iload_n 1, 1) := dk_27 (dk_at dksX14_meant_2_0 1 rfl rfl)
theorem dX14_meant_2_2 : decode cX14_meant_2 2 = .ok (.invokevirtual 42, 3) := dk_182 0 42 (dk_at dksX14_meant_2_0 2 rfl rfl)
theorem dX14_meant_2_5 : decode cX14_meant_2 5 = .ok (.astore_n 3, 1) := dk_78 (dk_at dksX14_meant_2_0 5 rfl rfl)
theorem dX14_meant_2_6 : decode cX14_meant_2 6 = .ok (.aload_n 3, 1) := dk_45 (dk_at dksX14_meant_2_0 6 rfl rfl)
theorem dX14_meant_2_7 : decode cX14_meant_2 7 = .ok (.getfield 46, 3) := dk_180 0 46 (dk_at dksX14_meant_2_0 7 rfl rfl)
theorem dX14_meant_2_10 : decode cX14_meant_2 10 = .ok (.ifCond .ne 8, 3) := dk_154 0 8 (dk_at dksX14_meant_2_0 10 rfl rfl)
theorem dX14_meant_2_13 : decode cX14_meant_2 13 = .ok (.aload_n 3, 1) := dk_45 (dk_at dksX14_meant_2_0 13 rfl rfl)
theorem dX14_meant_2_14 : decode cX14_meant_2 14 = .ok (.getfield 49, 3) := dk_180 0 49 (dk_at dksX14_meant_2_0 14 rfl rfl)
theorem dX14_meant_2_17 : decode cX14_meant_2 17 = .ok (.ireturn, 1) := dk_172 (dk_at dksX14_meant_2_0 17 rfl rfl)
theorem dX14_meant_2_18 : decode cX14_meant_2 18 = .ok (.aload_n 3, 1) := dk_45 (dk_at dksX14_meant_2_0 18 rfl rfl)
theorem dX14_meant_2_19 : decode cX14_meant_2 19 = .ok (.getfield 46, 3) := dk_180 0 46 (dk_at dksX14_meant_2_0 19 rfl rfl)
theorem dX14_meant_2_22 : decode cX14_meant_2 22 = .ok (.iconst 1, 1) := dk_4 (dk_at dksX14_meant_2_0 22 rfl rfl)
theorem dX14_meant_2_23 : decode cX14_meant_2 23 = .ok (.if_icmp .ne 10, 3) := dk_160 0 10 (dk_at dksX14_meant_2_1 0 rfl rfl)
theorem dX14_meant_2_26 : decode cX14_meant_2 26 = .ok (.aload_n 2, 1) := dk_44 (dk_at dksX14_meant_2_1 3 rfl rfl)
theorem dX14_meant_2_27 : decode cX14_meant_2 27 = .ok (.aload_n 3, 1) := dk_45 (dk_at dksX14_meant_2_1 4 rfl rfl)
theorem dX14_meant_2_28 : decode cX14_meant_2 28 = .ok (.getfield 49, 3) := dk_180 0 49 (dk_at dksX14_meant_2_1 5 rfl rfl)
theorem dX14_meant_2_31 : decode cX14_meant_2 31 = .ok (.iaload, 1) := dk_46 (dk_at dksX14_meant_2_1 8 rfl rfl)
theorem dX14_meant_2_32 : decode cX14_meant_2 32 = .ok (.ireturn, 1) := dk_172 (dk_at dksX14_meant_2_1 9 rfl rfl)
theorem dX14_meant_2_33 : decode cX14_meant_2 33 = .ok (.aload_n 0, 1) := dk_42 (dk_at dksX14_meant_2_1 10 rfl rfl)
theorem dX14_meant_2_34 : decode cX14_meant_2 34 = .ok (.aload_n 3, 1) := dk_45 (dk_at dksX14_meant_2_1 11 rfl rfl)
theorem dX14_meant_2_35 : decode cX14_meant_2 35 = .ok (.getfield 49, 3) := dk_180 0 49 (dk_at dksX14_meant_2_1 12 rfl rfl)
theorem dX14_meant_2_38 : decode cX14_meant_2 38 = .ok (.aload_n 2, 1) := dk_44 (dk_at dksX14_meant_2_1 15 rfl rfl)
theorem dX14_meant_2_39 : decode cX14_meant_2 39 = .ok (.invokevirtual 52, 3) := dk_182 0 52 (dk_at dksX14_meant_2_1 16 rfl rfl)
theorem dX14_meant_2_42 : decode cX14_meant_2 42 = .ok (.istore 4, 2) := dk_54 4 (dk_at dksX14_meant_2_1 19 rfl rfl)
theorem dX14_meant_2_44 : decode cX14_meant_2 44 = .ok (.aload_n 0, 1) := dk_42 (dk_at dksX14_meant_2_1 21 rfl rfl)
theorem dX14_meant_2_45 : decode cX14_meant_2 45 = .ok (.aload_n 3, 1) := dk_45 (dk_at dksX14_meant_2_1 22 rfl rfl)
theorem dX14_meant_2_46 : decode cX14_meant_2 46 = .ok (.getfield 56, 3) := dk_180 0 56 (dk_at dksX14_meant_2_2 0 rfl rfl)
theorem dX14_meant_2_49 : decode cX14_meant_2 49 = .ok (.aload_n 2, 1) := dk_44 (dk_at dksX14_meant_2_2 3 rfl rfl)
theorem dX14_meant_2_50 : decode cX14_meant_2 50 = .ok (.invokevirtual 52, 3) := dk_182 0 52 (dk_at dksX14_meant_2_2 4 rfl rfl)
theorem dX14_meant_2_53 : decode cX14_meant_2 53 = .ok (.istore 5, 2) := dk_54 5 (dk_at dksX14_meant_2_2 7 rfl rfl)
theorem dX14_meant_2_55 : decode cX14_meant_2 55 = .ok (.aload_n 3, 1) := dk_45 (dk_at dksX14_meant_2_2 9 rfl rfl)
theorem dX14_meant_2_56 : decode cX14_meant_2 56 = .ok (.getfield 46, 3) := dk_180 0 46 (dk_at dksX14_meant_2_2 10 rfl rfl)
theorem dX14_meant_2_59 : decode cX14_meant_2 59 = .ok (.iconst 2, 1) := dk_5 (dk_at dksX14_meant_2_2 13 rfl rfl)
theorem dX14_meant_2_60 : decode cX14_meant_2 60 = .ok (.if_icmp .ne 11, 3) := dk_160 0 11 (dk_at dksX14_meant_2_2 14 rfl rfl)
theorem dX14_meant_2_63 : decode cX14_meant_2 63 = .ok (.iload 4, 2) := dk_21 4 (dk_at dksX14_meant_2_2 17 rfl rfl)
theorem dX14_meant_2_65 : decode cX14_meant_2 65 = .ok (.iload 5, 2) := dk_21 5 (dk_at dksX14_meant_2_2 19 rfl rfl)
theorem dX14_meant_2_67 : decode cX14_meant_2 67 = .ok (.iadd, 1) := dk_96 (dk_at dksX14_meant_2_2 21 rfl rfl)
theorem dX14_meant_2_68 : decode cX14_meant_2 68 = .ok (.goto 46, 3) := dk_167 0 46 (dk_at dksX14_meant_2_3 0 rfl rfl)
theorem dX14_meant_2_71 : decode cX14_meant_2 71 = .ok (.aload_n 3, 1) := dk_45 (dk_at dksX14_meant_2_3 3 rfl rfl)
theorem dX14_meant_2_72 : decode cX14_meant_2 72 = .ok (.getfield 46, 3) := dk_180 0 46 (dk_at dksX14_meant_2_3 4 rfl rfl)
theorem dX14_meant_2_75 : decode cX14_meant_2 75 = .ok (.iconst 3, 1) := dk_6 (dk_at dksX14_meant_2_3 7 rfl rfl)
theorem dX14_meant_2_76 : decode cX14_meant_2 76 = .ok (.if_icmp .ne 11, 3) := dk_160 0 11 (dk_at dksX14_meant_2_3 8 rfl rfl)
theorem dX14_meant_2_79 : decode cX14_meant_2 79 = .ok (.iload 4, 2) := dk_21 4 (dk_at dksX14_meant_2_3 11 rfl rfl)
theorem dX14_meant_2_81 : decode cX14_meant_2 81 = .ok (.iload 5, 2) := dk_21 5 (dk_at dksX14_meant_2_3 13 rfl rfl)
theorem dX14_meant_2_83 : decode cX14_meant_2 83 = .ok (.isub, 1) := dk_100 (dk_at dksX14_meant_2_3 15 rfl rfl)
theorem dX14_meant_2_84 : decode cX14_meant_2 84 = .ok (.goto 30, 3) := dk_167 0 30 (dk_at dksX14_meant_2_3 16 rfl rfl)
theorem dX14_meant_2_87 : decode cX14_meant_2 87 = .ok (.aload_n 3, 1) := dk_45 (dk_at dksX14_meant_2_3 19 rfl rfl)
theorem dX14_meant_2_88 : decode cX14_meant_2 88 = .ok (.getfield 46, 3) := dk_180 0 46 (dk_at dksX14_meant_2_3 20 rfl rfl)
theorem dX14_meant_2_91 : decode cX14_meant_2 91 = .ok (.iconst 4, 1) := dk_7 (dk_at dksX14_meant_2_3 23 rfl rfl)
theorem dX14_meant_2_92 : decode cX14_meant_2 92 = .ok (.if_icmp .ne 11, 3) := dk_160 0 11 (dk_at dksX14_meant_2_4 0 rfl rfl)
theorem dX14_meant_2_95 : decode cX14_meant_2 95 = .ok (.iload 4, 2) := dk_21 4 (dk_at dksX14_meant_2_4 3 rfl rfl)
theorem dX14_meant_2_97 : decode cX14_meant_2 97 = .ok (.iload 5, 2) := dk_21 5 (dk_at dksX14_meant_2_4 5 rfl rfl)
theorem dX14_meant_2_99 : decode cX14_meant_2 99 = .ok (.imul, 1) := dk_104 (dk_at dksX14_meant_2_4 7 rfl rfl)
theorem dX14_meant_2_100 : decode cX14_meant_2 100 = .ok (.goto 14, 3) := dk_167 0 14 (dk_at dksX14_meant_2_4 8 rfl rfl)
theorem dX14_meant_2_103 : decode cX14_meant_2 103 = .ok (.iconst 3, 1) := dk_6 (dk_at dksX14_meant_2_4 11 rfl rfl)
theorem dX14_meant_2_104 : decode cX14_meant_2 104 = .ok (.iload 4, 2) := dk_21 4 (dk_at dksX14_meant_2_4 12 rfl rfl)
theorem dX14_meant_2_106 : decode cX14_meant_2 106 = .ok (.imul, 1) := dk_104 (dk_at dksX14_meant_2_4 14 rfl rfl)
theorem dX14_meant_2_107 : decode cX14_meant_2 107 = .ok (.iconst 2, 1) := dk_5 (dk_at dksX14_meant_2_4 15 rfl rfl)
theorem dX14_meant_2_108 : decode cX14_meant_2 108 = .ok (.iload 5, 2) := dk_21 5 (dk_at dksX14_meant_2_4 16 rfl rfl)
theorem dX14_meant_2_110 : decode cX14_meant_2 110 = .ok (.imul, 1) := dk_104 (dk_at dksX14_meant_2_4 18 rfl rfl)
theorem dX14_meant_2_111 : decode cX14_meant_2 111 = .ok (.iadd, 1) := dk_96 (dk_at dksX14_meant_2_4 19 rfl rfl)
theorem dX14_meant_2_112 : decode cX14_meant_2 112 = .ok (.iconst 1, 1) := dk_4 (dk_at dksX14_meant_2_4 20 rfl rfl)
theorem dX14_meant_2_113 : decode cX14_meant_2 113 = .ok (.iadd, 1) := dk_96 (dk_at dksX14_meant_2_4 21 rfl rfl)
theorem dX14_meant_2_114 : decode cX14_meant_2 114 = .ok (.ireturn, 1) := dk_172 (dk_at dksX14_meant_2_4 22 rfl rfl)
abbrev cX14_latency : ByteArray := prog_26_method_3_code
def yX14_latency : MethodName := ⟨RX14, "latency", "(I)I"⟩
def dkwX14_latency_2 : List UInt8 := [16, 8, 160, 0, 8, 16, 6, 167, 0, 15, 27, 16, 9, 160, 0, 8, 16, 7, 167, 0, 4, 27, 46, 172]
abbrev dktX14_latency_2 : List UInt8 := dkwX14_latency_2 ++ []
def dkwX14_latency_1 : List UInt8 := [167, 0, 46, 27, 16, 6, 160, 0, 7, 7, 167, 0, 36, 27, 16, 7, 160, 0, 7, 8, 167, 0, 26, 27]
abbrev dktX14_latency_1 : List UInt8 := dkwX14_latency_1 ++ dktX14_latency_2
def dkwX14_latency_0 : List UInt8 := [42, 180, 0, 25, 27, 6, 159, 0, 8, 27, 8, 160, 0, 7, 5, 167, 0, 55, 27, 7, 160, 0, 7, 6]
abbrev dktX14_latency_0 : List UInt8 := dkwX14_latency_0 ++ dktX14_latency_1
theorem dksX14_latency_0 : cX14_latency.data.toList.drop 0 = dktX14_latency_0 := by decide +kernel
theorem dksX14_latency_1 : cX14_latency.data.toList.drop 24 = dktX14_latency_1 := dk_seg dksX14_latency_0 24 rfl rfl
theorem dksX14_latency_2 : cX14_latency.data.toList.drop 48 = dktX14_latency_2 := dk_seg dksX14_latency_1 24 rfl rfl
theorem dX14_latency_0 : decode cX14_latency 0 = .ok (.aload_n 0, 1) := dk_42 (dk_at dksX14_latency_0 0 rfl rfl)
theorem dX14_latency_1 : decode cX14_latency 1 = .ok (.getfield 25, 3) := dk_180 0 25 (dk_at dksX14_latency_0 1 rfl rfl)
theorem dX14_latency_4 : decode cX14_latency 4 = .ok (.iload_n 1, 1) := dk_27 (dk_at dksX14_latency_0 4 rfl rfl)
theorem dX14_latency_5 : decode cX14_latency 5 = .ok (.iconst 3, 1) := dk_6 (dk_at dksX14_latency_0 5 rfl rfl)
theorem dX14_latency_6 : decode cX14_latency 6 = .ok (.if_icmp .eq 8, 3) := dk_159 0 8 (dk_at dksX14_latency_0 6 rfl rfl)
theorem dX14_latency_9 : decode cX14_latency 9 = .ok (.iload_n 1, 1) := dk_27 (dk_at dksX14_latency_0 9 rfl rfl)
theorem dX14_latency_10 : decode cX14_latency 10 = .ok (.iconst 5, 1) := dk_8 (dk_at dksX14_latency_0 10 rfl rfl)
theorem dX14_latency_11 : decode cX14_latency 11 = .ok (.if_icmp .ne 7, 3) := dk_160 0 7 (dk_at dksX14_latency_0 11 rfl rfl)
theorem dX14_latency_14 : decode cX14_latency 14 = .ok (.iconst 2, 1) := dk_5 (dk_at dksX14_latency_0 14 rfl rfl)
theorem dX14_latency_15 : decode cX14_latency 15 = .ok (.goto 55, 3) := dk_167 0 55 (dk_at dksX14_latency_0 15 rfl rfl)
theorem dX14_latency_18 : decode cX14_latency 18 = .ok (.iload_n 1, 1) := dk_27 (dk_at dksX14_latency_0 18 rfl rfl)
theorem dX14_latency_19 : decode cX14_latency 19 = .ok (.iconst 4, 1) := dk_7 (dk_at dksX14_latency_0 19 rfl rfl)
theorem dX14_latency_20 : decode cX14_latency 20 = .ok (.if_icmp .ne 7, 3) := dk_160 0 7 (dk_at dksX14_latency_0 20 rfl rfl)
theorem dX14_latency_23 : decode cX14_latency 23 = .ok (.iconst 3, 1) := dk_6 (dk_at dksX14_latency_0 23 rfl rfl)
theorem dX14_latency_24 : decode cX14_latency 24 = .ok (.goto 46, 3) := dk_167 0 46 (dk_at dksX14_latency_1 0 rfl rfl)
theorem dX14_latency_27 : decode cX14_latency 27 = .ok (.iload_n 1, 1) := dk_27 (dk_at dksX14_latency_1 3 rfl rfl)
theorem dX14_latency_28 : decode cX14_latency 28 = .ok (.bipush 6, 2) := dk_16 6 (dk_at dksX14_latency_1 4 rfl rfl)
theorem dX14_latency_30 : decode cX14_latency 30 = .ok (.if_icmp .ne 7, 3) := dk_160 0 7 (dk_at dksX14_latency_1 6 rfl rfl)
theorem dX14_latency_33 : decode cX14_latency 33 = .ok (.iconst 4, 1) := dk_7 (dk_at dksX14_latency_1 9 rfl rfl)
theorem dX14_latency_34 : decode cX14_latency 34 = .ok (.goto 36, 3) := dk_167 0 36 (dk_at dksX14_latency_1 10 rfl rfl)
theorem dX14_latency_37 : decode cX14_latency 37 = .ok (.iload_n 1, 1) := dk_27 (dk_at dksX14_latency_1 13 rfl rfl)
theorem dX14_latency_38 : decode cX14_latency 38 = .ok (.bipush 7, 2) := dk_16 7 (dk_at dksX14_latency_1 14 rfl rfl)
theorem dX14_latency_40 : decode cX14_latency 40 = .ok (.if_icmp .ne 7, 3) := dk_160 0 7 (dk_at dksX14_latency_1 16 rfl rfl)
theorem dX14_latency_43 : decode cX14_latency 43 = .ok (.iconst 5, 1) := dk_8 (dk_at dksX14_latency_1 19 rfl rfl)
theorem dX14_latency_44 : decode cX14_latency 44 = .ok (.goto 26, 3) := dk_167 0 26 (dk_at dksX14_latency_1 20 rfl rfl)
theorem dX14_latency_47 : decode cX14_latency 47 = .ok (.iload_n 1, 1) := dk_27 (dk_at dksX14_latency_1 23 rfl rfl)
theorem dX14_latency_48 : decode cX14_latency 48 = .ok (.bipush 8, 2) := dk_16 8 (dk_at dksX14_latency_2 0 rfl rfl)
theorem dX14_latency_50 : decode cX14_latency 50 = .ok (.if_icmp .ne 8, 3) := dk_160 0 8 (dk_at dksX14_latency_2 2 rfl rfl)
theorem dX14_latency_53 : decode cX14_latency 53 = .ok (.bipush 6, 2) := dk_16 6 (dk_at dksX14_latency_2 5 rfl rfl)
theorem dX14_latency_55 : decode cX14_latency 55 = .ok (.goto 15, 3) := dk_167 0 15 (dk_at dksX14_latency_2 7 rfl rfl)
theorem dX14_latency_58 : decode cX14_latency 58 = .ok (.iload_n 1, 1) := dk_27 (dk_at dksX14_latency_2 10 rfl rfl)
theorem dX14_latency_59 : decode cX14_latency 59 = .ok (.bipush 9, 2) := dk_16 9 (dk_at dksX14_latency_2 11 rfl rfl)
theorem dX14_latency_61 : decode cX14_latency 61 = .ok (.if_icmp .ne 8, 3) := dk_160 0 8 (dk_at dksX14_latency_2 13 rfl rfl)
theorem dX14_latency_64 : decode cX14_latency 64 = .ok (.bipush 7, 2) := dk_16 7 (dk_at dksX14_latency_2 16 rfl rfl)
theorem dX14_latency_66 : decode cX14_latency 66 = .ok (.goto 4, 3) := dk_167 0 4 (dk_at dksX14_latency_2 18 rfl rfl)
theorem dX14_latency_69 : decode cX14_latency 69 = .ok (.iload_n 1, 1) := dk_27 (dk_at dksX14_latency_2 21 rfl rfl)
theorem dX14_latency_70 : decode cX14_latency 70 = .ok (.iaload, 1) := dk_46 (dk_at dksX14_latency_2 22 rfl rfl)
theorem dX14_latency_71 : decode cX14_latency 71 = .ok (.ireturn, 1) := dk_172 (dk_at dksX14_latency_2 23 rfl rfl)
theorem q156 : (Jvm.Cond.initialized "SpillslotWorksModel$Program") ∈ lw_all := lw_g (lw_at lw_m1 37 rfl) rfl
theorem q276 : (Jvm.Cond.selects "SpillslotWorksModel$Program" ({ cls := "java/lang/Object", name := "getClass", desc := "()Ljava/lang/Class;" } : Jvm.MethodName) ({ cls := "java/lang/Object", name := "getClass", desc := "()Ljava/lang/Class;" } : Jvm.MethodName)) ∈ lw_all := lw_g (lw_at lw_m1 157 rfl) rfl
theorem q1852 : (Jvm.Cond.instantiable "SpillslotWorksModel$Program" (5 : Nat)) ∈ lw_all := lw_g (lw_at lw_m8 53 rfl) rfl
theorem q1854 : (Jvm.Cond.instanceMethod ({ cls := "SpillslotWorksModel$Program", name := "<init>", desc := "()V" } : Jvm.MethodName)) ∈ lw_all := lw_g (lw_at lw_m8 55 rfl) rfl
theorem q1855 : (Jvm.Cond.code ({ cls := "SpillslotWorksModel$Program", name := "<init>", desc := "()V" } : Jvm.MethodName) prog_26_method_1_code (2 : Nat) (Option.none : Option Jvm.ClassFile.FieldType)) ∈ lw_all := lw_g (lw_at lw_m8 56 rfl) rfl
theorem q1856 : (Jvm.Cond.methodLink "SpillslotWorksModel$Program" (3 : Nat) ({ cls := "java/lang/Object", name := "<init>", desc := "()V" } : Jvm.MethodName)) ∈ lw_all := lw_g (lw_at lw_m8 57 rfl) rfl
theorem q1857 : (Jvm.Cond.classLink "SpillslotWorksModel$Program" (9 : Nat) "java/util/ArrayList") ∈ lw_all := lw_g (lw_at lw_m8 58 rfl) rfl
theorem q1858 : (Jvm.Cond.methodLink "SpillslotWorksModel$Program" (11 : Nat) ({ cls := "java/util/ArrayList", name := "<init>", desc := "()V" } : Jvm.MethodName)) ∈ lw_all := lw_g (lw_at lw_m8 59 rfl) rfl
theorem q1859 : (Jvm.Cond.methodLink "SpillslotWorksModel$Program" (32 : Nat) ({ cls := "java/util/ArrayList", name := "add", desc := "(Ljava/lang/Object;)Z" } : Jvm.MethodName)) ∈ lw_all := lw_g (lw_at lw_m8 60 rfl) rfl
theorem q1860 : (Jvm.Cond.fieldLink "SpillslotWorksModel$Program" (12 : Nat) "SpillslotWorksModel$Program" "nodes" "Ljava/util/ArrayList;") ∈ lw_all := lw_g (lw_at lw_m8 61 rfl) rfl
theorem q1862 : (Jvm.Cond.fieldLink "SpillslotWorksModel$Program" (18 : Nat) "SpillslotWorksModel$Program" "blocks" "Ljava/util/ArrayList;") ∈ lw_all := lw_g (lw_at lw_m8 63 rfl) rfl
theorem q1865 : (Jvm.Cond.fieldLink "SpillslotWorksModel$Program" (21 : Nat) "SpillslotWorksModel$Program" "times" "[I") ∈ lw_all := lw_g (lw_at lw_m8 66 rfl) rfl
theorem q1869 : (Jvm.Cond.fieldLink "SpillslotWorksModel$Program" (25 : Nat) "SpillslotWorksModel$Program" "latencies" "[I") ∈ lw_all := lw_g (lw_at lw_m8 70 rfl) rfl
theorem q1871 : (Jvm.Cond.fieldLink "SpillslotWorksModel$Program" (28 : Nat) "SpillslotWorksModel$Program" "out" "I") ∈ lw_all := lw_g (lw_at lw_m8 72 rfl) rfl
theorem q1875 : (Jvm.Cond.laysFinal "SpillslotWorksModel$Program" "SpillslotWorksModel$Program" "nodes" "Ljava/util/ArrayList;") ∈ lw_all := lw_g (lw_at lw_m8 76 rfl) rfl
theorem q1876 : (Jvm.Cond.soleField "SpillslotWorksModel$Program" "nodes") ∈ lw_all := lw_g (lw_at lw_m8 77 rfl) rfl
theorem q1877 : (Jvm.Cond.laysFinal "SpillslotWorksModel$Program" "SpillslotWorksModel$Program" "blocks" "Ljava/util/ArrayList;") ∈ lw_all := lw_g (lw_at lw_m8 78 rfl) rfl
theorem q1878 : (Jvm.Cond.soleField "SpillslotWorksModel$Program" "blocks") ∈ lw_all := lw_g (lw_at lw_m8 79 rfl) rfl
theorem q1879 : (Jvm.Cond.laysFinal "SpillslotWorksModel$Program" "SpillslotWorksModel$Program" "times" "[I") ∈ lw_all := lw_g (lw_at lw_m8 80 rfl) rfl
theorem q1880 : (Jvm.Cond.soleField "SpillslotWorksModel$Program" "times") ∈ lw_all := lw_g (lw_at lw_m8 81 rfl) rfl
theorem q1881 : (Jvm.Cond.laysFinal "SpillslotWorksModel$Program" "SpillslotWorksModel$Program" "latencies" "[I") ∈ lw_all := lw_g (lw_at lw_m8 82 rfl) rfl
theorem q1882 : (Jvm.Cond.soleField "SpillslotWorksModel$Program" "latencies") ∈ lw_all := lw_g (lw_at lw_m8 83 rfl) rfl
theorem q1883 : (Jvm.Cond.lays "SpillslotWorksModel$Program" "SpillslotWorksModel$Program" "out" "I") ∈ lw_all := lw_g (lw_at lw_m8 84 rfl) rfl
theorem q1884 : (Jvm.Cond.soleField "SpillslotWorksModel$Program" "out") ∈ lw_all := lw_g (lw_at lw_m8 85 rfl) rfl
theorem q1885 : (Jvm.Cond.superclass "SpillslotWorksModel$Program" "java/lang/Object") ∈ lw_all := lw_g (lw_at lw_m8 86 rfl) rfl
theorem q1974 : (Jvm.Cond.instanceMethod ({ cls := "SpillslotWorksModel$Program", name := "of", desc := "(I)LSpillslotWorksModel$Node;" } : Jvm.MethodName)) ∈ lw_all := lw_g (lw_at lw_m8 175 rfl) rfl
theorem q1975 : (Jvm.Cond.selects "SpillslotWorksModel$Program" ({ cls := "SpillslotWorksModel$Program", name := "of", desc := "(I)LSpillslotWorksModel$Node;" } : Jvm.MethodName) ({ cls := "SpillslotWorksModel$Program", name := "of", desc := "(I)LSpillslotWorksModel$Node;" } : Jvm.MethodName)) ∈ lw_all := lw_g (lw_at lw_m8 176 rfl) rfl
theorem q1976 : (Jvm.Cond.code ({ cls := "SpillslotWorksModel$Program", name := "of", desc := "(I)LSpillslotWorksModel$Node;" } : Jvm.MethodName) prog_26_method_2_code (2 : Nat) (Option.some (Jvm.ClassFile.FieldType.object "SpillslotWorksModel$Node"))) ∈ lw_all := lw_g (lw_at lw_m8 177 rfl) rfl
theorem q1977 : (Jvm.Cond.methodLink "SpillslotWorksModel$Program" (36 : Nat) ({ cls := "java/util/ArrayList", name := "get", desc := "(I)Ljava/lang/Object;" } : Jvm.MethodName)) ∈ lw_all := lw_g (lw_at lw_m8 178 rfl) rfl
theorem q1978 : (Jvm.Cond.classLink "SpillslotWorksModel$Program" (40 : Nat) "SpillslotWorksModel$Node") ∈ lw_all := lw_g (lw_at lw_m8 179 rfl) rfl
theorem q1987 : (Jvm.Cond.fieldLink "SpillslotWorksModel$Program" (46 : Nat) "SpillslotWorksModel$Node" "kind" "I") ∈ lw_all := lw_g (lw_at lw_m8 188 rfl) rfl
theorem q1990 : (Jvm.Cond.fieldLink "SpillslotWorksModel$Program" (49 : Nat) "SpillslotWorksModel$Node" "a" "I") ∈ lw_all := lw_g (lw_at lw_m8 191 rfl) rfl
theorem q1993 : (Jvm.Cond.fieldLink "SpillslotWorksModel$Program" (56 : Nat) "SpillslotWorksModel$Node" "b" "I") ∈ lw_all := lw_g (lw_at lw_m8 194 rfl) rfl
theorem q2095 : (Jvm.Cond.instanceMethod ({ cls := "SpillslotWorksModel$Program", name := "meant", desc := "()[I" } : Jvm.MethodName)) ∈ lw_all := lw_g (lw_at lw_m9 56 rfl) rfl
theorem q2096 : (Jvm.Cond.selects "SpillslotWorksModel$Program" ({ cls := "SpillslotWorksModel$Program", name := "meant", desc := "()[I" } : Jvm.MethodName) ({ cls := "SpillslotWorksModel$Program", name := "meant", desc := "()[I" } : Jvm.MethodName)) ∈ lw_all := lw_g (lw_at lw_m9 57 rfl) rfl
theorem q2097 : (Jvm.Cond.code ({ cls := "SpillslotWorksModel$Program", name := "meant", desc := "()[I" } : Jvm.MethodName) prog_26_method_5_code (6 : Nat) (Option.some (Jvm.ClassFile.FieldType.array Jvm.ClassFile.FieldType.int))) ∈ lw_all := lw_g (lw_at lw_m9 58 rfl) rfl
theorem q2098 : (Jvm.Cond.methodLink "SpillslotWorksModel$Program" (59 : Nat) ({ cls := "java/util/ArrayList", name := "iterator", desc := "()Ljava/util/Iterator;" } : Jvm.MethodName)) ∈ lw_all := lw_g (lw_at lw_m9 59 rfl) rfl
theorem q2099 : (Jvm.Cond.interfaceEntry "SpillslotWorksModel$Program" (63 : Nat)) ∈ lw_tbl := lw_at lw_m9 60 rfl
theorem q2100 : (Jvm.Cond.methodLink "SpillslotWorksModel$Program" (63 : Nat) ({ cls := "java/util/Iterator", name := "hasNext", desc := "()Z" } : Jvm.MethodName)) ∈ lw_all := lw_g (lw_at lw_m9 61 rfl) rfl
theorem q2101 : (Jvm.Cond.interfaceEntry "SpillslotWorksModel$Program" (69 : Nat)) ∈ lw_tbl := lw_at lw_m9 62 rfl
theorem q2102 : (Jvm.Cond.methodLink "SpillslotWorksModel$Program" (69 : Nat) ({ cls := "java/util/Iterator", name := "next", desc := "()Ljava/lang/Object;" } : Jvm.MethodName)) ∈ lw_all := lw_g (lw_at lw_m9 63 rfl) rfl
theorem q2103 : (Jvm.Cond.classLink "SpillslotWorksModel$Program" (73 : Nat) "[I") ∈ lw_all := lw_g (lw_at lw_m9 64 rfl) rfl
theorem q2104 : (Jvm.Cond.methodLink "SpillslotWorksModel$Program" (52 : Nat) ({ cls := "SpillslotWorksModel$Program", name := "meant", desc := "(I[I)I" } : Jvm.MethodName)) ∈ lw_all := lw_g (lw_at lw_m9 65 rfl) rfl
theorem q2105 : (Jvm.Cond.instanceMethod ({ cls := "SpillslotWorksModel$Program", name := "meant", desc := "(I[I)I" } : Jvm.MethodName)) ∈ lw_all := lw_g (lw_at lw_m9 66 rfl) rfl
theorem q2106 : (Jvm.Cond.selects "SpillslotWorksModel$Program" ({ cls := "SpillslotWorksModel$Program", name := "meant", desc := "(I[I)I" } : Jvm.MethodName) ({ cls := "SpillslotWorksModel$Program", name := "meant", desc := "(I[I)I" } : Jvm.MethodName)) ∈ lw_all := lw_g (lw_at lw_m9 67 rfl) rfl
theorem q2107 : (Jvm.Cond.code ({ cls := "SpillslotWorksModel$Program", name := "meant", desc := "(I[I)I" } : Jvm.MethodName) prog_26_method_4_code (6 : Nat) (Option.some Jvm.ClassFile.FieldType.int)) ∈ lw_all := lw_g (lw_at lw_m9 68 rfl) rfl
theorem q2108 : (Jvm.Cond.methodLink "SpillslotWorksModel$Program" (42 : Nat) ({ cls := "SpillslotWorksModel$Program", name := "of", desc := "(I)LSpillslotWorksModel$Node;" } : Jvm.MethodName)) ∈ lw_all := lw_g (lw_at lw_m9 69 rfl) rfl
theorem q2213 : (Jvm.Cond.instanceMethod ({ cls := "SpillslotWorksModel$Program", name := "latency", desc := "(I)I" } : Jvm.MethodName)) ∈ lw_all := lw_g (lw_at lw_m9 174 rfl) rfl
theorem q2214 : (Jvm.Cond.selects "SpillslotWorksModel$Program" ({ cls := "SpillslotWorksModel$Program", name := "latency", desc := "(I)I" } : Jvm.MethodName) ({ cls := "SpillslotWorksModel$Program", name := "latency", desc := "(I)I" } : Jvm.MethodName)) ∈ lw_all := lw_g (lw_at lw_m9 175 rfl) rfl
theorem q2215 : (Jvm.Cond.code ({ cls := "SpillslotWorksModel$Program", name := "latency", desc := "(I)I" } : Jvm.MethodName) prog_26_method_3_code (2 : Nat) (Option.some Jvm.ClassFile.FieldType.int)) ∈ lw_all := lw_g (lw_at lw_m9 176 rfl) rfl
theorem q2321 : (Jvm.Cond.selects "SpillslotWorksModel$Program" ({ cls := "java/lang/Object", name := "equals", desc := "(Ljava/lang/Object;)Z" } : Jvm.MethodName) ({ cls := "java/lang/Object", name := "equals", desc := "(Ljava/lang/Object;)Z" } : Jvm.MethodName)) ∈ lw_all := lw_g (lw_at lw_m10 42 rfl) rfl
theorem q2874 : (Jvm.Cond.castable "SpillslotWorksModel$Program" "java/lang/Object") ∈ lw_tbl := lw_at lw_m12 115 rfl
theorem in_X14 : ∀ w ∈ wsX140, w ∈ lw_all := lw_in wsX140 [1875, 1877, 1879, 1881, 1883] (by decide +kernel) (by decide +kernel)
/-! SpillslotWorks$Program -/
def RX2 : String := "SpillslotWorks$Program"
def TX2 : u_T := fun k => match k with
  | 0 => ("SpillslotWorks$Program", "nodes", "Ljava/util/List;", true)
  | 1 => ("SpillslotWorks$Program", "blocks", "Ljava/util/List;", true)
  | 2 => ("SpillslotWorks$Program", "times", "[I", true)
  | _ => ("SpillslotWorks$Program", "out", "I", false)
def tyX2 : Nat → FieldType := fun k => match k with
  | 0 => .object "java/util/List"
  | 1 => .object "java/util/List"
  | 2 => .array .int
  | _ => .int
abbrev wsX20 : List Cond := u_ws RX2 TX2 4
theorem nmX2 : ∀ a, a < 4 → ∀ b, b < 4 → a ≠ b → (TX2 a).2.1 ≠ (TX2 b).2.1 := by decide +kernel
theorem tyX2_ok : ∀ k, k < 4 → parseFieldDescriptor (TX2 k).2.2.1 = some (tyX2 k) := by decide +kernel
abbrev cX2_init : ByteArray := prog_12_method_1_code
def yX2_init : MethodName := ⟨RX2, "<init>", "()V"⟩
def dkwX2_init_3 : List UInt8 := [132, 1, 1, 167, 255, 224, 177]
abbrev dktX2_init_3 : List UInt8 := dkwX2_init_3 ++ []
def dkwX2_init_2 : List UInt8 := [180, 0, 18, 187, 0, 9, 89, 183, 0, 11, 185, 0, 29, 2, 0, 87, 42, 180, 0, 21, 27, 4, 79]
abbrev dktX2_init_2 : List UInt8 := dkwX2_init_2 ++ dktX2_init_3
def dkwX2_init_1 : List UInt8 := [181, 0, 18, 42, 7, 188, 10, 181, 0, 21, 42, 4, 181, 0, 25, 3, 60, 27, 7, 162, 0, 33, 42]
abbrev dktX2_init_1 : List UInt8 := dkwX2_init_1 ++ dktX2_init_2
def dkwX2_init_0 : List UInt8 := [42, 183, 0, 3, 42, 187, 0, 9, 89, 183, 0, 11, 181, 0, 12, 42, 187, 0, 9, 89, 183, 0, 11]
abbrev dktX2_init_0 : List UInt8 := dkwX2_init_0 ++ dktX2_init_1
theorem dksX2_init_0 : cX2_init.data.toList.drop 0 = dktX2_init_0 := by decide +kernel
theorem dksX2_init_1 : cX2_init.data.toList.drop 23 = dktX2_init_1 := dk_seg dksX2_init_0 23 rfl rfl
theorem dksX2_init_2 : cX2_init.data.toList.drop 46 = dktX2_init_2 := dk_seg dksX2_init_1 23 rfl rfl
theorem dksX2_init_3 : cX2_init.data.toList.drop 69 = dktX2_init_3 := dk_seg dksX2_init_2 23 rfl rfl
theorem dX2_init_0 : decode cX2_init 0 = .ok (.aload_n 0, 1) := dk_42 (dk_at dksX2_init_0 0 rfl rfl)
theorem dX2_init_1 : decode cX2_init 1 = .ok (.invokespecial 3, 3) := dk_183 0 3 (dk_at dksX2_init_0 1 rfl rfl)
theorem dX2_init_4 : decode cX2_init 4 = .ok (.aload_n 0, 1) := dk_42 (dk_at dksX2_init_0 4 rfl rfl)
theorem dX2_init_5 : decode cX2_init 5 = .ok (.new 9, 3) := dk_187 0 9 (dk_at dksX2_init_0 5 rfl rfl)
theorem dX2_init_8 : decode cX2_init 8 = .ok (.dup, 1) := dk_89 (dk_at dksX2_init_0 8 rfl rfl)
theorem dX2_init_9 : decode cX2_init 9 = .ok (.invokespecial 11, 3) := dk_183 0 11 (dk_at dksX2_init_0 9 rfl rfl)
theorem dX2_init_12 : decode cX2_init 12 = .ok (.putfield 12, 3) := dk_181 0 12 (dk_at dksX2_init_0 12 rfl rfl)
theorem dX2_init_15 : decode cX2_init 15 = .ok (.aload_n 0, 1) := dk_42 (dk_at dksX2_init_0 15 rfl rfl)
theorem dX2_init_16 : decode cX2_init 16 = .ok (.new 9, 3) := dk_187 0 9 (dk_at dksX2_init_0 16 rfl rfl)
theorem dX2_init_19 : decode cX2_init 19 = .ok (.dup, 1) := dk_89 (dk_at dksX2_init_0 19 rfl rfl)
theorem dX2_init_20 : decode cX2_init 20 = .ok (.invokespecial 11, 3) := dk_183 0 11 (dk_at dksX2_init_0 20 rfl rfl)
theorem dX2_init_23 : decode cX2_init 23 = .ok (.putfield 18, 3) := dk_181 0 18 (dk_at dksX2_init_1 0 rfl rfl)
theorem dX2_init_26 : decode cX2_init 26 = .ok (.aload_n 0, 1) := dk_42 (dk_at dksX2_init_1 3 rfl rfl)
theorem dX2_init_27 : decode cX2_init 27 = .ok (.iconst 4, 1) := dk_7 (dk_at dksX2_init_1 4 rfl rfl)
theorem dX2_init_28 : decode cX2_init 28 = .ok (.newarray .int, 2) := dk_188_10 (dk_at dksX2_init_1 5 rfl rfl)
theorem dX2_init_30 : decode cX2_init 30 = .ok (.putfield 21, 3) := dk_181 0 21 (dk_at dksX2_init_1 7 rfl rfl)
theorem dX2_init_33 : decode cX2_init 33 = .ok (.aload_n 0, 1) := dk_42 (dk_at dksX2_init_1 10 rfl rfl)
theorem dX2_init_34 : decode cX2_init 34 = .ok (.iconst 1, 1) := dk_4 (dk_at dksX2_init_1 11 rfl rfl)
theorem dX2_init_35 : decode cX2_init 35 = .ok (.putfield 25, 3) := dk_181 0 25 (dk_at dksX2_init_1 12 rfl rfl)
theorem dX2_init_38 : decode cX2_init 38 = .ok (.iconst 0, 1) := dk_3 (dk_at dksX2_init_1 15 rfl rfl)
theorem dX2_init_39 : decode cX2_init 39 = .ok (.istore_n 1, 1) := dk_60 (dk_at dksX2_init_1 16 rfl rfl)
theorem dX2_init_40 : decode cX2_init 40 = .ok (.iload_n 1, 1) := dk_27 (dk_at dksX2_init_1 17 rfl rfl)
theorem dX2_init_41 : decode cX2_init 41 = .ok (.iconst 4, 1) := dk_7 (dk_at dksX2_init_1 18 rfl rfl)
theorem dX2_init_42 : decode cX2_init 42 = .ok (.if_icmp .ge 33, 3) := dk_162 0 33 (dk_at dksX2_init_1 19 rfl rfl)
theorem dX2_init_45 : decode cX2_init 45 = .ok (.aload_n 0, 1) := dk_42 (dk_at dksX2_init_1 22 rfl rfl)
theorem dX2_init_46 : decode cX2_init 46 = .ok (.getfield 18, 3) := dk_180 0 18 (dk_at dksX2_init_2 0 rfl rfl)
theorem dX2_init_49 : decode cX2_init 49 = .ok (.new 9, 3) := dk_187 0 9 (dk_at dksX2_init_2 3 rfl rfl)
theorem dX2_init_52 : decode cX2_init 52 = .ok (.dup, 1) := dk_89 (dk_at dksX2_init_2 6 rfl rfl)
theorem dX2_init_53 : decode cX2_init 53 = .ok (.invokespecial 11, 3) := dk_183 0 11 (dk_at dksX2_init_2 7 rfl rfl)
theorem dX2_init_56 : decode cX2_init 56 = .ok (.invokeinterface 29 2, 5) := by decide +kernel
theorem dX2_init_61 : decode cX2_init 61 = .ok (.pop, 1) := dk_87 (dk_at dksX2_init_2 15 rfl rfl)
theorem dX2_init_62 : decode cX2_init 62 = .ok (.aload_n 0, 1) := dk_42 (dk_at dksX2_init_2 16 rfl rfl)
theorem dX2_init_63 : decode cX2_init 63 = .ok (.getfield 21, 3) := dk_180 0 21 (dk_at dksX2_init_2 17 rfl rfl)
theorem dX2_init_66 : decode cX2_init 66 = .ok (.iload_n 1, 1) := dk_27 (dk_at dksX2_init_2 20 rfl rfl)
theorem dX2_init_67 : decode cX2_init 67 = .ok (.iconst 1, 1) := dk_4 (dk_at dksX2_init_2 21 rfl rfl)
theorem dX2_init_68 : decode cX2_init 68 = .ok (.iastore, 1) := dk_79 (dk_at dksX2_init_2 22 rfl rfl)
theorem dX2_init_69 : decode cX2_init 69 = .ok (.iinc 1 1, 3) := dk_132 1 1 (dk_at dksX2_init_3 0 rfl rfl)
theorem dX2_init_72 : decode cX2_init 72 = .ok (.goto (-32), 3) := dk_167 255 224 (dk_at dksX2_init_3 3 rfl rfl)
theorem dX2_init_75 : decode cX2_init 75 = .ok (.return_, 1) := dk_177 (dk_at dksX2_init_3 6 rfl rfl)
abbrev cX2_at : ByteArray := prog_12_method_2_code
def yX2_at : MethodName := ⟨RX2, "at", "(I)LSpillslotWorks$Node;"⟩
def dkwX2_at_0 : List UInt8 := [42, 180, 0, 12, 27, 185, 0, 35, 2, 0, 192, 0, 39, 176]
abbrev dktX2_at_0 : List UInt8 := dkwX2_at_0 ++ []
theorem dksX2_at_0 : cX2_at.data.toList.drop 0 = dktX2_at_0 := by decide +kernel
theorem dX2_at_0 : decode cX2_at 0 = .ok (.aload_n 0, 1) := dk_42 (dk_at dksX2_at_0 0 rfl rfl)
theorem dX2_at_1 : decode cX2_at 1 = .ok (.getfield 12, 3) := dk_180 0 12 (dk_at dksX2_at_0 1 rfl rfl)
theorem dX2_at_4 : decode cX2_at 4 = .ok (.iload_n 1, 1) := dk_27 (dk_at dksX2_at_0 4 rfl rfl)
theorem dX2_at_5 : decode cX2_at 5 = .ok (.invokeinterface 35 2, 5) := by decide +kernel
theorem dX2_at_10 : decode cX2_at 10 = .ok (.checkcast 39, 3) := dk_192 0 39 (dk_at dksX2_at_0 10 rfl rfl)
theorem dX2_at_13 : decode cX2_at 13 = .ok (.areturn, 1) := dk_176 (dk_at dksX2_at_0 13 rfl rfl)
abbrev cX2_statements : ByteArray := prog_12_method_3_code
def yX2_statements : MethodName := ⟨RX2, "statements", "()I"⟩
def dkwX2_statements_1 : List UInt8 := [185, 0, 41, 1, 0, 96, 60, 132, 2, 1, 167, 255, 227, 27, 172]
abbrev dktX2_statements_1 : List UInt8 := dkwX2_statements_1 ++ []
def dkwX2_statements_0 : List UInt8 := [3, 60, 3, 61, 28, 7, 162, 0, 30, 27, 42, 180, 0, 18, 28, 185, 0, 35, 2, 0, 192, 0, 30]
abbrev dktX2_statements_0 : List UInt8 := dkwX2_statements_0 ++ dktX2_statements_1
theorem dksX2_statements_0 : cX2_statements.data.toList.drop 0 = dktX2_statements_0 := by decide +kernel
theorem dksX2_statements_1 : cX2_statements.data.toList.drop 23 = dktX2_statements_1 := dk_seg dksX2_statements_0 23 rfl rfl
theorem dX2_statements_0 : decode cX2_statements 0 = .ok (.iconst 0, 1) := dk_3 (dk_at dksX2_statements_0 0 rfl rfl)
theorem dX2_statements_1 : decode cX2_statements 1 = .ok (.istore_n 1, 1) := dk_60 (dk_at dksX2_statements_0 1 rfl rfl)
theorem dX2_statements_2 : decode cX2_statements 2 = .ok (.iconst 0, 1) := dk_3 (dk_at dksX2_statements_0 2 rfl rfl)
theorem dX2_statements_3 : decode cX2_statements 3 = .ok (.istore_n 2, 1) := dk_61 (dk_at dksX2_statements_0 3 rfl rfl)
theorem dX2_statements_4 : decode cX2_statements 4 = .ok (.iload_n 2, 1) := dk_28 (dk_at dksX2_statements_0 4 rfl rfl)
theorem dX2_statements_5 : decode cX2_statements 5 = .ok (.iconst 4, 1) := dk_7 (dk_at dksX2_statements_0 5 rfl rfl)
theorem dX2_statements_6 : decode cX2_statements 6 = .ok (.if_icmp .ge 30, 3) := dk_162 0 30 (dk_at dksX2_statements_0 6 rfl rfl)
theorem dX2_statements_9 : decode cX2_statements 9 = .ok (.iload_n 1, 1) := dk_27 (dk_at dksX2_statements_0 9 rfl rfl)
theorem dX2_statements_10 : decode cX2_statements 10 = .ok (.aload_n 0, 1) := dk_42 (dk_at dksX2_statements_0 10 rfl rfl)
theorem dX2_statements_11 : decode cX2_statements 11 = .ok (.getfield 18, 3) := dk_180 0 18 (dk_at dksX2_statements_0 11 rfl rfl)
theorem dX2_statements_14 : decode cX2_statements 14 = .ok (.iload_n 2, 1) := dk_28 (dk_at dksX2_statements_0 14 rfl rfl)
theorem dX2_statements_15 : decode cX2_statements 15 = .ok (.invokeinterface 35 2, 5) := by decide +kernel
theorem dX2_statements_20 : decode cX2_statements 20 = .ok (.checkcast 30, 3) := dk_192 0 30 (dk_at dksX2_statements_0 20 rfl rfl)
theorem dX2_statements_23 : decode cX2_statements 23 = .ok (.invokeinterface 41 1, 5) := by decide +kernel
theorem dX2_statements_28 : decode cX2_statements 28 = .ok (.iadd, 1) := dk_96 (dk_at dksX2_statements_1 5 rfl rfl)
theorem dX2_statements_29 : decode cX2_statements 29 = .ok (.istore_n 1, 1) := dk_60 (dk_at dksX2_statements_1 6 rfl rfl)
theorem dX2_statements_30 : decode cX2_statements 30 = .ok (.iinc 2 1, 3) := dk_132 2 1 (dk_at dksX2_statements_1 7 rfl rfl)
theorem dX2_statements_33 : decode cX2_statements 33 = .ok (.goto (-29), 3) := dk_167 255 227 (dk_at dksX2_statements_1 10 rfl rfl)
theorem dX2_statements_36 : decode cX2_statements 36 = .ok (.iload_n 1, 1) := dk_27 (dk_at dksX2_statements_1 13 rfl rfl)
theorem dX2_statements_37 : decode cX2_statements 37 = .ok (.ireturn, 1) := dk_172 (dk_at dksX2_statements_1 14 rfl rfl)
abbrev cX2_meant : ByteArray := prog_12_method_5_code
def yX2_meant : MethodName := ⟨RX2, "meant", "()[I"⟩
def dkwX2_meant_4 : List UInt8 := [167, 255, 207, 132, 4, 1, 167, 255, 187, 132, 2, 1, 167, 255, 159, 43, 176]
abbrev dktX2_meant_4 : List UInt8 := dkwX2_meant_4 ++ []
def dkwX2_meant_3 : List UInt8 := [45, 21, 5, 185, 0, 35, 2, 0, 192, 0, 82, 180, 0, 87, 43, 182, 0, 65, 79, 132, 5, 1]
abbrev dktX2_meant_3 : List UInt8 := dkwX2_meant_3 ++ dktX2_meant_4
def dkwX2_meant_2 : List UInt8 := [185, 0, 41, 1, 0, 162, 0, 44, 43, 45, 21, 5, 185, 0, 35, 2, 0, 192, 0, 82, 180, 0, 84, 42]
abbrev dktX2_meant_2 : List UInt8 := dkwX2_meant_2 ++ dktX2_meant_3
def dkwX2_meant_1 : List UInt8 := [192, 0, 30, 78, 3, 54, 4, 21, 4, 42, 180, 0, 21, 28, 46, 162, 0, 64, 3, 54, 5, 21, 5, 45]
abbrev dktX2_meant_1 : List UInt8 := dkwX2_meant_1 ++ dktX2_meant_2
def dkwX2_meant_0 : List UInt8 := [16, 8, 188, 10, 76, 3, 61, 28, 7, 162, 0, 98, 42, 180, 0, 18, 28, 185, 0, 35, 2, 0]
abbrev dktX2_meant_0 : List UInt8 := dkwX2_meant_0 ++ dktX2_meant_1
theorem dksX2_meant_0 : cX2_meant.data.toList.drop 0 = dktX2_meant_0 := by decide +kernel
theorem dksX2_meant_1 : cX2_meant.data.toList.drop 22 = dktX2_meant_1 := dk_seg dksX2_meant_0 22 rfl rfl
theorem dksX2_meant_2 : cX2_meant.data.toList.drop 46 = dktX2_meant_2 := dk_seg dksX2_meant_1 24 rfl rfl
theorem dksX2_meant_3 : cX2_meant.data.toList.drop 70 = dktX2_meant_3 := dk_seg dksX2_meant_2 24 rfl rfl
theorem dksX2_meant_4 : cX2_meant.data.toList.drop 92 = dktX2_meant_4 := dk_seg dksX2_meant_3 22 rfl rfl
theorem dX2_meant_0 : decode cX2_meant 0 = .ok (.bipush 8, 2) := dk_16 8 (dk_at dksX2_meant_0 0 rfl rfl)
theorem dX2_meant_2 : decode cX2_meant 2 = .ok (.newarray .int, 2) := dk_188_10 (dk_at dksX2_meant_0 2 rfl rfl)
theorem dX2_meant_4 : decode cX2_meant 4 = .ok (.astore_n 1, 1) := dk_76 (dk_at dksX2_meant_0 4 rfl rfl)
theorem dX2_meant_5 : decode cX2_meant 5 = .ok (.iconst 0, 1) := dk_3 (dk_at dksX2_meant_0 5 rfl rfl)
theorem dX2_meant_6 : decode cX2_meant 6 = .ok (.istore_n 2, 1) := dk_61 (dk_at dksX2_meant_0 6 rfl rfl)
theorem dX2_meant_7 : decode cX2_meant 7 = .ok (.iload_n 2, 1) := dk_28 (dk_at dksX2_meant_0 7 rfl rfl)
theorem dX2_meant_8 : decode cX2_meant 8 = .ok (.iconst 4, 1) := dk_7 (dk_at dksX2_meant_0 8 rfl rfl)
theorem dX2_meant_9 : decode cX2_meant 9 = .ok (.if_icmp .ge 98, 3) := dk_162 0 98 (dk_at dksX2_meant_0 9 rfl rfl)
theorem dX2_meant_12 : decode cX2_meant 12 = .ok (.aload_n 0, 1) := dk_42 (dk_at dksX2_meant_0 12 rfl rfl)
theorem dX2_meant_13 : decode cX2_meant 13 = .ok (.getfield 18, 3) := dk_180 0 18 (dk_at dksX2_meant_0 13 rfl rfl)
theorem dX2_meant_16 : decode cX2_meant 16 = .ok (.iload_n 2, 1) := dk_28 (dk_at dksX2_meant_0 16 rfl rfl)
theorem dX2_meant_17 : decode cX2_meant 17 = .ok (.invokeinterface 35 2, 5) := by decide +kernel
theorem dX2_meant_22 : decode cX2_meant 22 = .ok (.checkcast 30, 3) := dk_192 0 30 (dk_at dksX2_meant_1 0 rfl rfl)
theorem dX2_meant_25 : decode cX2_meant 25 = .ok (.astore_n 3, 1) := dk_78 (dk_at dksX2_meant_1 3 rfl rfl)
theorem dX2_meant_26 : decode cX2_meant 26 = .ok (.iconst 0, 1) := dk_3 (dk_at dksX2_meant_1 4 rfl rfl)
theorem dX2_meant_27 : decode cX2_meant 27 = .ok (.istore 4, 2) := dk_54 4 (dk_at dksX2_meant_1 5 rfl rfl)
theorem dX2_meant_29 : decode cX2_meant 29 = .ok (.iload 4, 2) := dk_21 4 (dk_at dksX2_meant_1 7 rfl rfl)
theorem dX2_meant_31 : decode cX2_meant 31 = .ok (.aload_n 0, 1) := dk_42 (dk_at dksX2_meant_1 9 rfl rfl)
theorem dX2_meant_32 : decode cX2_meant 32 = .ok (.getfield 21, 3) := dk_180 0 21 (dk_at dksX2_meant_1 10 rfl rfl)
theorem dX2_meant_35 : decode cX2_meant 35 = .ok (.iload_n 2, 1) := dk_28 (dk_at dksX2_meant_1 13 rfl rfl)
theorem dX2_meant_36 : decode cX2_meant 36 = .ok (.iaload, 1) := dk_46 (dk_at dksX2_meant_1 14 rfl rfl)
theorem dX2_meant_37 : decode cX2_meant 37 = .ok (.if_icmp .ge 64, 3) := dk_162 0 64 (dk_at dksX2_meant_1 15 rfl rfl)
theorem dX2_meant_40 : decode cX2_meant 40 = .ok (.iconst 0, 1) := dk_3 (dk_at dksX2_meant_1 18 rfl rfl)
theorem dX2_meant_41 : decode cX2_meant 41 = .ok (.istore 5, 2) := dk_54 5 (dk_at dksX2_meant_1 19 rfl rfl)
theorem dX2_meant_43 : decode cX2_meant 43 = .ok (.iload 5, 2) := dk_21 5 (dk_at dksX2_meant_1 21 rfl rfl)
theorem dX2_meant_45 : decode cX2_meant 45 = .ok (.aload_n 3, 1) := dk_45 (dk_at dksX2_meant_1 23 rfl rfl)
theorem dX2_meant_46 : decode cX2_meant 46 = .ok (.invokeinterface 41 1, 5) := by decide +kernel
theorem dX2_meant_51 : decode cX2_meant 51 = .ok (.if_icmp .ge 44, 3) := dk_162 0 44 (dk_at dksX2_meant_2 5 rfl rfl)
theorem dX2_meant_54 : decode cX2_meant 54 = .ok (.aload_n 1, 1) := dk_43 (dk_at dksX2_meant_2 8 rfl rfl)
theorem dX2_meant_55 : decode cX2_meant 55 = .ok (.aload_n 3, 1) := dk_45 (dk_at dksX2_meant_2 9 rfl rfl)
theorem dX2_meant_56 : decode cX2_meant 56 = .ok (.iload 5, 2) := dk_21 5 (dk_at dksX2_meant_2 10 rfl rfl)
theorem dX2_meant_58 : decode cX2_meant 58 = .ok (.invokeinterface 35 2, 5) := by decide +kernel
theorem dX2_meant_63 : decode cX2_meant 63 = .ok (.checkcast 82, 3) := dk_192 0 82 (dk_at dksX2_meant_2 17 rfl rfl)
theorem dX2_meant_66 : decode cX2_meant 66 = .ok (.getfield 84, 3) := dk_180 0 84 (dk_at dksX2_meant_2 20 rfl rfl)
theorem dX2_meant_69 : decode cX2_meant 69 = .ok (.aload_n 0, 1) := dk_42 (dk_at dksX2_meant_2 23 rfl rfl)
theorem dX2_meant_70 : decode cX2_meant 70 = .ok (.aload_n 3, 1) := dk_45 (dk_at dksX2_meant_3 0 rfl rfl)
theorem dX2_meant_71 : decode cX2_meant 71 = .ok (.iload 5, 2) := dk_21 5 (dk_at dksX2_meant_3 1 rfl rfl)
theorem dX2_meant_73 : decode cX2_meant 73 = .ok (.invokeinterface 35 2, 5) := by decide +kernel
theorem dX2_meant_78 : decode cX2_meant 78 = .ok (.checkcast 82, 3) := dk_192 0 82 (dk_at dksX2_meant_3 8 rfl rfl)
theorem dX2_meant_81 : decode cX2_meant 81 = .ok (.getfield 87, 3) := dk_180 0 87 (dk_at dksX2_meant_3 11 rfl rfl)
theorem dX2_meant_84 : decode cX2_meant 84 = .ok (.aload_n 1, 1) := dk_43 (dk_at dksX2_meant_3 14 rfl rfl)
theorem dX2_meant_85 : decode cX2_meant 85 = .ok (.invokevirtual 65, 3) := dk_182 0 65 (dk_at dksX2_meant_3 15 rfl rfl)
theorem dX2_meant_88 : decode cX2_meant 88 = .ok (.iastore, 1) := dk_79 (dk_at dksX2_meant_3 18 rfl rfl)
theorem dX2_meant_89 : decode cX2_meant 89 = .ok (.iinc 5 1, 3) := dk_132 5 1 (dk_at dksX2_meant_3 19 rfl rfl)
theorem dX2_meant_92 : decode cX2_meant 92 = .ok (.goto (-49), 3) := dk_167 255 207 (dk_at dksX2_meant_4 0 rfl rfl)
theorem dX2_meant_95 : decode cX2_meant 95 = .ok (.iinc 4 1, 3) := dk_132 4 1 (dk_at dksX2_meant_4 3 rfl rfl)
theorem dX2_meant_98 : decode cX2_meant 98 = .ok (.goto (-69), 3) := dk_167 255 187 (dk_at dksX2_meant_4 6 rfl rfl)
theorem dX2_meant_101 : decode cX2_meant 101 = .ok (.iinc 2 1, 3) := dk_132 2 1 (dk_at dksX2_meant_4 9 rfl rfl)
theorem dX2_meant_104 : decode cX2_meant 104 = .ok (.goto (-97), 3) := dk_167 255 159 (dk_at dksX2_meant_4 12 rfl rfl)
theorem dX2_meant_107 : decode cX2_meant 107 = .ok (.aload_n 1, 1) := dk_43 (dk_at dksX2_meant_4 15 rfl rfl)
theorem dX2_meant_108 : decode cX2_meant 108 = .ok (.areturn, 1) := dk_176 (dk_at dksX2_meant_4 16 rfl rfl)
abbrev cX2_value : ByteArray := prog_12_method_4_code
def yX2_value : MethodName := ⟨RX2, "value", "(I[I)I"⟩
def dkwX2_value_5 : List UInt8 := [184, 0, 78, 172]
abbrev dktX2_value_5 : List UInt8 := dkwX2_value_5 ++ []
def dkwX2_value_4 : List UInt8 := [21, 4, 21, 5, 96, 172, 21, 4, 21, 5, 100, 172, 21, 4, 21, 5, 104, 172, 21, 4, 21, 5]
abbrev dktX2_value_4 : List UInt8 := dkwX2_value_4 ++ dktX2_value_5
def dkwX2_value_3 : List UInt8 := [170, 0, 0, 0, 43, 0, 0, 0, 2, 0, 0, 0, 4, 0, 0, 0, 25, 0, 0, 0, 31, 0, 0, 0, 37]
abbrev dktX2_value_3 : List UInt8 := dkwX2_value_3 ++ dktX2_value_4
def dkwX2_value_2 : List UInt8 := [182, 0, 65, 54, 4, 42, 45, 180, 0, 69, 44, 182, 0, 65, 54, 5, 45, 180, 0, 72, 182, 0, 75]
abbrev dktX2_value_2 : List UInt8 := dkwX2_value_2 ++ dktX2_value_3
def dkwX2_value_1 : List UInt8 := [178, 0, 62, 182, 0, 55, 153, 0, 10, 44, 45, 180, 0, 59, 46, 172, 42, 45, 180, 0, 59, 44]
abbrev dktX2_value_1 : List UInt8 := dkwX2_value_1 ++ dktX2_value_2
def dkwX2_value_0 : List UInt8 := [42, 27, 182, 0, 45, 78, 45, 178, 0, 49, 182, 0, 55, 153, 0, 8, 45, 180, 0, 59, 172, 45]
abbrev dktX2_value_0 : List UInt8 := dkwX2_value_0 ++ dktX2_value_1
theorem dksX2_value_0 : cX2_value.data.toList.drop 0 = dktX2_value_0 := by decide +kernel
theorem dksX2_value_1 : cX2_value.data.toList.drop 22 = dktX2_value_1 := dk_seg dksX2_value_0 22 rfl rfl
theorem dksX2_value_2 : cX2_value.data.toList.drop 44 = dktX2_value_2 := dk_seg dksX2_value_1 22 rfl rfl
theorem dksX2_value_3 : cX2_value.data.toList.drop 67 = dktX2_value_3 := dk_seg dksX2_value_2 23 rfl rfl
theorem dksX2_value_4 : cX2_value.data.toList.drop 92 = dktX2_value_4 := dk_seg dksX2_value_3 25 rfl rfl
theorem dksX2_value_5 : cX2_value.data.toList.drop 114 = dktX2_value_5 := dk_seg dksX2_value_4 22 rfl rfl
theorem dX2_value_0 : decode cX2_value 0 = .ok (.aload_n 0, 1) := dk_42 (dk_at dksX2_value_0 0 rfl rfl)
theorem dX2_value_1 : decode cX2_value 1 = .ok (.iload_n 1, 1) := dk_27 (dk_at dksX2_value_0 1 rfl rfl)
theorem dX2_value_2 : decode cX2_value 2 = .ok (.invokevirtual 45, 3) := dk_182 0 45 (dk_at dksX2_value_0 2 rfl rfl)
theorem dX2_value_5 : decode cX2_value 5 = .ok (.astore_n 3, 1) := dk_78 (dk_at dksX2_value_0 5 rfl rfl)
theorem dX2_value_6 : decode cX2_value 6 = .ok (.aload_n 3, 1) := dk_45 (dk_at dksX2_value_0 6 rfl rfl)
theorem dX2_value_7 : decode cX2_value 7 = .ok (.getstatic 49, 3) := dk_178 0 49 (dk_at dksX2_value_0 7 rfl rfl)
theorem dX2_value_10 : decode cX2_value 10 = .ok (.invokevirtual 55, 3) := dk_182 0 55 (dk_at dksX2_value_0 10 rfl rfl)
theorem dX2_value_13 : decode cX2_value 13 = .ok (.ifCond .eq 8, 3) := dk_153 0 8 (dk_at dksX2_value_0 13 rfl rfl)
theorem dX2_value_16 : decode cX2_value 16 = .ok (.aload_n 3, 1) := dk_45 (dk_at dksX2_value_0 16 rfl rfl)
theorem dX2_value_17 : decode cX2_value 17 = .ok (.getfield 59, 3) := dk_180 0 59 (dk_at dksX2_value_0 17 rfl rfl)
theorem dX2_value_20 : decode cX2_value 20 = .ok (.ireturn, 1) := dk_172 (dk_at dksX2_value_0 20 rfl rfl)
theorem dX2_value_21 : decode cX2_value 21 = .ok (.aload_n 3, 1) := dk_45 (dk_at dksX2_value_0 21 rfl rfl)
theorem dX2_value_22 : decode cX2_value 22 = .ok (.getstatic 62, 3) := dk_178 0 62 (dk_at dksX2_value_1 0 rfl rfl)
theorem dX2_value_25 : decode cX2_value 25 = .ok (.invokevirtual 55, 3) := dk_182 0 55 (dk_at dksX2_value_1 3 rfl rfl)
theorem dX2_value_28 : decode cX2_value 28 = .ok (.ifCond .eq 10, 3) := dk_153 0 10 (dk_at dksX2_value_1 6 rfl rfl)
theorem dX2_value_31 : decode cX2_value 31 = .ok (.aload_n 2, 1) := dk_44 (dk_at dksX2_value_1 9 rfl rfl)
theorem dX2_value_32 : decode cX2_value 32 = .ok (.aload_n 3, 1) := dk_45 (dk_at dksX2_value_1 10 rfl rfl)
theorem dX2_value_33 : decode cX2_value 33 = .ok (.getfield 59, 3) := dk_180 0 59 (dk_at dksX2_value_1 11 rfl rfl)
theorem dX2_value_36 : decode cX2_value 36 = .ok (.iaload, 1) := dk_46 (dk_at dksX2_value_1 14 rfl rfl)
theorem dX2_value_37 : decode cX2_value 37 = .ok (.ireturn, 1) := dk_172 (dk_at dksX2_value_1 15 rfl rfl)
theorem dX2_value_38 : decode cX2_value 38 = .ok (.aload_n 0, 1) := dk_42 (dk_at dksX2_value_1 16 rfl rfl)
theorem dX2_value_39 : decode cX2_value 39 = .ok (.aload_n 3, 1) := dk_45 (dk_at dksX2_value_1 17 rfl rfl)
theorem dX2_value_40 : decode cX2_value 40 = .ok (.getfield 59, 3) := dk_180 0 59 (dk_at dksX2_value_1 18 rfl rfl)
theorem dX2_value_43 : decode cX2_value 43 = .ok (.aload_n 2, 1) := dk_44 (dk_at dksX2_value_1 21 rfl rfl)
theorem dX2_value_44 : decode cX2_value 44 = .ok (.invokevirtual 65, 3) := dk_182 0 65 (dk_at dksX2_value_2 0 rfl rfl)
theorem dX2_value_47 : decode cX2_value 47 = .ok (.istore 4, 2) := dk_54 4 (dk_at dksX2_value_2 3 rfl rfl)
theorem dX2_value_49 : decode cX2_value 49 = .ok (.aload_n 0, 1) := dk_42 (dk_at dksX2_value_2 5 rfl rfl)
theorem dX2_value_50 : decode cX2_value 50 = .ok (.aload_n 3, 1) := dk_45 (dk_at dksX2_value_2 6 rfl rfl)
theorem dX2_value_51 : decode cX2_value 51 = .ok (.getfield 69, 3) := dk_180 0 69 (dk_at dksX2_value_2 7 rfl rfl)
theorem dX2_value_54 : decode cX2_value 54 = .ok (.aload_n 2, 1) := dk_44 (dk_at dksX2_value_2 10 rfl rfl)
theorem dX2_value_55 : decode cX2_value 55 = .ok (.invokevirtual 65, 3) := dk_182 0 65 (dk_at dksX2_value_2 11 rfl rfl)
theorem dX2_value_58 : decode cX2_value 58 = .ok (.istore 5, 2) := dk_54 5 (dk_at dksX2_value_2 14 rfl rfl)
theorem dX2_value_60 : decode cX2_value 60 = .ok (.aload_n 3, 1) := dk_45 (dk_at dksX2_value_2 16 rfl rfl)
theorem dX2_value_61 : decode cX2_value 61 = .ok (.getfield 72, 3) := dk_180 0 72 (dk_at dksX2_value_2 17 rfl rfl)
theorem dX2_value_64 : decode cX2_value 64 = .ok (.invokevirtual 75, 3) := dk_182 0 75 (dk_at dksX2_value_2 20 rfl rfl)
theorem dX2_value_67 : decode cX2_value 67 = .ok (.tableswitch 43 2 4 #[25, 31, 37], 25) := by decide +kernel
theorem dX2_value_92 : decode cX2_value 92 = .ok (.iload 4, 2) := dk_21 4 (dk_at dksX2_value_4 0 rfl rfl)
theorem dX2_value_94 : decode cX2_value 94 = .ok (.iload 5, 2) := dk_21 5 (dk_at dksX2_value_4 2 rfl rfl)
theorem dX2_value_96 : decode cX2_value 96 = .ok (.iadd, 1) := dk_96 (dk_at dksX2_value_4 4 rfl rfl)
theorem dX2_value_97 : decode cX2_value 97 = .ok (.ireturn, 1) := dk_172 (dk_at dksX2_value_4 5 rfl rfl)
theorem dX2_value_98 : decode cX2_value 98 = .ok (.iload 4, 2) := dk_21 4 (dk_at dksX2_value_4 6 rfl rfl)
theorem dX2_value_100 : decode cX2_value 100 = .ok (.iload 5, 2) := dk_21 5 (dk_at dksX2_value_4 8 rfl rfl)
theorem dX2_value_102 : decode cX2_value 102 = .ok (.isub, 1) := dk_100 (dk_at dksX2_value_4 10 rfl rfl)
theorem dX2_value_103 : decode cX2_value 103 = .ok (.ireturn, 1) := dk_172 (dk_at dksX2_value_4 11 rfl rfl)
theorem dX2_value_104 : decode cX2_value 104 = .ok (.iload 4, 2) := dk_21 4 (dk_at dksX2_value_4 12 rfl rfl)
theorem dX2_value_106 : decode cX2_value 106 = .ok (.iload 5, 2) := dk_21 5 (dk_at dksX2_value_4 14 rfl rfl)
theorem dX2_value_108 : decode cX2_value 108 = .ok (.imul, 1) := dk_104 (dk_at dksX2_value_4 16 rfl rfl)
theorem dX2_value_109 : decode cX2_value 109 = .ok (.ireturn, 1) := dk_172 (dk_at dksX2_value_4 17 rfl rfl)
theorem dX2_value_110 : decode cX2_value 110 = .ok (.iload 4, 2) := dk_21 4 (dk_at dksX2_value_4 18 rfl rfl)
theorem dX2_value_112 : decode cX2_value 112 = .ok (.iload 5, 2) := dk_21 5 (dk_at dksX2_value_4 20 rfl rfl)
theorem dX2_value_114 : decode cX2_value 114 = .ok (.invokestatic 78, 3) := dk_184 0 78 (dk_at dksX2_value_5 0 rfl rfl)
theorem dX2_value_117 : decode cX2_value 117 = .ok (.ireturn, 1) := dk_172 (dk_at dksX2_value_5 3 rfl rfl)
theorem q121 : (Jvm.Cond.initialized "SpillslotWorks$Program") ∈ lw_all := lw_g (lw_at lw_m1 2 rfl) rfl
theorem q180 : (Jvm.Cond.instantiable "SpillslotWorks$Program" (4 : Nat)) ∈ lw_all := lw_g (lw_at lw_m1 61 rfl) rfl
theorem q182 : (Jvm.Cond.instanceMethod ({ cls := "SpillslotWorks$Program", name := "<init>", desc := "()V" } : Jvm.MethodName)) ∈ lw_all := lw_g (lw_at lw_m1 63 rfl) rfl
theorem q183 : (Jvm.Cond.code ({ cls := "SpillslotWorks$Program", name := "<init>", desc := "()V" } : Jvm.MethodName) prog_12_method_1_code (2 : Nat) (Option.none : Option Jvm.ClassFile.FieldType)) ∈ lw_all := lw_g (lw_at lw_m1 64 rfl) rfl
theorem q184 : (Jvm.Cond.methodLink "SpillslotWorks$Program" (3 : Nat) ({ cls := "java/lang/Object", name := "<init>", desc := "()V" } : Jvm.MethodName)) ∈ lw_all := lw_g (lw_at lw_m1 65 rfl) rfl
theorem q185 : (Jvm.Cond.classLink "SpillslotWorks$Program" (9 : Nat) "java/util/ArrayList") ∈ lw_all := lw_g (lw_at lw_m1 66 rfl) rfl
theorem q187 : (Jvm.Cond.methodLink "SpillslotWorks$Program" (11 : Nat) ({ cls := "java/util/ArrayList", name := "<init>", desc := "()V" } : Jvm.MethodName)) ∈ lw_all := lw_g (lw_at lw_m1 68 rfl) rfl
theorem q214 : (Jvm.Cond.interfaceEntry "SpillslotWorks$Program" (29 : Nat)) ∈ lw_tbl := lw_at lw_m1 95 rfl
theorem q215 : (Jvm.Cond.methodLink "SpillslotWorks$Program" (29 : Nat) ({ cls := "java/util/List", name := "add", desc := "(Ljava/lang/Object;)Z" } : Jvm.MethodName)) ∈ lw_all := lw_g (lw_at lw_m1 96 rfl) rfl
theorem q263 : (Jvm.Cond.selects "SpillslotWorks$Program" ({ cls := "java/lang/Object", name := "getClass", desc := "()Ljava/lang/Class;" } : Jvm.MethodName) ({ cls := "java/lang/Object", name := "getClass", desc := "()Ljava/lang/Class;" } : Jvm.MethodName)) ∈ lw_all := lw_g (lw_at lw_m1 144 rfl) rfl
theorem q301 : (Jvm.Cond.fieldLink "SpillslotWorks$Program" (12 : Nat) "SpillslotWorks$Program" "nodes" "Ljava/util/List;") ∈ lw_all := lw_g (lw_at lw_m1 182 rfl) rfl
theorem q304 : (Jvm.Cond.fieldLink "SpillslotWorks$Program" (18 : Nat) "SpillslotWorks$Program" "blocks" "Ljava/util/List;") ∈ lw_all := lw_g (lw_at lw_m1 185 rfl) rfl
theorem q307 : (Jvm.Cond.fieldLink "SpillslotWorks$Program" (21 : Nat) "SpillslotWorks$Program" "times" "[I") ∈ lw_all := lw_g (lw_at lw_m1 188 rfl) rfl
theorem q311 : (Jvm.Cond.fieldLink "SpillslotWorks$Program" (25 : Nat) "SpillslotWorks$Program" "out" "I") ∈ lw_all := lw_g (lw_at lw_m1 192 rfl) rfl
theorem q315 : (Jvm.Cond.laysFinal "SpillslotWorks$Program" "SpillslotWorks$Program" "nodes" "Ljava/util/List;") ∈ lw_all := lw_g (lw_at lw_m1 196 rfl) rfl
theorem q316 : (Jvm.Cond.soleField "SpillslotWorks$Program" "nodes") ∈ lw_all := lw_g (lw_at lw_m1 197 rfl) rfl
theorem q317 : (Jvm.Cond.laysFinal "SpillslotWorks$Program" "SpillslotWorks$Program" "blocks" "Ljava/util/List;") ∈ lw_all := lw_g (lw_at lw_m1 198 rfl) rfl
theorem q318 : (Jvm.Cond.soleField "SpillslotWorks$Program" "blocks") ∈ lw_all := lw_g (lw_at lw_m1 199 rfl) rfl
theorem q319 : (Jvm.Cond.laysFinal "SpillslotWorks$Program" "SpillslotWorks$Program" "times" "[I") ∈ lw_all := lw_g (lw_at lw_m1 200 rfl) rfl
theorem q320 : (Jvm.Cond.soleField "SpillslotWorks$Program" "times") ∈ lw_all := lw_g (lw_at lw_m1 201 rfl) rfl
theorem q321 : (Jvm.Cond.lays "SpillslotWorks$Program" "SpillslotWorks$Program" "out" "I") ∈ lw_all := lw_g (lw_at lw_m1 202 rfl) rfl
theorem q322 : (Jvm.Cond.soleField "SpillslotWorks$Program" "out") ∈ lw_all := lw_g (lw_at lw_m1 203 rfl) rfl
theorem q323 : (Jvm.Cond.superclass "SpillslotWorks$Program" "java/lang/Object") ∈ lw_all := lw_g (lw_at lw_m1 204 rfl) rfl
theorem q393 : (Jvm.Cond.instanceMethod ({ cls := "SpillslotWorks$Program", name := "at", desc := "(I)LSpillslotWorks$Node;" } : Jvm.MethodName)) ∈ lw_all := lw_g (lw_at lw_m2 34 rfl) rfl
theorem q394 : (Jvm.Cond.selects "SpillslotWorks$Program" ({ cls := "SpillslotWorks$Program", name := "at", desc := "(I)LSpillslotWorks$Node;" } : Jvm.MethodName) ({ cls := "SpillslotWorks$Program", name := "at", desc := "(I)LSpillslotWorks$Node;" } : Jvm.MethodName)) ∈ lw_all := lw_g (lw_at lw_m2 35 rfl) rfl
theorem q395 : (Jvm.Cond.code ({ cls := "SpillslotWorks$Program", name := "at", desc := "(I)LSpillslotWorks$Node;" } : Jvm.MethodName) prog_12_method_2_code (2 : Nat) (Option.some (Jvm.ClassFile.FieldType.object "SpillslotWorks$Node"))) ∈ lw_all := lw_g (lw_at lw_m2 36 rfl) rfl
theorem q396 : (Jvm.Cond.interfaceEntry "SpillslotWorks$Program" (35 : Nat)) ∈ lw_tbl := lw_at lw_m2 37 rfl
theorem q397 : (Jvm.Cond.methodLink "SpillslotWorks$Program" (35 : Nat) ({ cls := "java/util/List", name := "get", desc := "(I)Ljava/lang/Object;" } : Jvm.MethodName)) ∈ lw_all := lw_g (lw_at lw_m2 38 rfl) rfl
theorem q415 : (Jvm.Cond.classLink "SpillslotWorks$Program" (39 : Nat) "SpillslotWorks$Node") ∈ lw_all := lw_g (lw_at lw_m2 56 rfl) rfl
theorem q1483 : (Jvm.Cond.instanceMethod ({ cls := "SpillslotWorks$Program", name := "statements", desc := "()I" } : Jvm.MethodName)) ∈ lw_all := lw_g (lw_at lw_m6 164 rfl) rfl
theorem q1484 : (Jvm.Cond.selects "SpillslotWorks$Program" ({ cls := "SpillslotWorks$Program", name := "statements", desc := "()I" } : Jvm.MethodName) ({ cls := "SpillslotWorks$Program", name := "statements", desc := "()I" } : Jvm.MethodName)) ∈ lw_all := lw_g (lw_at lw_m6 165 rfl) rfl
theorem q1485 : (Jvm.Cond.code ({ cls := "SpillslotWorks$Program", name := "statements", desc := "()I" } : Jvm.MethodName) prog_12_method_3_code (3 : Nat) (Option.some Jvm.ClassFile.FieldType.int)) ∈ lw_all := lw_g (lw_at lw_m6 166 rfl) rfl
theorem q1486 : (Jvm.Cond.classLink "SpillslotWorks$Program" (30 : Nat) "java/util/List") ∈ lw_all := lw_g (lw_at lw_m6 167 rfl) rfl
theorem q1487 : (Jvm.Cond.interfaceEntry "SpillslotWorks$Program" (41 : Nat)) ∈ lw_tbl := lw_at lw_m6 168 rfl
theorem q1488 : (Jvm.Cond.methodLink "SpillslotWorks$Program" (41 : Nat) ({ cls := "java/util/List", name := "size", desc := "()I" } : Jvm.MethodName)) ∈ lw_all := lw_g (lw_at lw_m6 169 rfl) rfl
theorem q1494 : (Jvm.Cond.instanceMethod ({ cls := "SpillslotWorks$Program", name := "meant", desc := "()[I" } : Jvm.MethodName)) ∈ lw_all := lw_g (lw_at lw_m6 175 rfl) rfl
theorem q1495 : (Jvm.Cond.selects "SpillslotWorks$Program" ({ cls := "SpillslotWorks$Program", name := "meant", desc := "()[I" } : Jvm.MethodName) ({ cls := "SpillslotWorks$Program", name := "meant", desc := "()[I" } : Jvm.MethodName)) ∈ lw_all := lw_g (lw_at lw_m6 176 rfl) rfl
theorem q1496 : (Jvm.Cond.code ({ cls := "SpillslotWorks$Program", name := "meant", desc := "()[I" } : Jvm.MethodName) prog_12_method_5_code (6 : Nat) (Option.some (Jvm.ClassFile.FieldType.array Jvm.ClassFile.FieldType.int))) ∈ lw_all := lw_g (lw_at lw_m6 177 rfl) rfl
theorem q1497 : (Jvm.Cond.classLink "SpillslotWorks$Program" (82 : Nat) "SpillslotWorks$Statement") ∈ lw_all := lw_g (lw_at lw_m6 178 rfl) rfl
theorem q1498 : (Jvm.Cond.methodLink "SpillslotWorks$Program" (65 : Nat) ({ cls := "SpillslotWorks$Program", name := "value", desc := "(I[I)I" } : Jvm.MethodName)) ∈ lw_all := lw_g (lw_at lw_m6 179 rfl) rfl
theorem q1499 : (Jvm.Cond.privateMethod ({ cls := "SpillslotWorks$Program", name := "value", desc := "(I[I)I" } : Jvm.MethodName)) ∈ lw_tbl := lw_at lw_m6 180 rfl
theorem q1500 : (Jvm.Cond.instanceMethod ({ cls := "SpillslotWorks$Program", name := "value", desc := "(I[I)I" } : Jvm.MethodName)) ∈ lw_all := lw_g (lw_at lw_m6 181 rfl) rfl
theorem q1501 : (Jvm.Cond.code ({ cls := "SpillslotWorks$Program", name := "value", desc := "(I[I)I" } : Jvm.MethodName) prog_12_method_4_code (6 : Nat) (Option.some Jvm.ClassFile.FieldType.int)) ∈ lw_all := lw_g (lw_at lw_m6 182 rfl) rfl
theorem q1502 : (Jvm.Cond.methodLink "SpillslotWorks$Program" (45 : Nat) ({ cls := "SpillslotWorks$Program", name := "at", desc := "(I)LSpillslotWorks$Node;" } : Jvm.MethodName)) ∈ lw_all := lw_g (lw_at lw_m6 183 rfl) rfl
theorem q1503 : (Jvm.Cond.fieldLink "SpillslotWorks$Program" (49 : Nat) "SpillslotWorks$Kind" "NUMBER" "LSpillslotWorks$Kind;") ∈ lw_all := lw_g (lw_at lw_m6 184 rfl) rfl
theorem q1504 : (Jvm.Cond.methodLink "SpillslotWorks$Program" (55 : Nat) ({ cls := "SpillslotWorks$Node", name := "is", desc := "(LSpillslotWorks$Kind;)Z" } : Jvm.MethodName)) ∈ lw_all := lw_g (lw_at lw_m6 185 rfl) rfl
theorem q1505 : (Jvm.Cond.fieldLink "SpillslotWorks$Program" (62 : Nat) "SpillslotWorks$Kind" "USE" "LSpillslotWorks$Kind;") ∈ lw_all := lw_g (lw_at lw_m6 186 rfl) rfl
theorem q1506 : (Jvm.Cond.methodLink "SpillslotWorks$Program" (75 : Nat) ({ cls := "SpillslotWorks$Kind", name := "ordinal", desc := "()I" } : Jvm.MethodName)) ∈ lw_all := lw_g (lw_at lw_m6 187 rfl) rfl
theorem q1507 : (Jvm.Cond.methodLinkNest "SpillslotWorks$Program" (78 : Nat) ({ cls := "SpillslotWorks", name := "callOf", desc := "(II)I" } : Jvm.MethodName) "SpillslotWorks") ∈ lw_tbl := lw_at lw_m6 188 rfl
theorem q1650 : (Jvm.Cond.fieldLinkNest "SpillslotWorks$Program" (72 : Nat) "SpillslotWorks$Node" "kind" "LSpillslotWorks$Kind;" "SpillslotWorks") ∈ lw_tbl := lw_at lw_m7 91 rfl
theorem q1653 : (Jvm.Cond.fieldLinkNest "SpillslotWorks$Program" (59 : Nat) "SpillslotWorks$Node" "a" "I" "SpillslotWorks") ∈ lw_tbl := lw_at lw_m7 94 rfl
theorem q1656 : (Jvm.Cond.fieldLinkNest "SpillslotWorks$Program" (69 : Nat) "SpillslotWorks$Node" "b" "I" "SpillslotWorks") ∈ lw_tbl := lw_at lw_m7 97 rfl
theorem q1710 : (Jvm.Cond.fieldLinkNest "SpillslotWorks$Program" (84 : Nat) "SpillslotWorks$Statement" "variable" "I" "SpillslotWorks") ∈ lw_tbl := lw_at lw_m7 151 rfl
theorem q1713 : (Jvm.Cond.fieldLinkNest "SpillslotWorks$Program" (87 : Nat) "SpillslotWorks$Statement" "node" "I" "SpillslotWorks") ∈ lw_tbl := lw_at lw_m7 154 rfl
theorem q2308 : (Jvm.Cond.selects "SpillslotWorks$Program" ({ cls := "java/lang/Object", name := "equals", desc := "(Ljava/lang/Object;)Z" } : Jvm.MethodName) ({ cls := "java/lang/Object", name := "equals", desc := "(Ljava/lang/Object;)Z" } : Jvm.MethodName)) ∈ lw_all := lw_g (lw_at lw_m10 29 rfl) rfl
theorem q2856 : (Jvm.Cond.castable "SpillslotWorks$Program" "java/lang/Object") ∈ lw_tbl := lw_at lw_m12 97 rfl
theorem in_X2 : ∀ w ∈ wsX20, w ∈ lw_all := lw_in wsX20 [315, 317, 319, 321] (by decide +kernel) (by decide +kernel)
/-! SpillslotWorks$Machine -/
def RX3 : String := "SpillslotWorks$Machine"
def TX3 : u_T := fun k => match k with
  | 0 => ("SpillslotWorks$Machine", "registers", "I", true)
  | 1 => ("SpillslotWorks$Machine", "kept", "I", true)
  | 2 => ("SpillslotWorks$Machine", "small", "I", true)
  | 3 => ("SpillslotWorks$Machine", "isFused", "Z", true)
  | 4 => ("SpillslotWorks$Machine", "isTwo", "Z", true)
  | _ => ("SpillslotWorks$Machine", "latencies", "[I", true)
def tyX3 : Nat → FieldType := fun k => match k with
  | 0 => .int
  | 1 => .int
  | 2 => .int
  | 3 => .boolean
  | 4 => .boolean
  | _ => .array .int
abbrev wsX30 : List Cond := u_ws RX3 TX3 6
theorem nmX3 : ∀ a, a < 6 → ∀ b, b < 6 → a ≠ b → (TX3 a).2.1 ≠ (TX3 b).2.1 := by decide +kernel
theorem tyX3_ok : ∀ k, k < 6 → parseFieldDescriptor (TX3 k).2.2.1 = some (tyX3 k) := by decide +kernel
abbrev cX3_init : ByteArray := prog_8_method_1_code
def yX3_init : MethodName := ⟨RX3, "<init>", "(IIIZZ[I)V"⟩
def dkwX3_init_1 : List UInt8 := [181, 0, 21, 42, 21, 5, 181, 0, 25, 42, 25, 6, 181, 0, 28, 177]
abbrev dktX3_init_1 : List UInt8 := dkwX3_init_1 ++ []
def dkwX3_init_0 : List UInt8 := [42, 183, 0, 3, 42, 27, 181, 0, 9, 42, 28, 181, 0, 15, 42, 29, 181, 0, 18, 42, 21, 4]
abbrev dktX3_init_0 : List UInt8 := dkwX3_init_0 ++ dktX3_init_1
theorem dksX3_init_0 : cX3_init.data.toList.drop 0 = dktX3_init_0 := by decide +kernel
theorem dksX3_init_1 : cX3_init.data.toList.drop 22 = dktX3_init_1 := dk_seg dksX3_init_0 22 rfl rfl
theorem dX3_init_0 : decode cX3_init 0 = .ok (.aload_n 0, 1) := dk_42 (dk_at dksX3_init_0 0 rfl rfl)
theorem dX3_init_1 : decode cX3_init 1 = .ok (.invokespecial 3, 3) := dk_183 0 3 (dk_at dksX3_init_0 1 rfl rfl)
theorem dX3_init_4 : decode cX3_init 4 = .ok (.aload_n 0, 1) := dk_42 (dk_at dksX3_init_0 4 rfl rfl)
theorem dX3_init_5 : decode cX3_init 5 = .ok (.iload_n 1, 1) := dk_27 (dk_at dksX3_init_0 5 rfl rfl)
theorem dX3_init_6 : decode cX3_init 6 = .ok (.putfield 9, 3) := dk_181 0 9 (dk_at dksX3_init_0 6 rfl rfl)
theorem dX3_init_9 : decode cX3_init 9 = .ok (.aload_n 0, 1) := dk_42 (dk_at dksX3_init_0 9 rfl rfl)
theorem dX3_init_10 : decode cX3_init 10 = .ok (.iload_n 2, 1) := dk_28 (dk_at dksX3_init_0 10 rfl rfl)
theorem dX3_init_11 : decode cX3_init 11 = .ok (.putfield 15, 3) := dk_181 0 15 (dk_at dksX3_init_0 11 rfl rfl)
theorem dX3_init_14 : decode cX3_init 14 = .ok (.aload_n 0, 1) := dk_42 (dk_at dksX3_init_0 14 rfl rfl)
theorem dX3_init_15 : decode cX3_init 15 = .ok (.iload_n 3, 1) := dk_29 (dk_at dksX3_init_0 15 rfl rfl)
theorem dX3_init_16 : decode cX3_init 16 = .ok (.putfield 18, 3) := dk_181 0 18 (dk_at dksX3_init_0 16 rfl rfl)
theorem dX3_init_19 : decode cX3_init 19 = .ok (.aload_n 0, 1) := dk_42 (dk_at dksX3_init_0 19 rfl rfl)
theorem dX3_init_20 : decode cX3_init 20 = .ok (.iload 4, 2) := dk_21 4 (dk_at dksX3_init_0 20 rfl rfl)
theorem dX3_init_22 : decode cX3_init 22 = .ok (.putfield 21, 3) := dk_181 0 21 (dk_at dksX3_init_1 0 rfl rfl)
theorem dX3_init_25 : decode cX3_init 25 = .ok (.aload_n 0, 1) := dk_42 (dk_at dksX3_init_1 3 rfl rfl)
theorem dX3_init_26 : decode cX3_init 26 = .ok (.iload 5, 2) := dk_21 5 (dk_at dksX3_init_1 4 rfl rfl)
theorem dX3_init_28 : decode cX3_init 28 = .ok (.putfield 25, 3) := dk_181 0 25 (dk_at dksX3_init_1 6 rfl rfl)
theorem dX3_init_31 : decode cX3_init 31 = .ok (.aload_n 0, 1) := dk_42 (dk_at dksX3_init_1 9 rfl rfl)
theorem dX3_init_32 : decode cX3_init 32 = .ok (.aload 6, 2) := dk_25 6 (dk_at dksX3_init_1 10 rfl rfl)
theorem dX3_init_34 : decode cX3_init 34 = .ok (.putfield 28, 3) := dk_181 0 28 (dk_at dksX3_init_1 12 rfl rfl)
theorem dX3_init_37 : decode cX3_init 37 = .ok (.return_, 1) := dk_177 (dk_at dksX3_init_1 15 rfl rfl)
abbrev cX3_latency : ByteArray := prog_8_method_5_code
def yX3_latency : MethodName := ⟨RX3, "latency", "(I)I"⟩
def dkwX3_latency_4 : List UInt8 := [180, 0, 28, 16, 7, 46, 172, 42, 180, 0, 28, 5, 46, 172]
abbrev dktX3_latency_4 : List UInt8 := dkwX3_latency_4 ++ []
def dkwX3_latency_3 : List UInt8 := [180, 0, 28, 7, 46, 172, 42, 180, 0, 28, 8, 46, 172, 42, 180, 0, 28, 16, 6, 46, 172, 42]
abbrev dktX3_latency_3 : List UInt8 := dkwX3_latency_3 ++ dktX3_latency_4
def dkwX3_latency_2 : List UInt8 := [42, 180, 0, 28, 3, 46, 172, 42, 180, 0, 28, 4, 46, 172, 42, 180, 0, 28, 6, 46, 172, 42]
abbrev dktX3_latency_2 : List UInt8 := dkwX3_latency_2 ++ dktX3_latency_3
def dkwX3_latency_1 : List UInt8 := [170, 0, 0, 0, 0, 0, 106, 0, 0, 0, 0, 0, 0, 0, 9, 0, 0, 0, 55, 0, 0, 0, 62, 0, 0, 0, 106, 0, 0, 0, 106, 0, 0, 0, 69, 0, 0, 0, 106, 0, 0, 0, 76, 0, 0, 0, 83, 0, 0, 0, 90, 0, 0, 0, 98]
abbrev dktX3_latency_1 : List UInt8 := dkwX3_latency_1 ++ dktX3_latency_2
def dkwX3_latency_0 : List UInt8 := [27]
abbrev dktX3_latency_0 : List UInt8 := dkwX3_latency_0 ++ dktX3_latency_1
theorem dksX3_latency_0 : cX3_latency.data.toList.drop 0 = dktX3_latency_0 := by decide +kernel
theorem dksX3_latency_1 : cX3_latency.data.toList.drop 1 = dktX3_latency_1 := dk_seg dksX3_latency_0 1 rfl rfl
theorem dksX3_latency_2 : cX3_latency.data.toList.drop 56 = dktX3_latency_2 := dk_seg dksX3_latency_1 55 rfl rfl
theorem dksX3_latency_3 : cX3_latency.data.toList.drop 78 = dktX3_latency_3 := dk_seg dksX3_latency_2 22 rfl rfl
theorem dksX3_latency_4 : cX3_latency.data.toList.drop 100 = dktX3_latency_4 := dk_seg dksX3_latency_3 22 rfl rfl
theorem dX3_latency_0 : decode cX3_latency 0 = .ok (.iload_n 1, 1) := dk_27 (dk_at dksX3_latency_0 0 rfl rfl)
theorem dX3_latency_1 : decode cX3_latency 1 = .ok (.tableswitch 106 0 9 #[55, 62, 106, 106, 69, 106, 76, 83, 90, 98], 55) := by decide +kernel
theorem dX3_latency_56 : decode cX3_latency 56 = .ok (.aload_n 0, 1) := dk_42 (dk_at dksX3_latency_2 0 rfl rfl)
theorem dX3_latency_57 : decode cX3_latency 57 = .ok (.getfield 28, 3) := dk_180 0 28 (dk_at dksX3_latency_2 1 rfl rfl)
theorem dX3_latency_60 : decode cX3_latency 60 = .ok (.iconst 0, 1) := dk_3 (dk_at dksX3_latency_2 4 rfl rfl)
theorem dX3_latency_61 : decode cX3_latency 61 = .ok (.iaload, 1) := dk_46 (dk_at dksX3_latency_2 5 rfl rfl)
theorem dX3_latency_62 : decode cX3_latency 62 = .ok (.ireturn, 1) := dk_172 (dk_at dksX3_latency_2 6 rfl rfl)
theorem dX3_latency_63 : decode cX3_latency 63 = .ok (.aload_n 0, 1) := dk_42 (dk_at dksX3_latency_2 7 rfl rfl)
theorem dX3_latency_64 : decode cX3_latency 64 = .ok (.getfield 28, 3) := dk_180 0 28 (dk_at dksX3_latency_2 8 rfl rfl)
theorem dX3_latency_67 : decode cX3_latency 67 = .ok (.iconst 1, 1) := dk_4 (dk_at dksX3_latency_2 11 rfl rfl)
theorem dX3_latency_68 : decode cX3_latency 68 = .ok (.iaload, 1) := dk_46 (dk_at dksX3_latency_2 12 rfl rfl)
theorem dX3_latency_69 : decode cX3_latency 69 = .ok (.ireturn, 1) := dk_172 (dk_at dksX3_latency_2 13 rfl rfl)
theorem dX3_latency_70 : decode cX3_latency 70 = .ok (.aload_n 0, 1) := dk_42 (dk_at dksX3_latency_2 14 rfl rfl)
theorem dX3_latency_71 : decode cX3_latency 71 = .ok (.getfield 28, 3) := dk_180 0 28 (dk_at dksX3_latency_2 15 rfl rfl)
theorem dX3_latency_74 : decode cX3_latency 74 = .ok (.iconst 3, 1) := dk_6 (dk_at dksX3_latency_2 18 rfl rfl)
theorem dX3_latency_75 : decode cX3_latency 75 = .ok (.iaload, 1) := dk_46 (dk_at dksX3_latency_2 19 rfl rfl)
theorem dX3_latency_76 : decode cX3_latency 76 = .ok (.ireturn, 1) := dk_172 (dk_at dksX3_latency_2 20 rfl rfl)
theorem dX3_latency_77 : decode cX3_latency 77 = .ok (.aload_n 0, 1) := dk_42 (dk_at dksX3_latency_2 21 rfl rfl)
theorem dX3_latency_78 : decode cX3_latency 78 = .ok (.getfield 28, 3) := dk_180 0 28 (dk_at dksX3_latency_3 0 rfl rfl)
theorem dX3_latency_81 : decode cX3_latency 81 = .ok (.iconst 4, 1) := dk_7 (dk_at dksX3_latency_3 3 rfl rfl)
theorem dX3_latency_82 : decode cX3_latency 82 = .ok (.iaload, 1) := dk_46 (dk_at dksX3_latency_3 4 rfl rfl)
theorem dX3_latency_83 : decode cX3_latency 83 = .ok (.ireturn, 1) := dk_172 (dk_at dksX3_latency_3 5 rfl rfl)
theorem dX3_latency_84 : decode cX3_latency 84 = .ok (.aload_n 0, 1) := dk_42 (dk_at dksX3_latency_3 6 rfl rfl)
theorem dX3_latency_85 : decode cX3_latency 85 = .ok (.getfield 28, 3) := dk_180 0 28 (dk_at dksX3_latency_3 7 rfl rfl)
theorem dX3_latency_88 : decode cX3_latency 88 = .ok (.iconst 5, 1) := dk_8 (dk_at dksX3_latency_3 10 rfl rfl)
theorem dX3_latency_89 : decode cX3_latency 89 = .ok (.iaload, 1) := dk_46 (dk_at dksX3_latency_3 11 rfl rfl)
theorem dX3_latency_90 : decode cX3_latency 90 = .ok (.ireturn, 1) := dk_172 (dk_at dksX3_latency_3 12 rfl rfl)
theorem dX3_latency_91 : decode cX3_latency 91 = .ok (.aload_n 0, 1) := dk_42 (dk_at dksX3_latency_3 13 rfl rfl)
theorem dX3_latency_92 : decode cX3_latency 92 = .ok (.getfield 28, 3) := dk_180 0 28 (dk_at dksX3_latency_3 14 rfl rfl)
theorem dX3_latency_95 : decode cX3_latency 95 = .ok (.bipush 6, 2) := dk_16 6 (dk_at dksX3_latency_3 17 rfl rfl)
theorem dX3_latency_97 : decode cX3_latency 97 = .ok (.iaload, 1) := dk_46 (dk_at dksX3_latency_3 19 rfl rfl)
theorem dX3_latency_98 : decode cX3_latency 98 = .ok (.ireturn, 1) := dk_172 (dk_at dksX3_latency_3 20 rfl rfl)
theorem dX3_latency_99 : decode cX3_latency 99 = .ok (.aload_n 0, 1) := dk_42 (dk_at dksX3_latency_3 21 rfl rfl)
theorem dX3_latency_100 : decode cX3_latency 100 = .ok (.getfield 28, 3) := dk_180 0 28 (dk_at dksX3_latency_4 0 rfl rfl)
theorem dX3_latency_103 : decode cX3_latency 103 = .ok (.bipush 7, 2) := dk_16 7 (dk_at dksX3_latency_4 3 rfl rfl)
theorem dX3_latency_105 : decode cX3_latency 105 = .ok (.iaload, 1) := dk_46 (dk_at dksX3_latency_4 5 rfl rfl)
theorem dX3_latency_106 : decode cX3_latency 106 = .ok (.ireturn, 1) := dk_172 (dk_at dksX3_latency_4 6 rfl rfl)
theorem dX3_latency_107 : decode cX3_latency 107 = .ok (.aload_n 0, 1) := dk_42 (dk_at dksX3_latency_4 7 rfl rfl)
theorem dX3_latency_108 : decode cX3_latency 108 = .ok (.getfield 28, 3) := dk_180 0 28 (dk_at dksX3_latency_4 8 rfl rfl)
theorem dX3_latency_111 : decode cX3_latency 111 = .ok (.iconst 2, 1) := dk_5 (dk_at dksX3_latency_4 11 rfl rfl)
theorem dX3_latency_112 : decode cX3_latency 112 = .ok (.iaload, 1) := dk_46 (dk_at dksX3_latency_4 12 rfl rfl)
theorem dX3_latency_113 : decode cX3_latency 113 = .ok (.ireturn, 1) := dk_172 (dk_at dksX3_latency_4 13 rfl rfl)
abbrev cX3_isSmall : ByteArray := prog_8_method_4_code
def yX3_isSmall : MethodName := ⟨RX3, "isSmall", "(I)Z"⟩
def dkwX3_isSmall_0 : List UInt8 := [27, 42, 180, 0, 18, 116, 161, 0, 15, 27, 42, 180, 0, 18, 163, 0, 7, 4, 167, 0, 4, 3, 172]
abbrev dktX3_isSmall_0 : List UInt8 := dkwX3_isSmall_0 ++ []
theorem dksX3_isSmall_0 : cX3_isSmall.data.toList.drop 0 = dktX3_isSmall_0 := by decide +kernel
theorem dX3_isSmall_0 : decode cX3_isSmall 0 = .ok (.iload_n 1, 1) := dk_27 (dk_at dksX3_isSmall_0 0 rfl rfl)
theorem dX3_isSmall_1 : decode cX3_isSmall 1 = .ok (.aload_n 0, 1) := dk_42 (dk_at dksX3_isSmall_0 1 rfl rfl)
theorem dX3_isSmall_2 : decode cX3_isSmall 2 = .ok (.getfield 18, 3) := dk_180 0 18 (dk_at dksX3_isSmall_0 2 rfl rfl)
theorem dX3_isSmall_5 : decode cX3_isSmall 5 = .ok (.ineg, 1) := dk_116 (dk_at dksX3_isSmall_0 5 rfl rfl)
theorem dX3_isSmall_6 : decode cX3_isSmall 6 = .ok (.if_icmp .lt 15, 3) := dk_161 0 15 (dk_at dksX3_isSmall_0 6 rfl rfl)
theorem dX3_isSmall_9 : decode cX3_isSmall 9 = .ok (.iload_n 1, 1) := dk_27 (dk_at dksX3_isSmall_0 9 rfl rfl)
theorem dX3_isSmall_10 : decode cX3_isSmall 10 = .ok (.aload_n 0, 1) := dk_42 (dk_at dksX3_isSmall_0 10 rfl rfl)
theorem dX3_isSmall_11 : decode cX3_isSmall 11 = .ok (.getfield 18, 3) := dk_180 0 18 (dk_at dksX3_isSmall_0 11 rfl rfl)
theorem dX3_isSmall_14 : decode cX3_isSmall 14 = .ok (.if_icmp .gt 7, 3) := dk_163 0 7 (dk_at dksX3_isSmall_0 14 rfl rfl)
theorem dX3_isSmall_17 : decode cX3_isSmall 17 = .ok (.iconst 1, 1) := dk_4 (dk_at dksX3_isSmall_0 17 rfl rfl)
theorem dX3_isSmall_18 : decode cX3_isSmall 18 = .ok (.goto 4, 3) := dk_167 0 4 (dk_at dksX3_isSmall_0 18 rfl rfl)
theorem dX3_isSmall_21 : decode cX3_isSmall 21 = .ok (.iconst 0, 1) := dk_3 (dk_at dksX3_isSmall_0 21 rfl rfl)
theorem dX3_isSmall_22 : decode cX3_isSmall 22 = .ok (.ireturn, 1) := dk_172 (dk_at dksX3_isSmall_0 22 rfl rfl)
abbrev cX3_isKept : ByteArray := prog_8_method_3_code
def yX3_isKept : MethodName := ⟨RX3, "isKept", "(I)Z"⟩
def dkwX3_isKept_0 : List UInt8 := [42, 180, 0, 15, 27, 184, 0, 32, 172]
abbrev dktX3_isKept_0 : List UInt8 := dkwX3_isKept_0 ++ []
theorem dksX3_isKept_0 : cX3_isKept.data.toList.drop 0 = dktX3_isKept_0 := by decide +kernel
theorem dX3_isKept_0 : decode cX3_isKept 0 = .ok (.aload_n 0, 1) := dk_42 (dk_at dksX3_isKept_0 0 rfl rfl)
theorem dX3_isKept_1 : decode cX3_isKept 1 = .ok (.getfield 15, 3) := dk_180 0 15 (dk_at dksX3_isKept_0 1 rfl rfl)
theorem dX3_isKept_4 : decode cX3_isKept 4 = .ok (.iload_n 1, 1) := dk_27 (dk_at dksX3_isKept_0 4 rfl rfl)
theorem dX3_isKept_5 : decode cX3_isKept 5 = .ok (.invokestatic 32, 3) := dk_184 0 32 (dk_at dksX3_isKept_0 5 rfl rfl)
theorem dX3_isKept_8 : decode cX3_isKept 8 = .ok (.ireturn, 1) := dk_172 (dk_at dksX3_isKept_0 8 rfl rfl)
abbrev cX3_scratch : ByteArray := prog_8_method_2_code
def yX3_scratch : MethodName := ⟨RX3, "scratch", "()I"⟩
def dkwX3_scratch_0 : List UInt8 := [42, 180, 0, 9, 6, 100, 172]
abbrev dktX3_scratch_0 : List UInt8 := dkwX3_scratch_0 ++ []
theorem dksX3_scratch_0 : cX3_scratch.data.toList.drop 0 = dktX3_scratch_0 := by decide +kernel
theorem dX3_scratch_0 : decode cX3_scratch 0 = .ok (.aload_n 0, 1) := dk_42 (dk_at dksX3_scratch_0 0 rfl rfl)
theorem dX3_scratch_1 : decode cX3_scratch 1 = .ok (.getfield 9, 3) := dk_180 0 9 (dk_at dksX3_scratch_0 1 rfl rfl)
theorem dX3_scratch_4 : decode cX3_scratch 4 = .ok (.iconst 3, 1) := dk_6 (dk_at dksX3_scratch_0 4 rfl rfl)
theorem dX3_scratch_5 : decode cX3_scratch 5 = .ok (.isub, 1) := dk_100 (dk_at dksX3_scratch_0 5 rfl rfl)
theorem dX3_scratch_6 : decode cX3_scratch 6 = .ok (.ireturn, 1) := dk_172 (dk_at dksX3_scratch_0 6 rfl rfl)
abbrev cX3_with : ByteArray := prog_8_method_6_code
def yX3_with : MethodName := ⟨RX3, "with", "(IIZ)LSpillslotWorks$Machine;"⟩
def dkwX3_with_0 : List UInt8 := [187, 0, 10, 89, 27, 28, 42, 180, 0, 18, 42, 180, 0, 21, 29, 42, 180, 0, 28, 183, 0, 36, 176]
abbrev dktX3_with_0 : List UInt8 := dkwX3_with_0 ++ []
theorem dksX3_with_0 : cX3_with.data.toList.drop 0 = dktX3_with_0 := by decide +kernel
theorem dX3_with_0 : decode cX3_with 0 = .ok (.new 10, 3) := dk_187 0 10 (dk_at dksX3_with_0 0 rfl rfl)
theorem dX3_with_3 : decode cX3_with 3 = .ok (.dup, 1) := dk_89 (dk_at dksX3_with_0 3 rfl rfl)
theorem dX3_with_4 : decode cX3_with 4 = .ok (.iload_n 1, 1) := dk_27 (dk_at dksX3_with_0 4 rfl rfl)
theorem dX3_with_5 : decode cX3_with 5 = .ok (.iload_n 2, 1) := dk_28 (dk_at dksX3_with_0 5 rfl rfl)
theorem dX3_with_6 : decode cX3_with 6 = .ok (.aload_n 0, 1) := dk_42 (dk_at dksX3_with_0 6 rfl rfl)
theorem dX3_with_7 : decode cX3_with 7 = .ok (.getfield 18, 3) := dk_180 0 18 (dk_at dksX3_with_0 7 rfl rfl)
theorem dX3_with_10 : decode cX3_with 10 = .ok (.aload_n 0, 1) := dk_42 (dk_at dksX3_with_0 10 rfl rfl)
theorem dX3_with_11 : decode cX3_with 11 = .ok (.getfield 21, 3) := dk_180 0 21 (dk_at dksX3_with_0 11 rfl rfl)
theorem dX3_with_14 : decode cX3_with 14 = .ok (.iload_n 3, 1) := dk_29 (dk_at dksX3_with_0 14 rfl rfl)
theorem dX3_with_15 : decode cX3_with 15 = .ok (.aload_n 0, 1) := dk_42 (dk_at dksX3_with_0 15 rfl rfl)
theorem dX3_with_16 : decode cX3_with 16 = .ok (.getfield 28, 3) := dk_180 0 28 (dk_at dksX3_with_0 16 rfl rfl)
theorem dX3_with_19 : decode cX3_with 19 = .ok (.invokespecial 36, 3) := dk_183 0 36 (dk_at dksX3_with_0 19 rfl rfl)
theorem dX3_with_22 : decode cX3_with 22 = .ok (.areturn, 1) := dk_176 (dk_at dksX3_with_0 22 rfl rfl)
abbrev cX3_with_2 : ByteArray := prog_8_method_7_code
def yX3_with_2 : MethodName := ⟨RX3, "with", "(II)LSpillslotWorks$Machine;"⟩
def dkwX3_with_2_2 : List UInt8 := [183, 0, 36, 176]
abbrev dktX3_with_2_2 : List UInt8 := dkwX3_with_2_2 ++ []
def dkwX3_with_2_1 : List UInt8 := [89, 42, 180, 0, 9, 42, 180, 0, 15, 42, 180, 0, 18, 42, 180, 0, 21, 42, 180, 0, 25, 45]
abbrev dktX3_with_2_1 : List UInt8 := dkwX3_with_2_1 ++ dktX3_with_2_2
def dkwX3_with_2_0 : List UInt8 := [16, 8, 188, 10, 78, 42, 180, 0, 28, 3, 45, 3, 16, 8, 184, 0, 39, 45, 27, 28, 79, 187, 0, 10]
abbrev dktX3_with_2_0 : List UInt8 := dkwX3_with_2_0 ++ dktX3_with_2_1
theorem dksX3_with_2_0 : cX3_with_2.data.toList.drop 0 = dktX3_with_2_0 := by decide +kernel
theorem dksX3_with_2_1 : cX3_with_2.data.toList.drop 24 = dktX3_with_2_1 := dk_seg dksX3_with_2_0 24 rfl rfl
theorem dksX3_with_2_2 : cX3_with_2.data.toList.drop 46 = dktX3_with_2_2 := dk_seg dksX3_with_2_1 22 rfl rfl
theorem dX3_with_2_0 : decode cX3_with_2 0 = .ok (.bipush 8, 2) := dk_16 8 (dk_at dksX3_with_2_0 0 rfl rfl)
theorem dX3_with_2_2 : decode cX3_with_2 2 = .ok (.newarray .int, 2) := dk_188_10 (dk_at dksX3_with_2_0 2 rfl rfl)
theorem dX3_with_2_4 : decode cX3_with_2 4 = .ok (.astore_n 3, 1) := dk_78 (dk_at dksX3_with_2_0 4 rfl rfl)
theorem dX3_with_2_5 : decode cX3_with_2 5 = .ok (.aload_n 0, 1) := dk_42 (dk_at dksX3_with_2_0 5 rfl rfl)
theorem dX3_with_2_6 : decode cX3_with_2 6 = .ok (.getfield 28, 3) := dk_180 0 28 (dk_at dksX3_with_2_0 6 rfl rfl)
theorem dX3_with_2_9 : decode cX3_with_2 9 = .ok (.iconst 0, 1) := dk_3 (dk_at dksX3_with_2_0 9 rfl rfl)
theorem dX3_with_2_10 : decode cX3_with_2 10 = .ok (.aload_n 3, 1) := dk_45 (dk_at dksX3_with_2_0 10 rfl rfl)
theorem dX3_with_2_11 : decode cX3_with_2 11 = .ok (.iconst 0, 1) := dk_3 (dk_at dksX3_with_2_0 11 rfl rfl)
theorem dX3_with_2_12 : decode cX3_with_2 12 = .ok (.bipush 8, 2) := dk_16 8 (dk_at dksX3_with_2_0 12 rfl rfl)
theorem dX3_with_2_14 : decode cX3_with_2 14 = .ok (.invokestatic 39, 3) := dk_184 0 39 (dk_at dksX3_with_2_0 14 rfl rfl)
theorem dX3_with_2_17 : decode cX3_with_2 17 = .ok (.aload_n 3, 1) := dk_45 (dk_at dksX3_with_2_0 17 rfl rfl)
theorem dX3_with_2_18 : decode cX3_with_2 18 = .ok (.iload_n 1, 1) := dk_27 (dk_at dksX3_with_2_0 18 rfl rfl)
theorem dX3_with_2_19 : decode cX3_with_2 19 = .ok (.iload_n 2, 1) := dk_28 (dk_at dksX3_with_2_0 19 rfl rfl)
theorem dX3_with_2_20 : decode cX3_with_2 20 = .ok (.iastore, 1) := dk_79 (dk_at dksX3_with_2_0 20 rfl rfl)
theorem dX3_with_2_21 : decode cX3_with_2 21 = .ok (.new 10, 3) := dk_187 0 10 (dk_at dksX3_with_2_0 21 rfl rfl)
theorem dX3_with_2_24 : decode cX3_with_2 24 = .ok (.dup, 1) := dk_89 (dk_at dksX3_with_2_1 0 rfl rfl)
theorem dX3_with_2_25 : decode cX3_with_2 25 = .ok (.aload_n 0, 1) := dk_42 (dk_at dksX3_with_2_1 1 rfl rfl)
theorem dX3_with_2_26 : decode cX3_with_2 26 = .ok (.getfield 9, 3) := dk_180 0 9 (dk_at dksX3_with_2_1 2 rfl rfl)
theorem dX3_with_2_29 : decode cX3_with_2 29 = .ok (.aload_n 0, 1) := dk_42 (dk_at dksX3_with_2_1 5 rfl rfl)
theorem dX3_with_2_30 : decode cX3_with_2 30 = .ok (.getfield 15, 3) := dk_180 0 15 (dk_at dksX3_with_2_1 6 rfl rfl)
theorem dX3_with_2_33 : decode cX3_with_2 33 = .ok (.aload_n 0, 1) := dk_42 (dk_at dksX3_with_2_1 9 rfl rfl)
theorem dX3_with_2_34 : decode cX3_with_2 34 = .ok (.getfield 18, 3) := dk_180 0 18 (dk_at dksX3_with_2_1 10 rfl rfl)
theorem dX3_with_2_37 : decode cX3_with_2 37 = .ok (.aload_n 0, 1) := dk_42 (dk_at dksX3_with_2_1 13 rfl rfl)
theorem dX3_with_2_38 : decode cX3_with_2 38 = .ok (.getfield 21, 3) := dk_180 0 21 (dk_at dksX3_with_2_1 14 rfl rfl)
theorem dX3_with_2_41 : decode cX3_with_2 41 = .ok (.aload_n 0, 1) := dk_42 (dk_at dksX3_with_2_1 17 rfl rfl)
theorem dX3_with_2_42 : decode cX3_with_2 42 = .ok (.getfield 25, 3) := dk_180 0 25 (dk_at dksX3_with_2_1 18 rfl rfl)
theorem dX3_with_2_45 : decode cX3_with_2 45 = .ok (.aload_n 3, 1) := dk_45 (dk_at dksX3_with_2_1 21 rfl rfl)
theorem dX3_with_2_46 : decode cX3_with_2 46 = .ok (.invokespecial 36, 3) := dk_183 0 36 (dk_at dksX3_with_2_2 0 rfl rfl)
theorem dX3_with_2_49 : decode cX3_with_2 49 = .ok (.areturn, 1) := dk_176 (dk_at dksX3_with_2_2 3 rfl rfl)
theorem q129 : (Jvm.Cond.initialized "SpillslotWorks$Machine") ∈ lw_all := lw_g (lw_at lw_m1 10 rfl) rfl
theorem q259 : (Jvm.Cond.selects "SpillslotWorks$Machine" ({ cls := "java/lang/Object", name := "getClass", desc := "()Ljava/lang/Class;" } : Jvm.MethodName) ({ cls := "java/lang/Object", name := "getClass", desc := "()Ljava/lang/Class;" } : Jvm.MethodName)) ∈ lw_all := lw_g (lw_at lw_m1 140 rfl) rfl
theorem q326 : (Jvm.Cond.instantiable "SpillslotWorks$Machine" (6 : Nat)) ∈ lw_all := lw_g (lw_at lw_m1 207 rfl) rfl
theorem q331 : (Jvm.Cond.instanceMethod ({ cls := "SpillslotWorks$Machine", name := "<init>", desc := "(IIIZZ[I)V" } : Jvm.MethodName)) ∈ lw_all := lw_g (lw_at lw_m1 212 rfl) rfl
theorem q332 : (Jvm.Cond.code ({ cls := "SpillslotWorks$Machine", name := "<init>", desc := "(IIIZZ[I)V" } : Jvm.MethodName) prog_8_method_1_code (7 : Nat) (Option.none : Option Jvm.ClassFile.FieldType)) ∈ lw_all := lw_g (lw_at lw_m1 213 rfl) rfl
theorem q333 : (Jvm.Cond.methodLink "SpillslotWorks$Machine" (3 : Nat) ({ cls := "java/lang/Object", name := "<init>", desc := "()V" } : Jvm.MethodName)) ∈ lw_all := lw_g (lw_at lw_m1 214 rfl) rfl
theorem q334 : (Jvm.Cond.fieldLink "SpillslotWorks$Machine" (9 : Nat) "SpillslotWorks$Machine" "registers" "I") ∈ lw_all := lw_g (lw_at lw_m1 215 rfl) rfl
theorem q337 : (Jvm.Cond.fieldLink "SpillslotWorks$Machine" (15 : Nat) "SpillslotWorks$Machine" "kept" "I") ∈ lw_all := lw_g (lw_at lw_m1 218 rfl) rfl
theorem q339 : (Jvm.Cond.fieldLink "SpillslotWorks$Machine" (18 : Nat) "SpillslotWorks$Machine" "small" "I") ∈ lw_all := lw_g (lw_at lw_m1 220 rfl) rfl
theorem q340 : (Jvm.Cond.fieldLink "SpillslotWorks$Machine" (21 : Nat) "SpillslotWorks$Machine" "isFused" "Z") ∈ lw_all := lw_g (lw_at lw_m1 221 rfl) rfl
theorem q342 : (Jvm.Cond.fieldLink "SpillslotWorks$Machine" (25 : Nat) "SpillslotWorks$Machine" "isTwo" "Z") ∈ lw_all := lw_g (lw_at lw_m1 223 rfl) rfl
theorem q346 : (Jvm.Cond.fieldLink "SpillslotWorks$Machine" (28 : Nat) "SpillslotWorks$Machine" "latencies" "[I") ∈ lw_all := lw_g (lw_at lw_m1 227 rfl) rfl
theorem q348 : (Jvm.Cond.laysFinal "SpillslotWorks$Machine" "SpillslotWorks$Machine" "registers" "I") ∈ lw_all := lw_g (lw_at lw_m1 229 rfl) rfl
theorem q349 : (Jvm.Cond.soleField "SpillslotWorks$Machine" "registers") ∈ lw_all := lw_g (lw_at lw_m1 230 rfl) rfl
theorem q350 : (Jvm.Cond.laysFinal "SpillslotWorks$Machine" "SpillslotWorks$Machine" "kept" "I") ∈ lw_all := lw_g (lw_at lw_m1 231 rfl) rfl
theorem q351 : (Jvm.Cond.soleField "SpillslotWorks$Machine" "kept") ∈ lw_all := lw_g (lw_at lw_m1 232 rfl) rfl
theorem q352 : (Jvm.Cond.laysFinal "SpillslotWorks$Machine" "SpillslotWorks$Machine" "small" "I") ∈ lw_all := lw_g (lw_at lw_m1 233 rfl) rfl
theorem q353 : (Jvm.Cond.soleField "SpillslotWorks$Machine" "small") ∈ lw_all := lw_g (lw_at lw_m1 234 rfl) rfl
theorem q354 : (Jvm.Cond.laysFinal "SpillslotWorks$Machine" "SpillslotWorks$Machine" "isFused" "Z") ∈ lw_all := lw_g (lw_at lw_m1 235 rfl) rfl
theorem q355 : (Jvm.Cond.soleField "SpillslotWorks$Machine" "isFused") ∈ lw_all := lw_g (lw_at lw_m1 236 rfl) rfl
theorem q356 : (Jvm.Cond.laysFinal "SpillslotWorks$Machine" "SpillslotWorks$Machine" "isTwo" "Z") ∈ lw_all := lw_g (lw_at lw_m1 237 rfl) rfl
theorem q357 : (Jvm.Cond.soleField "SpillslotWorks$Machine" "isTwo") ∈ lw_all := lw_g (lw_at lw_m1 238 rfl) rfl
theorem q358 : (Jvm.Cond.laysFinal "SpillslotWorks$Machine" "SpillslotWorks$Machine" "latencies" "[I") ∈ lw_all := lw_g (lw_at lw_m1 239 rfl) rfl
theorem q359 : (Jvm.Cond.soleField "SpillslotWorks$Machine" "latencies") ∈ lw_all := lw_g (lw_at lw_m2 0 rfl) rfl
theorem q360 : (Jvm.Cond.superclass "SpillslotWorks$Machine" "java/lang/Object") ∈ lw_all := lw_g (lw_at lw_m2 1 rfl) rfl
theorem q435 : (Jvm.Cond.instanceMethod ({ cls := "SpillslotWorks$Machine", name := "latency", desc := "(I)I" } : Jvm.MethodName)) ∈ lw_all := lw_g (lw_at lw_m2 76 rfl) rfl
theorem q436 : (Jvm.Cond.selects "SpillslotWorks$Machine" ({ cls := "SpillslotWorks$Machine", name := "latency", desc := "(I)I" } : Jvm.MethodName) ({ cls := "SpillslotWorks$Machine", name := "latency", desc := "(I)I" } : Jvm.MethodName)) ∈ lw_all := lw_g (lw_at lw_m2 77 rfl) rfl
theorem q437 : (Jvm.Cond.code ({ cls := "SpillslotWorks$Machine", name := "latency", desc := "(I)I" } : Jvm.MethodName) prog_8_method_5_code (2 : Nat) (Option.some Jvm.ClassFile.FieldType.int)) ∈ lw_all := lw_g (lw_at lw_m2 78 rfl) rfl
theorem q463 : (Jvm.Cond.instanceMethod ({ cls := "SpillslotWorks$Machine", name := "isSmall", desc := "(I)Z" } : Jvm.MethodName)) ∈ lw_all := lw_g (lw_at lw_m2 104 rfl) rfl
theorem q464 : (Jvm.Cond.selects "SpillslotWorks$Machine" ({ cls := "SpillslotWorks$Machine", name := "isSmall", desc := "(I)Z" } : Jvm.MethodName) ({ cls := "SpillslotWorks$Machine", name := "isSmall", desc := "(I)Z" } : Jvm.MethodName)) ∈ lw_all := lw_g (lw_at lw_m2 105 rfl) rfl
theorem q465 : (Jvm.Cond.code ({ cls := "SpillslotWorks$Machine", name := "isSmall", desc := "(I)Z" } : Jvm.MethodName) prog_8_method_4_code (2 : Nat) (Option.some Jvm.ClassFile.FieldType.boolean)) ∈ lw_all := lw_g (lw_at lw_m2 106 rfl) rfl
theorem q1111 : (Jvm.Cond.instanceMethod ({ cls := "SpillslotWorks$Machine", name := "isKept", desc := "(I)Z" } : Jvm.MethodName)) ∈ lw_all := lw_g (lw_at lw_m5 32 rfl) rfl
theorem q1112 : (Jvm.Cond.selects "SpillslotWorks$Machine" ({ cls := "SpillslotWorks$Machine", name := "isKept", desc := "(I)Z" } : Jvm.MethodName) ({ cls := "SpillslotWorks$Machine", name := "isKept", desc := "(I)Z" } : Jvm.MethodName)) ∈ lw_all := lw_g (lw_at lw_m5 33 rfl) rfl
theorem q1113 : (Jvm.Cond.code ({ cls := "SpillslotWorks$Machine", name := "isKept", desc := "(I)Z" } : Jvm.MethodName) prog_8_method_3_code (2 : Nat) (Option.some Jvm.ClassFile.FieldType.boolean)) ∈ lw_all := lw_g (lw_at lw_m5 34 rfl) rfl
theorem q1114 : (Jvm.Cond.methodLinkNest "SpillslotWorks$Machine" (32 : Nat) ({ cls := "SpillslotWorks", name := "has", desc := "(II)Z" } : Jvm.MethodName) "SpillslotWorks") ∈ lw_tbl := lw_at lw_m5 35 rfl
theorem q1124 : (Jvm.Cond.instanceMethod ({ cls := "SpillslotWorks$Machine", name := "scratch", desc := "()I" } : Jvm.MethodName)) ∈ lw_all := lw_g (lw_at lw_m5 45 rfl) rfl
theorem q1125 : (Jvm.Cond.selects "SpillslotWorks$Machine" ({ cls := "SpillslotWorks$Machine", name := "scratch", desc := "()I" } : Jvm.MethodName) ({ cls := "SpillslotWorks$Machine", name := "scratch", desc := "()I" } : Jvm.MethodName)) ∈ lw_all := lw_g (lw_at lw_m5 46 rfl) rfl
theorem q1126 : (Jvm.Cond.code ({ cls := "SpillslotWorks$Machine", name := "scratch", desc := "()I" } : Jvm.MethodName) prog_8_method_2_code (1 : Nat) (Option.some Jvm.ClassFile.FieldType.int)) ∈ lw_all := lw_g (lw_at lw_m5 47 rfl) rfl
theorem q1420 : (Jvm.Cond.instanceMethod ({ cls := "SpillslotWorks$Machine", name := "with", desc := "(IIZ)LSpillslotWorks$Machine;" } : Jvm.MethodName)) ∈ lw_all := lw_g (lw_at lw_m6 101 rfl) rfl
theorem q1421 : (Jvm.Cond.selects "SpillslotWorks$Machine" ({ cls := "SpillslotWorks$Machine", name := "with", desc := "(IIZ)LSpillslotWorks$Machine;" } : Jvm.MethodName) ({ cls := "SpillslotWorks$Machine", name := "with", desc := "(IIZ)LSpillslotWorks$Machine;" } : Jvm.MethodName)) ∈ lw_all := lw_g (lw_at lw_m6 102 rfl) rfl
theorem q1422 : (Jvm.Cond.code ({ cls := "SpillslotWorks$Machine", name := "with", desc := "(IIZ)LSpillslotWorks$Machine;" } : Jvm.MethodName) prog_8_method_6_code (4 : Nat) (Option.some (Jvm.ClassFile.FieldType.object "SpillslotWorks$Machine"))) ∈ lw_all := lw_g (lw_at lw_m6 103 rfl) rfl
theorem q1423 : (Jvm.Cond.classLink "SpillslotWorks$Machine" (10 : Nat) "SpillslotWorks$Machine") ∈ lw_all := lw_g (lw_at lw_m6 104 rfl) rfl
theorem q1424 : (Jvm.Cond.methodLink "SpillslotWorks$Machine" (36 : Nat) ({ cls := "SpillslotWorks$Machine", name := "<init>", desc := "(IIIZZ[I)V" } : Jvm.MethodName)) ∈ lw_all := lw_g (lw_at lw_m6 105 rfl) rfl
theorem q1621 : (Jvm.Cond.instanceMethod ({ cls := "SpillslotWorks$Machine", name := "with", desc := "(II)LSpillslotWorks$Machine;" } : Jvm.MethodName)) ∈ lw_all := lw_g (lw_at lw_m7 62 rfl) rfl
theorem q1622 : (Jvm.Cond.selects "SpillslotWorks$Machine" ({ cls := "SpillslotWorks$Machine", name := "with", desc := "(II)LSpillslotWorks$Machine;" } : Jvm.MethodName) ({ cls := "SpillslotWorks$Machine", name := "with", desc := "(II)LSpillslotWorks$Machine;" } : Jvm.MethodName)) ∈ lw_all := lw_g (lw_at lw_m7 63 rfl) rfl
theorem q1623 : (Jvm.Cond.code ({ cls := "SpillslotWorks$Machine", name := "with", desc := "(II)LSpillslotWorks$Machine;" } : Jvm.MethodName) prog_8_method_7_code (4 : Nat) (Option.some (Jvm.ClassFile.FieldType.object "SpillslotWorks$Machine"))) ∈ lw_all := lw_g (lw_at lw_m7 64 rfl) rfl
theorem q1624 : (Jvm.Cond.methodLink "SpillslotWorks$Machine" (39 : Nat) ({ cls := "java/lang/System", name := "arraycopy", desc := "(Ljava/lang/Object;ILjava/lang/Object;II)V" } : Jvm.MethodName)) ∈ lw_all := lw_g (lw_at lw_m7 65 rfl) rfl
theorem q2304 : (Jvm.Cond.selects "SpillslotWorks$Machine" ({ cls := "java/lang/Object", name := "equals", desc := "(Ljava/lang/Object;)Z" } : Jvm.MethodName) ({ cls := "java/lang/Object", name := "equals", desc := "(Ljava/lang/Object;)Z" } : Jvm.MethodName)) ∈ lw_all := lw_g (lw_at lw_m10 25 rfl) rfl
theorem q2858 : (Jvm.Cond.castable "SpillslotWorks$Machine" "java/lang/Object") ∈ lw_tbl := lw_at lw_m12 99 rfl
theorem in_X3 : ∀ w ∈ wsX30, w ∈ lw_all := lw_in wsX30 [348, 350, 352, 354, 356, 358] (by decide +kernel) (by decide +kernel)
/-! SpillslotWorks$Build -/
def RX4 : String := "SpillslotWorks$Build"
def TX4 : u_T := fun k => match k with
  | 0 => ("SpillslotWorks$Build", "ops", "Ljava/util/List;", true)
  | 1 => ("SpillslotWorks$Build", "lives", "LSpillslotWorks$Lives;", true)
  | 2 => ("SpillslotWorks$Build", "code", "Ljava/util/List;", true)
  | 3 => ("SpillslotWorks$Build", "run", "LSpillslotWorks$Run;", true)
  | 4 => ("SpillslotWorks$Build", "costs", "[I", true)
  | _ => ("SpillslotWorks$Build", "values", "I", true)
def tyX4 : Nat → FieldType := fun k => match k with
  | 0 => .object "java/util/List"
  | 1 => .object "SpillslotWorks$Lives"
  | 2 => .object "java/util/List"
  | 3 => .object "SpillslotWorks$Run"
  | 4 => .array .int
  | _ => .int
abbrev wsX40 : List Cond := u_ws RX4 TX4 6
theorem nmX4 : ∀ a, a < 6 → ∀ b, b < 6 → a ≠ b → (TX4 a).2.1 ≠ (TX4 b).2.1 := by decide +kernel
theorem tyX4_ok : ∀ k, k < 6 → parseFieldDescriptor (TX4 k).2.2.1 = some (tyX4 k) := by decide +kernel
abbrev cX4_init : ByteArray := prog_2_method_1_code
def yX4_init : MethodName := ⟨RX4, "<init>", "(LSpillslotWorks$Program;LSpillslotWorks$Machine;Z)V"⟩
def dkwX4_init_7 : List UInt8 := [180, 0, 33, 21, 5, 182, 0, 75, 132, 6, 1, 167, 255, 224, 132, 5, 1, 167, 255, 209, 177]
abbrev dktX4_init_7 : List UInt8 := dkwX4_init_7 ++ []
def dkwX4_init_6 : List UInt8 := [3, 54, 6, 21, 6, 43, 180, 0, 78, 21, 5, 46, 162, 0, 26, 42, 180, 0, 71, 42, 180, 0, 59, 42]
abbrev dktX4_init_6 : List UInt8 := dkwX4_init_6 ++ dktX4_init_7
def dkwX4_init_5 : List UInt8 := [180, 0, 71, 42, 180, 0, 59, 42, 180, 0, 33, 2, 182, 0, 75, 3, 54, 5, 21, 5, 7, 162, 0, 47]
abbrev dktX4_init_5 : List UInt8 := dkwX4_init_5 ++ dktX4_init_6
def dkwX4_init_4 : List UInt8 := [181, 0, 59, 42, 187, 0, 62, 89, 44, 42, 180, 0, 47, 182, 0, 64, 183, 0, 68, 181, 0, 71, 42]
abbrev dktX4_init_4 : List UInt8 := dkwX4_init_4 ++ dktX4_init_5
def dkwX4_init_3 : List UInt8 := [181, 0, 47, 42, 187, 0, 51, 89, 42, 180, 0, 47, 44, 183, 0, 53, 42, 180, 0, 33, 182, 0, 56]
abbrev dktX4_init_3 : List UInt8 := dkwX4_init_3 ++ dktX4_init_4
def dkwX4_init_2 : List UInt8 := [180, 0, 37, 181, 0, 41, 42, 187, 0, 42, 89, 42, 180, 0, 33, 43, 44, 42, 180, 0, 41, 183, 0, 44]
abbrev dktX4_init_2 : List UInt8 := dkwX4_init_2 ++ dktX4_init_3
def dkwX4_init_1 : List UInt8 := [42, 187, 0, 21, 89, 25, 4, 182, 0, 23, 44, 183, 0, 27, 29, 182, 0, 30, 181, 0, 33, 42, 25, 4]
abbrev dktX4_init_1 : List UInt8 := dkwX4_init_1 ++ dktX4_init_2
def dkwX4_init_0 : List UInt8 := [42, 183, 0, 3, 187, 0, 9, 89, 43, 44, 183, 0, 11, 58, 4, 42, 25, 4, 180, 0, 14, 181, 0, 18]
abbrev dktX4_init_0 : List UInt8 := dkwX4_init_0 ++ dktX4_init_1
theorem dksX4_init_0 : cX4_init.data.toList.drop 0 = dktX4_init_0 := by decide +kernel
theorem dksX4_init_1 : cX4_init.data.toList.drop 24 = dktX4_init_1 := dk_seg dksX4_init_0 24 rfl rfl
theorem dksX4_init_2 : cX4_init.data.toList.drop 48 = dktX4_init_2 := dk_seg dksX4_init_1 24 rfl rfl
theorem dksX4_init_3 : cX4_init.data.toList.drop 72 = dktX4_init_3 := dk_seg dksX4_init_2 24 rfl rfl
theorem dksX4_init_4 : cX4_init.data.toList.drop 95 = dktX4_init_4 := dk_seg dksX4_init_3 23 rfl rfl
theorem dksX4_init_5 : cX4_init.data.toList.drop 118 = dktX4_init_5 := dk_seg dksX4_init_4 23 rfl rfl
theorem dksX4_init_6 : cX4_init.data.toList.drop 142 = dktX4_init_6 := dk_seg dksX4_init_5 24 rfl rfl
theorem dksX4_init_7 : cX4_init.data.toList.drop 166 = dktX4_init_7 := dk_seg dksX4_init_6 24 rfl rfl
theorem dX4_init_0 : decode cX4_init 0 = .ok (.aload_n 0, 1) := dk_42 (dk_at dksX4_init_0 0 rfl rfl)
theorem dX4_init_1 : decode cX4_init 1 = .ok (.invokespecial 3, 3) := dk_183 0 3 (dk_at dksX4_init_0 1 rfl rfl)
theorem dX4_init_4 : decode cX4_init 4 = .ok (.new 9, 3) := dk_187 0 9 (dk_at dksX4_init_0 4 rfl rfl)
theorem dX4_init_7 : decode cX4_init 7 = .ok (.dup, 1) := dk_89 (dk_at dksX4_init_0 7 rfl rfl)
theorem dX4_init_8 : decode cX4_init 8 = .ok (.aload_n 1, 1) := dk_43 (dk_at dksX4_init_0 8 rfl rfl)
theorem dX4_init_9 : decode cX4_init 9 = .ok (.aload_n 2, 1) := dk_44 (dk_at dksX4_init_0 9 rfl rfl)
theorem dX4_init_10 : decode cX4_init 10 = .ok (.invokespecial 11, 3) := dk_183 0 11 (dk_at dksX4_init_0 10 rfl rfl)
theorem dX4_init_13 : decode cX4_init 13 = .ok (.astore 4, 2) := dk_58 4 (dk_at dksX4_init_0 13 rfl rfl)
theorem dX4_init_15 : decode cX4_init 15 = .ok (.aload_n 0, 1) := dk_42 (dk_at dksX4_init_0 15 rfl rfl)
theorem dX4_init_16 : decode cX4_init 16 = .ok (.aload 4, 2) := dk_25 4 (dk_at dksX4_init_0 16 rfl rfl)
theorem dX4_init_18 : decode cX4_init 18 = .ok (.getfield 14, 3) := dk_180 0 14 (dk_at dksX4_init_0 18 rfl rfl)
theorem dX4_init_21 : decode cX4_init 21 = .ok (.putfield 18, 3) := dk_181 0 18 (dk_at dksX4_init_0 21 rfl rfl)
theorem dX4_init_24 : decode cX4_init 24 = .ok (.aload_n 0, 1) := dk_42 (dk_at dksX4_init_1 0 rfl rfl)
theorem dX4_init_25 : decode cX4_init 25 = .ok (.new 21, 3) := dk_187 0 21 (dk_at dksX4_init_1 1 rfl rfl)
theorem dX4_init_28 : decode cX4_init 28 = .ok (.dup, 1) := dk_89 (dk_at dksX4_init_1 4 rfl rfl)
theorem dX4_init_29 : decode cX4_init 29 = .ok (.aload 4, 2) := dk_25 4 (dk_at dksX4_init_1 5 rfl rfl)
theorem dX4_init_31 : decode cX4_init 31 = .ok (.invokevirtual 23, 3) := dk_182 0 23 (dk_at dksX4_init_1 7 rfl rfl)
theorem dX4_init_34 : decode cX4_init 34 = .ok (.aload_n 2, 1) := dk_44 (dk_at dksX4_init_1 10 rfl rfl)
theorem dX4_init_35 : decode cX4_init 35 = .ok (.invokespecial 27, 3) := dk_183 0 27 (dk_at dksX4_init_1 11 rfl rfl)
theorem dX4_init_38 : decode cX4_init 38 = .ok (.iload_n 3, 1) := dk_29 (dk_at dksX4_init_1 14 rfl rfl)
theorem dX4_init_39 : decode cX4_init 39 = .ok (.invokevirtual 30, 3) := dk_182 0 30 (dk_at dksX4_init_1 15 rfl rfl)
theorem dX4_init_42 : decode cX4_init 42 = .ok (.putfield 33, 3) := dk_181 0 33 (dk_at dksX4_init_1 18 rfl rfl)
theorem dX4_init_45 : decode cX4_init 45 = .ok (.aload_n 0, 1) := dk_42 (dk_at dksX4_init_1 21 rfl rfl)
theorem dX4_init_46 : decode cX4_init 46 = .ok (.aload 4, 2) := dk_25 4 (dk_at dksX4_init_1 22 rfl rfl)
theorem dX4_init_48 : decode cX4_init 48 = .ok (.getfield 37, 3) := dk_180 0 37 (dk_at dksX4_init_2 0 rfl rfl)
theorem dX4_init_51 : decode cX4_init 51 = .ok (.putfield 41, 3) := dk_181 0 41 (dk_at dksX4_init_2 3 rfl rfl)
theorem dX4_init_54 : decode cX4_init 54 = .ok (.aload_n 0, 1) := dk_42 (dk_at dksX4_init_2 6 rfl rfl)
theorem dX4_init_55 : decode cX4_init 55 = .ok (.new 42, 3) := dk_187 0 42 (dk_at dksX4_init_2 7 rfl rfl)
theorem dX4_init_58 : decode cX4_init 58 = .ok (.dup, 1) := dk_89 (dk_at dksX4_init_2 10 rfl rfl)
theorem dX4_init_59 : decode cX4_init 59 = .ok (.aload_n 0, 1) := dk_42 (dk_at dksX4_init_2 11 rfl rfl)
theorem dX4_init_60 : decode cX4_init 60 = .ok (.getfield 33, 3) := dk_180 0 33 (dk_at dksX4_init_2 12 rfl rfl)
theorem dX4_init_63 : decode cX4_init 63 = .ok (.aload_n 1, 1) := dk_43 (dk_at dksX4_init_2 15 rfl rfl)
theorem dX4_init_64 : decode cX4_init 64 = .ok (.aload_n 2, 1) := dk_44 (dk_at dksX4_init_2 16 rfl rfl)
theorem dX4_init_65 : decode cX4_init 65 = .ok (.aload_n 0, 1) := dk_42 (dk_at dksX4_init_2 17 rfl rfl)
theorem dX4_init_66 : decode cX4_init 66 = .ok (.getfield 41, 3) := dk_180 0 41 (dk_at dksX4_init_2 18 rfl rfl)
theorem dX4_init_69 : decode cX4_init 69 = .ok (.invokespecial 44, 3) := dk_183 0 44 (dk_at dksX4_init_2 21 rfl rfl)
theorem dX4_init_72 : decode cX4_init 72 = .ok (.putfield 47, 3) := dk_181 0 47 (dk_at dksX4_init_3 0 rfl rfl)
theorem dX4_init_75 : decode cX4_init 75 = .ok (.aload_n 0, 1) := dk_42 (dk_at dksX4_init_3 3 rfl rfl)
theorem dX4_init_76 : decode cX4_init 76 = .ok (.new 51, 3) := dk_187 0 51 (dk_at dksX4_init_3 4 rfl rfl)
theorem dX4_init_79 : decode cX4_init 79 = .ok (.dup, 1) := dk_89 (dk_at dksX4_init_3 7 rfl rfl)
theorem dX4_init_80 : decode cX4_init 80 = .ok (.aload_n 0, 1) := dk_42 (dk_at dksX4_init_3 8 rfl rfl)
theorem dX4_init_81 : decode cX4_init 81 = .ok (.getfield 47, 3) := dk_180 0 47 (dk_at dksX4_init_3 9 rfl rfl)
theorem dX4_init_84 : decode cX4_init 84 = .ok (.aload_n 2, 1) := dk_44 (dk_at dksX4_init_3 12 rfl rfl)
theorem dX4_init_85 : decode cX4_init 85 = .ok (.invokespecial 53, 3) := dk_183 0 53 (dk_at dksX4_init_3 13 rfl rfl)
theorem dX4_init_88 : decode cX4_init 88 = .ok (.aload_n 0, 1) := dk_42 (dk_at dksX4_init_3 16 rfl rfl)
theorem dX4_init_89 : decode cX4_init 89 = .ok (.getfield 33, 3) := dk_180 0 33 (dk_at dksX4_init_3 17 rfl rfl)
theorem dX4_init_92 : decode cX4_init 92 = .ok (.invokevirtual 56, 3) := dk_182 0 56 (dk_at dksX4_init_3 20 rfl rfl)
theorem dX4_init_95 : decode cX4_init 95 = .ok (.putfield 59, 3) := dk_181 0 59 (dk_at dksX4_init_4 0 rfl rfl)
theorem dX4_init_98 : decode cX4_init 98 = .ok (.aload_n 0, 1) := dk_42 (dk_at dksX4_init_4 3 rfl rfl)
theorem dX4_init_99 : decode cX4_init 99 = .ok (.new 62, 3) := dk_187 0 62 (dk_at dksX4_init_4 4 rfl rfl)
theorem dX4_init_102 : decode cX4_init 102 = .ok (.dup, 1) := dk_89 (dk_at dksX4_init_4 7 rfl rfl)
theorem dX4_init_103 : decode cX4_init 103 = .ok (.aload_n 2, 1) := dk_44 (dk_at dksX4_init_4 8 rfl rfl)
theorem dX4_init_104 : decode cX4_init 104 = .ok (.aload_n 0, 1) := dk_42 (dk_at dksX4_init_4 9 rfl rfl)
theorem dX4_init_105 : decode cX4_init 105 = .ok (.getfield 47, 3) := dk_180 0 47 (dk_at dksX4_init_4 10 rfl rfl)
theorem dX4_init_108 : decode cX4_init 108 = .ok (.invokevirtual 64, 3) := dk_182 0 64 (dk_at dksX4_init_4 13 rfl rfl)
theorem dX4_init_111 : decode cX4_init 111 = .ok (.invokespecial 68, 3) := dk_183 0 68 (dk_at dksX4_init_4 16 rfl rfl)
theorem dX4_init_114 : decode cX4_init 114 = .ok (.putfield 71, 3) := dk_181 0 71 (dk_at dksX4_init_4 19 rfl rfl)
theorem dX4_init_117 : decode cX4_init 117 = .ok (.aload_n 0, 1) := dk_42 (dk_at dksX4_init_4 22 rfl rfl)
theorem dX4_init_118 : decode cX4_init 118 = .ok (.getfield 71, 3) := dk_180 0 71 (dk_at dksX4_init_5 0 rfl rfl)
theorem dX4_init_121 : decode cX4_init 121 = .ok (.aload_n 0, 1) := dk_42 (dk_at dksX4_init_5 3 rfl rfl)
theorem dX4_init_122 : decode cX4_init 122 = .ok (.getfield 59, 3) := dk_180 0 59 (dk_at dksX4_init_5 4 rfl rfl)
theorem dX4_init_125 : decode cX4_init 125 = .ok (.aload_n 0, 1) := dk_42 (dk_at dksX4_init_5 7 rfl rfl)
theorem dX4_init_126 : decode cX4_init 126 = .ok (.getfield 33, 3) := dk_180 0 33 (dk_at dksX4_init_5 8 rfl rfl)
theorem dX4_init_129 : decode cX4_init 129 = .ok (.iconst (-1), 1) := dk_2 (dk_at dksX4_init_5 11 rfl rfl)
theorem dX4_init_130 : decode cX4_init 130 = .ok (.invokevirtual 75, 3) := dk_182 0 75 (dk_at dksX4_init_5 12 rfl rfl)
theorem dX4_init_133 : decode cX4_init 133 = .ok (.iconst 0, 1) := dk_3 (dk_at dksX4_init_5 15 rfl rfl)
theorem dX4_init_134 : decode cX4_init 134 = .ok (.istore 5, 2) := dk_54 5 (dk_at dksX4_init_5 16 rfl rfl)
theorem dX4_init_136 : decode cX4_init 136 = .ok (.iload 5, 2) := dk_21 5 (dk_at dksX4_init_5 18 rfl rfl)
theorem dX4_init_138 : decode cX4_init 138 = .ok (.iconst 4, 1) := dk_7 (dk_at dksX4_init_5 20 rfl rfl)
theorem dX4_init_139 : decode cX4_init 139 = .ok (.if_icmp .ge 47, 3) := dk_162 0 47 (dk_at dksX4_init_5 21 rfl rfl)
theorem dX4_init_142 : decode cX4_init 142 = .ok (.iconst 0, 1) := dk_3 (dk_at dksX4_init_6 0 rfl rfl)
theorem dX4_init_143 : decode cX4_init 143 = .ok (.istore 6, 2) := dk_54 6 (dk_at dksX4_init_6 1 rfl rfl)
theorem dX4_init_145 : decode cX4_init 145 = .ok (.iload 6, 2) := dk_21 6 (dk_at dksX4_init_6 3 rfl rfl)
theorem dX4_init_147 : decode cX4_init 147 = .ok (.aload_n 1, 1) := dk_43 (dk_at dksX4_init_6 5 rfl rfl)
theorem dX4_init_148 : decode cX4_init 148 = .ok (.getfield 78, 3) := dk_180 0 78 (dk_at dksX4_init_6 6 rfl rfl)
theorem dX4_init_151 : decode cX4_init 151 = .ok (.iload 5, 2) := dk_21 5 (dk_at dksX4_init_6 9 rfl rfl)
theorem dX4_init_153 : decode cX4_init 153 = .ok (.iaload, 1) := dk_46 (dk_at dksX4_init_6 11 rfl rfl)
theorem dX4_init_154 : decode cX4_init 154 = .ok (.if_icmp .ge 26, 3) := dk_162 0 26 (dk_at dksX4_init_6 12 rfl rfl)
theorem dX4_init_157 : decode cX4_init 157 = .ok (.aload_n 0, 1) := dk_42 (dk_at dksX4_init_6 15 rfl rfl)
theorem dX4_init_158 : decode cX4_init 158 = .ok (.getfield 71, 3) := dk_180 0 71 (dk_at dksX4_init_6 16 rfl rfl)
theorem dX4_init_161 : decode cX4_init 161 = .ok (.aload_n 0, 1) := dk_42 (dk_at dksX4_init_6 19 rfl rfl)
theorem dX4_init_162 : decode cX4_init 162 = .ok (.getfield 59, 3) := dk_180 0 59 (dk_at dksX4_init_6 20 rfl rfl)
theorem dX4_init_165 : decode cX4_init 165 = .ok (.aload_n 0, 1) := dk_42 (dk_at dksX4_init_6 23 rfl rfl)
theorem dX4_init_166 : decode cX4_init 166 = .ok (.getfield 33, 3) := dk_180 0 33 (dk_at dksX4_init_7 0 rfl rfl)
theorem dX4_init_169 : decode cX4_init 169 = .ok (.iload 5, 2) := dk_21 5 (dk_at dksX4_init_7 3 rfl rfl)
theorem dX4_init_171 : decode cX4_init 171 = .ok (.invokevirtual 75, 3) := dk_182 0 75 (dk_at dksX4_init_7 5 rfl rfl)
theorem dX4_init_174 : decode cX4_init 174 = .ok (.iinc 6 1, 3) := dk_132 6 1 (dk_at dksX4_init_7 8 rfl rfl)
theorem dX4_init_177 : decode cX4_init 177 = .ok (.goto (-32), 3) := dk_167 255 224 (dk_at dksX4_init_7 11 rfl rfl)
theorem dX4_init_180 : decode cX4_init 180 = .ok (.iinc 5 1, 3) := dk_132 5 1 (dk_at dksX4_init_7 14 rfl rfl)
theorem dX4_init_183 : decode cX4_init 183 = .ok (.goto (-47), 3) := dk_167 255 209 (dk_at dksX4_init_7 17 rfl rfl)
theorem dX4_init_186 : decode cX4_init 186 = .ok (.return_, 1) := dk_177 (dk_at dksX4_init_7 20 rfl rfl)
abbrev cX4_many : ByteArray := prog_2_method_4_code
def yX4_many : MethodName := ⟨RX4, "many", "(I)I"⟩
def dkwX4_many_6 : List UInt8 := [180, 0, 71, 180, 0, 148, 172, 42, 180, 0, 71, 180, 0, 151, 172, 42, 180, 0, 47, 182, 0, 154, 172]
abbrev dktX4_many_6 : List UInt8 := dkwX4_many_6 ++ []
def dkwX4_many_5 : List UInt8 := [4, 182, 0, 141, 172, 42, 16, 7, 16, 8, 182, 0, 141, 172, 42, 180, 0, 71, 180, 0, 145, 172, 42]
abbrev dktX4_many_5 : List UInt8 := dkwX4_many_5 ++ dktX4_many_6
def dkwX4_many_4 : List UInt8 := [182, 0, 64, 172, 42, 180, 0, 47, 182, 0, 138, 172, 42, 180, 0, 59, 185, 0, 117, 1, 0, 172, 42, 4]
abbrev dktX4_many_4 : List UInt8 := dkwX4_many_4 ++ dktX4_many_5
def dkwX4_many_3 : List UInt8 := [180, 0, 47, 27, 16, 6, 160, 0, 7, 4, 167, 0, 4, 3, 182, 0, 134, 172, 42, 180, 0, 47]
abbrev dktX4_many_3 : List UInt8 := dkwX4_many_3 ++ dktX4_many_4
def dkwX4_many_2 : List UInt8 := [42, 180, 0, 33, 185, 0, 117, 1, 0, 172, 42, 180, 0, 47, 180, 0, 131, 185, 0, 117, 1, 0, 172, 42]
abbrev dktX4_many_2 : List UInt8 := dkwX4_many_2 ++ dktX4_many_3
def dkwX4_many_1 : List UInt8 := [170, 0, 0, 0, 0, 0, 171, 0, 0, 0, 3, 0, 0, 0, 14, 0, 0, 0, 63, 0, 0, 0, 73, 0, 0, 0, 86, 0, 0, 0, 86, 0, 0, 0, 105, 0, 0, 0, 113, 0, 0, 0, 121, 0, 0, 0, 131, 0, 0, 0, 138, 0, 0, 0, 147, 0, 0, 0, 155, 0, 0, 0, 163]
abbrev dktX4_many_1 : List UInt8 := dkwX4_many_1 ++ dktX4_many_2
def dkwX4_many_0 : List UInt8 := [27]
abbrev dktX4_many_0 : List UInt8 := dkwX4_many_0 ++ dktX4_many_1
theorem dksX4_many_0 : cX4_many.data.toList.drop 0 = dktX4_many_0 := by decide +kernel
theorem dksX4_many_1 : cX4_many.data.toList.drop 1 = dktX4_many_1 := dk_seg dksX4_many_0 1 rfl rfl
theorem dksX4_many_2 : cX4_many.data.toList.drop 64 = dktX4_many_2 := dk_seg dksX4_many_1 63 rfl rfl
theorem dksX4_many_3 : cX4_many.data.toList.drop 88 = dktX4_many_3 := dk_seg dksX4_many_2 24 rfl rfl
theorem dksX4_many_4 : cX4_many.data.toList.drop 110 = dktX4_many_4 := dk_seg dksX4_many_3 22 rfl rfl
theorem dksX4_many_5 : cX4_many.data.toList.drop 134 = dktX4_many_5 := dk_seg dksX4_many_4 24 rfl rfl
theorem dksX4_many_6 : cX4_many.data.toList.drop 157 = dktX4_many_6 := dk_seg dksX4_many_5 23 rfl rfl
theorem dX4_many_0 : decode cX4_many 0 = .ok (.iload_n 1, 1) := dk_27 (dk_at dksX4_many_0 0 rfl rfl)
theorem dX4_many_1 : decode cX4_many 1 = .ok (.tableswitch 171 3 14 #[63, 73, 86, 86, 105, 113, 121, 131, 138, 147, 155, 163], 63) := by decide +kernel
theorem dX4_many_64 : decode cX4_many 64 = .ok (.aload_n 0, 1) := dk_42 (dk_at dksX4_many_2 0 rfl rfl)
theorem dX4_many_65 : decode cX4_many 65 = .ok (.getfield 33, 3) := dk_180 0 33 (dk_at dksX4_many_2 1 rfl rfl)
theorem dX4_many_68 : decode cX4_many 68 = .ok (.invokeinterface 117 1, 5) := by decide +kernel
theorem dX4_many_73 : decode cX4_many 73 = .ok (.ireturn, 1) := dk_172 (dk_at dksX4_many_2 9 rfl rfl)
theorem dX4_many_74 : decode cX4_many 74 = .ok (.aload_n 0, 1) := dk_42 (dk_at dksX4_many_2 10 rfl rfl)
theorem dX4_many_75 : decode cX4_many 75 = .ok (.getfield 47, 3) := dk_180 0 47 (dk_at dksX4_many_2 11 rfl rfl)
theorem dX4_many_78 : decode cX4_many 78 = .ok (.getfield 131, 3) := dk_180 0 131 (dk_at dksX4_many_2 14 rfl rfl)
theorem dX4_many_81 : decode cX4_many 81 = .ok (.invokeinterface 117 1, 5) := by decide +kernel
theorem dX4_many_86 : decode cX4_many 86 = .ok (.ireturn, 1) := dk_172 (dk_at dksX4_many_2 22 rfl rfl)
theorem dX4_many_87 : decode cX4_many 87 = .ok (.aload_n 0, 1) := dk_42 (dk_at dksX4_many_2 23 rfl rfl)
theorem dX4_many_88 : decode cX4_many 88 = .ok (.getfield 47, 3) := dk_180 0 47 (dk_at dksX4_many_3 0 rfl rfl)
theorem dX4_many_91 : decode cX4_many 91 = .ok (.iload_n 1, 1) := dk_27 (dk_at dksX4_many_3 3 rfl rfl)
theorem dX4_many_92 : decode cX4_many 92 = .ok (.bipush 6, 2) := dk_16 6 (dk_at dksX4_many_3 4 rfl rfl)
theorem dX4_many_94 : decode cX4_many 94 = .ok (.if_icmp .ne 7, 3) := dk_160 0 7 (dk_at dksX4_many_3 6 rfl rfl)
theorem dX4_many_97 : decode cX4_many 97 = .ok (.iconst 1, 1) := dk_4 (dk_at dksX4_many_3 9 rfl rfl)
theorem dX4_many_98 : decode cX4_many 98 = .ok (.goto 4, 3) := dk_167 0 4 (dk_at dksX4_many_3 10 rfl rfl)
theorem dX4_many_101 : decode cX4_many 101 = .ok (.iconst 0, 1) := dk_3 (dk_at dksX4_many_3 13 rfl rfl)
theorem dX4_many_102 : decode cX4_many 102 = .ok (.invokevirtual 134, 3) := dk_182 0 134 (dk_at dksX4_many_3 14 rfl rfl)
theorem dX4_many_105 : decode cX4_many 105 = .ok (.ireturn, 1) := dk_172 (dk_at dksX4_many_3 17 rfl rfl)
theorem dX4_many_106 : decode cX4_many 106 = .ok (.aload_n 0, 1) := dk_42 (dk_at dksX4_many_3 18 rfl rfl)
theorem dX4_many_107 : decode cX4_many 107 = .ok (.getfield 47, 3) := dk_180 0 47 (dk_at dksX4_many_3 19 rfl rfl)
theorem dX4_many_110 : decode cX4_many 110 = .ok (.invokevirtual 64, 3) := dk_182 0 64 (dk_at dksX4_many_4 0 rfl rfl)
theorem dX4_many_113 : decode cX4_many 113 = .ok (.ireturn, 1) := dk_172 (dk_at dksX4_many_4 3 rfl rfl)
theorem dX4_many_114 : decode cX4_many 114 = .ok (.aload_n 0, 1) := dk_42 (dk_at dksX4_many_4 4 rfl rfl)
theorem dX4_many_115 : decode cX4_many 115 = .ok (.getfield 47, 3) := dk_180 0 47 (dk_at dksX4_many_4 5 rfl rfl)
theorem dX4_many_118 : decode cX4_many 118 = .ok (.invokevirtual 138, 3) := dk_182 0 138 (dk_at dksX4_many_4 8 rfl rfl)
theorem dX4_many_121 : decode cX4_many 121 = .ok (.ireturn, 1) := dk_172 (dk_at dksX4_many_4 11 rfl rfl)
theorem dX4_many_122 : decode cX4_many 122 = .ok (.aload_n 0, 1) := dk_42 (dk_at dksX4_many_4 12 rfl rfl)
theorem dX4_many_123 : decode cX4_many 123 = .ok (.getfield 59, 3) := dk_180 0 59 (dk_at dksX4_many_4 13 rfl rfl)
theorem dX4_many_126 : decode cX4_many 126 = .ok (.invokeinterface 117 1, 5) := by decide +kernel
theorem dX4_many_131 : decode cX4_many 131 = .ok (.ireturn, 1) := dk_172 (dk_at dksX4_many_4 21 rfl rfl)
theorem dX4_many_132 : decode cX4_many 132 = .ok (.aload_n 0, 1) := dk_42 (dk_at dksX4_many_4 22 rfl rfl)
theorem dX4_many_133 : decode cX4_many 133 = .ok (.iconst 1, 1) := dk_4 (dk_at dksX4_many_4 23 rfl rfl)
theorem dX4_many_134 : decode cX4_many 134 = .ok (.iconst 1, 1) := dk_4 (dk_at dksX4_many_5 0 rfl rfl)
theorem dX4_many_135 : decode cX4_many 135 = .ok (.invokevirtual 141, 3) := dk_182 0 141 (dk_at dksX4_many_5 1 rfl rfl)
theorem dX4_many_138 : decode cX4_many 138 = .ok (.ireturn, 1) := dk_172 (dk_at dksX4_many_5 4 rfl rfl)
theorem dX4_many_139 : decode cX4_many 139 = .ok (.aload_n 0, 1) := dk_42 (dk_at dksX4_many_5 5 rfl rfl)
theorem dX4_many_140 : decode cX4_many 140 = .ok (.bipush 7, 2) := dk_16 7 (dk_at dksX4_many_5 6 rfl rfl)
theorem dX4_many_142 : decode cX4_many 142 = .ok (.bipush 8, 2) := dk_16 8 (dk_at dksX4_many_5 8 rfl rfl)
theorem dX4_many_144 : decode cX4_many 144 = .ok (.invokevirtual 141, 3) := dk_182 0 141 (dk_at dksX4_many_5 10 rfl rfl)
theorem dX4_many_147 : decode cX4_many 147 = .ok (.ireturn, 1) := dk_172 (dk_at dksX4_many_5 13 rfl rfl)
theorem dX4_many_148 : decode cX4_many 148 = .ok (.aload_n 0, 1) := dk_42 (dk_at dksX4_many_5 14 rfl rfl)
theorem dX4_many_149 : decode cX4_many 149 = .ok (.getfield 71, 3) := dk_180 0 71 (dk_at dksX4_many_5 15 rfl rfl)
theorem dX4_many_152 : decode cX4_many 152 = .ok (.getfield 145, 3) := dk_180 0 145 (dk_at dksX4_many_5 18 rfl rfl)
theorem dX4_many_155 : decode cX4_many 155 = .ok (.ireturn, 1) := dk_172 (dk_at dksX4_many_5 21 rfl rfl)
theorem dX4_many_156 : decode cX4_many 156 = .ok (.aload_n 0, 1) := dk_42 (dk_at dksX4_many_5 22 rfl rfl)
theorem dX4_many_157 : decode cX4_many 157 = .ok (.getfield 71, 3) := dk_180 0 71 (dk_at dksX4_many_6 0 rfl rfl)
theorem dX4_many_160 : decode cX4_many 160 = .ok (.getfield 148, 3) := dk_180 0 148 (dk_at dksX4_many_6 3 rfl rfl)
theorem dX4_many_163 : decode cX4_many 163 = .ok (.ireturn, 1) := dk_172 (dk_at dksX4_many_6 6 rfl rfl)
theorem dX4_many_164 : decode cX4_many 164 = .ok (.aload_n 0, 1) := dk_42 (dk_at dksX4_many_6 7 rfl rfl)
theorem dX4_many_165 : decode cX4_many 165 = .ok (.getfield 71, 3) := dk_180 0 71 (dk_at dksX4_many_6 8 rfl rfl)
theorem dX4_many_168 : decode cX4_many 168 = .ok (.getfield 151, 3) := dk_180 0 151 (dk_at dksX4_many_6 11 rfl rfl)
theorem dX4_many_171 : decode cX4_many 171 = .ok (.ireturn, 1) := dk_172 (dk_at dksX4_many_6 14 rfl rfl)
theorem dX4_many_172 : decode cX4_many 172 = .ok (.aload_n 0, 1) := dk_42 (dk_at dksX4_many_6 15 rfl rfl)
theorem dX4_many_173 : decode cX4_many 173 = .ok (.getfield 47, 3) := dk_180 0 47 (dk_at dksX4_many_6 16 rfl rfl)
theorem dX4_many_176 : decode cX4_many 176 = .ok (.invokevirtual 154, 3) := dk_182 0 154 (dk_at dksX4_many_6 19 rfl rfl)
theorem dX4_many_179 : decode cX4_many 179 = .ok (.ireturn, 1) := dk_172 (dk_at dksX4_many_6 22 rfl rfl)
abbrev cX4_codes : ByteArray := prog_2_method_3_code
def yX4_codes : MethodName := ⟨RX4, "codes", "(II)I"⟩
def dkwX4_codes_3 : List UInt8 := [132, 4, 1, 167, 255, 189, 29, 172]
abbrev dktX4_codes_3 : List UInt8 := dkwX4_codes_3 ++ []
def dkwX4_codes_2 : List UInt8 := [185, 0, 122, 2, 0, 192, 0, 126, 180, 0, 128, 28, 163, 0, 7, 4, 167, 0, 4, 3, 96, 62]
abbrev dktX4_codes_2 : List UInt8 := dkwX4_codes_2 ++ dktX4_codes_3
def dkwX4_codes_1 : List UInt8 := [21, 4, 185, 0, 122, 2, 0, 192, 0, 126, 180, 0, 128, 27, 161, 0, 28, 42, 180, 0, 59, 21, 4]
abbrev dktX4_codes_1 : List UInt8 := dkwX4_codes_1 ++ dktX4_codes_2
def dkwX4_codes_0 : List UInt8 := [3, 62, 3, 54, 4, 21, 4, 42, 180, 0, 59, 185, 0, 117, 1, 0, 162, 0, 59, 29, 42, 180, 0, 59]
abbrev dktX4_codes_0 : List UInt8 := dkwX4_codes_0 ++ dktX4_codes_1
theorem dksX4_codes_0 : cX4_codes.data.toList.drop 0 = dktX4_codes_0 := by decide +kernel
theorem dksX4_codes_1 : cX4_codes.data.toList.drop 24 = dktX4_codes_1 := dk_seg dksX4_codes_0 24 rfl rfl
theorem dksX4_codes_2 : cX4_codes.data.toList.drop 47 = dktX4_codes_2 := dk_seg dksX4_codes_1 23 rfl rfl
theorem dksX4_codes_3 : cX4_codes.data.toList.drop 69 = dktX4_codes_3 := dk_seg dksX4_codes_2 22 rfl rfl
theorem dX4_codes_0 : decode cX4_codes 0 = .ok (.iconst 0, 1) := dk_3 (dk_at dksX4_codes_0 0 rfl rfl)
theorem dX4_codes_1 : decode cX4_codes 1 = .ok (.istore_n 3, 1) := dk_62 (dk_at dksX4_codes_0 1 rfl rfl)
theorem dX4_codes_2 : decode cX4_codes 2 = .ok (.iconst 0, 1) := dk_3 (dk_at dksX4_codes_0 2 rfl rfl)
theorem dX4_codes_3 : decode cX4_codes 3 = .ok (.istore 4, 2) := dk_54 4 (dk_at dksX4_codes_0 3 rfl rfl)
theorem dX4_codes_5 : decode cX4_codes 5 = .ok (.iload 4, 2) := dk_21 4 (dk_at dksX4_codes_0 5 rfl rfl)
theorem dX4_codes_7 : decode cX4_codes 7 = .ok (.aload_n 0, 1) := dk_42 (dk_at dksX4_codes_0 7 rfl rfl)
theorem dX4_codes_8 : decode cX4_codes 8 = .ok (.getfield 59, 3) := dk_180 0 59 (dk_at dksX4_codes_0 8 rfl rfl)
theorem dX4_codes_11 : decode cX4_codes 11 = .ok (.invokeinterface 117 1, 5) := by decide +kernel
theorem dX4_codes_16 : decode cX4_codes 16 = .ok (.if_icmp .ge 59, 3) := dk_162 0 59 (dk_at dksX4_codes_0 16 rfl rfl)
theorem dX4_codes_19 : decode cX4_codes 19 = .ok (.iload_n 3, 1) := dk_29 (dk_at dksX4_codes_0 19 rfl rfl)
theorem dX4_codes_20 : decode cX4_codes 20 = .ok (.aload_n 0, 1) := dk_42 (dk_at dksX4_codes_0 20 rfl rfl)
theorem dX4_codes_21 : decode cX4_codes 21 = .ok (.getfield 59, 3) := dk_180 0 59 (dk_at dksX4_codes_0 21 rfl rfl)
theorem dX4_codes_24 : decode cX4_codes 24 = .ok (.iload 4, 2) := dk_21 4 (dk_at dksX4_codes_1 0 rfl rfl)
theorem dX4_codes_26 : decode cX4_codes 26 = .ok (.invokeinterface 122 2, 5) := by decide +kernel
theorem dX4_codes_31 : decode cX4_codes 31 = .ok (.checkcast 126, 3) := dk_192 0 126 (dk_at dksX4_codes_1 7 rfl rfl)
theorem dX4_codes_34 : decode cX4_codes 34 = .ok (.getfield 128, 3) := dk_180 0 128 (dk_at dksX4_codes_1 10 rfl rfl)
theorem dX4_codes_37 : decode cX4_codes 37 = .ok (.iload_n 1, 1) := dk_27 (dk_at dksX4_codes_1 13 rfl rfl)
theorem dX4_codes_38 : decode cX4_codes 38 = .ok (.if_icmp .lt 28, 3) := dk_161 0 28 (dk_at dksX4_codes_1 14 rfl rfl)
theorem dX4_codes_41 : decode cX4_codes 41 = .ok (.aload_n 0, 1) := dk_42 (dk_at dksX4_codes_1 17 rfl rfl)
theorem dX4_codes_42 : decode cX4_codes 42 = .ok (.getfield 59, 3) := dk_180 0 59 (dk_at dksX4_codes_1 18 rfl rfl)
theorem dX4_codes_45 : decode cX4_codes 45 = .ok (.iload 4, 2) := dk_21 4 (dk_at dksX4_codes_1 21 rfl rfl)
theorem dX4_codes_47 : decode cX4_codes 47 = .ok (.invokeinterface 122 2, 5) := by decide +kernel
theorem dX4_codes_52 : decode cX4_codes 52 = .ok (.checkcast 126, 3) := dk_192 0 126 (dk_at dksX4_codes_2 5 rfl rfl)
theorem dX4_codes_55 : decode cX4_codes 55 = .ok (.getfield 128, 3) := dk_180 0 128 (dk_at dksX4_codes_2 8 rfl rfl)
theorem dX4_codes_58 : decode cX4_codes 58 = .ok (.iload_n 2, 1) := dk_28 (dk_at dksX4_codes_2 11 rfl rfl)
theorem dX4_codes_59 : decode cX4_codes 59 = .ok (.if_icmp .gt 7, 3) := dk_163 0 7 (dk_at dksX4_codes_2 12 rfl rfl)
theorem dX4_codes_62 : decode cX4_codes 62 = .ok (.iconst 1, 1) := dk_4 (dk_at dksX4_codes_2 15 rfl rfl)
theorem dX4_codes_63 : decode cX4_codes 63 = .ok (.goto 4, 3) := dk_167 0 4 (dk_at dksX4_codes_2 16 rfl rfl)
theorem dX4_codes_66 : decode cX4_codes 66 = .ok (.iconst 0, 1) := dk_3 (dk_at dksX4_codes_2 19 rfl rfl)
theorem dX4_codes_67 : decode cX4_codes 67 = .ok (.iadd, 1) := dk_96 (dk_at dksX4_codes_2 20 rfl rfl)
theorem dX4_codes_68 : decode cX4_codes 68 = .ok (.istore_n 3, 1) := dk_62 (dk_at dksX4_codes_2 21 rfl rfl)
theorem dX4_codes_69 : decode cX4_codes 69 = .ok (.iinc 4 1, 3) := dk_132 4 1 (dk_at dksX4_codes_3 0 rfl rfl)
theorem dX4_codes_72 : decode cX4_codes 72 = .ok (.goto (-67), 3) := dk_167 255 189 (dk_at dksX4_codes_3 3 rfl rfl)
theorem dX4_codes_75 : decode cX4_codes 75 = .ok (.iload_n 3, 1) := dk_29 (dk_at dksX4_codes_3 6 rfl rfl)
theorem dX4_codes_76 : decode cX4_codes 76 = .ok (.ireturn, 1) := dk_172 (dk_at dksX4_codes_3 7 rfl rfl)
abbrev cX4_answer : ByteArray := prog_2_method_2_code
def yX4_answer : MethodName := ⟨RX4, "answer", "(I)I"⟩
def dkwX4_answer_2 : List UInt8 := [180, 0, 71, 180, 0, 111, 44, 180, 0, 114, 46, 172]
abbrev dktX4_answer_2 : List UInt8 := dkwX4_answer_2 ++ []
def dkwX4_answer_1 : List UInt8 := [44, 180, 0, 102, 153, 0, 18, 42, 180, 0, 71, 180, 0, 106, 44, 180, 0, 108, 46, 167, 0, 15, 42]
abbrev dktX4_answer_1 : List UInt8 := dkwX4_answer_1 ++ dktX4_answer_2
def dkwX4_answer_0 : List UInt8 := [42, 180, 0, 47, 27, 182, 0, 83, 77, 44, 182, 0, 87, 153, 0, 11, 44, 180, 0, 93, 180, 0, 97, 172]
abbrev dktX4_answer_0 : List UInt8 := dkwX4_answer_0 ++ dktX4_answer_1
theorem dksX4_answer_0 : cX4_answer.data.toList.drop 0 = dktX4_answer_0 := by decide +kernel
theorem dksX4_answer_1 : cX4_answer.data.toList.drop 24 = dktX4_answer_1 := dk_seg dksX4_answer_0 24 rfl rfl
theorem dksX4_answer_2 : cX4_answer.data.toList.drop 47 = dktX4_answer_2 := dk_seg dksX4_answer_1 23 rfl rfl
theorem dX4_answer_0 : decode cX4_answer 0 = .ok (.aload_n 0, 1) := dk_42 (dk_at dksX4_answer_0 0 rfl rfl)
theorem dX4_answer_1 : decode cX4_answer 1 = .ok (.getfield 47, 3) := dk_180 0 47 (dk_at dksX4_answer_0 1 rfl rfl)
theorem dX4_answer_4 : decode cX4_answer 4 = .ok (.iload_n 1, 1) := dk_27 (dk_at dksX4_answer_0 4 rfl rfl)
theorem dX4_answer_5 : decode cX4_answer 5 = .ok (.invokevirtual 83, 3) := dk_182 0 83 (dk_at dksX4_answer_0 5 rfl rfl)
theorem dX4_answer_8 : decode cX4_answer 8 = .ok (.astore_n 2, 1) := dk_77 (dk_at dksX4_answer_0 8 rfl rfl)
theorem dX4_answer_9 : decode cX4_answer 9 = .ok (.aload_n 2, 1) := dk_44 (dk_at dksX4_answer_0 9 rfl rfl)
theorem dX4_answer_10 : decode cX4_answer 10 = .ok (.invokevirtual 87, 3) := dk_182 0 87 (dk_at dksX4_answer_0 10 rfl rfl)
theorem dX4_answer_13 : decode cX4_answer 13 = .ok (.ifCond .eq 11, 3) := dk_153 0 11 (dk_at dksX4_answer_0 13 rfl rfl)
theorem dX4_answer_16 : decode cX4_answer 16 = .ok (.aload_n 2, 1) := dk_44 (dk_at dksX4_answer_0 16 rfl rfl)
theorem dX4_answer_17 : decode cX4_answer 17 = .ok (.getfield 93, 3) := dk_180 0 93 (dk_at dksX4_answer_0 17 rfl rfl)
theorem dX4_answer_20 : decode cX4_answer 20 = .ok (.getfield 97, 3) := dk_180 0 97 (dk_at dksX4_answer_0 20 rfl rfl)
theorem dX4_answer_23 : decode cX4_answer 23 = .ok (.ireturn, 1) := dk_172 (dk_at dksX4_answer_0 23 rfl rfl)
theorem dX4_answer_24 : decode cX4_answer 24 = .ok (.aload_n 2, 1) := dk_44 (dk_at dksX4_answer_1 0 rfl rfl)
theorem dX4_answer_25 : decode cX4_answer 25 = .ok (.getfield 102, 3) := dk_180 0 102 (dk_at dksX4_answer_1 1 rfl rfl)
theorem dX4_answer_28 : decode cX4_answer 28 = .ok (.ifCond .eq 18, 3) := dk_153 0 18 (dk_at dksX4_answer_1 4 rfl rfl)
theorem dX4_answer_31 : decode cX4_answer 31 = .ok (.aload_n 0, 1) := dk_42 (dk_at dksX4_answer_1 7 rfl rfl)
theorem dX4_answer_32 : decode cX4_answer 32 = .ok (.getfield 71, 3) := dk_180 0 71 (dk_at dksX4_answer_1 8 rfl rfl)
theorem dX4_answer_35 : decode cX4_answer 35 = .ok (.getfield 106, 3) := dk_180 0 106 (dk_at dksX4_answer_1 11 rfl rfl)
theorem dX4_answer_38 : decode cX4_answer 38 = .ok (.aload_n 2, 1) := dk_44 (dk_at dksX4_answer_1 14 rfl rfl)
theorem dX4_answer_39 : decode cX4_answer 39 = .ok (.getfield 108, 3) := dk_180 0 108 (dk_at dksX4_answer_1 15 rfl rfl)
theorem dX4_answer_42 : decode cX4_answer 42 = .ok (.iaload, 1) := dk_46 (dk_at dksX4_answer_1 18 rfl rfl)
theorem dX4_answer_43 : decode cX4_answer 43 = .ok (.goto 15, 3) := dk_167 0 15 (dk_at dksX4_answer_1 19 rfl rfl)
theorem dX4_answer_46 : decode cX4_answer 46 = .ok (.aload_n 0, 1) := dk_42 (dk_at dksX4_answer_1 22 rfl rfl)
theorem dX4_answer_47 : decode cX4_answer 47 = .ok (.getfield 71, 3) := dk_180 0 71 (dk_at dksX4_answer_2 0 rfl rfl)
theorem dX4_answer_50 : decode cX4_answer 50 = .ok (.getfield 111, 3) := dk_180 0 111 (dk_at dksX4_answer_2 3 rfl rfl)
theorem dX4_answer_53 : decode cX4_answer 53 = .ok (.aload_n 2, 1) := dk_44 (dk_at dksX4_answer_2 6 rfl rfl)
theorem dX4_answer_54 : decode cX4_answer 54 = .ok (.getfield 114, 3) := dk_180 0 114 (dk_at dksX4_answer_2 7 rfl rfl)
theorem dX4_answer_57 : decode cX4_answer 57 = .ok (.iaload, 1) := dk_46 (dk_at dksX4_answer_2 10 rfl rfl)
theorem dX4_answer_58 : decode cX4_answer 58 = .ok (.ireturn, 1) := dk_172 (dk_at dksX4_answer_2 11 rfl rfl)
theorem q130 : (Jvm.Cond.initialized "SpillslotWorks$Build") ∈ lw_all := lw_g (lw_at lw_m1 11 rfl) rfl
theorem q253 : (Jvm.Cond.selects "SpillslotWorks$Build" ({ cls := "java/lang/Object", name := "getClass", desc := "()Ljava/lang/Class;" } : Jvm.MethodName) ({ cls := "java/lang/Object", name := "getClass", desc := "()Ljava/lang/Class;" } : Jvm.MethodName)) ∈ lw_all := lw_g (lw_at lw_m1 134 rfl) rfl
theorem q308 : (Jvm.Cond.fieldLinkNest "SpillslotWorks$Build" (78 : Nat) "SpillslotWorks$Program" "times" "[I" "SpillslotWorks") ∈ lw_tbl := lw_at lw_m1 189 rfl
theorem q362 : (Jvm.Cond.instantiable "SpillslotWorks$Build" (6 : Nat)) ∈ lw_all := lw_g (lw_at lw_m2 3 rfl) rfl
theorem q364 : (Jvm.Cond.instanceMethod ({ cls := "SpillslotWorks$Build", name := "<init>", desc := "(LSpillslotWorks$Program;LSpillslotWorks$Machine;Z)V" } : Jvm.MethodName)) ∈ lw_all := lw_g (lw_at lw_m2 5 rfl) rfl
theorem q365 : (Jvm.Cond.code ({ cls := "SpillslotWorks$Build", name := "<init>", desc := "(LSpillslotWorks$Program;LSpillslotWorks$Machine;Z)V" } : Jvm.MethodName) prog_2_method_1_code (7 : Nat) (Option.none : Option Jvm.ClassFile.FieldType)) ∈ lw_all := lw_g (lw_at lw_m2 6 rfl) rfl
theorem q366 : (Jvm.Cond.methodLink "SpillslotWorks$Build" (3 : Nat) ({ cls := "java/lang/Object", name := "<init>", desc := "()V" } : Jvm.MethodName)) ∈ lw_all := lw_g (lw_at lw_m2 7 rfl) rfl
theorem q367 : (Jvm.Cond.classLink "SpillslotWorks$Build" (9 : Nat) "SpillslotWorks$Chooser") ∈ lw_all := lw_g (lw_at lw_m2 8 rfl) rfl
theorem q369 : (Jvm.Cond.methodLink "SpillslotWorks$Build" (11 : Nat) ({ cls := "SpillslotWorks$Chooser", name := "<init>", desc := "(LSpillslotWorks$Program;LSpillslotWorks$Machine;)V" } : Jvm.MethodName)) ∈ lw_all := lw_g (lw_at lw_m2 10 rfl) rfl
theorem q481 : (Jvm.Cond.fieldLinkNest "SpillslotWorks$Build" (14 : Nat) "SpillslotWorks$Chooser" "costs" "[I" "SpillslotWorks") ∈ lw_tbl := lw_at lw_m2 122 rfl
theorem q485 : (Jvm.Cond.fieldLinkNest "SpillslotWorks$Build" (37 : Nat) "SpillslotWorks$Chooser" "values" "I" "SpillslotWorks") ∈ lw_tbl := lw_at lw_m2 126 rfl
theorem q500 : (Jvm.Cond.classLink "SpillslotWorks$Build" (21 : Nat) "SpillslotWorks$Order") ∈ lw_all := lw_g (lw_at lw_m2 141 rfl) rfl
theorem q502 : (Jvm.Cond.methodLink "SpillslotWorks$Build" (23 : Nat) ({ cls := "SpillslotWorks$Chooser", name := "all", desc := "()Ljava/util/List;" } : Jvm.MethodName)) ∈ lw_all := lw_g (lw_at lw_m2 143 rfl) rfl
theorem q541 : (Jvm.Cond.fieldLinkNest "SpillslotWorks$Build" (97 : Nat) "SpillslotWorks$Op" "n" "I" "SpillslotWorks") ∈ lw_tbl := lw_at lw_m2 182 rfl
theorem q585 : (Jvm.Cond.methodLink "SpillslotWorks$Build" (27 : Nat) ({ cls := "SpillslotWorks$Order", name := "<init>", desc := "(Ljava/util/List;LSpillslotWorks$Machine;)V" } : Jvm.MethodName)) ∈ lw_all := lw_g (lw_at lw_m2 226 rfl) rfl
theorem q634 : (Jvm.Cond.methodLink "SpillslotWorks$Build" (30 : Nat) ({ cls := "SpillslotWorks$Order", name := "all", desc := "(Z)Ljava/util/List;" } : Jvm.MethodName)) ∈ lw_all := lw_g (lw_at lw_m3 35 rfl) rfl
theorem q648 : (Jvm.Cond.classLink "SpillslotWorks$Build" (42 : Nat) "SpillslotWorks$Lives") ∈ lw_all := lw_g (lw_at lw_m3 49 rfl) rfl
theorem q650 : (Jvm.Cond.methodLink "SpillslotWorks$Build" (44 : Nat) ({ cls := "SpillslotWorks$Lives", name := "<init>", desc := "(Ljava/util/List;LSpillslotWorks$Program;LSpillslotWorks$Machine;I)V" } : Jvm.MethodName)) ∈ lw_all := lw_g (lw_at lw_m3 51 rfl) rfl
theorem q683 : (Jvm.Cond.fieldLinkNest "SpillslotWorks$Build" (114 : Nat) "SpillslotWorks$Life" "register" "I" "SpillslotWorks") ∈ lw_tbl := lw_at lw_m3 84 rfl
theorem q687 : (Jvm.Cond.fieldLinkNest "SpillslotWorks$Build" (102 : Nat) "SpillslotWorks$Life" "isSpilled" "Z" "SpillslotWorks") ∈ lw_tbl := lw_at lw_m3 88 rfl
theorem q692 : (Jvm.Cond.fieldLinkNest "SpillslotWorks$Build" (108 : Nat) "SpillslotWorks$Life" "slot" "I" "SpillslotWorks") ∈ lw_tbl := lw_at lw_m3 93 rfl
theorem q697 : (Jvm.Cond.fieldLinkNest "SpillslotWorks$Build" (93 : Nat) "SpillslotWorks$Life" "first" "LSpillslotWorks$Op;" "SpillslotWorks") ∈ lw_tbl := lw_at lw_m3 98 rfl
theorem q1155 : (Jvm.Cond.fieldLinkNest "SpillslotWorks$Build" (131 : Nat) "SpillslotWorks$Lives" "row" "Ljava/util/List;" "SpillslotWorks") ∈ lw_tbl := lw_at lw_m5 76 rfl
theorem q1166 : (Jvm.Cond.classLink "SpillslotWorks$Build" (51 : Nat) "SpillslotWorks$Writer") ∈ lw_all := lw_g (lw_at lw_m5 87 rfl) rfl
theorem q1168 : (Jvm.Cond.methodLink "SpillslotWorks$Build" (53 : Nat) ({ cls := "SpillslotWorks$Writer", name := "<init>", desc := "(LSpillslotWorks$Lives;LSpillslotWorks$Machine;)V" } : Jvm.MethodName)) ∈ lw_all := lw_g (lw_at lw_m5 89 rfl) rfl
theorem q1187 : (Jvm.Cond.methodLink "SpillslotWorks$Build" (56 : Nat) ({ cls := "SpillslotWorks$Writer", name := "all", desc := "(Ljava/util/List;)Ljava/util/List;" } : Jvm.MethodName)) ∈ lw_all := lw_g (lw_at lw_m5 108 rfl) rfl
theorem q1222 : (Jvm.Cond.fieldLinkNest "SpillslotWorks$Build" (128 : Nat) "SpillslotWorks$Instruction" "op" "I" "SpillslotWorks") ∈ lw_tbl := lw_at lw_m5 143 rfl
theorem q1281 : (Jvm.Cond.classLink "SpillslotWorks$Build" (62 : Nat) "SpillslotWorks$Run") ∈ lw_all := lw_g (lw_at lw_m5 202 rfl) rfl
theorem q1283 : (Jvm.Cond.methodLink "SpillslotWorks$Build" (64 : Nat) ({ cls := "SpillslotWorks$Lives", name := "slots", desc := "()I" } : Jvm.MethodName)) ∈ lw_all := lw_g (lw_at lw_m5 204 rfl) rfl
theorem q1288 : (Jvm.Cond.methodLink "SpillslotWorks$Build" (68 : Nat) ({ cls := "SpillslotWorks$Run", name := "<init>", desc := "(LSpillslotWorks$Machine;I)V" } : Jvm.MethodName)) ∈ lw_all := lw_g (lw_at lw_m5 209 rfl) rfl
theorem q1294 : (Jvm.Cond.fieldLinkNest "SpillslotWorks$Build" (111 : Nat) "SpillslotWorks$Run" "registers" "[I" "SpillslotWorks") ∈ lw_tbl := lw_at lw_m5 215 rfl
theorem q1297 : (Jvm.Cond.fieldLinkNest "SpillslotWorks$Build" (106 : Nat) "SpillslotWorks$Run" "slots" "[I" "SpillslotWorks") ∈ lw_tbl := lw_at lw_m5 218 rfl
theorem q1298 : (Jvm.Cond.fieldLinkNest "SpillslotWorks$Build" (145 : Nat) "SpillslotWorks$Run" "done" "I" "SpillslotWorks") ∈ lw_tbl := lw_at lw_m5 219 rfl
theorem q1302 : (Jvm.Cond.fieldLinkNest "SpillslotWorks$Build" (151 : Nat) "SpillslotWorks$Run" "stalls" "I" "SpillslotWorks") ∈ lw_tbl := lw_at lw_m5 223 rfl
theorem q1305 : (Jvm.Cond.fieldLinkNest "SpillslotWorks$Build" (148 : Nat) "SpillslotWorks$Run" "cycles" "I" "SpillslotWorks") ∈ lw_tbl := lw_at lw_m5 226 rfl
theorem q1325 : (Jvm.Cond.methodLink "SpillslotWorks$Build" (75 : Nat) ({ cls := "SpillslotWorks$Run", name := "run", desc := "(Ljava/util/List;Ljava/util/List;I)V" } : Jvm.MethodName)) ∈ lw_all := lw_g (lw_at lw_m6 6 rfl) rfl
theorem q1372 : (Jvm.Cond.fieldLink "SpillslotWorks$Build" (33 : Nat) "SpillslotWorks$Build" "ops" "Ljava/util/List;") ∈ lw_all := lw_g (lw_at lw_m6 53 rfl) rfl
theorem q1374 : (Jvm.Cond.fieldLink "SpillslotWorks$Build" (47 : Nat) "SpillslotWorks$Build" "lives" "LSpillslotWorks$Lives;") ∈ lw_all := lw_g (lw_at lw_m6 55 rfl) rfl
theorem q1376 : (Jvm.Cond.fieldLink "SpillslotWorks$Build" (59 : Nat) "SpillslotWorks$Build" "code" "Ljava/util/List;") ∈ lw_all := lw_g (lw_at lw_m6 57 rfl) rfl
theorem q1378 : (Jvm.Cond.fieldLink "SpillslotWorks$Build" (71 : Nat) "SpillslotWorks$Build" "run" "LSpillslotWorks$Run;") ∈ lw_all := lw_g (lw_at lw_m6 59 rfl) rfl
theorem q1380 : (Jvm.Cond.fieldLink "SpillslotWorks$Build" (18 : Nat) "SpillslotWorks$Build" "costs" "[I") ∈ lw_all := lw_g (lw_at lw_m6 61 rfl) rfl
theorem q1382 : (Jvm.Cond.fieldLink "SpillslotWorks$Build" (41 : Nat) "SpillslotWorks$Build" "values" "I") ∈ lw_all := lw_g (lw_at lw_m6 63 rfl) rfl
theorem q1384 : (Jvm.Cond.laysFinal "SpillslotWorks$Build" "SpillslotWorks$Build" "ops" "Ljava/util/List;") ∈ lw_all := lw_g (lw_at lw_m6 65 rfl) rfl
theorem q1385 : (Jvm.Cond.soleField "SpillslotWorks$Build" "ops") ∈ lw_all := lw_g (lw_at lw_m6 66 rfl) rfl
theorem q1386 : (Jvm.Cond.laysFinal "SpillslotWorks$Build" "SpillslotWorks$Build" "lives" "LSpillslotWorks$Lives;") ∈ lw_all := lw_g (lw_at lw_m6 67 rfl) rfl
theorem q1387 : (Jvm.Cond.soleField "SpillslotWorks$Build" "lives") ∈ lw_all := lw_g (lw_at lw_m6 68 rfl) rfl
theorem q1388 : (Jvm.Cond.laysFinal "SpillslotWorks$Build" "SpillslotWorks$Build" "code" "Ljava/util/List;") ∈ lw_all := lw_g (lw_at lw_m6 69 rfl) rfl
theorem q1389 : (Jvm.Cond.soleField "SpillslotWorks$Build" "code") ∈ lw_all := lw_g (lw_at lw_m6 70 rfl) rfl
theorem q1390 : (Jvm.Cond.laysFinal "SpillslotWorks$Build" "SpillslotWorks$Build" "run" "LSpillslotWorks$Run;") ∈ lw_all := lw_g (lw_at lw_m6 71 rfl) rfl
theorem q1391 : (Jvm.Cond.soleField "SpillslotWorks$Build" "run") ∈ lw_all := lw_g (lw_at lw_m6 72 rfl) rfl
theorem q1392 : (Jvm.Cond.laysFinal "SpillslotWorks$Build" "SpillslotWorks$Build" "costs" "[I") ∈ lw_all := lw_g (lw_at lw_m6 73 rfl) rfl
theorem q1393 : (Jvm.Cond.soleField "SpillslotWorks$Build" "costs") ∈ lw_all := lw_g (lw_at lw_m6 74 rfl) rfl
theorem q1394 : (Jvm.Cond.laysFinal "SpillslotWorks$Build" "SpillslotWorks$Build" "values" "I") ∈ lw_all := lw_g (lw_at lw_m6 75 rfl) rfl
theorem q1395 : (Jvm.Cond.soleField "SpillslotWorks$Build" "values") ∈ lw_all := lw_g (lw_at lw_m6 76 rfl) rfl
theorem q1396 : (Jvm.Cond.superclass "SpillslotWorks$Build" "java/lang/Object") ∈ lw_all := lw_g (lw_at lw_m6 77 rfl) rfl
theorem q1430 : (Jvm.Cond.instanceMethod ({ cls := "SpillslotWorks$Build", name := "many", desc := "(I)I" } : Jvm.MethodName)) ∈ lw_all := lw_g (lw_at lw_m6 111 rfl) rfl
theorem q1431 : (Jvm.Cond.selects "SpillslotWorks$Build" ({ cls := "SpillslotWorks$Build", name := "many", desc := "(I)I" } : Jvm.MethodName) ({ cls := "SpillslotWorks$Build", name := "many", desc := "(I)I" } : Jvm.MethodName)) ∈ lw_all := lw_g (lw_at lw_m6 112 rfl) rfl
theorem q1432 : (Jvm.Cond.code ({ cls := "SpillslotWorks$Build", name := "many", desc := "(I)I" } : Jvm.MethodName) prog_2_method_4_code (2 : Nat) (Option.some Jvm.ClassFile.FieldType.int)) ∈ lw_all := lw_g (lw_at lw_m6 113 rfl) rfl
theorem q1433 : (Jvm.Cond.interfaceEntry "SpillslotWorks$Build" (117 : Nat)) ∈ lw_tbl := lw_at lw_m6 114 rfl
theorem q1434 : (Jvm.Cond.methodLink "SpillslotWorks$Build" (117 : Nat) ({ cls := "java/util/List", name := "size", desc := "()I" } : Jvm.MethodName)) ∈ lw_all := lw_g (lw_at lw_m6 115 rfl) rfl
theorem q1435 : (Jvm.Cond.methodLink "SpillslotWorks$Build" (134 : Nat) ({ cls := "SpillslotWorks$Lives", name := "spilled", desc := "(Z)I" } : Jvm.MethodName)) ∈ lw_all := lw_g (lw_at lw_m6 116 rfl) rfl
theorem q1439 : (Jvm.Cond.methodLink "SpillslotWorks$Build" (138 : Nat) ({ cls := "SpillslotWorks$Lives", name := "frame", desc := "()I" } : Jvm.MethodName)) ∈ lw_all := lw_g (lw_at lw_m6 120 rfl) rfl
theorem q1447 : (Jvm.Cond.methodLink "SpillslotWorks$Build" (141 : Nat) ({ cls := "SpillslotWorks$Build", name := "codes", desc := "(II)I" } : Jvm.MethodName)) ∈ lw_all := lw_g (lw_at lw_m6 128 rfl) rfl
theorem q1448 : (Jvm.Cond.privateMethod ({ cls := "SpillslotWorks$Build", name := "codes", desc := "(II)I" } : Jvm.MethodName)) ∈ lw_tbl := lw_at lw_m6 129 rfl
theorem q1449 : (Jvm.Cond.instanceMethod ({ cls := "SpillslotWorks$Build", name := "codes", desc := "(II)I" } : Jvm.MethodName)) ∈ lw_all := lw_g (lw_at lw_m6 130 rfl) rfl
theorem q1450 : (Jvm.Cond.code ({ cls := "SpillslotWorks$Build", name := "codes", desc := "(II)I" } : Jvm.MethodName) prog_2_method_3_code (5 : Nat) (Option.some Jvm.ClassFile.FieldType.int)) ∈ lw_all := lw_g (lw_at lw_m6 131 rfl) rfl
theorem q1451 : (Jvm.Cond.interfaceEntry "SpillslotWorks$Build" (122 : Nat)) ∈ lw_tbl := lw_at lw_m6 132 rfl
theorem q1452 : (Jvm.Cond.methodLink "SpillslotWorks$Build" (122 : Nat) ({ cls := "java/util/List", name := "get", desc := "(I)Ljava/lang/Object;" } : Jvm.MethodName)) ∈ lw_all := lw_g (lw_at lw_m6 133 rfl) rfl
theorem q1453 : (Jvm.Cond.classLink "SpillslotWorks$Build" (126 : Nat) "SpillslotWorks$Instruction") ∈ lw_all := lw_g (lw_at lw_m6 134 rfl) rfl
theorem q1454 : (Jvm.Cond.methodLink "SpillslotWorks$Build" (154 : Nat) ({ cls := "SpillslotWorks$Lives", name := "most", desc := "()I" } : Jvm.MethodName)) ∈ lw_all := lw_g (lw_at lw_m6 135 rfl) rfl
theorem q1510 : (Jvm.Cond.instanceMethod ({ cls := "SpillslotWorks$Build", name := "answer", desc := "(I)I" } : Jvm.MethodName)) ∈ lw_all := lw_g (lw_at lw_m6 191 rfl) rfl
theorem q1511 : (Jvm.Cond.selects "SpillslotWorks$Build" ({ cls := "SpillslotWorks$Build", name := "answer", desc := "(I)I" } : Jvm.MethodName) ({ cls := "SpillslotWorks$Build", name := "answer", desc := "(I)I" } : Jvm.MethodName)) ∈ lw_all := lw_g (lw_at lw_m6 192 rfl) rfl
theorem q1512 : (Jvm.Cond.code ({ cls := "SpillslotWorks$Build", name := "answer", desc := "(I)I" } : Jvm.MethodName) prog_2_method_2_code (3 : Nat) (Option.some Jvm.ClassFile.FieldType.int)) ∈ lw_all := lw_g (lw_at lw_m6 193 rfl) rfl
theorem q1513 : (Jvm.Cond.methodLink "SpillslotWorks$Build" (83 : Nat) ({ cls := "SpillslotWorks$Lives", name := "of", desc := "(I)LSpillslotWorks$Life;" } : Jvm.MethodName)) ∈ lw_all := lw_g (lw_at lw_m6 194 rfl) rfl
theorem q1514 : (Jvm.Cond.methodLink "SpillslotWorks$Build" (87 : Nat) ({ cls := "SpillslotWorks$Life", name := "isRemade", desc := "()Z" } : Jvm.MethodName)) ∈ lw_all := lw_g (lw_at lw_m6 195 rfl) rfl
theorem q2296 : (Jvm.Cond.selects "SpillslotWorks$Build" ({ cls := "java/lang/Object", name := "equals", desc := "(Ljava/lang/Object;)Z" } : Jvm.MethodName) ({ cls := "java/lang/Object", name := "equals", desc := "(Ljava/lang/Object;)Z" } : Jvm.MethodName)) ∈ lw_all := lw_g (lw_at lw_m10 17 rfl) rfl
theorem q2859 : (Jvm.Cond.castable "SpillslotWorks$Build" "java/lang/Object") ∈ lw_tbl := lw_at lw_m12 100 rfl
theorem in_X4 : ∀ w ∈ wsX40, w ∈ lw_all := lw_in wsX40 [1384, 1386, 1388, 1390, 1392, 1394] (by decide +kernel) (by decide +kernel)
/-! SpillslotWorks$Order -/
def RX6 : String := "SpillslotWorks$Order"
def TX6 : u_T := fun k => match k with
  | 0 => ("SpillslotWorks$Order", "from", "Ljava/util/List;", true)
  | 1 => ("SpillslotWorks$Order", "machine", "LSpillslotWorks$Machine;", true)
  | 2 => ("SpillslotWorks$Order", "made", "Ljava/util/List;", true)
  | 3 => ("SpillslotWorks$Order", "needs", "[[Z", true)
  | _ => ("SpillslotWorks$Order", "waits", "[I", true)
def tyX6 : Nat → FieldType := fun k => match k with
  | 0 => .object "java/util/List"
  | 1 => .object "SpillslotWorks$Machine"
  | 2 => .object "java/util/List"
  | 3 => .array (.array .boolean)
  | _ => .array .int
abbrev wsX60 : List Cond := u_ws RX6 TX6 5
theorem nmX6 : ∀ a, a < 5 → ∀ b, b < 5 → a ≠ b → (TX6 a).2.1 ≠ (TX6 b).2.1 := by decide +kernel
theorem tyX6_ok : ∀ k, k < 5 → parseFieldDescriptor (TX6 k).2.2.1 = some (tyX6 k) := by decide +kernel
abbrev cX6_init : ByteArray := prog_11_method_1_code
def yX6_init : MethodName := ⟨RX6, "<init>", "(Ljava/util/List;LSpillslotWorks$Machine;)V"⟩
def dkwX6_init_5 : List UInt8 := [160, 0, 7, 3, 167, 0, 8, 42, 29, 182, 0, 55, 181, 0, 59, 132, 3, 255, 167, 255, 210, 177]
abbrev dktX6_init_5 : List UInt8 := dkwX6_init_5 ++ []
def dkwX6_init_4 : List UInt8 := [185, 0, 45, 2, 0, 192, 0, 49, 43, 29, 185, 0, 45, 2, 0, 192, 0, 49, 180, 0, 51, 2]
abbrev dktX6_init_4 : List UInt8 := dkwX6_init_4 ++ dktX6_init_5
def dkwX6_init_3 : List UInt8 := [182, 0, 41, 83, 132, 3, 1, 167, 255, 233, 42, 180, 0, 37, 190, 4, 100, 62, 29, 155, 0, 48, 43, 29]
abbrev dktX6_init_3 : List UInt8 := dkwX6_init_3 ++ dktX6_init_4
def dkwX6_init_2 : List UInt8 := [188, 10, 181, 0, 37, 3, 62, 29, 42, 180, 0, 37, 190, 162, 0, 20, 42, 180, 0, 33, 29, 42, 29]
abbrev dktX6_init_2 : List UInt8 := dkwX6_init_2 ++ dktX6_init_3
def dkwX6_init_1 : List UInt8 := [181, 0, 21, 42, 43, 185, 0, 25, 1, 0, 189, 0, 31, 181, 0, 33, 42, 43, 185, 0, 25, 1, 0]
abbrev dktX6_init_1 : List UInt8 := dkwX6_init_1 ++ dktX6_init_2
def dkwX6_init_0 : List UInt8 := [42, 183, 0, 3, 42, 187, 0, 9, 89, 183, 0, 11, 181, 0, 12, 42, 43, 181, 0, 18, 42, 44]
abbrev dktX6_init_0 : List UInt8 := dkwX6_init_0 ++ dktX6_init_1
theorem dksX6_init_0 : cX6_init.data.toList.drop 0 = dktX6_init_0 := by decide +kernel
theorem dksX6_init_1 : cX6_init.data.toList.drop 22 = dktX6_init_1 := dk_seg dksX6_init_0 22 rfl rfl
theorem dksX6_init_2 : cX6_init.data.toList.drop 45 = dktX6_init_2 := dk_seg dksX6_init_1 23 rfl rfl
theorem dksX6_init_3 : cX6_init.data.toList.drop 68 = dktX6_init_3 := dk_seg dksX6_init_2 23 rfl rfl
theorem dksX6_init_4 : cX6_init.data.toList.drop 92 = dktX6_init_4 := dk_seg dksX6_init_3 24 rfl rfl
theorem dksX6_init_5 : cX6_init.data.toList.drop 114 = dktX6_init_5 := dk_seg dksX6_init_4 22 rfl rfl
theorem dX6_init_0 : decode cX6_init 0 = .ok (.aload_n 0, 1) := dk_42 (dk_at dksX6_init_0 0 rfl rfl)
theorem dX6_init_1 : decode cX6_init 1 = .ok (.invokespecial 3, 3) := dk_183 0 3 (dk_at dksX6_init_0 1 rfl rfl)
theorem dX6_init_4 : decode cX6_init 4 = .ok (.aload_n 0, 1) := dk_42 (dk_at dksX6_init_0 4 rfl rfl)
theorem dX6_init_5 : decode cX6_init 5 = .ok (.new 9, 3) := dk_187 0 9 (dk_at dksX6_init_0 5 rfl rfl)
theorem dX6_init_8 : decode cX6_init 8 = .ok (.dup, 1) := dk_89 (dk_at dksX6_init_0 8 rfl rfl)
theorem dX6_init_9 : decode cX6_init 9 = .ok (.invokespecial 11, 3) := dk_183 0 11 (dk_at dksX6_init_0 9 rfl rfl)
theorem dX6_init_12 : decode cX6_init 12 = .ok (.putfield 12, 3) := dk_181 0 12 (dk_at dksX6_init_0 12 rfl rfl)
theorem dX6_init_15 : decode cX6_init 15 = .ok (.aload_n 0, 1) := dk_42 (dk_at dksX6_init_0 15 rfl rfl)
theorem dX6_init_16 : decode cX6_init 16 = .ok (.aload_n 1, 1) := dk_43 (dk_at dksX6_init_0 16 rfl rfl)
theorem dX6_init_17 : decode cX6_init 17 = .ok (.putfield 18, 3) := dk_181 0 18 (dk_at dksX6_init_0 17 rfl rfl)
theorem dX6_init_20 : decode cX6_init 20 = .ok (.aload_n 0, 1) := dk_42 (dk_at dksX6_init_0 20 rfl rfl)
theorem dX6_init_21 : decode cX6_init 21 = .ok (.aload_n 2, 1) := dk_44 (dk_at dksX6_init_0 21 rfl rfl)
theorem dX6_init_22 : decode cX6_init 22 = .ok (.putfield 21, 3) := dk_181 0 21 (dk_at dksX6_init_1 0 rfl rfl)
theorem dX6_init_25 : decode cX6_init 25 = .ok (.aload_n 0, 1) := dk_42 (dk_at dksX6_init_1 3 rfl rfl)
theorem dX6_init_26 : decode cX6_init 26 = .ok (.aload_n 1, 1) := dk_43 (dk_at dksX6_init_1 4 rfl rfl)
theorem dX6_init_27 : decode cX6_init 27 = .ok (.invokeinterface 25 1, 5) := by decide +kernel
theorem dX6_init_32 : decode cX6_init 32 = .ok (.anewarray 31, 3) := dk_189 0 31 (dk_at dksX6_init_1 10 rfl rfl)
theorem dX6_init_35 : decode cX6_init 35 = .ok (.putfield 33, 3) := dk_181 0 33 (dk_at dksX6_init_1 13 rfl rfl)
theorem dX6_init_38 : decode cX6_init 38 = .ok (.aload_n 0, 1) := dk_42 (dk_at dksX6_init_1 16 rfl rfl)
theorem dX6_init_39 : decode cX6_init 39 = .ok (.aload_n 1, 1) := dk_43 (dk_at dksX6_init_1 17 rfl rfl)
theorem dX6_init_40 : decode cX6_init 40 = .ok (.invokeinterface 25 1, 5) := by decide +kernel
theorem dX6_init_45 : decode cX6_init 45 = .ok (.newarray .int, 2) := dk_188_10 (dk_at dksX6_init_2 0 rfl rfl)
theorem dX6_init_47 : decode cX6_init 47 = .ok (.putfield 37, 3) := dk_181 0 37 (dk_at dksX6_init_2 2 rfl rfl)
theorem dX6_init_50 : decode cX6_init 50 = .ok (.iconst 0, 1) := dk_3 (dk_at dksX6_init_2 5 rfl rfl)
theorem dX6_init_51 : decode cX6_init 51 = .ok (.istore_n 3, 1) := dk_62 (dk_at dksX6_init_2 6 rfl rfl)
theorem dX6_init_52 : decode cX6_init 52 = .ok (.iload_n 3, 1) := dk_29 (dk_at dksX6_init_2 7 rfl rfl)
theorem dX6_init_53 : decode cX6_init 53 = .ok (.aload_n 0, 1) := dk_42 (dk_at dksX6_init_2 8 rfl rfl)
theorem dX6_init_54 : decode cX6_init 54 = .ok (.getfield 37, 3) := dk_180 0 37 (dk_at dksX6_init_2 9 rfl rfl)
theorem dX6_init_57 : decode cX6_init 57 = .ok (.arraylength, 1) := dk_190 (dk_at dksX6_init_2 12 rfl rfl)
theorem dX6_init_58 : decode cX6_init 58 = .ok (.if_icmp .ge 20, 3) := dk_162 0 20 (dk_at dksX6_init_2 13 rfl rfl)
theorem dX6_init_61 : decode cX6_init 61 = .ok (.aload_n 0, 1) := dk_42 (dk_at dksX6_init_2 16 rfl rfl)
theorem dX6_init_62 : decode cX6_init 62 = .ok (.getfield 33, 3) := dk_180 0 33 (dk_at dksX6_init_2 17 rfl rfl)
theorem dX6_init_65 : decode cX6_init 65 = .ok (.iload_n 3, 1) := dk_29 (dk_at dksX6_init_2 20 rfl rfl)
theorem dX6_init_66 : decode cX6_init 66 = .ok (.aload_n 0, 1) := dk_42 (dk_at dksX6_init_2 21 rfl rfl)
theorem dX6_init_67 : decode cX6_init 67 = .ok (.iload_n 3, 1) := dk_29 (dk_at dksX6_init_2 22 rfl rfl)
theorem dX6_init_68 : decode cX6_init 68 = .ok (.invokevirtual 41, 3) := dk_182 0 41 (dk_at dksX6_init_3 0 rfl rfl)
theorem dX6_init_71 : decode cX6_init 71 = .ok (.aastore, 1) := dk_83 (dk_at dksX6_init_3 3 rfl rfl)
theorem dX6_init_72 : decode cX6_init 72 = .ok (.iinc 3 1, 3) := dk_132 3 1 (dk_at dksX6_init_3 4 rfl rfl)
theorem dX6_init_75 : decode cX6_init 75 = .ok (.goto (-23), 3) := dk_167 255 233 (dk_at dksX6_init_3 7 rfl rfl)
theorem dX6_init_78 : decode cX6_init 78 = .ok (.aload_n 0, 1) := dk_42 (dk_at dksX6_init_3 10 rfl rfl)
theorem dX6_init_79 : decode cX6_init 79 = .ok (.getfield 37, 3) := dk_180 0 37 (dk_at dksX6_init_3 11 rfl rfl)
theorem dX6_init_82 : decode cX6_init 82 = .ok (.arraylength, 1) := dk_190 (dk_at dksX6_init_3 14 rfl rfl)
theorem dX6_init_83 : decode cX6_init 83 = .ok (.iconst 1, 1) := dk_4 (dk_at dksX6_init_3 15 rfl rfl)
theorem dX6_init_84 : decode cX6_init 84 = .ok (.isub, 1) := dk_100 (dk_at dksX6_init_3 16 rfl rfl)
theorem dX6_init_85 : decode cX6_init 85 = .ok (.istore_n 3, 1) := dk_62 (dk_at dksX6_init_3 17 rfl rfl)
theorem dX6_init_86 : decode cX6_init 86 = .ok (.iload_n 3, 1) := dk_29 (dk_at dksX6_init_3 18 rfl rfl)
theorem dX6_init_87 : decode cX6_init 87 = .ok (.ifCond .lt 48, 3) := dk_155 0 48 (dk_at dksX6_init_3 19 rfl rfl)
theorem dX6_init_90 : decode cX6_init 90 = .ok (.aload_n 1, 1) := dk_43 (dk_at dksX6_init_3 22 rfl rfl)
theorem dX6_init_91 : decode cX6_init 91 = .ok (.iload_n 3, 1) := dk_29 (dk_at dksX6_init_3 23 rfl rfl)
theorem dX6_init_92 : decode cX6_init 92 = .ok (.invokeinterface 45 2, 5) := by decide +kernel
theorem dX6_init_97 : decode cX6_init 97 = .ok (.checkcast 49, 3) := dk_192 0 49 (dk_at dksX6_init_4 5 rfl rfl)
theorem dX6_init_100 : decode cX6_init 100 = .ok (.aload_n 1, 1) := dk_43 (dk_at dksX6_init_4 8 rfl rfl)
theorem dX6_init_101 : decode cX6_init 101 = .ok (.iload_n 3, 1) := dk_29 (dk_at dksX6_init_4 9 rfl rfl)
theorem dX6_init_102 : decode cX6_init 102 = .ok (.invokeinterface 45 2, 5) := by decide +kernel
theorem dX6_init_107 : decode cX6_init 107 = .ok (.checkcast 49, 3) := dk_192 0 49 (dk_at dksX6_init_4 15 rfl rfl)
theorem dX6_init_110 : decode cX6_init 110 = .ok (.getfield 51, 3) := dk_180 0 51 (dk_at dksX6_init_4 18 rfl rfl)
theorem dX6_init_113 : decode cX6_init 113 = .ok (.iconst (-1), 1) := dk_2 (dk_at dksX6_init_4 21 rfl rfl)
theorem dX6_init_114 : decode cX6_init 114 = .ok (.if_icmp .ne 7, 3) := dk_160 0 7 (dk_at dksX6_init_5 0 rfl rfl)
theorem dX6_init_117 : decode cX6_init 117 = .ok (.iconst 0, 1) := dk_3 (dk_at dksX6_init_5 3 rfl rfl)
theorem dX6_init_118 : decode cX6_init 118 = .ok (.goto 8, 3) := dk_167 0 8 (dk_at dksX6_init_5 4 rfl rfl)
theorem dX6_init_121 : decode cX6_init 121 = .ok (.aload_n 0, 1) := dk_42 (dk_at dksX6_init_5 7 rfl rfl)
theorem dX6_init_122 : decode cX6_init 122 = .ok (.iload_n 3, 1) := dk_29 (dk_at dksX6_init_5 8 rfl rfl)
theorem dX6_init_123 : decode cX6_init 123 = .ok (.invokevirtual 55, 3) := dk_182 0 55 (dk_at dksX6_init_5 9 rfl rfl)
theorem dX6_init_126 : decode cX6_init 126 = .ok (.putfield 59, 3) := dk_181 0 59 (dk_at dksX6_init_5 12 rfl rfl)
theorem dX6_init_129 : decode cX6_init 129 = .ok (.iinc 3 (-1), 3) := dk_132 3 255 (dk_at dksX6_init_5 15 rfl rfl)
theorem dX6_init_132 : decode cX6_init 132 = .ok (.goto (-46), 3) := dk_167 255 210 (dk_at dksX6_init_5 18 rfl rfl)
theorem dX6_init_135 : decode cX6_init 135 = .ok (.return_, 1) := dk_177 (dk_at dksX6_init_5 21 rfl rfl)
abbrev cX6_needsOf : ByteArray := prog_11_method_2_code
def yX6_needsOf : MethodName := ⟨RX6, "needsOf", "(I)[Z"⟩
def dkwX6_needsOf_4 : List UInt8 := [27, 92, 46, 44, 29, 51, 153, 0, 7, 4, 167, 0, 4, 3, 96, 79, 132, 3, 1, 167, 255, 153, 44, 176]
abbrev dktX6_needsOf_4 : List UInt8 := dkwX6_needsOf_4 ++ []
def dkwX6_needsOf_3 : List UInt8 := [185, 0, 45, 2, 0, 192, 0, 49, 182, 0, 62, 153, 0, 7, 4, 167, 0, 4, 3, 84, 42, 180, 0, 37]
abbrev dktX6_needsOf_3 : List UInt8 := dkwX6_needsOf_3 ++ dktX6_needsOf_4
def dkwX6_needsOf_2 : List UInt8 := [160, 0, 39, 42, 180, 0, 18, 27, 185, 0, 45, 2, 0, 192, 0, 49, 42, 180, 0, 18, 29]
abbrev dktX6_needsOf_2 : List UInt8 := dkwX6_needsOf_2 ++ dktX6_needsOf_3
def dkwX6_needsOf_1 : List UInt8 := [192, 0, 49, 180, 0, 51, 42, 180, 0, 18, 27, 185, 0, 45, 2, 0, 192, 0, 49, 180, 0, 51]
abbrev dktX6_needsOf_1 : List UInt8 := dkwX6_needsOf_1 ++ dktX6_needsOf_2
def dkwX6_needsOf_0 : List UInt8 := [27, 188, 4, 77, 3, 62, 29, 27, 162, 0, 104, 44, 29, 42, 180, 0, 18, 29, 185, 0, 45, 2, 0]
abbrev dktX6_needsOf_0 : List UInt8 := dkwX6_needsOf_0 ++ dktX6_needsOf_1
theorem dksX6_needsOf_0 : cX6_needsOf.data.toList.drop 0 = dktX6_needsOf_0 := by decide +kernel
theorem dksX6_needsOf_1 : cX6_needsOf.data.toList.drop 23 = dktX6_needsOf_1 := dk_seg dksX6_needsOf_0 23 rfl rfl
theorem dksX6_needsOf_2 : cX6_needsOf.data.toList.drop 45 = dktX6_needsOf_2 := dk_seg dksX6_needsOf_1 22 rfl rfl
theorem dksX6_needsOf_3 : cX6_needsOf.data.toList.drop 66 = dktX6_needsOf_3 := dk_seg dksX6_needsOf_2 21 rfl rfl
theorem dksX6_needsOf_4 : cX6_needsOf.data.toList.drop 90 = dktX6_needsOf_4 := dk_seg dksX6_needsOf_3 24 rfl rfl
theorem dX6_needsOf_0 : decode cX6_needsOf 0 = .ok (.iload_n 1, 1) := dk_27 (dk_at dksX6_needsOf_0 0 rfl rfl)
theorem dX6_needsOf_1 : decode cX6_needsOf 1 = .ok (.newarray .boolean, 2) := dk_188_4 (dk_at dksX6_needsOf_0 1 rfl rfl)
theorem dX6_needsOf_3 : decode cX6_needsOf 3 = .ok (.astore_n 2, 1) := dk_77 (dk_at dksX6_needsOf_0 3 rfl rfl)
theorem dX6_needsOf_4 : decode cX6_needsOf 4 = .ok (.iconst 0, 1) := dk_3 (dk_at dksX6_needsOf_0 4 rfl rfl)
theorem dX6_needsOf_5 : decode cX6_needsOf 5 = .ok (.istore_n 3, 1) := dk_62 (dk_at dksX6_needsOf_0 5 rfl rfl)
theorem dX6_needsOf_6 : decode cX6_needsOf 6 = .ok (.iload_n 3, 1) := dk_29 (dk_at dksX6_needsOf_0 6 rfl rfl)
theorem dX6_needsOf_7 : decode cX6_needsOf 7 = .ok (.iload_n 1, 1) := dk_27 (dk_at dksX6_needsOf_0 7 rfl rfl)
theorem dX6_needsOf_8 : decode cX6_needsOf 8 = .ok (.if_icmp .ge 104, 3) := dk_162 0 104 (dk_at dksX6_needsOf_0 8 rfl rfl)
theorem dX6_needsOf_11 : decode cX6_needsOf 11 = .ok (.aload_n 2, 1) := dk_44 (dk_at dksX6_needsOf_0 11 rfl rfl)
theorem dX6_needsOf_12 : decode cX6_needsOf 12 = .ok (.iload_n 3, 1) := dk_29 (dk_at dksX6_needsOf_0 12 rfl rfl)
theorem dX6_needsOf_13 : decode cX6_needsOf 13 = .ok (.aload_n 0, 1) := dk_42 (dk_at dksX6_needsOf_0 13 rfl rfl)
theorem dX6_needsOf_14 : decode cX6_needsOf 14 = .ok (.getfield 18, 3) := dk_180 0 18 (dk_at dksX6_needsOf_0 14 rfl rfl)
theorem dX6_needsOf_17 : decode cX6_needsOf 17 = .ok (.iload_n 3, 1) := dk_29 (dk_at dksX6_needsOf_0 17 rfl rfl)
theorem dX6_needsOf_18 : decode cX6_needsOf 18 = .ok (.invokeinterface 45 2, 5) := by decide +kernel
theorem dX6_needsOf_23 : decode cX6_needsOf 23 = .ok (.checkcast 49, 3) := dk_192 0 49 (dk_at dksX6_needsOf_1 0 rfl rfl)
theorem dX6_needsOf_26 : decode cX6_needsOf 26 = .ok (.getfield 51, 3) := dk_180 0 51 (dk_at dksX6_needsOf_1 3 rfl rfl)
theorem dX6_needsOf_29 : decode cX6_needsOf 29 = .ok (.aload_n 0, 1) := dk_42 (dk_at dksX6_needsOf_1 6 rfl rfl)
theorem dX6_needsOf_30 : decode cX6_needsOf 30 = .ok (.getfield 18, 3) := dk_180 0 18 (dk_at dksX6_needsOf_1 7 rfl rfl)
theorem dX6_needsOf_33 : decode cX6_needsOf 33 = .ok (.iload_n 1, 1) := dk_27 (dk_at dksX6_needsOf_1 10 rfl rfl)
theorem dX6_needsOf_34 : decode cX6_needsOf 34 = .ok (.invokeinterface 45 2, 5) := by decide +kernel
theorem dX6_needsOf_39 : decode cX6_needsOf 39 = .ok (.checkcast 49, 3) := dk_192 0 49 (dk_at dksX6_needsOf_1 16 rfl rfl)
theorem dX6_needsOf_42 : decode cX6_needsOf 42 = .ok (.getfield 51, 3) := dk_180 0 51 (dk_at dksX6_needsOf_1 19 rfl rfl)
theorem dX6_needsOf_45 : decode cX6_needsOf 45 = .ok (.if_icmp .ne 39, 3) := dk_160 0 39 (dk_at dksX6_needsOf_2 0 rfl rfl)
theorem dX6_needsOf_48 : decode cX6_needsOf 48 = .ok (.aload_n 0, 1) := dk_42 (dk_at dksX6_needsOf_2 3 rfl rfl)
theorem dX6_needsOf_49 : decode cX6_needsOf 49 = .ok (.getfield 18, 3) := dk_180 0 18 (dk_at dksX6_needsOf_2 4 rfl rfl)
theorem dX6_needsOf_52 : decode cX6_needsOf 52 = .ok (.iload_n 1, 1) := dk_27 (dk_at dksX6_needsOf_2 7 rfl rfl)
theorem dX6_needsOf_53 : decode cX6_needsOf 53 = .ok (.invokeinterface 45 2, 5) := by decide +kernel
theorem dX6_needsOf_58 : decode cX6_needsOf 58 = .ok (.checkcast 49, 3) := dk_192 0 49 (dk_at dksX6_needsOf_2 13 rfl rfl)
theorem dX6_needsOf_61 : decode cX6_needsOf 61 = .ok (.aload_n 0, 1) := dk_42 (dk_at dksX6_needsOf_2 16 rfl rfl)
theorem dX6_needsOf_62 : decode cX6_needsOf 62 = .ok (.getfield 18, 3) := dk_180 0 18 (dk_at dksX6_needsOf_2 17 rfl rfl)
theorem dX6_needsOf_65 : decode cX6_needsOf 65 = .ok (.iload_n 3, 1) := dk_29 (dk_at dksX6_needsOf_2 20 rfl rfl)
theorem dX6_needsOf_66 : decode cX6_needsOf 66 = .ok (.invokeinterface 45 2, 5) := by decide +kernel
theorem dX6_needsOf_71 : decode cX6_needsOf 71 = .ok (.checkcast 49, 3) := dk_192 0 49 (dk_at dksX6_needsOf_3 5 rfl rfl)
theorem dX6_needsOf_74 : decode cX6_needsOf 74 = .ok (.invokevirtual 62, 3) := dk_182 0 62 (dk_at dksX6_needsOf_3 8 rfl rfl)
theorem dX6_needsOf_77 : decode cX6_needsOf 77 = .ok (.ifCond .eq 7, 3) := dk_153 0 7 (dk_at dksX6_needsOf_3 11 rfl rfl)
theorem dX6_needsOf_80 : decode cX6_needsOf 80 = .ok (.iconst 1, 1) := dk_4 (dk_at dksX6_needsOf_3 14 rfl rfl)
theorem dX6_needsOf_81 : decode cX6_needsOf 81 = .ok (.goto 4, 3) := dk_167 0 4 (dk_at dksX6_needsOf_3 15 rfl rfl)
theorem dX6_needsOf_84 : decode cX6_needsOf 84 = .ok (.iconst 0, 1) := dk_3 (dk_at dksX6_needsOf_3 18 rfl rfl)
theorem dX6_needsOf_85 : decode cX6_needsOf 85 = .ok (.bastore, 1) := dk_84 (dk_at dksX6_needsOf_3 19 rfl rfl)
theorem dX6_needsOf_86 : decode cX6_needsOf 86 = .ok (.aload_n 0, 1) := dk_42 (dk_at dksX6_needsOf_3 20 rfl rfl)
theorem dX6_needsOf_87 : decode cX6_needsOf 87 = .ok (.getfield 37, 3) := dk_180 0 37 (dk_at dksX6_needsOf_3 21 rfl rfl)
theorem dX6_needsOf_90 : decode cX6_needsOf 90 = .ok (.iload_n 1, 1) := dk_27 (dk_at dksX6_needsOf_4 0 rfl rfl)
theorem dX6_needsOf_91 : decode cX6_needsOf 91 = .ok (.dup2, 1) := dk_92 (dk_at dksX6_needsOf_4 1 rfl rfl)
theorem dX6_needsOf_92 : decode cX6_needsOf 92 = .ok (.iaload, 1) := dk_46 (dk_at dksX6_needsOf_4 2 rfl rfl)
theorem dX6_needsOf_93 : decode cX6_needsOf 93 = .ok (.aload_n 2, 1) := dk_44 (dk_at dksX6_needsOf_4 3 rfl rfl)
theorem dX6_needsOf_94 : decode cX6_needsOf 94 = .ok (.iload_n 3, 1) := dk_29 (dk_at dksX6_needsOf_4 4 rfl rfl)
theorem dX6_needsOf_95 : decode cX6_needsOf 95 = .ok (.baload, 1) := dk_51 (dk_at dksX6_needsOf_4 5 rfl rfl)
theorem dX6_needsOf_96 : decode cX6_needsOf 96 = .ok (.ifCond .eq 7, 3) := dk_153 0 7 (dk_at dksX6_needsOf_4 6 rfl rfl)
theorem dX6_needsOf_99 : decode cX6_needsOf 99 = .ok (.iconst 1, 1) := dk_4 (dk_at dksX6_needsOf_4 9 rfl rfl)
theorem dX6_needsOf_100 : decode cX6_needsOf 100 = .ok (.goto 4, 3) := dk_167 0 4 (dk_at dksX6_needsOf_4 10 rfl rfl)
theorem dX6_needsOf_103 : decode cX6_needsOf 103 = .ok (.iconst 0, 1) := dk_3 (dk_at dksX6_needsOf_4 13 rfl rfl)
theorem dX6_needsOf_104 : decode cX6_needsOf 104 = .ok (.iadd, 1) := dk_96 (dk_at dksX6_needsOf_4 14 rfl rfl)
theorem dX6_needsOf_105 : decode cX6_needsOf 105 = .ok (.iastore, 1) := dk_79 (dk_at dksX6_needsOf_4 15 rfl rfl)
theorem dX6_needsOf_106 : decode cX6_needsOf 106 = .ok (.iinc 3 1, 3) := dk_132 3 1 (dk_at dksX6_needsOf_4 16 rfl rfl)
theorem dX6_needsOf_109 : decode cX6_needsOf 109 = .ok (.goto (-103), 3) := dk_167 255 153 (dk_at dksX6_needsOf_4 19 rfl rfl)
theorem dX6_needsOf_112 : decode cX6_needsOf 112 = .ok (.aload_n 2, 1) := dk_44 (dk_at dksX6_needsOf_4 22 rfl rfl)
theorem dX6_needsOf_113 : decode cX6_needsOf 113 = .ok (.areturn, 1) := dk_176 (dk_at dksX6_needsOf_4 23 rfl rfl)
abbrev cX6_heightOf : ByteArray := prog_11_method_3_code
def yX6_heightOf : MethodName := ⟨RX6, "heightOf", "(I)I"⟩
def dkwX6_heightOf_3 : List UInt8 := [185, 0, 45, 2, 0, 192, 0, 49, 180, 0, 71, 182, 0, 74, 28, 96, 172]
abbrev dktX6_heightOf_3 : List UInt8 := dkwX6_heightOf_3 ++ []
def dkwX6_heightOf_2 : List UInt8 := [167, 0, 4, 28, 61, 132, 3, 1, 167, 255, 208, 42, 180, 0, 21, 42, 180, 0, 18, 27]
abbrev dktX6_heightOf_2 : List UInt8 := dkwX6_heightOf_2 ++ dktX6_heightOf_3
def dkwX6_heightOf_1 : List UInt8 := [153, 0, 26, 28, 42, 180, 0, 18, 29, 185, 0, 45, 2, 0, 192, 0, 49, 180, 0, 59, 184, 0, 65]
abbrev dktX6_heightOf_1 : List UInt8 := dkwX6_heightOf_1 ++ dktX6_heightOf_2
def dkwX6_heightOf_0 : List UInt8 := [3, 61, 27, 4, 96, 62, 29, 42, 180, 0, 37, 190, 162, 0, 45, 42, 180, 0, 33, 29, 50, 27, 51]
abbrev dktX6_heightOf_0 : List UInt8 := dkwX6_heightOf_0 ++ dktX6_heightOf_1
theorem dksX6_heightOf_0 : cX6_heightOf.data.toList.drop 0 = dktX6_heightOf_0 := by decide +kernel
theorem dksX6_heightOf_1 : cX6_heightOf.data.toList.drop 23 = dktX6_heightOf_1 := dk_seg dksX6_heightOf_0 23 rfl rfl
theorem dksX6_heightOf_2 : cX6_heightOf.data.toList.drop 46 = dktX6_heightOf_2 := dk_seg dksX6_heightOf_1 23 rfl rfl
theorem dksX6_heightOf_3 : cX6_heightOf.data.toList.drop 66 = dktX6_heightOf_3 := dk_seg dksX6_heightOf_2 20 rfl rfl
theorem dX6_heightOf_0 : decode cX6_heightOf 0 = .ok (.iconst 0, 1) := dk_3 (dk_at dksX6_heightOf_0 0 rfl rfl)
theorem dX6_heightOf_1 : decode cX6_heightOf 1 = .ok (.istore_n 2, 1) := dk_61 (dk_at dksX6_heightOf_0 1 rfl rfl)
theorem dX6_heightOf_2 : decode cX6_heightOf 2 = .ok (.iload_n 1, 1) := dk_27 (dk_at dksX6_heightOf_0 2 rfl rfl)
theorem dX6_heightOf_3 : decode cX6_heightOf 3 = .ok (.iconst 1, 1) := dk_4 (dk_at dksX6_heightOf_0 3 rfl rfl)
theorem dX6_heightOf_4 : decode cX6_heightOf 4 = .ok (.iadd, 1) := dk_96 (dk_at dksX6_heightOf_0 4 rfl rfl)
theorem dX6_heightOf_5 : decode cX6_heightOf 5 = .ok (.istore_n 3, 1) := dk_62 (dk_at dksX6_heightOf_0 5 rfl rfl)
theorem dX6_heightOf_6 : decode cX6_heightOf 6 = .ok (.iload_n 3, 1) := dk_29 (dk_at dksX6_heightOf_0 6 rfl rfl)
theorem dX6_heightOf_7 : decode cX6_heightOf 7 = .ok (.aload_n 0, 1) := dk_42 (dk_at dksX6_heightOf_0 7 rfl rfl)
theorem dX6_heightOf_8 : decode cX6_heightOf 8 = .ok (.getfield 37, 3) := dk_180 0 37 (dk_at dksX6_heightOf_0 8 rfl rfl)
theorem dX6_heightOf_11 : decode cX6_heightOf 11 = .ok (.arraylength, 1) := dk_190 (dk_at dksX6_heightOf_0 11 rfl rfl)
theorem dX6_heightOf_12 : decode cX6_heightOf 12 = .ok (.if_icmp .ge 45, 3) := dk_162 0 45 (dk_at dksX6_heightOf_0 12 rfl rfl)
theorem dX6_heightOf_15 : decode cX6_heightOf 15 = .ok (.aload_n 0, 1) := dk_42 (dk_at dksX6_heightOf_0 15 rfl rfl)
theorem dX6_heightOf_16 : decode cX6_heightOf 16 = .ok (.getfield 33, 3) := dk_180 0 33 (dk_at dksX6_heightOf_0 16 rfl rfl)
theorem dX6_heightOf_19 : decode cX6_heightOf 19 = .ok (.iload_n 3, 1) := dk_29 (dk_at dksX6_heightOf_0 19 rfl rfl)
theorem dX6_heightOf_20 : decode cX6_heightOf 20 = .ok (.aaload, 1) := dk_50 (dk_at dksX6_heightOf_0 20 rfl rfl)
theorem dX6_heightOf_21 : decode cX6_heightOf 21 = .ok (.iload_n 1, 1) := dk_27 (dk_at dksX6_heightOf_0 21 rfl rfl)
theorem dX6_heightOf_22 : decode cX6_heightOf 22 = .ok (.baload, 1) := dk_51 (dk_at dksX6_heightOf_0 22 rfl rfl)
theorem dX6_heightOf_23 : decode cX6_heightOf 23 = .ok (.ifCond .eq 26, 3) := dk_153 0 26 (dk_at dksX6_heightOf_1 0 rfl rfl)
theorem dX6_heightOf_26 : decode cX6_heightOf 26 = .ok (.iload_n 2, 1) := dk_28 (dk_at dksX6_heightOf_1 3 rfl rfl)
theorem dX6_heightOf_27 : decode cX6_heightOf 27 = .ok (.aload_n 0, 1) := dk_42 (dk_at dksX6_heightOf_1 4 rfl rfl)
theorem dX6_heightOf_28 : decode cX6_heightOf 28 = .ok (.getfield 18, 3) := dk_180 0 18 (dk_at dksX6_heightOf_1 5 rfl rfl)
theorem dX6_heightOf_31 : decode cX6_heightOf 31 = .ok (.iload_n 3, 1) := dk_29 (dk_at dksX6_heightOf_1 8 rfl rfl)
theorem dX6_heightOf_32 : decode cX6_heightOf 32 = .ok (.invokeinterface 45 2, 5) := by decide +kernel
theorem dX6_heightOf_37 : decode cX6_heightOf 37 = .ok (.checkcast 49, 3) := dk_192 0 49 (dk_at dksX6_heightOf_1 14 rfl rfl)
theorem dX6_heightOf_40 : decode cX6_heightOf 40 = .ok (.getfield 59, 3) := dk_180 0 59 (dk_at dksX6_heightOf_1 17 rfl rfl)
theorem dX6_heightOf_43 : decode cX6_heightOf 43 = .ok (.invokestatic 65, 3) := dk_184 0 65 (dk_at dksX6_heightOf_1 20 rfl rfl)
theorem dX6_heightOf_46 : decode cX6_heightOf 46 = .ok (.goto 4, 3) := dk_167 0 4 (dk_at dksX6_heightOf_2 0 rfl rfl)
theorem dX6_heightOf_49 : decode cX6_heightOf 49 = .ok (.iload_n 2, 1) := dk_28 (dk_at dksX6_heightOf_2 3 rfl rfl)
theorem dX6_heightOf_50 : decode cX6_heightOf 50 = .ok (.istore_n 2, 1) := dk_61 (dk_at dksX6_heightOf_2 4 rfl rfl)
theorem dX6_heightOf_51 : decode cX6_heightOf 51 = .ok (.iinc 3 1, 3) := dk_132 3 1 (dk_at dksX6_heightOf_2 5 rfl rfl)
theorem dX6_heightOf_54 : decode cX6_heightOf 54 = .ok (.goto (-48), 3) := dk_167 255 208 (dk_at dksX6_heightOf_2 8 rfl rfl)
theorem dX6_heightOf_57 : decode cX6_heightOf 57 = .ok (.aload_n 0, 1) := dk_42 (dk_at dksX6_heightOf_2 11 rfl rfl)
theorem dX6_heightOf_58 : decode cX6_heightOf 58 = .ok (.getfield 21, 3) := dk_180 0 21 (dk_at dksX6_heightOf_2 12 rfl rfl)
theorem dX6_heightOf_61 : decode cX6_heightOf 61 = .ok (.aload_n 0, 1) := dk_42 (dk_at dksX6_heightOf_2 15 rfl rfl)
theorem dX6_heightOf_62 : decode cX6_heightOf 62 = .ok (.getfield 18, 3) := dk_180 0 18 (dk_at dksX6_heightOf_2 16 rfl rfl)
theorem dX6_heightOf_65 : decode cX6_heightOf 65 = .ok (.iload_n 1, 1) := dk_27 (dk_at dksX6_heightOf_2 19 rfl rfl)
theorem dX6_heightOf_66 : decode cX6_heightOf 66 = .ok (.invokeinterface 45 2, 5) := by decide +kernel
theorem dX6_heightOf_71 : decode cX6_heightOf 71 = .ok (.checkcast 49, 3) := dk_192 0 49 (dk_at dksX6_heightOf_3 5 rfl rfl)
theorem dX6_heightOf_74 : decode cX6_heightOf 74 = .ok (.getfield 71, 3) := dk_180 0 71 (dk_at dksX6_heightOf_3 8 rfl rfl)
theorem dX6_heightOf_77 : decode cX6_heightOf 77 = .ok (.invokevirtual 74, 3) := dk_182 0 74 (dk_at dksX6_heightOf_3 11 rfl rfl)
theorem dX6_heightOf_80 : decode cX6_heightOf 80 = .ok (.iload_n 2, 1) := dk_28 (dk_at dksX6_heightOf_3 14 rfl rfl)
theorem dX6_heightOf_81 : decode cX6_heightOf 81 = .ok (.iadd, 1) := dk_96 (dk_at dksX6_heightOf_3 15 rfl rfl)
theorem dX6_heightOf_82 : decode cX6_heightOf 82 = .ok (.ireturn, 1) := dk_172 (dk_at dksX6_heightOf_3 16 rfl rfl)
abbrev cX6_all : ByteArray := prog_11_method_6_code
def yX6_all : MethodName := ⟨RX6, "all", "(Z)Ljava/util/List;"⟩
def dkwX6_all_3 : List UInt8 := [182, 0, 83, 42, 28, 182, 0, 87, 62, 167, 255, 240, 132, 2, 1, 167, 255, 223, 42, 180, 0, 12, 176]
abbrev dktX6_all_3 : List UInt8 := dkwX6_all_3 ++ []
def dkwX6_all_2 : List UInt8 := [167, 255, 219, 3, 61, 28, 7, 162, 0, 34, 42, 28, 182, 0, 87, 62, 29, 2, 159, 0, 17, 42, 29]
abbrev dktX6_all_2 : List UInt8 := dkwX6_all_2 ++ dktX6_all_3
def dkwX6_all_1 : List UInt8 := [28, 185, 0, 45, 2, 0, 192, 0, 49, 180, 0, 51, 2, 160, 0, 14, 42, 28, 182, 0, 83, 132, 2, 1]
abbrev dktX6_all_1 : List UInt8 := dkwX6_all_1 ++ dktX6_all_2
def dkwX6_all_0 : List UInt8 := [27, 153, 0, 8, 42, 180, 0, 18, 176, 3, 61, 28, 42, 180, 0, 37, 190, 162, 0, 34, 42, 180, 0, 18]
abbrev dktX6_all_0 : List UInt8 := dkwX6_all_0 ++ dktX6_all_1
theorem dksX6_all_0 : cX6_all.data.toList.drop 0 = dktX6_all_0 := by decide +kernel
theorem dksX6_all_1 : cX6_all.data.toList.drop 24 = dktX6_all_1 := dk_seg dksX6_all_0 24 rfl rfl
theorem dksX6_all_2 : cX6_all.data.toList.drop 48 = dktX6_all_2 := dk_seg dksX6_all_1 24 rfl rfl
theorem dksX6_all_3 : cX6_all.data.toList.drop 71 = dktX6_all_3 := dk_seg dksX6_all_2 23 rfl rfl
theorem dX6_all_0 : decode cX6_all 0 = .ok (.iload_n 1, 1) := dk_27 (dk_at dksX6_all_0 0 rfl rfl)
theorem dX6_all_1 : decode cX6_all 1 = .ok (.ifCond .eq 8, 3) := dk_153 0 8 (dk_at dksX6_all_0 1 rfl rfl)
theorem dX6_all_4 : decode cX6_all 4 = .ok (.aload_n 0, 1) := dk_42 (dk_at dksX6_all_0 4 rfl rfl)
theorem dX6_all_5 : decode cX6_all 5 = .ok (.getfield 18, 3) := dk_180 0 18 (dk_at dksX6_all_0 5 rfl rfl)
theorem dX6_all_8 : decode cX6_all 8 = .ok (.areturn, 1) := dk_176 (dk_at dksX6_all_0 8 rfl rfl)
theorem dX6_all_9 : decode cX6_all 9 = .ok (.iconst 0, 1) := dk_3 (dk_at dksX6_all_0 9 rfl rfl)
theorem dX6_all_10 : decode cX6_all 10 = .ok (.istore_n 2, 1) := dk_61 (dk_at dksX6_all_0 10 rfl rfl)
theorem dX6_all_11 : decode cX6_all 11 = .ok (.iload_n 2, 1) := dk_28 (dk_at dksX6_all_0 11 rfl rfl)
theorem dX6_all_12 : decode cX6_all 12 = .ok (.aload_n 0, 1) := dk_42 (dk_at dksX6_all_0 12 rfl rfl)
theorem dX6_all_13 : decode cX6_all 13 = .ok (.getfield 37, 3) := dk_180 0 37 (dk_at dksX6_all_0 13 rfl rfl)
theorem dX6_all_16 : decode cX6_all 16 = .ok (.arraylength, 1) := dk_190 (dk_at dksX6_all_0 16 rfl rfl)
theorem dX6_all_17 : decode cX6_all 17 = .ok (.if_icmp .ge 34, 3) := dk_162 0 34 (dk_at dksX6_all_0 17 rfl rfl)
theorem dX6_all_20 : decode cX6_all 20 = .ok (.aload_n 0, 1) := dk_42 (dk_at dksX6_all_0 20 rfl rfl)
theorem dX6_all_21 : decode cX6_all 21 = .ok (.getfield 18, 3) := dk_180 0 18 (dk_at dksX6_all_0 21 rfl rfl)
theorem dX6_all_24 : decode cX6_all 24 = .ok (.iload_n 2, 1) := dk_28 (dk_at dksX6_all_1 0 rfl rfl)
theorem dX6_all_25 : decode cX6_all 25 = .ok (.invokeinterface 45 2, 5) := by decide +kernel
theorem dX6_all_30 : decode cX6_all 30 = .ok (.checkcast 49, 3) := dk_192 0 49 (dk_at dksX6_all_1 6 rfl rfl)
theorem dX6_all_33 : decode cX6_all 33 = .ok (.getfield 51, 3) := dk_180 0 51 (dk_at dksX6_all_1 9 rfl rfl)
theorem dX6_all_36 : decode cX6_all 36 = .ok (.iconst (-1), 1) := dk_2 (dk_at dksX6_all_1 12 rfl rfl)
theorem dX6_all_37 : decode cX6_all 37 = .ok (.if_icmp .ne 14, 3) := dk_160 0 14 (dk_at dksX6_all_1 13 rfl rfl)
theorem dX6_all_40 : decode cX6_all 40 = .ok (.aload_n 0, 1) := dk_42 (dk_at dksX6_all_1 16 rfl rfl)
theorem dX6_all_41 : decode cX6_all 41 = .ok (.iload_n 2, 1) := dk_28 (dk_at dksX6_all_1 17 rfl rfl)
theorem dX6_all_42 : decode cX6_all 42 = .ok (.invokevirtual 83, 3) := dk_182 0 83 (dk_at dksX6_all_1 18 rfl rfl)
theorem dX6_all_45 : decode cX6_all 45 = .ok (.iinc 2 1, 3) := dk_132 2 1 (dk_at dksX6_all_1 21 rfl rfl)
theorem dX6_all_48 : decode cX6_all 48 = .ok (.goto (-37), 3) := dk_167 255 219 (dk_at dksX6_all_2 0 rfl rfl)
theorem dX6_all_51 : decode cX6_all 51 = .ok (.iconst 0, 1) := dk_3 (dk_at dksX6_all_2 3 rfl rfl)
theorem dX6_all_52 : decode cX6_all 52 = .ok (.istore_n 2, 1) := dk_61 (dk_at dksX6_all_2 4 rfl rfl)
theorem dX6_all_53 : decode cX6_all 53 = .ok (.iload_n 2, 1) := dk_28 (dk_at dksX6_all_2 5 rfl rfl)
theorem dX6_all_54 : decode cX6_all 54 = .ok (.iconst 4, 1) := dk_7 (dk_at dksX6_all_2 6 rfl rfl)
theorem dX6_all_55 : decode cX6_all 55 = .ok (.if_icmp .ge 34, 3) := dk_162 0 34 (dk_at dksX6_all_2 7 rfl rfl)
theorem dX6_all_58 : decode cX6_all 58 = .ok (.aload_n 0, 1) := dk_42 (dk_at dksX6_all_2 10 rfl rfl)
theorem dX6_all_59 : decode cX6_all 59 = .ok (.iload_n 2, 1) := dk_28 (dk_at dksX6_all_2 11 rfl rfl)
theorem dX6_all_60 : decode cX6_all 60 = .ok (.invokevirtual 87, 3) := dk_182 0 87 (dk_at dksX6_all_2 12 rfl rfl)
theorem dX6_all_63 : decode cX6_all 63 = .ok (.istore_n 3, 1) := dk_62 (dk_at dksX6_all_2 15 rfl rfl)
theorem dX6_all_64 : decode cX6_all 64 = .ok (.iload_n 3, 1) := dk_29 (dk_at dksX6_all_2 16 rfl rfl)
theorem dX6_all_65 : decode cX6_all 65 = .ok (.iconst (-1), 1) := dk_2 (dk_at dksX6_all_2 17 rfl rfl)
theorem dX6_all_66 : decode cX6_all 66 = .ok (.if_icmp .eq 17, 3) := dk_159 0 17 (dk_at dksX6_all_2 18 rfl rfl)
theorem dX6_all_69 : decode cX6_all 69 = .ok (.aload_n 0, 1) := dk_42 (dk_at dksX6_all_2 21 rfl rfl)
theorem dX6_all_70 : decode cX6_all 70 = .ok (.iload_n 3, 1) := dk_29 (dk_at dksX6_all_2 22 rfl rfl)
theorem dX6_all_71 : decode cX6_all 71 = .ok (.invokevirtual 83, 3) := dk_182 0 83 (dk_at dksX6_all_3 0 rfl rfl)
theorem dX6_all_74 : decode cX6_all 74 = .ok (.aload_n 0, 1) := dk_42 (dk_at dksX6_all_3 3 rfl rfl)
theorem dX6_all_75 : decode cX6_all 75 = .ok (.iload_n 2, 1) := dk_28 (dk_at dksX6_all_3 4 rfl rfl)
theorem dX6_all_76 : decode cX6_all 76 = .ok (.invokevirtual 87, 3) := dk_182 0 87 (dk_at dksX6_all_3 5 rfl rfl)
theorem dX6_all_79 : decode cX6_all 79 = .ok (.istore_n 3, 1) := dk_62 (dk_at dksX6_all_3 8 rfl rfl)
theorem dX6_all_80 : decode cX6_all 80 = .ok (.goto (-16), 3) := dk_167 255 240 (dk_at dksX6_all_3 9 rfl rfl)
theorem dX6_all_83 : decode cX6_all 83 = .ok (.iinc 2 1, 3) := dk_132 2 1 (dk_at dksX6_all_3 12 rfl rfl)
theorem dX6_all_86 : decode cX6_all 86 = .ok (.goto (-33), 3) := dk_167 255 223 (dk_at dksX6_all_3 15 rfl rfl)
theorem dX6_all_89 : decode cX6_all 89 = .ok (.aload_n 0, 1) := dk_42 (dk_at dksX6_all_3 18 rfl rfl)
theorem dX6_all_90 : decode cX6_all 90 = .ok (.getfield 12, 3) := dk_180 0 12 (dk_at dksX6_all_3 19 rfl rfl)
theorem dX6_all_93 : decode cX6_all 93 = .ok (.areturn, 1) := dk_176 (dk_at dksX6_all_3 22 rfl rfl)
abbrev cX6_place : ByteArray := prog_11_method_5_code
def yX6_place : MethodName := ⟨RX6, "place", "(I)V"⟩
def dkwX6_place_3 : List UInt8 := [167, 255, 219, 177]
abbrev dktX6_place_3 : List UInt8 := dkwX6_place_3 ++ []
def dkwX6_place_2 : List UInt8 := [92, 46, 42, 180, 0, 33, 28, 50, 27, 51, 153, 0, 7, 4, 167, 0, 4, 3, 100, 79, 132, 2, 1]
abbrev dktX6_place_2 : List UInt8 := dkwX6_place_2 ++ dktX6_place_3
def dkwX6_place_1 : List UInt8 := [180, 0, 37, 27, 2, 79, 27, 4, 96, 61, 28, 42, 180, 0, 37, 190, 162, 0, 34, 42, 180, 0, 37, 28]
abbrev dktX6_place_1 : List UInt8 := dkwX6_place_1 ++ dktX6_place_2
def dkwX6_place_0 : List UInt8 := [42, 180, 0, 12, 42, 180, 0, 18, 27, 185, 0, 45, 2, 0, 192, 0, 49, 185, 0, 79, 2, 0, 87, 42]
abbrev dktX6_place_0 : List UInt8 := dkwX6_place_0 ++ dktX6_place_1
theorem dksX6_place_0 : cX6_place.data.toList.drop 0 = dktX6_place_0 := by decide +kernel
theorem dksX6_place_1 : cX6_place.data.toList.drop 24 = dktX6_place_1 := dk_seg dksX6_place_0 24 rfl rfl
theorem dksX6_place_2 : cX6_place.data.toList.drop 48 = dktX6_place_2 := dk_seg dksX6_place_1 24 rfl rfl
theorem dksX6_place_3 : cX6_place.data.toList.drop 71 = dktX6_place_3 := dk_seg dksX6_place_2 23 rfl rfl
theorem dX6_place_0 : decode cX6_place 0 = .ok (.aload_n 0, 1) := dk_42 (dk_at dksX6_place_0 0 rfl rfl)
theorem dX6_place_1 : decode cX6_place 1 = .ok (.getfield 12, 3) := dk_180 0 12 (dk_at dksX6_place_0 1 rfl rfl)
theorem dX6_place_4 : decode cX6_place 4 = .ok (.aload_n 0, 1) := dk_42 (dk_at dksX6_place_0 4 rfl rfl)
theorem dX6_place_5 : decode cX6_place 5 = .ok (.getfield 18, 3) := dk_180 0 18 (dk_at dksX6_place_0 5 rfl rfl)
theorem dX6_place_8 : decode cX6_place 8 = .ok (.iload_n 1, 1) := dk_27 (dk_at dksX6_place_0 8 rfl rfl)
theorem dX6_place_9 : decode cX6_place 9 = .ok (.invokeinterface 45 2, 5) := by decide +kernel
theorem dX6_place_14 : decode cX6_place 14 = .ok (.checkcast 49, 3) := dk_192 0 49 (dk_at dksX6_place_0 14 rfl rfl)
theorem dX6_place_17 : decode cX6_place 17 = .ok (.invokeinterface 79 2, 5) := by decide +kernel
theorem dX6_place_22 : decode cX6_place 22 = .ok (.pop, 1) := dk_87 (dk_at dksX6_place_0 22 rfl rfl)
theorem dX6_place_23 : decode cX6_place 23 = .ok (.aload_n 0, 1) := dk_42 (dk_at dksX6_place_0 23 rfl rfl)
theorem dX6_place_24 : decode cX6_place 24 = .ok (.getfield 37, 3) := dk_180 0 37 (dk_at dksX6_place_1 0 rfl rfl)
theorem dX6_place_27 : decode cX6_place 27 = .ok (.iload_n 1, 1) := dk_27 (dk_at dksX6_place_1 3 rfl rfl)
theorem dX6_place_28 : decode cX6_place 28 = .ok (.iconst (-1), 1) := dk_2 (dk_at dksX6_place_1 4 rfl rfl)
theorem dX6_place_29 : decode cX6_place 29 = .ok (.iastore, 1) := dk_79 (dk_at dksX6_place_1 5 rfl rfl)
theorem dX6_place_30 : decode cX6_place 30 = .ok (.iload_n 1, 1) := dk_27 (dk_at dksX6_place_1 6 rfl rfl)
theorem dX6_place_31 : decode cX6_place 31 = .ok (.iconst 1, 1) := dk_4 (dk_at dksX6_place_1 7 rfl rfl)
theorem dX6_place_32 : decode cX6_place 32 = .ok (.iadd, 1) := dk_96 (dk_at dksX6_place_1 8 rfl rfl)
theorem dX6_place_33 : decode cX6_place 33 = .ok (.istore_n 2, 1) := dk_61 (dk_at dksX6_place_1 9 rfl rfl)
theorem dX6_place_34 : decode cX6_place 34 = .ok (.iload_n 2, 1) := dk_28 (dk_at dksX6_place_1 10 rfl rfl)
theorem dX6_place_35 : decode cX6_place 35 = .ok (.aload_n 0, 1) := dk_42 (dk_at dksX6_place_1 11 rfl rfl)
theorem dX6_place_36 : decode cX6_place 36 = .ok (.getfield 37, 3) := dk_180 0 37 (dk_at dksX6_place_1 12 rfl rfl)
theorem dX6_place_39 : decode cX6_place 39 = .ok (.arraylength, 1) := dk_190 (dk_at dksX6_place_1 15 rfl rfl)
theorem dX6_place_40 : decode cX6_place 40 = .ok (.if_icmp .ge 34, 3) := dk_162 0 34 (dk_at dksX6_place_1 16 rfl rfl)
theorem dX6_place_43 : decode cX6_place 43 = .ok (.aload_n 0, 1) := dk_42 (dk_at dksX6_place_1 19 rfl rfl)
theorem dX6_place_44 : decode cX6_place 44 = .ok (.getfield 37, 3) := dk_180 0 37 (dk_at dksX6_place_1 20 rfl rfl)
theorem dX6_place_47 : decode cX6_place 47 = .ok (.iload_n 2, 1) := dk_28 (dk_at dksX6_place_1 23 rfl rfl)
theorem dX6_place_48 : decode cX6_place 48 = .ok (.dup2, 1) := dk_92 (dk_at dksX6_place_2 0 rfl rfl)
theorem dX6_place_49 : decode cX6_place 49 = .ok (.iaload, 1) := dk_46 (dk_at dksX6_place_2 1 rfl rfl)
theorem dX6_place_50 : decode cX6_place 50 = .ok (.aload_n 0, 1) := dk_42 (dk_at dksX6_place_2 2 rfl rfl)
theorem dX6_place_51 : decode cX6_place 51 = .ok (.getfield 33, 3) := dk_180 0 33 (dk_at dksX6_place_2 3 rfl rfl)
theorem dX6_place_54 : decode cX6_place 54 = .ok (.iload_n 2, 1) := dk_28 (dk_at dksX6_place_2 6 rfl rfl)
theorem dX6_place_55 : decode cX6_place 55 = .ok (.aaload, 1) := dk_50 (dk_at dksX6_place_2 7 rfl rfl)
theorem dX6_place_56 : decode cX6_place 56 = .ok (.iload_n 1, 1) := dk_27 (dk_at dksX6_place_2 8 rfl rfl)
theorem dX6_place_57 : decode cX6_place 57 = .ok (.baload, 1) := dk_51 (dk_at dksX6_place_2 9 rfl rfl)
theorem dX6_place_58 : decode cX6_place 58 = .ok (.ifCond .eq 7, 3) := dk_153 0 7 (dk_at dksX6_place_2 10 rfl rfl)
theorem dX6_place_61 : decode cX6_place 61 = .ok (.iconst 1, 1) := dk_4 (dk_at dksX6_place_2 13 rfl rfl)
theorem dX6_place_62 : decode cX6_place 62 = .ok (.goto 4, 3) := dk_167 0 4 (dk_at dksX6_place_2 14 rfl rfl)
theorem dX6_place_65 : decode cX6_place 65 = .ok (.iconst 0, 1) := dk_3 (dk_at dksX6_place_2 17 rfl rfl)
theorem dX6_place_66 : decode cX6_place 66 = .ok (.isub, 1) := dk_100 (dk_at dksX6_place_2 18 rfl rfl)
theorem dX6_place_67 : decode cX6_place 67 = .ok (.iastore, 1) := dk_79 (dk_at dksX6_place_2 19 rfl rfl)
theorem dX6_place_68 : decode cX6_place 68 = .ok (.iinc 2 1, 3) := dk_132 2 1 (dk_at dksX6_place_2 20 rfl rfl)
theorem dX6_place_71 : decode cX6_place 71 = .ok (.goto (-37), 3) := dk_167 255 219 (dk_at dksX6_place_3 0 rfl rfl)
theorem dX6_place_74 : decode cX6_place 74 = .ok (.return_, 1) := dk_177 (dk_at dksX6_place_3 3 rfl rfl)
abbrev cX6_next : ByteArray := prog_11_method_4_code
def yX6_next : MethodName := ⟨RX6, "next", "(I)I"⟩
def dkwX6_next_4 : List UInt8 := [164, 0, 5, 29, 61, 132, 3, 1, 167, 255, 161, 28, 172]
abbrev dktX6_next_4 : List UInt8 := dkwX6_next_4 ++ []
def dkwX6_next_3 : List UInt8 := [192, 0, 49, 180, 0, 59, 42, 180, 0, 18, 28, 185, 0, 45, 2, 0, 192, 0, 49, 180, 0, 59]
abbrev dktX6_next_3 : List UInt8 := dkwX6_next_3 ++ dktX6_next_4
def dkwX6_next_2 : List UInt8 := [54, 4, 21, 4, 153, 0, 45, 28, 2, 159, 0, 38, 42, 180, 0, 18, 29, 185, 0, 45, 2, 0]
abbrev dktX6_next_2 : List UInt8 := dkwX6_next_2 ++ dktX6_next_3
def dkwX6_next_1 : List UInt8 := [180, 0, 18, 29, 185, 0, 45, 2, 0, 192, 0, 49, 180, 0, 51, 27, 160, 0, 7, 4, 167, 0, 4, 3]
abbrev dktX6_next_1 : List UInt8 := dkwX6_next_1 ++ dktX6_next_2
def dkwX6_next_0 : List UInt8 := [2, 61, 3, 62, 29, 42, 180, 0, 37, 190, 162, 0, 92, 42, 180, 0, 37, 29, 46, 154, 0, 27, 42]
abbrev dktX6_next_0 : List UInt8 := dkwX6_next_0 ++ dktX6_next_1
theorem dksX6_next_0 : cX6_next.data.toList.drop 0 = dktX6_next_0 := by decide +kernel
theorem dksX6_next_1 : cX6_next.data.toList.drop 23 = dktX6_next_1 := dk_seg dksX6_next_0 23 rfl rfl
theorem dksX6_next_2 : cX6_next.data.toList.drop 47 = dktX6_next_2 := dk_seg dksX6_next_1 24 rfl rfl
theorem dksX6_next_3 : cX6_next.data.toList.drop 69 = dktX6_next_3 := dk_seg dksX6_next_2 22 rfl rfl
theorem dksX6_next_4 : cX6_next.data.toList.drop 91 = dktX6_next_4 := dk_seg dksX6_next_3 22 rfl rfl
theorem dX6_next_0 : decode cX6_next 0 = .ok (.iconst (-1), 1) := dk_2 (dk_at dksX6_next_0 0 rfl rfl)
theorem dX6_next_1 : decode cX6_next 1 = .ok (.istore_n 2, 1) := dk_61 (dk_at dksX6_next_0 1 rfl rfl)
theorem dX6_next_2 : decode cX6_next 2 = .ok (.iconst 0, 1) := dk_3 (dk_at dksX6_next_0 2 rfl rfl)
theorem dX6_next_3 : decode cX6_next 3 = .ok (.istore_n 3, 1) := dk_62 (dk_at dksX6_next_0 3 rfl rfl)
theorem dX6_next_4 : decode cX6_next 4 = .ok (.iload_n 3, 1) := dk_29 (dk_at dksX6_next_0 4 rfl rfl)
theorem dX6_next_5 : decode cX6_next 5 = .ok (.aload_n 0, 1) := dk_42 (dk_at dksX6_next_0 5 rfl rfl)
theorem dX6_next_6 : decode cX6_next 6 = .ok (.getfield 37, 3) := dk_180 0 37 (dk_at dksX6_next_0 6 rfl rfl)
theorem dX6_next_9 : decode cX6_next 9 = .ok (.arraylength, 1) := dk_190 (dk_at dksX6_next_0 9 rfl rfl)
theorem dX6_next_10 : decode cX6_next 10 = .ok (.if_icmp .ge 92, 3) := dk_162 0 92 (dk_at dksX6_next_0 10 rfl rfl)
theorem dX6_next_13 : decode cX6_next 13 = .ok (.aload_n 0, 1) := dk_42 (dk_at dksX6_next_0 13 rfl rfl)
theorem dX6_next_14 : decode cX6_next 14 = .ok (.getfield 37, 3) := dk_180 0 37 (dk_at dksX6_next_0 14 rfl rfl)
theorem dX6_next_17 : decode cX6_next 17 = .ok (.iload_n 3, 1) := dk_29 (dk_at dksX6_next_0 17 rfl rfl)
theorem dX6_next_18 : decode cX6_next 18 = .ok (.iaload, 1) := dk_46 (dk_at dksX6_next_0 18 rfl rfl)
theorem dX6_next_19 : decode cX6_next 19 = .ok (.ifCond .ne 27, 3) := dk_154 0 27 (dk_at dksX6_next_0 19 rfl rfl)
theorem dX6_next_22 : decode cX6_next 22 = .ok (.aload_n 0, 1) := dk_42 (dk_at dksX6_next_0 22 rfl rfl)
theorem dX6_next_23 : decode cX6_next 23 = .ok (.getfield 18, 3) := dk_180 0 18 (dk_at dksX6_next_1 0 rfl rfl)
theorem dX6_next_26 : decode cX6_next 26 = .ok (.iload_n 3, 1) := dk_29 (dk_at dksX6_next_1 3 rfl rfl)
theorem dX6_next_27 : decode cX6_next 27 = .ok (.invokeinterface 45 2, 5) := by decide +kernel
theorem dX6_next_32 : decode cX6_next 32 = .ok (.checkcast 49, 3) := dk_192 0 49 (dk_at dksX6_next_1 9 rfl rfl)
theorem dX6_next_35 : decode cX6_next 35 = .ok (.getfield 51, 3) := dk_180 0 51 (dk_at dksX6_next_1 12 rfl rfl)
theorem dX6_next_38 : decode cX6_next 38 = .ok (.iload_n 1, 1) := dk_27 (dk_at dksX6_next_1 15 rfl rfl)
theorem dX6_next_39 : decode cX6_next 39 = .ok (.if_icmp .ne 7, 3) := dk_160 0 7 (dk_at dksX6_next_1 16 rfl rfl)
theorem dX6_next_42 : decode cX6_next 42 = .ok (.iconst 1, 1) := dk_4 (dk_at dksX6_next_1 19 rfl rfl)
theorem dX6_next_43 : decode cX6_next 43 = .ok (.goto 4, 3) := dk_167 0 4 (dk_at dksX6_next_1 20 rfl rfl)
theorem dX6_next_46 : decode cX6_next 46 = .ok (.iconst 0, 1) := dk_3 (dk_at dksX6_next_1 23 rfl rfl)
theorem dX6_next_47 : decode cX6_next 47 = .ok (.istore 4, 2) := dk_54 4 (dk_at dksX6_next_2 0 rfl rfl)
theorem dX6_next_49 : decode cX6_next 49 = .ok (.iload 4, 2) := dk_21 4 (dk_at dksX6_next_2 2 rfl rfl)
theorem dX6_next_51 : decode cX6_next 51 = .ok (.ifCond .eq 45, 3) := dk_153 0 45 (dk_at dksX6_next_2 4 rfl rfl)
theorem dX6_next_54 : decode cX6_next 54 = .ok (.iload_n 2, 1) := dk_28 (dk_at dksX6_next_2 7 rfl rfl)
theorem dX6_next_55 : decode cX6_next 55 = .ok (.iconst (-1), 1) := dk_2 (dk_at dksX6_next_2 8 rfl rfl)
theorem dX6_next_56 : decode cX6_next 56 = .ok (.if_icmp .eq 38, 3) := dk_159 0 38 (dk_at dksX6_next_2 9 rfl rfl)
theorem dX6_next_59 : decode cX6_next 59 = .ok (.aload_n 0, 1) := dk_42 (dk_at dksX6_next_2 12 rfl rfl)
theorem dX6_next_60 : decode cX6_next 60 = .ok (.getfield 18, 3) := dk_180 0 18 (dk_at dksX6_next_2 13 rfl rfl)
theorem dX6_next_63 : decode cX6_next 63 = .ok (.iload_n 3, 1) := dk_29 (dk_at dksX6_next_2 16 rfl rfl)
theorem dX6_next_64 : decode cX6_next 64 = .ok (.invokeinterface 45 2, 5) := by decide +kernel
theorem dX6_next_69 : decode cX6_next 69 = .ok (.checkcast 49, 3) := dk_192 0 49 (dk_at dksX6_next_3 0 rfl rfl)
theorem dX6_next_72 : decode cX6_next 72 = .ok (.getfield 59, 3) := dk_180 0 59 (dk_at dksX6_next_3 3 rfl rfl)
theorem dX6_next_75 : decode cX6_next 75 = .ok (.aload_n 0, 1) := dk_42 (dk_at dksX6_next_3 6 rfl rfl)
theorem dX6_next_76 : decode cX6_next 76 = .ok (.getfield 18, 3) := dk_180 0 18 (dk_at dksX6_next_3 7 rfl rfl)
theorem dX6_next_79 : decode cX6_next 79 = .ok (.iload_n 2, 1) := dk_28 (dk_at dksX6_next_3 10 rfl rfl)
theorem dX6_next_80 : decode cX6_next 80 = .ok (.invokeinterface 45 2, 5) := by decide +kernel
theorem dX6_next_85 : decode cX6_next 85 = .ok (.checkcast 49, 3) := dk_192 0 49 (dk_at dksX6_next_3 16 rfl rfl)
theorem dX6_next_88 : decode cX6_next 88 = .ok (.getfield 59, 3) := dk_180 0 59 (dk_at dksX6_next_3 19 rfl rfl)
theorem dX6_next_91 : decode cX6_next 91 = .ok (.if_icmp .le 5, 3) := dk_164 0 5 (dk_at dksX6_next_4 0 rfl rfl)
theorem dX6_next_94 : decode cX6_next 94 = .ok (.iload_n 3, 1) := dk_29 (dk_at dksX6_next_4 3 rfl rfl)
theorem dX6_next_95 : decode cX6_next 95 = .ok (.istore_n 2, 1) := dk_61 (dk_at dksX6_next_4 4 rfl rfl)
theorem dX6_next_96 : decode cX6_next 96 = .ok (.iinc 3 1, 3) := dk_132 3 1 (dk_at dksX6_next_4 5 rfl rfl)
theorem dX6_next_99 : decode cX6_next 99 = .ok (.goto (-95), 3) := dk_167 255 161 (dk_at dksX6_next_4 8 rfl rfl)
theorem dX6_next_102 : decode cX6_next 102 = .ok (.iload_n 2, 1) := dk_28 (dk_at dksX6_next_4 11 rfl rfl)
theorem dX6_next_103 : decode cX6_next 103 = .ok (.ireturn, 1) := dk_172 (dk_at dksX6_next_4 12 rfl rfl)
theorem q136 : (Jvm.Cond.initialized "SpillslotWorks$Order") ∈ lw_all := lw_g (lw_at lw_m1 17 rfl) rfl
theorem q262 : (Jvm.Cond.selects "SpillslotWorks$Order" ({ cls := "java/lang/Object", name := "getClass", desc := "()Ljava/lang/Class;" } : Jvm.MethodName) ({ cls := "java/lang/Object", name := "getClass", desc := "()Ljava/lang/Class;" } : Jvm.MethodName)) ∈ lw_all := lw_g (lw_at lw_m1 143 rfl) rfl
theorem q501 : (Jvm.Cond.instantiable "SpillslotWorks$Order" (5 : Nat)) ∈ lw_all := lw_g (lw_at lw_m2 142 rfl) rfl
theorem q527 : (Jvm.Cond.fieldLinkNest "SpillslotWorks$Order" (71 : Nat) "SpillslotWorks$Op" "kind" "I" "SpillslotWorks") ∈ lw_tbl := lw_at lw_m2 168 rfl
theorem q545 : (Jvm.Cond.fieldLinkNest "SpillslotWorks$Order" (51 : Nat) "SpillslotWorks$Op" "block" "I" "SpillslotWorks") ∈ lw_tbl := lw_at lw_m2 186 rfl
theorem q549 : (Jvm.Cond.fieldLinkNest "SpillslotWorks$Order" (59 : Nat) "SpillslotWorks$Op" "height" "I" "SpillslotWorks") ∈ lw_tbl := lw_at lw_m2 190 rfl
theorem q586 : (Jvm.Cond.instanceMethod ({ cls := "SpillslotWorks$Order", name := "<init>", desc := "(Ljava/util/List;LSpillslotWorks$Machine;)V" } : Jvm.MethodName)) ∈ lw_all := lw_g (lw_at lw_m2 227 rfl) rfl
theorem q587 : (Jvm.Cond.code ({ cls := "SpillslotWorks$Order", name := "<init>", desc := "(Ljava/util/List;LSpillslotWorks$Machine;)V" } : Jvm.MethodName) prog_11_method_1_code (4 : Nat) (Option.none : Option Jvm.ClassFile.FieldType)) ∈ lw_all := lw_g (lw_at lw_m2 228 rfl) rfl
theorem q588 : (Jvm.Cond.methodLink "SpillslotWorks$Order" (3 : Nat) ({ cls := "java/lang/Object", name := "<init>", desc := "()V" } : Jvm.MethodName)) ∈ lw_all := lw_g (lw_at lw_m2 229 rfl) rfl
theorem q589 : (Jvm.Cond.classLink "SpillslotWorks$Order" (9 : Nat) "java/util/ArrayList") ∈ lw_all := lw_g (lw_at lw_m2 230 rfl) rfl
theorem q590 : (Jvm.Cond.methodLink "SpillslotWorks$Order" (11 : Nat) ({ cls := "java/util/ArrayList", name := "<init>", desc := "()V" } : Jvm.MethodName)) ∈ lw_all := lw_g (lw_at lw_m2 231 rfl) rfl
theorem q591 : (Jvm.Cond.interfaceEntry "SpillslotWorks$Order" (25 : Nat)) ∈ lw_tbl := lw_at lw_m2 232 rfl
theorem q592 : (Jvm.Cond.methodLink "SpillslotWorks$Order" (25 : Nat) ({ cls := "java/util/List", name := "size", desc := "()I" } : Jvm.MethodName)) ∈ lw_all := lw_g (lw_at lw_m2 233 rfl) rfl
theorem q593 : (Jvm.Cond.classLink "SpillslotWorks$Order" (31 : Nat) "[Z") ∈ lw_all := lw_g (lw_at lw_m2 234 rfl) rfl
theorem q595 : (Jvm.Cond.methodLink "SpillslotWorks$Order" (41 : Nat) ({ cls := "SpillslotWorks$Order", name := "needsOf", desc := "(I)[Z" } : Jvm.MethodName)) ∈ lw_all := lw_g (lw_at lw_m2 236 rfl) rfl
theorem q596 : (Jvm.Cond.privateMethod ({ cls := "SpillslotWorks$Order", name := "needsOf", desc := "(I)[Z" } : Jvm.MethodName)) ∈ lw_tbl := lw_at lw_m2 237 rfl
theorem q597 : (Jvm.Cond.instanceMethod ({ cls := "SpillslotWorks$Order", name := "needsOf", desc := "(I)[Z" } : Jvm.MethodName)) ∈ lw_all := lw_g (lw_at lw_m2 238 rfl) rfl
theorem q598 : (Jvm.Cond.code ({ cls := "SpillslotWorks$Order", name := "needsOf", desc := "(I)[Z" } : Jvm.MethodName) prog_11_method_2_code (4 : Nat) (Option.some (Jvm.ClassFile.FieldType.array Jvm.ClassFile.FieldType.boolean))) ∈ lw_all := lw_g (lw_at lw_m2 239 rfl) rfl
theorem q599 : (Jvm.Cond.interfaceEntry "SpillslotWorks$Order" (45 : Nat)) ∈ lw_tbl := lw_at lw_m3 0 rfl
theorem q600 : (Jvm.Cond.methodLink "SpillslotWorks$Order" (45 : Nat) ({ cls := "java/util/List", name := "get", desc := "(I)Ljava/lang/Object;" } : Jvm.MethodName)) ∈ lw_all := lw_g (lw_at lw_m3 1 rfl) rfl
theorem q601 : (Jvm.Cond.classLink "SpillslotWorks$Order" (49 : Nat) "SpillslotWorks$Op") ∈ lw_all := lw_g (lw_at lw_m3 2 rfl) rfl
theorem q602 : (Jvm.Cond.methodLink "SpillslotWorks$Order" (62 : Nat) ({ cls := "SpillslotWorks$Op", name := "needs", desc := "(LSpillslotWorks$Op;)Z" } : Jvm.MethodName)) ∈ lw_all := lw_g (lw_at lw_m3 3 rfl) rfl
theorem q611 : (Jvm.Cond.methodLink "SpillslotWorks$Order" (55 : Nat) ({ cls := "SpillslotWorks$Order", name := "heightOf", desc := "(I)I" } : Jvm.MethodName)) ∈ lw_all := lw_g (lw_at lw_m3 12 rfl) rfl
theorem q612 : (Jvm.Cond.privateMethod ({ cls := "SpillslotWorks$Order", name := "heightOf", desc := "(I)I" } : Jvm.MethodName)) ∈ lw_tbl := lw_at lw_m3 13 rfl
theorem q613 : (Jvm.Cond.instanceMethod ({ cls := "SpillslotWorks$Order", name := "heightOf", desc := "(I)I" } : Jvm.MethodName)) ∈ lw_all := lw_g (lw_at lw_m3 14 rfl) rfl
theorem q614 : (Jvm.Cond.code ({ cls := "SpillslotWorks$Order", name := "heightOf", desc := "(I)I" } : Jvm.MethodName) prog_11_method_3_code (4 : Nat) (Option.some Jvm.ClassFile.FieldType.int)) ∈ lw_all := lw_g (lw_at lw_m3 15 rfl) rfl
theorem q615 : (Jvm.Cond.methodLink "SpillslotWorks$Order" (65 : Nat) ({ cls := "java/lang/Math", name := "max", desc := "(II)I" } : Jvm.MethodName)) ∈ lw_all := lw_g (lw_at lw_m3 16 rfl) rfl
theorem q616 : (Jvm.Cond.methodLink "SpillslotWorks$Order" (74 : Nat) ({ cls := "SpillslotWorks$Machine", name := "latency", desc := "(I)I" } : Jvm.MethodName)) ∈ lw_all := lw_g (lw_at lw_m3 17 rfl) rfl
theorem q617 : (Jvm.Cond.fieldLink "SpillslotWorks$Order" (18 : Nat) "SpillslotWorks$Order" "from" "Ljava/util/List;") ∈ lw_all := lw_g (lw_at lw_m3 18 rfl) rfl
theorem q618 : (Jvm.Cond.fieldLink "SpillslotWorks$Order" (21 : Nat) "SpillslotWorks$Order" "machine" "LSpillslotWorks$Machine;") ∈ lw_all := lw_g (lw_at lw_m3 19 rfl) rfl
theorem q619 : (Jvm.Cond.fieldLink "SpillslotWorks$Order" (12 : Nat) "SpillslotWorks$Order" "made" "Ljava/util/List;") ∈ lw_all := lw_g (lw_at lw_m3 20 rfl) rfl
theorem q620 : (Jvm.Cond.fieldLink "SpillslotWorks$Order" (33 : Nat) "SpillslotWorks$Order" "needs" "[[Z") ∈ lw_all := lw_g (lw_at lw_m3 21 rfl) rfl
theorem q621 : (Jvm.Cond.fieldLink "SpillslotWorks$Order" (37 : Nat) "SpillslotWorks$Order" "waits" "[I") ∈ lw_all := lw_g (lw_at lw_m3 22 rfl) rfl
theorem q622 : (Jvm.Cond.laysFinal "SpillslotWorks$Order" "SpillslotWorks$Order" "from" "Ljava/util/List;") ∈ lw_all := lw_g (lw_at lw_m3 23 rfl) rfl
theorem q623 : (Jvm.Cond.soleField "SpillslotWorks$Order" "from") ∈ lw_all := lw_g (lw_at lw_m3 24 rfl) rfl
theorem q624 : (Jvm.Cond.laysFinal "SpillslotWorks$Order" "SpillslotWorks$Order" "machine" "LSpillslotWorks$Machine;") ∈ lw_all := lw_g (lw_at lw_m3 25 rfl) rfl
theorem q625 : (Jvm.Cond.soleField "SpillslotWorks$Order" "machine") ∈ lw_all := lw_g (lw_at lw_m3 26 rfl) rfl
theorem q626 : (Jvm.Cond.laysFinal "SpillslotWorks$Order" "SpillslotWorks$Order" "made" "Ljava/util/List;") ∈ lw_all := lw_g (lw_at lw_m3 27 rfl) rfl
theorem q627 : (Jvm.Cond.soleField "SpillslotWorks$Order" "made") ∈ lw_all := lw_g (lw_at lw_m3 28 rfl) rfl
theorem q628 : (Jvm.Cond.laysFinal "SpillslotWorks$Order" "SpillslotWorks$Order" "needs" "[[Z") ∈ lw_all := lw_g (lw_at lw_m3 29 rfl) rfl
theorem q629 : (Jvm.Cond.soleField "SpillslotWorks$Order" "needs") ∈ lw_all := lw_g (lw_at lw_m3 30 rfl) rfl
theorem q630 : (Jvm.Cond.laysFinal "SpillslotWorks$Order" "SpillslotWorks$Order" "waits" "[I") ∈ lw_all := lw_g (lw_at lw_m3 31 rfl) rfl
theorem q631 : (Jvm.Cond.soleField "SpillslotWorks$Order" "waits") ∈ lw_all := lw_g (lw_at lw_m3 32 rfl) rfl
theorem q632 : (Jvm.Cond.superclass "SpillslotWorks$Order" "java/lang/Object") ∈ lw_all := lw_g (lw_at lw_m3 33 rfl) rfl
theorem q635 : (Jvm.Cond.instanceMethod ({ cls := "SpillslotWorks$Order", name := "all", desc := "(Z)Ljava/util/List;" } : Jvm.MethodName)) ∈ lw_all := lw_g (lw_at lw_m3 36 rfl) rfl
theorem q636 : (Jvm.Cond.selects "SpillslotWorks$Order" ({ cls := "SpillslotWorks$Order", name := "all", desc := "(Z)Ljava/util/List;" } : Jvm.MethodName) ({ cls := "SpillslotWorks$Order", name := "all", desc := "(Z)Ljava/util/List;" } : Jvm.MethodName)) ∈ lw_all := lw_g (lw_at lw_m3 37 rfl) rfl
theorem q637 : (Jvm.Cond.code ({ cls := "SpillslotWorks$Order", name := "all", desc := "(Z)Ljava/util/List;" } : Jvm.MethodName) prog_11_method_6_code (4 : Nat) (Option.some (Jvm.ClassFile.FieldType.object "java/util/List"))) ∈ lw_all := lw_g (lw_at lw_m3 38 rfl) rfl
theorem q638 : (Jvm.Cond.methodLink "SpillslotWorks$Order" (83 : Nat) ({ cls := "SpillslotWorks$Order", name := "place", desc := "(I)V" } : Jvm.MethodName)) ∈ lw_all := lw_g (lw_at lw_m3 39 rfl) rfl
theorem q639 : (Jvm.Cond.privateMethod ({ cls := "SpillslotWorks$Order", name := "place", desc := "(I)V" } : Jvm.MethodName)) ∈ lw_tbl := lw_at lw_m3 40 rfl
theorem q640 : (Jvm.Cond.instanceMethod ({ cls := "SpillslotWorks$Order", name := "place", desc := "(I)V" } : Jvm.MethodName)) ∈ lw_all := lw_g (lw_at lw_m3 41 rfl) rfl
theorem q641 : (Jvm.Cond.code ({ cls := "SpillslotWorks$Order", name := "place", desc := "(I)V" } : Jvm.MethodName) prog_11_method_5_code (3 : Nat) (Option.none : Option Jvm.ClassFile.FieldType)) ∈ lw_all := lw_g (lw_at lw_m3 42 rfl) rfl
theorem q642 : (Jvm.Cond.interfaceEntry "SpillslotWorks$Order" (79 : Nat)) ∈ lw_tbl := lw_at lw_m3 43 rfl
theorem q643 : (Jvm.Cond.methodLink "SpillslotWorks$Order" (79 : Nat) ({ cls := "java/util/List", name := "add", desc := "(Ljava/lang/Object;)Z" } : Jvm.MethodName)) ∈ lw_all := lw_g (lw_at lw_m3 44 rfl) rfl
theorem q644 : (Jvm.Cond.methodLink "SpillslotWorks$Order" (87 : Nat) ({ cls := "SpillslotWorks$Order", name := "next", desc := "(I)I" } : Jvm.MethodName)) ∈ lw_all := lw_g (lw_at lw_m3 45 rfl) rfl
theorem q645 : (Jvm.Cond.privateMethod ({ cls := "SpillslotWorks$Order", name := "next", desc := "(I)I" } : Jvm.MethodName)) ∈ lw_tbl := lw_at lw_m3 46 rfl
theorem q646 : (Jvm.Cond.instanceMethod ({ cls := "SpillslotWorks$Order", name := "next", desc := "(I)I" } : Jvm.MethodName)) ∈ lw_all := lw_g (lw_at lw_m3 47 rfl) rfl
theorem q647 : (Jvm.Cond.code ({ cls := "SpillslotWorks$Order", name := "next", desc := "(I)I" } : Jvm.MethodName) prog_11_method_4_code (5 : Nat) (Option.some Jvm.ClassFile.FieldType.int)) ∈ lw_all := lw_g (lw_at lw_m3 48 rfl) rfl
theorem q2307 : (Jvm.Cond.selects "SpillslotWorks$Order" ({ cls := "java/lang/Object", name := "equals", desc := "(Ljava/lang/Object;)Z" } : Jvm.MethodName) ({ cls := "java/lang/Object", name := "equals", desc := "(Ljava/lang/Object;)Z" } : Jvm.MethodName)) ∈ lw_all := lw_g (lw_at lw_m10 28 rfl) rfl
theorem q2862 : (Jvm.Cond.castable "SpillslotWorks$Order" "java/lang/Object") ∈ lw_tbl := lw_at lw_m12 103 rfl
theorem in_X6 : ∀ w ∈ wsX60, w ∈ lw_all := lw_in wsX60 [622, 624, 626, 628, 630] (by decide +kernel) (by decide +kernel)
/-! SpillslotWorks$Op -/
def RX7 : String := "SpillslotWorks$Op"
def TX7 : u_T := fun k => match k with
  | 0 => ("SpillslotWorks$Op", "kind", "I", true)
  | 1 => ("SpillslotWorks$Op", "write", "I", true)
  | 2 => ("SpillslotWorks$Op", "reads", "[I", true)
  | 3 => ("SpillslotWorks$Op", "n", "I", true)
  | 4 => ("SpillslotWorks$Op", "block", "I", true)
  | _ => ("SpillslotWorks$Op", "height", "I", false)
def tyX7 : Nat → FieldType := fun k => match k with
  | 0 => .int
  | 1 => .int
  | 2 => .array .int
  | 3 => .int
  | 4 => .int
  | _ => .int
abbrev wsX70 : List Cond := u_ws RX7 TX7 6
theorem nmX7 : ∀ a, a < 6 → ∀ b, b < 6 → a ≠ b → (TX7 a).2.1 ≠ (TX7 b).2.1 := by decide +kernel
theorem tyX7_ok : ∀ k, k < 6 → parseFieldDescriptor (TX7 k).2.2.1 = some (tyX7 k) := by decide +kernel
abbrev cX7_init : ByteArray := prog_10_method_1_code
def yX7_init : MethodName := ⟨RX7, "<init>", "(IIII[I)V"⟩
def dkwX7_init_1 : List UInt8 := [181, 0, 21, 42, 25, 5, 181, 0, 24, 177]
abbrev dktX7_init_1 : List UInt8 := dkwX7_init_1 ++ []
def dkwX7_init_0 : List UInt8 := [42, 183, 0, 3, 42, 27, 181, 0, 9, 42, 28, 181, 0, 15, 42, 29, 181, 0, 18, 42, 21, 4]
abbrev dktX7_init_0 : List UInt8 := dkwX7_init_0 ++ dktX7_init_1
theorem dksX7_init_0 : cX7_init.data.toList.drop 0 = dktX7_init_0 := by decide +kernel
theorem dksX7_init_1 : cX7_init.data.toList.drop 22 = dktX7_init_1 := dk_seg dksX7_init_0 22 rfl rfl
theorem dX7_init_0 : decode cX7_init 0 = .ok (.aload_n 0, 1) := dk_42 (dk_at dksX7_init_0 0 rfl rfl)
theorem dX7_init_1 : decode cX7_init 1 = .ok (.invokespecial 3, 3) := dk_183 0 3 (dk_at dksX7_init_0 1 rfl rfl)
theorem dX7_init_4 : decode cX7_init 4 = .ok (.aload_n 0, 1) := dk_42 (dk_at dksX7_init_0 4 rfl rfl)
theorem dX7_init_5 : decode cX7_init 5 = .ok (.iload_n 1, 1) := dk_27 (dk_at dksX7_init_0 5 rfl rfl)
theorem dX7_init_6 : decode cX7_init 6 = .ok (.putfield 9, 3) := dk_181 0 9 (dk_at dksX7_init_0 6 rfl rfl)
theorem dX7_init_9 : decode cX7_init 9 = .ok (.aload_n 0, 1) := dk_42 (dk_at dksX7_init_0 9 rfl rfl)
theorem dX7_init_10 : decode cX7_init 10 = .ok (.iload_n 2, 1) := dk_28 (dk_at dksX7_init_0 10 rfl rfl)
theorem dX7_init_11 : decode cX7_init 11 = .ok (.putfield 15, 3) := dk_181 0 15 (dk_at dksX7_init_0 11 rfl rfl)
theorem dX7_init_14 : decode cX7_init 14 = .ok (.aload_n 0, 1) := dk_42 (dk_at dksX7_init_0 14 rfl rfl)
theorem dX7_init_15 : decode cX7_init 15 = .ok (.iload_n 3, 1) := dk_29 (dk_at dksX7_init_0 15 rfl rfl)
theorem dX7_init_16 : decode cX7_init 16 = .ok (.putfield 18, 3) := dk_181 0 18 (dk_at dksX7_init_0 16 rfl rfl)
theorem dX7_init_19 : decode cX7_init 19 = .ok (.aload_n 0, 1) := dk_42 (dk_at dksX7_init_0 19 rfl rfl)
theorem dX7_init_20 : decode cX7_init 20 = .ok (.iload 4, 2) := dk_21 4 (dk_at dksX7_init_0 20 rfl rfl)
theorem dX7_init_22 : decode cX7_init 22 = .ok (.putfield 21, 3) := dk_181 0 21 (dk_at dksX7_init_1 0 rfl rfl)
theorem dX7_init_25 : decode cX7_init 25 = .ok (.aload_n 0, 1) := dk_42 (dk_at dksX7_init_1 3 rfl rfl)
theorem dX7_init_26 : decode cX7_init 26 = .ok (.aload 5, 2) := dk_25 5 (dk_at dksX7_init_1 4 rfl rfl)
theorem dX7_init_28 : decode cX7_init 28 = .ok (.putfield 24, 3) := dk_181 0 24 (dk_at dksX7_init_1 6 rfl rfl)
theorem dX7_init_31 : decode cX7_init 31 = .ok (.return_, 1) := dk_177 (dk_at dksX7_init_1 9 rfl rfl)
abbrev cX7_reads : ByteArray := prog_10_method_2_code
def yX7_reads : MethodName := ⟨RX7, "reads", "(I)I"⟩
def dkwX7_reads_2 : List UInt8 := [172]
abbrev dktX7_reads_2 : List UInt8 := dkwX7_reads_2 ++ []
def dkwX7_reads_1 : List UInt8 := [46, 54, 6, 28, 21, 6, 27, 160, 0, 7, 4, 167, 0, 4, 3, 96, 61, 132, 5, 1, 167, 255, 226, 28]
abbrev dktX7_reads_1 : List UInt8 := dkwX7_reads_1 ++ dktX7_reads_2
def dkwX7_reads_0 : List UInt8 := [3, 61, 42, 180, 0, 24, 78, 45, 190, 54, 4, 3, 54, 5, 21, 5, 21, 4, 162, 0, 29, 45, 21, 5]
abbrev dktX7_reads_0 : List UInt8 := dkwX7_reads_0 ++ dktX7_reads_1
theorem dksX7_reads_0 : cX7_reads.data.toList.drop 0 = dktX7_reads_0 := by decide +kernel
theorem dksX7_reads_1 : cX7_reads.data.toList.drop 24 = dktX7_reads_1 := dk_seg dksX7_reads_0 24 rfl rfl
theorem dksX7_reads_2 : cX7_reads.data.toList.drop 48 = dktX7_reads_2 := dk_seg dksX7_reads_1 24 rfl rfl
theorem dX7_reads_0 : decode cX7_reads 0 = .ok (.iconst 0, 1) := dk_3 (dk_at dksX7_reads_0 0 rfl rfl)
theorem dX7_reads_1 : decode cX7_reads 1 = .ok (.istore_n 2, 1) := dk_61 (dk_at dksX7_reads_0 1 rfl rfl)
theorem dX7_reads_2 : decode cX7_reads 2 = .ok (.aload_n 0, 1) := dk_42 (dk_at dksX7_reads_0 2 rfl rfl)
theorem dX7_reads_3 : decode cX7_reads 3 = .ok (.getfield 24, 3) := dk_180 0 24 (dk_at dksX7_reads_0 3 rfl rfl)
theorem dX7_reads_6 : decode cX7_reads 6 = .ok (.astore_n 3, 1) := dk_78 (dk_at dksX7_reads_0 6 rfl rfl)
theorem dX7_reads_7 : decode cX7_reads 7 = .ok (.aload_n 3, 1) := dk_45 (dk_at dksX7_reads_0 7 rfl rfl)
theorem dX7_reads_8 : decode cX7_reads 8 = .ok (.arraylength, 1) := dk_190 (dk_at dksX7_reads_0 8 rfl rfl)
theorem dX7_reads_9 : decode cX7_reads 9 = .ok (.istore 4, 2) := dk_54 4 (dk_at dksX7_reads_0 9 rfl rfl)
theorem dX7_reads_11 : decode cX7_reads 11 = .ok (.iconst 0, 1) := dk_3 (dk_at dksX7_reads_0 11 rfl rfl)
theorem dX7_reads_12 : decode cX7_reads 12 = .ok (.istore 5, 2) := dk_54 5 (dk_at dksX7_reads_0 12 rfl rfl)
theorem dX7_reads_14 : decode cX7_reads 14 = .ok (.iload 5, 2) := dk_21 5 (dk_at dksX7_reads_0 14 rfl rfl)
theorem dX7_reads_16 : decode cX7_reads 16 = .ok (.iload 4, 2) := dk_21 4 (dk_at dksX7_reads_0 16 rfl rfl)
theorem dX7_reads_18 : decode cX7_reads 18 = .ok (.if_icmp .ge 29, 3) := dk_162 0 29 (dk_at dksX7_reads_0 18 rfl rfl)
theorem dX7_reads_21 : decode cX7_reads 21 = .ok (.aload_n 3, 1) := dk_45 (dk_at dksX7_reads_0 21 rfl rfl)
theorem dX7_reads_22 : decode cX7_reads 22 = .ok (.iload 5, 2) := dk_21 5 (dk_at dksX7_reads_0 22 rfl rfl)
theorem dX7_reads_24 : decode cX7_reads 24 = .ok (.iaload, 1) := dk_46 (dk_at dksX7_reads_1 0 rfl rfl)
theorem dX7_reads_25 : decode cX7_reads 25 = .ok (.istore 6, 2) := dk_54 6 (dk_at dksX7_reads_1 1 rfl rfl)
theorem dX7_reads_27 : decode cX7_reads 27 = .ok (.iload_n 2, 1) := dk_28 (dk_at dksX7_reads_1 3 rfl rfl)
theorem dX7_reads_28 : decode cX7_reads 28 = .ok (.iload 6, 2) := dk_21 6 (dk_at dksX7_reads_1 4 rfl rfl)
theorem dX7_reads_30 : decode cX7_reads 30 = .ok (.iload_n 1, 1) := dk_27 (dk_at dksX7_reads_1 6 rfl rfl)
theorem dX7_reads_31 : decode cX7_reads 31 = .ok (.if_icmp .ne 7, 3) := dk_160 0 7 (dk_at dksX7_reads_1 7 rfl rfl)
theorem dX7_reads_34 : decode cX7_reads 34 = .ok (.iconst 1, 1) := dk_4 (dk_at dksX7_reads_1 10 rfl rfl)
theorem dX7_reads_35 : decode cX7_reads 35 = .ok (.goto 4, 3) := dk_167 0 4 (dk_at dksX7_reads_1 11 rfl rfl)
theorem dX7_reads_38 : decode cX7_reads 38 = .ok (.iconst 0, 1) := dk_3 (dk_at dksX7_reads_1 14 rfl rfl)
theorem dX7_reads_39 : decode cX7_reads 39 = .ok (.iadd, 1) := dk_96 (dk_at dksX7_reads_1 15 rfl rfl)
theorem dX7_reads_40 : decode cX7_reads 40 = .ok (.istore_n 2, 1) := dk_61 (dk_at dksX7_reads_1 16 rfl rfl)
theorem dX7_reads_41 : decode cX7_reads 41 = .ok (.iinc 5 1, 3) := dk_132 5 1 (dk_at dksX7_reads_1 17 rfl rfl)
theorem dX7_reads_44 : decode cX7_reads 44 = .ok (.goto (-30), 3) := dk_167 255 226 (dk_at dksX7_reads_1 20 rfl rfl)
theorem dX7_reads_47 : decode cX7_reads 47 = .ok (.iload_n 2, 1) := dk_28 (dk_at dksX7_reads_1 23 rfl rfl)
theorem dX7_reads_48 : decode cX7_reads 48 = .ok (.ireturn, 1) := dk_172 (dk_at dksX7_reads_2 0 rfl rfl)
abbrev cX7_needs : ByteArray := prog_10_method_4_code
def yX7_needs : MethodName := ⟨RX7, "needs", "(LSpillslotWorks$Op;)Z"⟩
def dkwX7_needs_2 : List UInt8 := [182, 0, 31, 153, 0, 16, 43, 16, 9, 182, 0, 31, 153, 0, 7, 4, 167, 0, 4, 3, 172]
abbrev dktX7_needs_2 : List UInt8 := dkwX7_needs_2 ++ []
def dkwX7_needs_1 : List UInt8 := [180, 0, 15, 182, 0, 28, 158, 0, 7, 4, 167, 0, 4, 3, 61, 28, 154, 0, 21, 42, 16, 9]
abbrev dktX7_needs_1 : List UInt8 := dkwX7_needs_1 ++ dktX7_needs_2
def dkwX7_needs_0 : List UInt8 := [42, 43, 180, 0, 15, 182, 0, 28, 157, 0, 25, 42, 180, 0, 15, 43, 180, 0, 15, 159, 0, 14, 43, 42]
abbrev dktX7_needs_0 : List UInt8 := dkwX7_needs_0 ++ dktX7_needs_1
theorem dksX7_needs_0 : cX7_needs.data.toList.drop 0 = dktX7_needs_0 := by decide +kernel
theorem dksX7_needs_1 : cX7_needs.data.toList.drop 24 = dktX7_needs_1 := dk_seg dksX7_needs_0 24 rfl rfl
theorem dksX7_needs_2 : cX7_needs.data.toList.drop 46 = dktX7_needs_2 := dk_seg dksX7_needs_1 22 rfl rfl
theorem dX7_needs_0 : decode cX7_needs 0 = .ok (.aload_n 0, 1) := dk_42 (dk_at dksX7_needs_0 0 rfl rfl)
theorem dX7_needs_1 : decode cX7_needs 1 = .ok (.aload_n 1, 1) := dk_43 (dk_at dksX7_needs_0 1 rfl rfl)
theorem dX7_needs_2 : decode cX7_needs 2 = .ok (.getfield 15, 3) := dk_180 0 15 (dk_at dksX7_needs_0 2 rfl rfl)
theorem dX7_needs_5 : decode cX7_needs 5 = .ok (.invokevirtual 28, 3) := dk_182 0 28 (dk_at dksX7_needs_0 5 rfl rfl)
theorem dX7_needs_8 : decode cX7_needs 8 = .ok (.ifCond .gt 25, 3) := dk_157 0 25 (dk_at dksX7_needs_0 8 rfl rfl)
theorem dX7_needs_11 : decode cX7_needs 11 = .ok (.aload_n 0, 1) := dk_42 (dk_at dksX7_needs_0 11 rfl rfl)
theorem dX7_needs_12 : decode cX7_needs 12 = .ok (.getfield 15, 3) := dk_180 0 15 (dk_at dksX7_needs_0 12 rfl rfl)
theorem dX7_needs_15 : decode cX7_needs 15 = .ok (.aload_n 1, 1) := dk_43 (dk_at dksX7_needs_0 15 rfl rfl)
theorem dX7_needs_16 : decode cX7_needs 16 = .ok (.getfield 15, 3) := dk_180 0 15 (dk_at dksX7_needs_0 16 rfl rfl)
theorem dX7_needs_19 : decode cX7_needs 19 = .ok (.if_icmp .eq 14, 3) := dk_159 0 14 (dk_at dksX7_needs_0 19 rfl rfl)
theorem dX7_needs_22 : decode cX7_needs 22 = .ok (.aload_n 1, 1) := dk_43 (dk_at dksX7_needs_0 22 rfl rfl)
theorem dX7_needs_23 : decode cX7_needs 23 = .ok (.aload_n 0, 1) := dk_42 (dk_at dksX7_needs_0 23 rfl rfl)
theorem dX7_needs_24 : decode cX7_needs 24 = .ok (.getfield 15, 3) := dk_180 0 15 (dk_at dksX7_needs_1 0 rfl rfl)
theorem dX7_needs_27 : decode cX7_needs 27 = .ok (.invokevirtual 28, 3) := dk_182 0 28 (dk_at dksX7_needs_1 3 rfl rfl)
theorem dX7_needs_30 : decode cX7_needs 30 = .ok (.ifCond .le 7, 3) := dk_158 0 7 (dk_at dksX7_needs_1 6 rfl rfl)
theorem dX7_needs_33 : decode cX7_needs 33 = .ok (.iconst 1, 1) := dk_4 (dk_at dksX7_needs_1 9 rfl rfl)
theorem dX7_needs_34 : decode cX7_needs 34 = .ok (.goto 4, 3) := dk_167 0 4 (dk_at dksX7_needs_1 10 rfl rfl)
theorem dX7_needs_37 : decode cX7_needs 37 = .ok (.iconst 0, 1) := dk_3 (dk_at dksX7_needs_1 13 rfl rfl)
theorem dX7_needs_38 : decode cX7_needs 38 = .ok (.istore_n 2, 1) := dk_61 (dk_at dksX7_needs_1 14 rfl rfl)
theorem dX7_needs_39 : decode cX7_needs 39 = .ok (.iload_n 2, 1) := dk_28 (dk_at dksX7_needs_1 15 rfl rfl)
theorem dX7_needs_40 : decode cX7_needs 40 = .ok (.ifCond .ne 21, 3) := dk_154 0 21 (dk_at dksX7_needs_1 16 rfl rfl)
theorem dX7_needs_43 : decode cX7_needs 43 = .ok (.aload_n 0, 1) := dk_42 (dk_at dksX7_needs_1 19 rfl rfl)
theorem dX7_needs_44 : decode cX7_needs 44 = .ok (.bipush 9, 2) := dk_16 9 (dk_at dksX7_needs_1 20 rfl rfl)
theorem dX7_needs_46 : decode cX7_needs 46 = .ok (.invokevirtual 31, 3) := dk_182 0 31 (dk_at dksX7_needs_2 0 rfl rfl)
theorem dX7_needs_49 : decode cX7_needs 49 = .ok (.ifCond .eq 16, 3) := dk_153 0 16 (dk_at dksX7_needs_2 3 rfl rfl)
theorem dX7_needs_52 : decode cX7_needs 52 = .ok (.aload_n 1, 1) := dk_43 (dk_at dksX7_needs_2 6 rfl rfl)
theorem dX7_needs_53 : decode cX7_needs 53 = .ok (.bipush 9, 2) := dk_16 9 (dk_at dksX7_needs_2 7 rfl rfl)
theorem dX7_needs_55 : decode cX7_needs 55 = .ok (.invokevirtual 31, 3) := dk_182 0 31 (dk_at dksX7_needs_2 9 rfl rfl)
theorem dX7_needs_58 : decode cX7_needs 58 = .ok (.ifCond .eq 7, 3) := dk_153 0 7 (dk_at dksX7_needs_2 12 rfl rfl)
theorem dX7_needs_61 : decode cX7_needs 61 = .ok (.iconst 1, 1) := dk_4 (dk_at dksX7_needs_2 15 rfl rfl)
theorem dX7_needs_62 : decode cX7_needs 62 = .ok (.goto 4, 3) := dk_167 0 4 (dk_at dksX7_needs_2 16 rfl rfl)
theorem dX7_needs_65 : decode cX7_needs 65 = .ok (.iconst 0, 1) := dk_3 (dk_at dksX7_needs_2 19 rfl rfl)
theorem dX7_needs_66 : decode cX7_needs 66 = .ok (.ireturn, 1) := dk_172 (dk_at dksX7_needs_2 20 rfl rfl)
abbrev cX7_is : ByteArray := prog_10_method_3_code
def yX7_is : MethodName := ⟨RX7, "is", "(I)Z"⟩
def dkwX7_is_0 : List UInt8 := [42, 180, 0, 9, 27, 160, 0, 7, 4, 167, 0, 4, 3, 172]
abbrev dktX7_is_0 : List UInt8 := dkwX7_is_0 ++ []
theorem dksX7_is_0 : cX7_is.data.toList.drop 0 = dktX7_is_0 := by decide +kernel
theorem dX7_is_0 : decode cX7_is 0 = .ok (.aload_n 0, 1) := dk_42 (dk_at dksX7_is_0 0 rfl rfl)
theorem dX7_is_1 : decode cX7_is 1 = .ok (.getfield 9, 3) := dk_180 0 9 (dk_at dksX7_is_0 1 rfl rfl)
theorem dX7_is_4 : decode cX7_is 4 = .ok (.iload_n 1, 1) := dk_27 (dk_at dksX7_is_0 4 rfl rfl)
theorem dX7_is_5 : decode cX7_is 5 = .ok (.if_icmp .ne 7, 3) := dk_160 0 7 (dk_at dksX7_is_0 5 rfl rfl)
theorem dX7_is_8 : decode cX7_is 8 = .ok (.iconst 1, 1) := dk_4 (dk_at dksX7_is_0 8 rfl rfl)
theorem dX7_is_9 : decode cX7_is 9 = .ok (.goto 4, 3) := dk_167 0 4 (dk_at dksX7_is_0 9 rfl rfl)
theorem dX7_is_12 : decode cX7_is 12 = .ok (.iconst 0, 1) := dk_3 (dk_at dksX7_is_0 12 rfl rfl)
theorem dX7_is_13 : decode cX7_is 13 = .ok (.ireturn, 1) := dk_172 (dk_at dksX7_is_0 13 rfl rfl)
theorem q137 : (Jvm.Cond.initialized "SpillslotWorks$Op") ∈ lw_all := lw_g (lw_at lw_m1 18 rfl) rfl
theorem q261 : (Jvm.Cond.selects "SpillslotWorks$Op" ({ cls := "java/lang/Object", name := "getClass", desc := "()Ljava/lang/Class;" } : Jvm.MethodName) ({ cls := "java/lang/Object", name := "getClass", desc := "()Ljava/lang/Class;" } : Jvm.MethodName)) ∈ lw_all := lw_g (lw_at lw_m1 142 rfl) rfl
theorem q521 : (Jvm.Cond.instantiable "SpillslotWorks$Op" (6 : Nat)) ∈ lw_all := lw_g (lw_at lw_m2 162 rfl) rfl
theorem q523 : (Jvm.Cond.instanceMethod ({ cls := "SpillslotWorks$Op", name := "<init>", desc := "(IIII[I)V" } : Jvm.MethodName)) ∈ lw_all := lw_g (lw_at lw_m2 164 rfl) rfl
theorem q524 : (Jvm.Cond.code ({ cls := "SpillslotWorks$Op", name := "<init>", desc := "(IIII[I)V" } : Jvm.MethodName) prog_10_method_1_code (6 : Nat) (Option.none : Option Jvm.ClassFile.FieldType)) ∈ lw_all := lw_g (lw_at lw_m2 165 rfl) rfl
theorem q525 : (Jvm.Cond.methodLink "SpillslotWorks$Op" (3 : Nat) ({ cls := "java/lang/Object", name := "<init>", desc := "()V" } : Jvm.MethodName)) ∈ lw_all := lw_g (lw_at lw_m2 166 rfl) rfl
theorem q526 : (Jvm.Cond.fieldLink "SpillslotWorks$Op" (9 : Nat) "SpillslotWorks$Op" "kind" "I") ∈ lw_all := lw_g (lw_at lw_m2 167 rfl) rfl
theorem q530 : (Jvm.Cond.fieldLink "SpillslotWorks$Op" (15 : Nat) "SpillslotWorks$Op" "write" "I") ∈ lw_all := lw_g (lw_at lw_m2 171 rfl) rfl
theorem q536 : (Jvm.Cond.fieldLink "SpillslotWorks$Op" (24 : Nat) "SpillslotWorks$Op" "reads" "[I") ∈ lw_all := lw_g (lw_at lw_m2 177 rfl) rfl
theorem q540 : (Jvm.Cond.fieldLink "SpillslotWorks$Op" (18 : Nat) "SpillslotWorks$Op" "n" "I") ∈ lw_all := lw_g (lw_at lw_m2 181 rfl) rfl
theorem q544 : (Jvm.Cond.fieldLink "SpillslotWorks$Op" (21 : Nat) "SpillslotWorks$Op" "block" "I") ∈ lw_all := lw_g (lw_at lw_m2 185 rfl) rfl
theorem q551 : (Jvm.Cond.laysFinal "SpillslotWorks$Op" "SpillslotWorks$Op" "kind" "I") ∈ lw_all := lw_g (lw_at lw_m2 192 rfl) rfl
theorem q552 : (Jvm.Cond.soleField "SpillslotWorks$Op" "kind") ∈ lw_all := lw_g (lw_at lw_m2 193 rfl) rfl
theorem q553 : (Jvm.Cond.laysFinal "SpillslotWorks$Op" "SpillslotWorks$Op" "write" "I") ∈ lw_all := lw_g (lw_at lw_m2 194 rfl) rfl
theorem q554 : (Jvm.Cond.soleField "SpillslotWorks$Op" "write") ∈ lw_all := lw_g (lw_at lw_m2 195 rfl) rfl
theorem q555 : (Jvm.Cond.laysFinal "SpillslotWorks$Op" "SpillslotWorks$Op" "reads" "[I") ∈ lw_all := lw_g (lw_at lw_m2 196 rfl) rfl
theorem q556 : (Jvm.Cond.soleField "SpillslotWorks$Op" "reads") ∈ lw_all := lw_g (lw_at lw_m2 197 rfl) rfl
theorem q557 : (Jvm.Cond.laysFinal "SpillslotWorks$Op" "SpillslotWorks$Op" "n" "I") ∈ lw_all := lw_g (lw_at lw_m2 198 rfl) rfl
theorem q558 : (Jvm.Cond.soleField "SpillslotWorks$Op" "n") ∈ lw_all := lw_g (lw_at lw_m2 199 rfl) rfl
theorem q559 : (Jvm.Cond.laysFinal "SpillslotWorks$Op" "SpillslotWorks$Op" "block" "I") ∈ lw_all := lw_g (lw_at lw_m2 200 rfl) rfl
theorem q560 : (Jvm.Cond.soleField "SpillslotWorks$Op" "block") ∈ lw_all := lw_g (lw_at lw_m2 201 rfl) rfl
theorem q561 : (Jvm.Cond.lays "SpillslotWorks$Op" "SpillslotWorks$Op" "height" "I") ∈ lw_all := lw_g (lw_at lw_m2 202 rfl) rfl
theorem q562 : (Jvm.Cond.soleField "SpillslotWorks$Op" "height") ∈ lw_all := lw_g (lw_at lw_m2 203 rfl) rfl
theorem q563 : (Jvm.Cond.superclass "SpillslotWorks$Op" "java/lang/Object") ∈ lw_all := lw_g (lw_at lw_m2 204 rfl) rfl
theorem q579 : (Jvm.Cond.instanceMethod ({ cls := "SpillslotWorks$Op", name := "reads", desc := "(I)I" } : Jvm.MethodName)) ∈ lw_all := lw_g (lw_at lw_m2 220 rfl) rfl
theorem q580 : (Jvm.Cond.selects "SpillslotWorks$Op" ({ cls := "SpillslotWorks$Op", name := "reads", desc := "(I)I" } : Jvm.MethodName) ({ cls := "SpillslotWorks$Op", name := "reads", desc := "(I)I" } : Jvm.MethodName)) ∈ lw_all := lw_g (lw_at lw_m2 221 rfl) rfl
theorem q581 : (Jvm.Cond.code ({ cls := "SpillslotWorks$Op", name := "reads", desc := "(I)I" } : Jvm.MethodName) prog_10_method_2_code (7 : Nat) (Option.some Jvm.ClassFile.FieldType.int)) ∈ lw_all := lw_g (lw_at lw_m2 222 rfl) rfl
theorem q603 : (Jvm.Cond.instanceMethod ({ cls := "SpillslotWorks$Op", name := "needs", desc := "(LSpillslotWorks$Op;)Z" } : Jvm.MethodName)) ∈ lw_all := lw_g (lw_at lw_m3 4 rfl) rfl
theorem q604 : (Jvm.Cond.selects "SpillslotWorks$Op" ({ cls := "SpillslotWorks$Op", name := "needs", desc := "(LSpillslotWorks$Op;)Z" } : Jvm.MethodName) ({ cls := "SpillslotWorks$Op", name := "needs", desc := "(LSpillslotWorks$Op;)Z" } : Jvm.MethodName)) ∈ lw_all := lw_g (lw_at lw_m3 5 rfl) rfl
theorem q605 : (Jvm.Cond.code ({ cls := "SpillslotWorks$Op", name := "needs", desc := "(LSpillslotWorks$Op;)Z" } : Jvm.MethodName) prog_10_method_4_code (3 : Nat) (Option.some Jvm.ClassFile.FieldType.boolean)) ∈ lw_all := lw_g (lw_at lw_m3 6 rfl) rfl
theorem q606 : (Jvm.Cond.methodLink "SpillslotWorks$Op" (28 : Nat) ({ cls := "SpillslotWorks$Op", name := "reads", desc := "(I)I" } : Jvm.MethodName)) ∈ lw_all := lw_g (lw_at lw_m3 7 rfl) rfl
theorem q607 : (Jvm.Cond.methodLink "SpillslotWorks$Op" (31 : Nat) ({ cls := "SpillslotWorks$Op", name := "is", desc := "(I)Z" } : Jvm.MethodName)) ∈ lw_all := lw_g (lw_at lw_m3 8 rfl) rfl
theorem q608 : (Jvm.Cond.instanceMethod ({ cls := "SpillslotWorks$Op", name := "is", desc := "(I)Z" } : Jvm.MethodName)) ∈ lw_all := lw_g (lw_at lw_m3 9 rfl) rfl
theorem q609 : (Jvm.Cond.selects "SpillslotWorks$Op" ({ cls := "SpillslotWorks$Op", name := "is", desc := "(I)Z" } : Jvm.MethodName) ({ cls := "SpillslotWorks$Op", name := "is", desc := "(I)Z" } : Jvm.MethodName)) ∈ lw_all := lw_g (lw_at lw_m3 10 rfl) rfl
theorem q610 : (Jvm.Cond.code ({ cls := "SpillslotWorks$Op", name := "is", desc := "(I)Z" } : Jvm.MethodName) prog_10_method_3_code (2 : Nat) (Option.some Jvm.ClassFile.FieldType.boolean)) ∈ lw_all := lw_g (lw_at lw_m3 11 rfl) rfl
theorem q2306 : (Jvm.Cond.selects "SpillslotWorks$Op" ({ cls := "java/lang/Object", name := "equals", desc := "(Ljava/lang/Object;)Z" } : Jvm.MethodName) ({ cls := "java/lang/Object", name := "equals", desc := "(Ljava/lang/Object;)Z" } : Jvm.MethodName)) ∈ lw_all := lw_g (lw_at lw_m10 27 rfl) rfl
theorem q2863 : (Jvm.Cond.castable "SpillslotWorks$Op" "java/lang/Object") ∈ lw_tbl := lw_at lw_m12 104 rfl
theorem in_X7 : ∀ w ∈ wsX70, w ∈ lw_all := lw_in wsX70 [551, 553, 555, 557, 559, 561] (by decide +kernel) (by decide +kernel)
/-! SpillslotWorks$Life -/
def RX9 : String := "SpillslotWorks$Life"
def TX9 : u_T := fun k => match k with
  | 0 => ("SpillslotWorks$Life", "value", "I", true)
  | 1 => ("SpillslotWorks$Life", "from", "I", false)
  | 2 => ("SpillslotWorks$Life", "to", "I", false)
  | 3 => ("SpillslotWorks$Life", "writes", "I", false)
  | 4 => ("SpillslotWorks$Life", "reads", "I", false)
  | 5 => ("SpillslotWorks$Life", "uses", "I", false)
  | 6 => ("SpillslotWorks$Life", "crossed", "I", false)
  | 7 => ("SpillslotWorks$Life", "register", "I", false)
  | 8 => ("SpillslotWorks$Life", "isSpilled", "Z", false)
  | 9 => ("SpillslotWorks$Life", "slot", "I", false)
  | _ => ("SpillslotWorks$Life", "first", "LSpillslotWorks$Op;", false)
def tyX9 : Nat → FieldType := fun k => match k with
  | 0 => .int
  | 1 => .int
  | 2 => .int
  | 3 => .int
  | 4 => .int
  | 5 => .int
  | 6 => .int
  | 7 => .int
  | 8 => .boolean
  | 9 => .int
  | _ => .object "SpillslotWorks$Op"
abbrev wsX90 : List Cond := u_ws RX9 TX9 11
theorem nmX9 : ∀ a, a < 11 → ∀ b, b < 11 → a ≠ b → (TX9 a).2.1 ≠ (TX9 b).2.1 := by decide +kernel
theorem tyX9_ok : ∀ k, k < 11 → parseFieldDescriptor (TX9 k).2.2.1 = some (tyX9 k) := by decide +kernel
abbrev cX9_init : ByteArray := prog_6_method_1_code
def yX9_init : MethodName := ⟨RX9, "<init>", "(I)V"⟩
def dkwX9_init_1 : List UInt8 := [177]
abbrev dktX9_init_1 : List UInt8 := dkwX9_init_1 ++ []
def dkwX9_init_0 : List UInt8 := [42, 183, 0, 3, 42, 2, 181, 0, 9, 42, 2, 181, 0, 15, 42, 2, 181, 0, 18, 42, 27, 181, 0, 21]
abbrev dktX9_init_0 : List UInt8 := dkwX9_init_0 ++ dktX9_init_1
theorem dksX9_init_0 : cX9_init.data.toList.drop 0 = dktX9_init_0 := by decide +kernel
theorem dksX9_init_1 : cX9_init.data.toList.drop 24 = dktX9_init_1 := dk_seg dksX9_init_0 24 rfl rfl
theorem dX9_init_0 : decode cX9_init 0 = .ok (.aload_n 0, 1) := dk_42 (dk_at dksX9_init_0 0 rfl rfl)
theorem dX9_init_1 : decode cX9_init 1 = .ok (.invokespecial 3, 3) := dk_183 0 3 (dk_at dksX9_init_0 1 rfl rfl)
theorem dX9_init_4 : decode cX9_init 4 = .ok (.aload_n 0, 1) := dk_42 (dk_at dksX9_init_0 4 rfl rfl)
theorem dX9_init_5 : decode cX9_init 5 = .ok (.iconst (-1), 1) := dk_2 (dk_at dksX9_init_0 5 rfl rfl)
theorem dX9_init_6 : decode cX9_init 6 = .ok (.putfield 9, 3) := dk_181 0 9 (dk_at dksX9_init_0 6 rfl rfl)
theorem dX9_init_9 : decode cX9_init 9 = .ok (.aload_n 0, 1) := dk_42 (dk_at dksX9_init_0 9 rfl rfl)
theorem dX9_init_10 : decode cX9_init 10 = .ok (.iconst (-1), 1) := dk_2 (dk_at dksX9_init_0 10 rfl rfl)
theorem dX9_init_11 : decode cX9_init 11 = .ok (.putfield 15, 3) := dk_181 0 15 (dk_at dksX9_init_0 11 rfl rfl)
theorem dX9_init_14 : decode cX9_init 14 = .ok (.aload_n 0, 1) := dk_42 (dk_at dksX9_init_0 14 rfl rfl)
theorem dX9_init_15 : decode cX9_init 15 = .ok (.iconst (-1), 1) := dk_2 (dk_at dksX9_init_0 15 rfl rfl)
theorem dX9_init_16 : decode cX9_init 16 = .ok (.putfield 18, 3) := dk_181 0 18 (dk_at dksX9_init_0 16 rfl rfl)
theorem dX9_init_19 : decode cX9_init 19 = .ok (.aload_n 0, 1) := dk_42 (dk_at dksX9_init_0 19 rfl rfl)
theorem dX9_init_20 : decode cX9_init 20 = .ok (.iload_n 1, 1) := dk_27 (dk_at dksX9_init_0 20 rfl rfl)
theorem dX9_init_21 : decode cX9_init 21 = .ok (.putfield 21, 3) := dk_181 0 21 (dk_at dksX9_init_0 21 rfl rfl)
theorem dX9_init_24 : decode cX9_init 24 = .ok (.return_, 1) := dk_177 (dk_at dksX9_init_1 0 rfl rfl)
abbrev cX9_touch : ByteArray := prog_6_method_2_code
def yX9_touch : MethodName := ⟨RX9, "touch", "(ILSpillslotWorks$Op;I)V"⟩
def dkwX9_touch_4 : List UInt8 := [104, 96, 181, 0, 45, 177]
abbrev dktX9_touch_4 : List UInt8 := dkwX9_touch_4 ++ []
def dkwX9_touch_3 : List UInt8 := [180, 0, 34, 42, 180, 0, 21, 160, 0, 7, 4, 167, 0, 4, 3, 44, 42, 180, 0, 21, 182, 0, 42, 96]
abbrev dktX9_touch_3 : List UInt8 := dkwX9_touch_3 ++ dktX9_touch_4
def dkwX9_touch_2 : List UInt8 := [42, 89, 180, 0, 39, 44, 42, 180, 0, 21, 182, 0, 42, 96, 181, 0, 39, 42, 89, 180, 0, 45, 29, 44]
abbrev dktX9_touch_2 : List UInt8 := dkwX9_touch_2 ++ dktX9_touch_3
def dkwX9_touch_1 : List UInt8 := [89, 180, 0, 31, 44, 180, 0, 34, 42, 180, 0, 21, 160, 0, 7, 4, 167, 0, 4, 3, 96, 181, 0, 31]
abbrev dktX9_touch_1 : List UInt8 := dkwX9_touch_1 ++ dktX9_touch_2
def dkwX9_touch_0 : List UInt8 := [42, 180, 0, 9, 2, 160, 0, 13, 42, 27, 181, 0, 9, 42, 44, 181, 0, 24, 42, 27, 181, 0, 28, 42]
abbrev dktX9_touch_0 : List UInt8 := dkwX9_touch_0 ++ dktX9_touch_1
theorem dksX9_touch_0 : cX9_touch.data.toList.drop 0 = dktX9_touch_0 := by decide +kernel
theorem dksX9_touch_1 : cX9_touch.data.toList.drop 24 = dktX9_touch_1 := dk_seg dksX9_touch_0 24 rfl rfl
theorem dksX9_touch_2 : cX9_touch.data.toList.drop 48 = dktX9_touch_2 := dk_seg dksX9_touch_1 24 rfl rfl
theorem dksX9_touch_3 : cX9_touch.data.toList.drop 72 = dktX9_touch_3 := dk_seg dksX9_touch_2 24 rfl rfl
theorem dksX9_touch_4 : cX9_touch.data.toList.drop 96 = dktX9_touch_4 := dk_seg dksX9_touch_3 24 rfl rfl
theorem dX9_touch_0 : decode cX9_touch 0 = .ok (.aload_n 0, 1) := dk_42 (dk_at dksX9_touch_0 0 rfl rfl)
theorem dX9_touch_1 : decode cX9_touch 1 = .ok (.getfield 9, 3) := dk_180 0 9 (dk_at dksX9_touch_0 1 rfl rfl)
theorem dX9_touch_4 : decode cX9_touch 4 = .ok (.iconst (-1), 1) := dk_2 (dk_at dksX9_touch_0 4 rfl rfl)
theorem dX9_touch_5 : decode cX9_touch 5 = .ok (.if_icmp .ne 13, 3) := dk_160 0 13 (dk_at dksX9_touch_0 5 rfl rfl)
theorem dX9_touch_8 : decode cX9_touch 8 = .ok (.aload_n 0, 1) := dk_42 (dk_at dksX9_touch_0 8 rfl rfl)
theorem dX9_touch_9 : decode cX9_touch 9 = .ok (.iload_n 1, 1) := dk_27 (dk_at dksX9_touch_0 9 rfl rfl)
theorem dX9_touch_10 : decode cX9_touch 10 = .ok (.putfield 9, 3) := dk_181 0 9 (dk_at dksX9_touch_0 10 rfl rfl)
theorem dX9_touch_13 : decode cX9_touch 13 = .ok (.aload_n 0, 1) := dk_42 (dk_at dksX9_touch_0 13 rfl rfl)
theorem dX9_touch_14 : decode cX9_touch 14 = .ok (.aload_n 2, 1) := dk_44 (dk_at dksX9_touch_0 14 rfl rfl)
theorem dX9_touch_15 : decode cX9_touch 15 = .ok (.putfield 24, 3) := dk_181 0 24 (dk_at dksX9_touch_0 15 rfl rfl)
theorem dX9_touch_18 : decode cX9_touch 18 = .ok (.aload_n 0, 1) := dk_42 (dk_at dksX9_touch_0 18 rfl rfl)
theorem dX9_touch_19 : decode cX9_touch 19 = .ok (.iload_n 1, 1) := dk_27 (dk_at dksX9_touch_0 19 rfl rfl)
theorem dX9_touch_20 : decode cX9_touch 20 = .ok (.putfield 28, 3) := dk_181 0 28 (dk_at dksX9_touch_0 20 rfl rfl)
theorem dX9_touch_23 : decode cX9_touch 23 = .ok (.aload_n 0, 1) := dk_42 (dk_at dksX9_touch_0 23 rfl rfl)
theorem dX9_touch_24 : decode cX9_touch 24 = .ok (.dup, 1) := dk_89 (dk_at dksX9_touch_1 0 rfl rfl)
theorem dX9_touch_25 : decode cX9_touch 25 = .ok (.getfield 31, 3) := dk_180 0 31 (dk_at dksX9_touch_1 1 rfl rfl)
theorem dX9_touch_28 : decode cX9_touch 28 = .ok (.aload_n 2, 1) := dk_44 (dk_at dksX9_touch_1 4 rfl rfl)
theorem dX9_touch_29 : decode cX9_touch 29 = .ok (.getfield 34, 3) := dk_180 0 34 (dk_at dksX9_touch_1 5 rfl rfl)
theorem dX9_touch_32 : decode cX9_touch 32 = .ok (.aload_n 0, 1) := dk_42 (dk_at dksX9_touch_1 8 rfl rfl)
theorem dX9_touch_33 : decode cX9_touch 33 = .ok (.getfield 21, 3) := dk_180 0 21 (dk_at dksX9_touch_1 9 rfl rfl)
theorem dX9_touch_36 : decode cX9_touch 36 = .ok (.if_icmp .ne 7, 3) := dk_160 0 7 (dk_at dksX9_touch_1 12 rfl rfl)
theorem dX9_touch_39 : decode cX9_touch 39 = .ok (.iconst 1, 1) := dk_4 (dk_at dksX9_touch_1 15 rfl rfl)
theorem dX9_touch_40 : decode cX9_touch 40 = .ok (.goto 4, 3) := dk_167 0 4 (dk_at dksX9_touch_1 16 rfl rfl)
theorem dX9_touch_43 : decode cX9_touch 43 = .ok (.iconst 0, 1) := dk_3 (dk_at dksX9_touch_1 19 rfl rfl)
theorem dX9_touch_44 : decode cX9_touch 44 = .ok (.iadd, 1) := dk_96 (dk_at dksX9_touch_1 20 rfl rfl)
theorem dX9_touch_45 : decode cX9_touch 45 = .ok (.putfield 31, 3) := dk_181 0 31 (dk_at dksX9_touch_1 21 rfl rfl)
theorem dX9_touch_48 : decode cX9_touch 48 = .ok (.aload_n 0, 1) := dk_42 (dk_at dksX9_touch_2 0 rfl rfl)
theorem dX9_touch_49 : decode cX9_touch 49 = .ok (.dup, 1) := dk_89 (dk_at dksX9_touch_2 1 rfl rfl)
theorem dX9_touch_50 : decode cX9_touch 50 = .ok (.getfield 39, 3) := dk_180 0 39 (dk_at dksX9_touch_2 2 rfl rfl)
theorem dX9_touch_53 : decode cX9_touch 53 = .ok (.aload_n 2, 1) := dk_44 (dk_at dksX9_touch_2 5 rfl rfl)
theorem dX9_touch_54 : decode cX9_touch 54 = .ok (.aload_n 0, 1) := dk_42 (dk_at dksX9_touch_2 6 rfl rfl)
theorem dX9_touch_55 : decode cX9_touch 55 = .ok (.getfield 21, 3) := dk_180 0 21 (dk_at dksX9_touch_2 7 rfl rfl)
theorem dX9_touch_58 : decode cX9_touch 58 = .ok (.invokevirtual 42, 3) := dk_182 0 42 (dk_at dksX9_touch_2 10 rfl rfl)
theorem dX9_touch_61 : decode cX9_touch 61 = .ok (.iadd, 1) := dk_96 (dk_at dksX9_touch_2 13 rfl rfl)
theorem dX9_touch_62 : decode cX9_touch 62 = .ok (.putfield 39, 3) := dk_181 0 39 (dk_at dksX9_touch_2 14 rfl rfl)
theorem dX9_touch_65 : decode cX9_touch 65 = .ok (.aload_n 0, 1) := dk_42 (dk_at dksX9_touch_2 17 rfl rfl)
theorem dX9_touch_66 : decode cX9_touch 66 = .ok (.dup, 1) := dk_89 (dk_at dksX9_touch_2 18 rfl rfl)
theorem dX9_touch_67 : decode cX9_touch 67 = .ok (.getfield 45, 3) := dk_180 0 45 (dk_at dksX9_touch_2 19 rfl rfl)
theorem dX9_touch_70 : decode cX9_touch 70 = .ok (.iload_n 3, 1) := dk_29 (dk_at dksX9_touch_2 22 rfl rfl)
theorem dX9_touch_71 : decode cX9_touch 71 = .ok (.aload_n 2, 1) := dk_44 (dk_at dksX9_touch_2 23 rfl rfl)
theorem dX9_touch_72 : decode cX9_touch 72 = .ok (.getfield 34, 3) := dk_180 0 34 (dk_at dksX9_touch_3 0 rfl rfl)
theorem dX9_touch_75 : decode cX9_touch 75 = .ok (.aload_n 0, 1) := dk_42 (dk_at dksX9_touch_3 3 rfl rfl)
theorem dX9_touch_76 : decode cX9_touch 76 = .ok (.getfield 21, 3) := dk_180 0 21 (dk_at dksX9_touch_3 4 rfl rfl)
theorem dX9_touch_79 : decode cX9_touch 79 = .ok (.if_icmp .ne 7, 3) := dk_160 0 7 (dk_at dksX9_touch_3 7 rfl rfl)
theorem dX9_touch_82 : decode cX9_touch 82 = .ok (.iconst 1, 1) := dk_4 (dk_at dksX9_touch_3 10 rfl rfl)
theorem dX9_touch_83 : decode cX9_touch 83 = .ok (.goto 4, 3) := dk_167 0 4 (dk_at dksX9_touch_3 11 rfl rfl)
theorem dX9_touch_86 : decode cX9_touch 86 = .ok (.iconst 0, 1) := dk_3 (dk_at dksX9_touch_3 14 rfl rfl)
theorem dX9_touch_87 : decode cX9_touch 87 = .ok (.aload_n 2, 1) := dk_44 (dk_at dksX9_touch_3 15 rfl rfl)
theorem dX9_touch_88 : decode cX9_touch 88 = .ok (.aload_n 0, 1) := dk_42 (dk_at dksX9_touch_3 16 rfl rfl)
theorem dX9_touch_89 : decode cX9_touch 89 = .ok (.getfield 21, 3) := dk_180 0 21 (dk_at dksX9_touch_3 17 rfl rfl)
theorem dX9_touch_92 : decode cX9_touch 92 = .ok (.invokevirtual 42, 3) := dk_182 0 42 (dk_at dksX9_touch_3 20 rfl rfl)
theorem dX9_touch_95 : decode cX9_touch 95 = .ok (.iadd, 1) := dk_96 (dk_at dksX9_touch_3 23 rfl rfl)
theorem dX9_touch_96 : decode cX9_touch 96 = .ok (.imul, 1) := dk_104 (dk_at dksX9_touch_4 0 rfl rfl)
theorem dX9_touch_97 : decode cX9_touch 97 = .ok (.iadd, 1) := dk_96 (dk_at dksX9_touch_4 1 rfl rfl)
theorem dX9_touch_98 : decode cX9_touch 98 = .ok (.putfield 45, 3) := dk_181 0 45 (dk_at dksX9_touch_4 2 rfl rfl)
theorem dX9_touch_101 : decode cX9_touch 101 = .ok (.return_, 1) := dk_177 (dk_at dksX9_touch_4 5 rfl rfl)
abbrev cX9_crosses : ByteArray := prog_6_method_6_code
def yX9_crosses : MethodName := ⟨RX9, "crosses", "(I)Z"⟩
def dkwX9_crosses_0 : List UInt8 := [42, 180, 0, 9, 27, 162, 0, 15, 27, 42, 180, 0, 28, 162, 0, 7, 4, 167, 0, 4, 3, 172]
abbrev dktX9_crosses_0 : List UInt8 := dkwX9_crosses_0 ++ []
theorem dksX9_crosses_0 : cX9_crosses.data.toList.drop 0 = dktX9_crosses_0 := by decide +kernel
theorem dX9_crosses_0 : decode cX9_crosses 0 = .ok (.aload_n 0, 1) := dk_42 (dk_at dksX9_crosses_0 0 rfl rfl)
theorem dX9_crosses_1 : decode cX9_crosses 1 = .ok (.getfield 9, 3) := dk_180 0 9 (dk_at dksX9_crosses_0 1 rfl rfl)
theorem dX9_crosses_4 : decode cX9_crosses 4 = .ok (.iload_n 1, 1) := dk_27 (dk_at dksX9_crosses_0 4 rfl rfl)
theorem dX9_crosses_5 : decode cX9_crosses 5 = .ok (.if_icmp .ge 15, 3) := dk_162 0 15 (dk_at dksX9_crosses_0 5 rfl rfl)
theorem dX9_crosses_8 : decode cX9_crosses 8 = .ok (.iload_n 1, 1) := dk_27 (dk_at dksX9_crosses_0 8 rfl rfl)
theorem dX9_crosses_9 : decode cX9_crosses 9 = .ok (.aload_n 0, 1) := dk_42 (dk_at dksX9_crosses_0 9 rfl rfl)
theorem dX9_crosses_10 : decode cX9_crosses 10 = .ok (.getfield 28, 3) := dk_180 0 28 (dk_at dksX9_crosses_0 10 rfl rfl)
theorem dX9_crosses_13 : decode cX9_crosses 13 = .ok (.if_icmp .ge 7, 3) := dk_162 0 7 (dk_at dksX9_crosses_0 13 rfl rfl)
theorem dX9_crosses_16 : decode cX9_crosses 16 = .ok (.iconst 1, 1) := dk_4 (dk_at dksX9_crosses_0 16 rfl rfl)
theorem dX9_crosses_17 : decode cX9_crosses 17 = .ok (.goto 4, 3) := dk_167 0 4 (dk_at dksX9_crosses_0 17 rfl rfl)
theorem dX9_crosses_20 : decode cX9_crosses 20 = .ok (.iconst 0, 1) := dk_3 (dk_at dksX9_crosses_0 20 rfl rfl)
theorem dX9_crosses_21 : decode cX9_crosses 21 = .ok (.ireturn, 1) := dk_172 (dk_at dksX9_crosses_0 21 rfl rfl)
abbrev cX9_weight : ByteArray := prog_6_method_3_code
def yX9_weight : MethodName := ⟨RX9, "weight", "()I"⟩
def dkwX9_weight_0 : List UInt8 := [16, 100, 42, 180, 0, 45, 104, 42, 180, 0, 28, 42, 180, 0, 9, 100, 4, 96, 108, 172]
abbrev dktX9_weight_0 : List UInt8 := dkwX9_weight_0 ++ []
theorem dksX9_weight_0 : cX9_weight.data.toList.drop 0 = dktX9_weight_0 := by decide +kernel
theorem dX9_weight_0 : decode cX9_weight 0 = .ok (.bipush 100, 2) := dk_16 100 (dk_at dksX9_weight_0 0 rfl rfl)
theorem dX9_weight_2 : decode cX9_weight 2 = .ok (.aload_n 0, 1) := dk_42 (dk_at dksX9_weight_0 2 rfl rfl)
theorem dX9_weight_3 : decode cX9_weight 3 = .ok (.getfield 45, 3) := dk_180 0 45 (dk_at dksX9_weight_0 3 rfl rfl)
theorem dX9_weight_6 : decode cX9_weight 6 = .ok (.imul, 1) := dk_104 (dk_at dksX9_weight_0 6 rfl rfl)
theorem dX9_weight_7 : decode cX9_weight 7 = .ok (.aload_n 0, 1) := dk_42 (dk_at dksX9_weight_0 7 rfl rfl)
theorem dX9_weight_8 : decode cX9_weight 8 = .ok (.getfield 28, 3) := dk_180 0 28 (dk_at dksX9_weight_0 8 rfl rfl)
theorem dX9_weight_11 : decode cX9_weight 11 = .ok (.aload_n 0, 1) := dk_42 (dk_at dksX9_weight_0 11 rfl rfl)
theorem dX9_weight_12 : decode cX9_weight 12 = .ok (.getfield 9, 3) := dk_180 0 9 (dk_at dksX9_weight_0 12 rfl rfl)
theorem dX9_weight_15 : decode cX9_weight 15 = .ok (.isub, 1) := dk_100 (dk_at dksX9_weight_0 15 rfl rfl)
theorem dX9_weight_16 : decode cX9_weight 16 = .ok (.iconst 1, 1) := dk_4 (dk_at dksX9_weight_0 16 rfl rfl)
theorem dX9_weight_17 : decode cX9_weight 17 = .ok (.iadd, 1) := dk_96 (dk_at dksX9_weight_0 17 rfl rfl)
theorem dX9_weight_18 : decode cX9_weight 18 = .ok (.idiv, 1) := dk_108 (dk_at dksX9_weight_0 18 rfl rfl)
theorem dX9_weight_19 : decode cX9_weight 19 = .ok (.ireturn, 1) := dk_172 (dk_at dksX9_weight_0 19 rfl rfl)
abbrev cX9_isRemade : ByteArray := prog_6_method_4_code
def yX9_isRemade : MethodName := ⟨RX9, "isRemade", "()Z"⟩
def dkwX9_isRemade_1 : List UInt8 := [153, 0, 7, 4, 167, 0, 4, 3, 172]
abbrev dktX9_isRemade_1 : List UInt8 := dkwX9_isRemade_1 ++ []
def dkwX9_isRemade_0 : List UInt8 := [42, 180, 0, 48, 153, 0, 26, 42, 180, 0, 31, 4, 160, 0, 18, 42, 180, 0, 24, 3, 182, 0, 52]
abbrev dktX9_isRemade_0 : List UInt8 := dkwX9_isRemade_0 ++ dktX9_isRemade_1
theorem dksX9_isRemade_0 : cX9_isRemade.data.toList.drop 0 = dktX9_isRemade_0 := by decide +kernel
theorem dksX9_isRemade_1 : cX9_isRemade.data.toList.drop 23 = dktX9_isRemade_1 := dk_seg dksX9_isRemade_0 23 rfl rfl
theorem dX9_isRemade_0 : decode cX9_isRemade 0 = .ok (.aload_n 0, 1) := dk_42 (dk_at dksX9_isRemade_0 0 rfl rfl)
theorem dX9_isRemade_1 : decode cX9_isRemade 1 = .ok (.getfield 48, 3) := dk_180 0 48 (dk_at dksX9_isRemade_0 1 rfl rfl)
theorem dX9_isRemade_4 : decode cX9_isRemade 4 = .ok (.ifCond .eq 26, 3) := dk_153 0 26 (dk_at dksX9_isRemade_0 4 rfl rfl)
theorem dX9_isRemade_7 : decode cX9_isRemade 7 = .ok (.aload_n 0, 1) := dk_42 (dk_at dksX9_isRemade_0 7 rfl rfl)
theorem dX9_isRemade_8 : decode cX9_isRemade 8 = .ok (.getfield 31, 3) := dk_180 0 31 (dk_at dksX9_isRemade_0 8 rfl rfl)
theorem dX9_isRemade_11 : decode cX9_isRemade 11 = .ok (.iconst 1, 1) := dk_4 (dk_at dksX9_isRemade_0 11 rfl rfl)
theorem dX9_isRemade_12 : decode cX9_isRemade 12 = .ok (.if_icmp .ne 18, 3) := dk_160 0 18 (dk_at dksX9_isRemade_0 12 rfl rfl)
theorem dX9_isRemade_15 : decode cX9_isRemade 15 = .ok (.aload_n 0, 1) := dk_42 (dk_at dksX9_isRemade_0 15 rfl rfl)
theorem dX9_isRemade_16 : decode cX9_isRemade 16 = .ok (.getfield 24, 3) := dk_180 0 24 (dk_at dksX9_isRemade_0 16 rfl rfl)
theorem dX9_isRemade_19 : decode cX9_isRemade 19 = .ok (.iconst 0, 1) := dk_3 (dk_at dksX9_isRemade_0 19 rfl rfl)
theorem dX9_isRemade_20 : decode cX9_isRemade 20 = .ok (.invokevirtual 52, 3) := dk_182 0 52 (dk_at dksX9_isRemade_0 20 rfl rfl)
theorem dX9_isRemade_23 : decode cX9_isRemade 23 = .ok (.ifCond .eq 7, 3) := dk_153 0 7 (dk_at dksX9_isRemade_1 0 rfl rfl)
theorem dX9_isRemade_26 : decode cX9_isRemade 26 = .ok (.iconst 1, 1) := dk_4 (dk_at dksX9_isRemade_1 3 rfl rfl)
theorem dX9_isRemade_27 : decode cX9_isRemade 27 = .ok (.goto 4, 3) := dk_167 0 4 (dk_at dksX9_isRemade_1 4 rfl rfl)
theorem dX9_isRemade_30 : decode cX9_isRemade 30 = .ok (.iconst 0, 1) := dk_3 (dk_at dksX9_isRemade_1 7 rfl rfl)
theorem dX9_isRemade_31 : decode cX9_isRemade 31 = .ok (.ireturn, 1) := dk_172 (dk_at dksX9_isRemade_1 8 rfl rfl)
abbrev cX9_meets : ByteArray := prog_6_method_5_code
def yX9_meets : MethodName := ⟨RX9, "meets", "(LSpillslotWorks$Life;)Z"⟩
def dkwX9_meets_1 : List UInt8 := [167, 0, 4, 3, 172]
abbrev dktX9_meets_1 : List UInt8 := dkwX9_meets_1 ++ []
def dkwX9_meets_0 : List UInt8 := [42, 180, 0, 9, 43, 180, 0, 28, 163, 0, 18, 43, 180, 0, 9, 42, 180, 0, 28, 163, 0, 7, 4]
abbrev dktX9_meets_0 : List UInt8 := dkwX9_meets_0 ++ dktX9_meets_1
theorem dksX9_meets_0 : cX9_meets.data.toList.drop 0 = dktX9_meets_0 := by decide +kernel
theorem dksX9_meets_1 : cX9_meets.data.toList.drop 23 = dktX9_meets_1 := dk_seg dksX9_meets_0 23 rfl rfl
theorem dX9_meets_0 : decode cX9_meets 0 = .ok (.aload_n 0, 1) := dk_42 (dk_at dksX9_meets_0 0 rfl rfl)
theorem dX9_meets_1 : decode cX9_meets 1 = .ok (.getfield 9, 3) := dk_180 0 9 (dk_at dksX9_meets_0 1 rfl rfl)
theorem dX9_meets_4 : decode cX9_meets 4 = .ok (.aload_n 1, 1) := dk_43 (dk_at dksX9_meets_0 4 rfl rfl)
theorem dX9_meets_5 : decode cX9_meets 5 = .ok (.getfield 28, 3) := dk_180 0 28 (dk_at dksX9_meets_0 5 rfl rfl)
theorem dX9_meets_8 : decode cX9_meets 8 = .ok (.if_icmp .gt 18, 3) := dk_163 0 18 (dk_at dksX9_meets_0 8 rfl rfl)
theorem dX9_meets_11 : decode cX9_meets 11 = .ok (.aload_n 1, 1) := dk_43 (dk_at dksX9_meets_0 11 rfl rfl)
theorem dX9_meets_12 : decode cX9_meets 12 = .ok (.getfield 9, 3) := dk_180 0 9 (dk_at dksX9_meets_0 12 rfl rfl)
theorem dX9_meets_15 : decode cX9_meets 15 = .ok (.aload_n 0, 1) := dk_42 (dk_at dksX9_meets_0 15 rfl rfl)
theorem dX9_meets_16 : decode cX9_meets 16 = .ok (.getfield 28, 3) := dk_180 0 28 (dk_at dksX9_meets_0 16 rfl rfl)
theorem dX9_meets_19 : decode cX9_meets 19 = .ok (.if_icmp .gt 7, 3) := dk_163 0 7 (dk_at dksX9_meets_0 19 rfl rfl)
theorem dX9_meets_22 : decode cX9_meets 22 = .ok (.iconst 1, 1) := dk_4 (dk_at dksX9_meets_0 22 rfl rfl)
theorem dX9_meets_23 : decode cX9_meets 23 = .ok (.goto 4, 3) := dk_167 0 4 (dk_at dksX9_meets_1 0 rfl rfl)
theorem dX9_meets_26 : decode cX9_meets 26 = .ok (.iconst 0, 1) := dk_3 (dk_at dksX9_meets_1 3 rfl rfl)
theorem dX9_meets_27 : decode cX9_meets 27 = .ok (.ireturn, 1) := dk_172 (dk_at dksX9_meets_1 4 rfl rfl)
theorem q139 : (Jvm.Cond.initialized "SpillslotWorks$Life") ∈ lw_all := lw_g (lw_at lw_m1 20 rfl) rfl
theorem q257 : (Jvm.Cond.selects "SpillslotWorks$Life" ({ cls := "java/lang/Object", name := "getClass", desc := "()Ljava/lang/Class;" } : Jvm.MethodName) ({ cls := "java/lang/Object", name := "getClass", desc := "()Ljava/lang/Class;" } : Jvm.MethodName)) ∈ lw_all := lw_g (lw_at lw_m1 138 rfl) rfl
theorem q531 : (Jvm.Cond.fieldLinkNest "SpillslotWorks$Life" (34 : Nat) "SpillslotWorks$Op" "write" "I" "SpillslotWorks") ∈ lw_tbl := lw_at lw_m2 172 rfl
theorem q661 : (Jvm.Cond.instantiable "SpillslotWorks$Life" (11 : Nat)) ∈ lw_all := lw_g (lw_at lw_m3 62 rfl) rfl
theorem q663 : (Jvm.Cond.instanceMethod ({ cls := "SpillslotWorks$Life", name := "<init>", desc := "(I)V" } : Jvm.MethodName)) ∈ lw_all := lw_g (lw_at lw_m3 64 rfl) rfl
theorem q664 : (Jvm.Cond.code ({ cls := "SpillslotWorks$Life", name := "<init>", desc := "(I)V" } : Jvm.MethodName) prog_6_method_1_code (2 : Nat) (Option.none : Option Jvm.ClassFile.FieldType)) ∈ lw_all := lw_g (lw_at lw_m3 65 rfl) rfl
theorem q665 : (Jvm.Cond.methodLink "SpillslotWorks$Life" (3 : Nat) ({ cls := "java/lang/Object", name := "<init>", desc := "()V" } : Jvm.MethodName)) ∈ lw_all := lw_g (lw_at lw_m3 66 rfl) rfl
theorem q666 : (Jvm.Cond.fieldLink "SpillslotWorks$Life" (21 : Nat) "SpillslotWorks$Life" "value" "I") ∈ lw_all := lw_g (lw_at lw_m3 67 rfl) rfl
theorem q669 : (Jvm.Cond.fieldLink "SpillslotWorks$Life" (9 : Nat) "SpillslotWorks$Life" "from" "I") ∈ lw_all := lw_g (lw_at lw_m3 70 rfl) rfl
theorem q672 : (Jvm.Cond.fieldLink "SpillslotWorks$Life" (28 : Nat) "SpillslotWorks$Life" "to" "I") ∈ lw_all := lw_g (lw_at lw_m3 73 rfl) rfl
theorem q675 : (Jvm.Cond.fieldLink "SpillslotWorks$Life" (31 : Nat) "SpillslotWorks$Life" "writes" "I") ∈ lw_all := lw_g (lw_at lw_m3 76 rfl) rfl
theorem q677 : (Jvm.Cond.fieldLink "SpillslotWorks$Life" (39 : Nat) "SpillslotWorks$Life" "reads" "I") ∈ lw_all := lw_g (lw_at lw_m3 78 rfl) rfl
theorem q679 : (Jvm.Cond.fieldLink "SpillslotWorks$Life" (45 : Nat) "SpillslotWorks$Life" "uses" "I") ∈ lw_all := lw_g (lw_at lw_m3 80 rfl) rfl
theorem q682 : (Jvm.Cond.fieldLink "SpillslotWorks$Life" (15 : Nat) "SpillslotWorks$Life" "register" "I") ∈ lw_all := lw_g (lw_at lw_m3 83 rfl) rfl
theorem q688 : (Jvm.Cond.fieldLink "SpillslotWorks$Life" (48 : Nat) "SpillslotWorks$Life" "isSpilled" "Z") ∈ lw_all := lw_g (lw_at lw_m3 89 rfl) rfl
theorem q691 : (Jvm.Cond.fieldLink "SpillslotWorks$Life" (18 : Nat) "SpillslotWorks$Life" "slot" "I") ∈ lw_all := lw_g (lw_at lw_m3 92 rfl) rfl
theorem q696 : (Jvm.Cond.fieldLink "SpillslotWorks$Life" (24 : Nat) "SpillslotWorks$Life" "first" "LSpillslotWorks$Op;") ∈ lw_all := lw_g (lw_at lw_m3 97 rfl) rfl
theorem q700 : (Jvm.Cond.laysFinal "SpillslotWorks$Life" "SpillslotWorks$Life" "value" "I") ∈ lw_all := lw_g (lw_at lw_m3 101 rfl) rfl
theorem q701 : (Jvm.Cond.soleField "SpillslotWorks$Life" "value") ∈ lw_all := lw_g (lw_at lw_m3 102 rfl) rfl
theorem q702 : (Jvm.Cond.lays "SpillslotWorks$Life" "SpillslotWorks$Life" "from" "I") ∈ lw_all := lw_g (lw_at lw_m3 103 rfl) rfl
theorem q703 : (Jvm.Cond.soleField "SpillslotWorks$Life" "from") ∈ lw_all := lw_g (lw_at lw_m3 104 rfl) rfl
theorem q704 : (Jvm.Cond.lays "SpillslotWorks$Life" "SpillslotWorks$Life" "to" "I") ∈ lw_all := lw_g (lw_at lw_m3 105 rfl) rfl
theorem q705 : (Jvm.Cond.soleField "SpillslotWorks$Life" "to") ∈ lw_all := lw_g (lw_at lw_m3 106 rfl) rfl
theorem q706 : (Jvm.Cond.lays "SpillslotWorks$Life" "SpillslotWorks$Life" "writes" "I") ∈ lw_all := lw_g (lw_at lw_m3 107 rfl) rfl
theorem q707 : (Jvm.Cond.soleField "SpillslotWorks$Life" "writes") ∈ lw_all := lw_g (lw_at lw_m3 108 rfl) rfl
theorem q708 : (Jvm.Cond.lays "SpillslotWorks$Life" "SpillslotWorks$Life" "reads" "I") ∈ lw_all := lw_g (lw_at lw_m3 109 rfl) rfl
theorem q709 : (Jvm.Cond.soleField "SpillslotWorks$Life" "reads") ∈ lw_all := lw_g (lw_at lw_m3 110 rfl) rfl
theorem q710 : (Jvm.Cond.lays "SpillslotWorks$Life" "SpillslotWorks$Life" "uses" "I") ∈ lw_all := lw_g (lw_at lw_m3 111 rfl) rfl
theorem q711 : (Jvm.Cond.soleField "SpillslotWorks$Life" "uses") ∈ lw_all := lw_g (lw_at lw_m3 112 rfl) rfl
theorem q712 : (Jvm.Cond.lays "SpillslotWorks$Life" "SpillslotWorks$Life" "crossed" "I") ∈ lw_all := lw_g (lw_at lw_m3 113 rfl) rfl
theorem q713 : (Jvm.Cond.soleField "SpillslotWorks$Life" "crossed") ∈ lw_all := lw_g (lw_at lw_m3 114 rfl) rfl
theorem q714 : (Jvm.Cond.lays "SpillslotWorks$Life" "SpillslotWorks$Life" "register" "I") ∈ lw_all := lw_g (lw_at lw_m3 115 rfl) rfl
theorem q715 : (Jvm.Cond.soleField "SpillslotWorks$Life" "register") ∈ lw_all := lw_g (lw_at lw_m3 116 rfl) rfl
theorem q716 : (Jvm.Cond.lays "SpillslotWorks$Life" "SpillslotWorks$Life" "isSpilled" "Z") ∈ lw_all := lw_g (lw_at lw_m3 117 rfl) rfl
theorem q717 : (Jvm.Cond.soleField "SpillslotWorks$Life" "isSpilled") ∈ lw_all := lw_g (lw_at lw_m3 118 rfl) rfl
theorem q718 : (Jvm.Cond.lays "SpillslotWorks$Life" "SpillslotWorks$Life" "slot" "I") ∈ lw_all := lw_g (lw_at lw_m3 119 rfl) rfl
theorem q719 : (Jvm.Cond.soleField "SpillslotWorks$Life" "slot") ∈ lw_all := lw_g (lw_at lw_m3 120 rfl) rfl
theorem q720 : (Jvm.Cond.lays "SpillslotWorks$Life" "SpillslotWorks$Life" "first" "LSpillslotWorks$Op;") ∈ lw_all := lw_g (lw_at lw_m3 121 rfl) rfl
theorem q721 : (Jvm.Cond.soleField "SpillslotWorks$Life" "first") ∈ lw_all := lw_g (lw_at lw_m3 122 rfl) rfl
theorem q722 : (Jvm.Cond.superclass "SpillslotWorks$Life" "java/lang/Object") ∈ lw_all := lw_g (lw_at lw_m3 123 rfl) rfl
theorem q734 : (Jvm.Cond.instanceMethod ({ cls := "SpillslotWorks$Life", name := "touch", desc := "(ILSpillslotWorks$Op;I)V" } : Jvm.MethodName)) ∈ lw_all := lw_g (lw_at lw_m3 135 rfl) rfl
theorem q735 : (Jvm.Cond.selects "SpillslotWorks$Life" ({ cls := "SpillslotWorks$Life", name := "touch", desc := "(ILSpillslotWorks$Op;I)V" } : Jvm.MethodName) ({ cls := "SpillslotWorks$Life", name := "touch", desc := "(ILSpillslotWorks$Op;I)V" } : Jvm.MethodName)) ∈ lw_all := lw_g (lw_at lw_m3 136 rfl) rfl
theorem q736 : (Jvm.Cond.code ({ cls := "SpillslotWorks$Life", name := "touch", desc := "(ILSpillslotWorks$Op;I)V" } : Jvm.MethodName) prog_6_method_2_code (4 : Nat) (Option.none : Option Jvm.ClassFile.FieldType)) ∈ lw_all := lw_g (lw_at lw_m3 137 rfl) rfl
theorem q737 : (Jvm.Cond.methodLink "SpillslotWorks$Life" (42 : Nat) ({ cls := "SpillslotWorks$Op", name := "reads", desc := "(I)I" } : Jvm.MethodName)) ∈ lw_all := lw_g (lw_at lw_m3 138 rfl) rfl
theorem q749 : (Jvm.Cond.instanceMethod ({ cls := "SpillslotWorks$Life", name := "crosses", desc := "(I)Z" } : Jvm.MethodName)) ∈ lw_all := lw_g (lw_at lw_m3 150 rfl) rfl
theorem q750 : (Jvm.Cond.selects "SpillslotWorks$Life" ({ cls := "SpillslotWorks$Life", name := "crosses", desc := "(I)Z" } : Jvm.MethodName) ({ cls := "SpillslotWorks$Life", name := "crosses", desc := "(I)Z" } : Jvm.MethodName)) ∈ lw_all := lw_g (lw_at lw_m3 151 rfl) rfl
theorem q751 : (Jvm.Cond.code ({ cls := "SpillslotWorks$Life", name := "crosses", desc := "(I)Z" } : Jvm.MethodName) prog_6_method_6_code (2 : Nat) (Option.some Jvm.ClassFile.FieldType.boolean)) ∈ lw_all := lw_g (lw_at lw_m3 152 rfl) rfl
theorem q1131 : (Jvm.Cond.instanceMethod ({ cls := "SpillslotWorks$Life", name := "weight", desc := "()I" } : Jvm.MethodName)) ∈ lw_all := lw_g (lw_at lw_m5 52 rfl) rfl
theorem q1132 : (Jvm.Cond.selects "SpillslotWorks$Life" ({ cls := "SpillslotWorks$Life", name := "weight", desc := "()I" } : Jvm.MethodName) ({ cls := "SpillslotWorks$Life", name := "weight", desc := "()I" } : Jvm.MethodName)) ∈ lw_all := lw_g (lw_at lw_m5 53 rfl) rfl
theorem q1133 : (Jvm.Cond.code ({ cls := "SpillslotWorks$Life", name := "weight", desc := "()I" } : Jvm.MethodName) prog_6_method_3_code (1 : Nat) (Option.some Jvm.ClassFile.FieldType.int)) ∈ lw_all := lw_g (lw_at lw_m5 54 rfl) rfl
theorem q1139 : (Jvm.Cond.instanceMethod ({ cls := "SpillslotWorks$Life", name := "isRemade", desc := "()Z" } : Jvm.MethodName)) ∈ lw_all := lw_g (lw_at lw_m5 60 rfl) rfl
theorem q1140 : (Jvm.Cond.selects "SpillslotWorks$Life" ({ cls := "SpillslotWorks$Life", name := "isRemade", desc := "()Z" } : Jvm.MethodName) ({ cls := "SpillslotWorks$Life", name := "isRemade", desc := "()Z" } : Jvm.MethodName)) ∈ lw_all := lw_g (lw_at lw_m5 61 rfl) rfl
theorem q1141 : (Jvm.Cond.code ({ cls := "SpillslotWorks$Life", name := "isRemade", desc := "()Z" } : Jvm.MethodName) prog_6_method_4_code (1 : Nat) (Option.some Jvm.ClassFile.FieldType.boolean)) ∈ lw_all := lw_g (lw_at lw_m5 62 rfl) rfl
theorem q1142 : (Jvm.Cond.methodLink "SpillslotWorks$Life" (52 : Nat) ({ cls := "SpillslotWorks$Op", name := "is", desc := "(I)Z" } : Jvm.MethodName)) ∈ lw_all := lw_g (lw_at lw_m5 63 rfl) rfl
theorem q1148 : (Jvm.Cond.instanceMethod ({ cls := "SpillslotWorks$Life", name := "meets", desc := "(LSpillslotWorks$Life;)Z" } : Jvm.MethodName)) ∈ lw_all := lw_g (lw_at lw_m5 69 rfl) rfl
theorem q1149 : (Jvm.Cond.selects "SpillslotWorks$Life" ({ cls := "SpillslotWorks$Life", name := "meets", desc := "(LSpillslotWorks$Life;)Z" } : Jvm.MethodName) ({ cls := "SpillslotWorks$Life", name := "meets", desc := "(LSpillslotWorks$Life;)Z" } : Jvm.MethodName)) ∈ lw_all := lw_g (lw_at lw_m5 70 rfl) rfl
theorem q1150 : (Jvm.Cond.code ({ cls := "SpillslotWorks$Life", name := "meets", desc := "(LSpillslotWorks$Life;)Z" } : Jvm.MethodName) prog_6_method_5_code (2 : Nat) (Option.some Jvm.ClassFile.FieldType.boolean)) ∈ lw_all := lw_g (lw_at lw_m5 71 rfl) rfl
theorem q2302 : (Jvm.Cond.selects "SpillslotWorks$Life" ({ cls := "java/lang/Object", name := "equals", desc := "(Ljava/lang/Object;)Z" } : Jvm.MethodName) ({ cls := "java/lang/Object", name := "equals", desc := "(Ljava/lang/Object;)Z" } : Jvm.MethodName)) ∈ lw_all := lw_g (lw_at lw_m10 23 rfl) rfl
theorem q2865 : (Jvm.Cond.castable "SpillslotWorks$Life" "java/lang/Object") ∈ lw_tbl := lw_at lw_m12 106 rfl
theorem in_X9 : ∀ w ∈ wsX90, w ∈ lw_all := lw_in wsX90 [700, 702, 704, 706, 708, 710, 712, 714, 716, 718, 720] (by decide +kernel) (by decide +kernel)
