/-! SpillslotWorksModel$Machine -/
set_option maxRecDepth 100000
def RX15 : String := "SpillslotWorksModel$Machine"
def TX15 : u_T := fun k => match k with
  | 0 => ("SpillslotWorksModel$Machine", "registers", "I", true)
  | 1 => ("SpillslotWorksModel$Machine", "kept", "I", true)
  | 2 => ("SpillslotWorksModel$Machine", "small", "I", true)
  | 3 => ("SpillslotWorksModel$Machine", "isFused", "Z", true)
  | _ => ("SpillslotWorksModel$Machine", "isTwo", "Z", true)
def tyX15 : Nat → FieldType := fun k => match k with
  | 0 => .int
  | 1 => .int
  | 2 => .int
  | 3 => .boolean
  | _ => .boolean
abbrev wsX150 : List Cond := u_ws RX15 TX15 5
theorem nmX15 : ∀ a, a < 5 → ∀ b, b < 5 → a ≠ b → (TX15 a).2.1 ≠ (TX15 b).2.1 := by decide +kernel
theorem tyX15_ok : ∀ k, k < 5 → parseFieldDescriptor (TX15 k).2.2.1 = some (tyX15 k) := by decide +kernel
abbrev cX15_init : ByteArray := prog_20_method_1_code
def yX15_init : MethodName := ⟨RX15, "<init>", "(IIIZZ)V"⟩
def dkwX15_init_1 : List UInt8 := [181, 0, 21, 42, 21, 5, 181, 0, 25, 177]
abbrev dktX15_init_1 : List UInt8 := dkwX15_init_1 ++ []
def dkwX15_init_0 : List UInt8 := [42, 183, 0, 3, 42, 27, 181, 0, 9, 42, 28, 181, 0, 15, 42, 29, 181, 0, 18, 42, 21, 4]
abbrev dktX15_init_0 : List UInt8 := dkwX15_init_0 ++ dktX15_init_1
theorem dksX15_init_0 : cX15_init.data.toList.drop 0 = dktX15_init_0 := by decide +kernel
theorem dksX15_init_1 : cX15_init.data.toList.drop 22 = dktX15_init_1 := dk_seg dksX15_init_0 22 rfl rfl
theorem dX15_init_0 : decode cX15_init 0 = .ok (.aload_n 0, 1) := dk_42 (dk_at dksX15_init_0 0 rfl rfl)
theorem dX15_init_1 : decode cX15_init 1 = .ok (.invokespecial 3, 3) := dk_183 0 3 (dk_at dksX15_init_0 1 rfl rfl)
theorem dX15_init_4 : decode cX15_init 4 = .ok (.aload_n 0, 1) := dk_42 (dk_at dksX15_init_0 4 rfl rfl)
theorem dX15_init_5 : decode cX15_init 5 = .ok (.iload_n 1, 1) := dk_27 (dk_at dksX15_init_0 5 rfl rfl)
theorem dX15_init_6 : decode cX15_init 6 = .ok (.putfield 9, 3) := dk_181 0 9 (dk_at dksX15_init_0 6 rfl rfl)
theorem dX15_init_9 : decode cX15_init 9 = .ok (.aload_n 0, 1) := dk_42 (dk_at dksX15_init_0 9 rfl rfl)
theorem dX15_init_10 : decode cX15_init 10 = .ok (.iload_n 2, 1) := dk_28 (dk_at dksX15_init_0 10 rfl rfl)
theorem dX15_init_11 : decode cX15_init 11 = .ok (.putfield 15, 3) := dk_181 0 15 (dk_at dksX15_init_0 11 rfl rfl)
theorem dX15_init_14 : decode cX15_init 14 = .ok (.aload_n 0, 1) := dk_42 (dk_at dksX15_init_0 14 rfl rfl)
theorem dX15_init_15 : decode cX15_init 15 = .ok (.iload_n 3, 1) := dk_29 (dk_at dksX15_init_0 15 rfl rfl)
theorem dX15_init_16 : decode cX15_init 16 = .ok (.putfield 18, 3) := dk_181 0 18 (dk_at dksX15_init_0 16 rfl rfl)
theorem dX15_init_19 : decode cX15_init 19 = .ok (.aload_n 0, 1) := dk_42 (dk_at dksX15_init_0 19 rfl rfl)
theorem dX15_init_20 : decode cX15_init 20 = .ok (.iload 4, 2) := dk_21 4 (dk_at dksX15_init_0 20 rfl rfl)
theorem dX15_init_22 : decode cX15_init 22 = .ok (.putfield 21, 3) := dk_181 0 21 (dk_at dksX15_init_1 0 rfl rfl)
theorem dX15_init_25 : decode cX15_init 25 = .ok (.aload_n 0, 1) := dk_42 (dk_at dksX15_init_1 3 rfl rfl)
theorem dX15_init_26 : decode cX15_init 26 = .ok (.iload 5, 2) := dk_21 5 (dk_at dksX15_init_1 4 rfl rfl)
theorem dX15_init_28 : decode cX15_init 28 = .ok (.putfield 25, 3) := dk_181 0 25 (dk_at dksX15_init_1 6 rfl rfl)
theorem dX15_init_31 : decode cX15_init 31 = .ok (.return_, 1) := dk_177 (dk_at dksX15_init_1 9 rfl rfl)
abbrev cX15_scratch : ByteArray := prog_20_method_2_code
def yX15_scratch : MethodName := ⟨RX15, "scratch", "()I"⟩
def dkwX15_scratch_0 : List UInt8 := [42, 180, 0, 9, 6, 100, 172]
abbrev dktX15_scratch_0 : List UInt8 := dkwX15_scratch_0 ++ []
theorem dksX15_scratch_0 : cX15_scratch.data.toList.drop 0 = dktX15_scratch_0 := by decide +kernel
theorem dX15_scratch_0 : decode cX15_scratch 0 = .ok (.aload_n 0, 1) := dk_42 (dk_at dksX15_scratch_0 0 rfl rfl)
theorem dX15_scratch_1 : decode cX15_scratch 1 = .ok (.getfield 9, 3) := dk_180 0 9 (dk_at dksX15_scratch_0 1 rfl rfl)
theorem dX15_scratch_4 : decode cX15_scratch 4 = .ok (.iconst 3, 1) := dk_6 (dk_at dksX15_scratch_0 4 rfl rfl)
theorem dX15_scratch_5 : decode cX15_scratch 5 = .ok (.isub, 1) := dk_100 (dk_at dksX15_scratch_0 5 rfl rfl)
theorem dX15_scratch_6 : decode cX15_scratch 6 = .ok (.ireturn, 1) := dk_172 (dk_at dksX15_scratch_0 6 rfl rfl)
abbrev cX15_isKept : ByteArray := prog_20_method_3_code
def yX15_isKept : MethodName := ⟨RX15, "isKept", "(I)Z"⟩
def dkwX15_isKept_0 : List UInt8 := [42, 180, 0, 15, 27, 184, 0, 28, 172]
abbrev dktX15_isKept_0 : List UInt8 := dkwX15_isKept_0 ++ []
theorem dksX15_isKept_0 : cX15_isKept.data.toList.drop 0 = dktX15_isKept_0 := by decide +kernel
theorem dX15_isKept_0 : decode cX15_isKept 0 = .ok (.aload_n 0, 1) := dk_42 (dk_at dksX15_isKept_0 0 rfl rfl)
theorem dX15_isKept_1 : decode cX15_isKept 1 = .ok (.getfield 15, 3) := dk_180 0 15 (dk_at dksX15_isKept_0 1 rfl rfl)
theorem dX15_isKept_4 : decode cX15_isKept 4 = .ok (.iload_n 1, 1) := dk_27 (dk_at dksX15_isKept_0 4 rfl rfl)
theorem dX15_isKept_5 : decode cX15_isKept 5 = .ok (.invokestatic 28, 3) := dk_184 0 28 (dk_at dksX15_isKept_0 5 rfl rfl)
theorem dX15_isKept_8 : decode cX15_isKept 8 = .ok (.ireturn, 1) := dk_172 (dk_at dksX15_isKept_0 8 rfl rfl)
theorem q157 : (Jvm.Cond.initialized "SpillslotWorksModel$Machine") ∈ lw_all := lw_g (lw_at lw_m1 38 rfl) rfl
theorem q270 : (Jvm.Cond.selects "SpillslotWorksModel$Machine" ({ cls := "java/lang/Object", name := "getClass", desc := "()Ljava/lang/Class;" } : Jvm.MethodName) ({ cls := "java/lang/Object", name := "getClass", desc := "()Ljava/lang/Class;" } : Jvm.MethodName)) ∈ lw_all := lw_g (lw_at lw_m1 151 rfl) rfl
theorem q1887 : (Jvm.Cond.instantiable "SpillslotWorksModel$Machine" (5 : Nat)) ∈ lw_all := lw_g (lw_at lw_m8 88 rfl) rfl
theorem q1889 : (Jvm.Cond.instanceMethod ({ cls := "SpillslotWorksModel$Machine", name := "<init>", desc := "(IIIZZ)V" } : Jvm.MethodName)) ∈ lw_all := lw_g (lw_at lw_m8 90 rfl) rfl
theorem q1890 : (Jvm.Cond.code ({ cls := "SpillslotWorksModel$Machine", name := "<init>", desc := "(IIIZZ)V" } : Jvm.MethodName) prog_20_method_1_code (6 : Nat) (Option.none : Option Jvm.ClassFile.FieldType)) ∈ lw_all := lw_g (lw_at lw_m8 91 rfl) rfl
theorem q1891 : (Jvm.Cond.methodLink "SpillslotWorksModel$Machine" (3 : Nat) ({ cls := "java/lang/Object", name := "<init>", desc := "()V" } : Jvm.MethodName)) ∈ lw_all := lw_g (lw_at lw_m8 92 rfl) rfl
theorem q1892 : (Jvm.Cond.fieldLink "SpillslotWorksModel$Machine" (9 : Nat) "SpillslotWorksModel$Machine" "registers" "I") ∈ lw_all := lw_g (lw_at lw_m8 93 rfl) rfl
theorem q1895 : (Jvm.Cond.fieldLink "SpillslotWorksModel$Machine" (15 : Nat) "SpillslotWorksModel$Machine" "kept" "I") ∈ lw_all := lw_g (lw_at lw_m8 96 rfl) rfl
theorem q1897 : (Jvm.Cond.fieldLink "SpillslotWorksModel$Machine" (18 : Nat) "SpillslotWorksModel$Machine" "small" "I") ∈ lw_all := lw_g (lw_at lw_m8 98 rfl) rfl
theorem q1900 : (Jvm.Cond.fieldLink "SpillslotWorksModel$Machine" (21 : Nat) "SpillslotWorksModel$Machine" "isFused" "Z") ∈ lw_all := lw_g (lw_at lw_m8 101 rfl) rfl
theorem q1903 : (Jvm.Cond.fieldLink "SpillslotWorksModel$Machine" (25 : Nat) "SpillslotWorksModel$Machine" "isTwo" "Z") ∈ lw_all := lw_g (lw_at lw_m8 104 rfl) rfl
theorem q1907 : (Jvm.Cond.laysFinal "SpillslotWorksModel$Machine" "SpillslotWorksModel$Machine" "registers" "I") ∈ lw_all := lw_g (lw_at lw_m8 108 rfl) rfl
theorem q1908 : (Jvm.Cond.soleField "SpillslotWorksModel$Machine" "registers") ∈ lw_all := lw_g (lw_at lw_m8 109 rfl) rfl
theorem q1909 : (Jvm.Cond.laysFinal "SpillslotWorksModel$Machine" "SpillslotWorksModel$Machine" "kept" "I") ∈ lw_all := lw_g (lw_at lw_m8 110 rfl) rfl
theorem q1910 : (Jvm.Cond.soleField "SpillslotWorksModel$Machine" "kept") ∈ lw_all := lw_g (lw_at lw_m8 111 rfl) rfl
theorem q1911 : (Jvm.Cond.laysFinal "SpillslotWorksModel$Machine" "SpillslotWorksModel$Machine" "small" "I") ∈ lw_all := lw_g (lw_at lw_m8 112 rfl) rfl
theorem q1912 : (Jvm.Cond.soleField "SpillslotWorksModel$Machine" "small") ∈ lw_all := lw_g (lw_at lw_m8 113 rfl) rfl
theorem q1913 : (Jvm.Cond.laysFinal "SpillslotWorksModel$Machine" "SpillslotWorksModel$Machine" "isFused" "Z") ∈ lw_all := lw_g (lw_at lw_m8 114 rfl) rfl
theorem q1914 : (Jvm.Cond.soleField "SpillslotWorksModel$Machine" "isFused") ∈ lw_all := lw_g (lw_at lw_m8 115 rfl) rfl
theorem q1915 : (Jvm.Cond.laysFinal "SpillslotWorksModel$Machine" "SpillslotWorksModel$Machine" "isTwo" "Z") ∈ lw_all := lw_g (lw_at lw_m8 116 rfl) rfl
theorem q1916 : (Jvm.Cond.soleField "SpillslotWorksModel$Machine" "isTwo") ∈ lw_all := lw_g (lw_at lw_m8 117 rfl) rfl
theorem q1917 : (Jvm.Cond.superclass "SpillslotWorksModel$Machine" "java/lang/Object") ∈ lw_all := lw_g (lw_at lw_m8 118 rfl) rfl
theorem q2315 : (Jvm.Cond.selects "SpillslotWorksModel$Machine" ({ cls := "java/lang/Object", name := "equals", desc := "(Ljava/lang/Object;)Z" } : Jvm.MethodName) ({ cls := "java/lang/Object", name := "equals", desc := "(Ljava/lang/Object;)Z" } : Jvm.MethodName)) ∈ lw_all := lw_g (lw_at lw_m10 36 rfl) rfl
theorem q2514 : (Jvm.Cond.instanceMethod ({ cls := "SpillslotWorksModel$Machine", name := "scratch", desc := "()I" } : Jvm.MethodName)) ∈ lw_all := lw_g (lw_at lw_m10 235 rfl) rfl
theorem q2515 : (Jvm.Cond.selects "SpillslotWorksModel$Machine" ({ cls := "SpillslotWorksModel$Machine", name := "scratch", desc := "()I" } : Jvm.MethodName) ({ cls := "SpillslotWorksModel$Machine", name := "scratch", desc := "()I" } : Jvm.MethodName)) ∈ lw_all := lw_g (lw_at lw_m10 236 rfl) rfl
theorem q2516 : (Jvm.Cond.code ({ cls := "SpillslotWorksModel$Machine", name := "scratch", desc := "()I" } : Jvm.MethodName) prog_20_method_2_code (1 : Nat) (Option.some Jvm.ClassFile.FieldType.int)) ∈ lw_all := lw_g (lw_at lw_m10 237 rfl) rfl
theorem q2522 : (Jvm.Cond.instanceMethod ({ cls := "SpillslotWorksModel$Machine", name := "isKept", desc := "(I)Z" } : Jvm.MethodName)) ∈ lw_all := lw_g (lw_at lw_m11 3 rfl) rfl
theorem q2523 : (Jvm.Cond.selects "SpillslotWorksModel$Machine" ({ cls := "SpillslotWorksModel$Machine", name := "isKept", desc := "(I)Z" } : Jvm.MethodName) ({ cls := "SpillslotWorksModel$Machine", name := "isKept", desc := "(I)Z" } : Jvm.MethodName)) ∈ lw_all := lw_g (lw_at lw_m11 4 rfl) rfl
theorem q2524 : (Jvm.Cond.code ({ cls := "SpillslotWorksModel$Machine", name := "isKept", desc := "(I)Z" } : Jvm.MethodName) prog_20_method_3_code (2 : Nat) (Option.some Jvm.ClassFile.FieldType.boolean)) ∈ lw_all := lw_g (lw_at lw_m11 5 rfl) rfl
theorem q2525 : (Jvm.Cond.methodLinkNest "SpillslotWorksModel$Machine" (28 : Nat) ({ cls := "SpillslotWorksModel", name := "has", desc := "(II)Z" } : Jvm.MethodName) "SpillslotWorksModel") ∈ lw_tbl := lw_at lw_m11 6 rfl
theorem q2875 : (Jvm.Cond.castable "SpillslotWorksModel$Machine" "java/lang/Object") ∈ lw_tbl := lw_at lw_m12 116 rfl
theorem in_X15 : ∀ w ∈ wsX150, w ∈ lw_all := lw_in wsX150 [1907, 1909, 1911, 1913, 1915] (by decide +kernel) (by decide +kernel)
/-! SpillslotWorks$Node -/
def RX16 : String := "SpillslotWorks$Node"
def TX16 : u_T := fun k => match k with
  | 0 => ("SpillslotWorks$Node", "kind", "LSpillslotWorks$Kind;", true)
  | 1 => ("SpillslotWorks$Node", "a", "I", true)
  | 2 => ("SpillslotWorks$Node", "b", "I", true)
  | _ => ("SpillslotWorks$Node", "isPart", "Z", false)
def tyX16 : Nat → FieldType := fun k => match k with
  | 0 => .object "SpillslotWorks$Kind"
  | 1 => .int
  | 2 => .int
  | _ => .boolean
abbrev wsX160 : List Cond := u_ws RX16 TX16 4
theorem nmX16 : ∀ a, a < 4 → ∀ b, b < 4 → a ≠ b → (TX16 a).2.1 ≠ (TX16 b).2.1 := by decide +kernel
theorem tyX16_ok : ∀ k, k < 4 → parseFieldDescriptor (TX16 k).2.2.1 = some (tyX16 k) := by decide +kernel
abbrev cX16_isOfTwo : ByteArray := prog_9_method_3_code
def yX16_isOfTwo : MethodName := ⟨RX16, "isOfTwo", "()Z"⟩
def dkwX16_isOfTwo_0 : List UInt8 := [42, 180, 0, 7, 182, 0, 20, 178, 0, 26, 182, 0, 20, 161, 0, 7, 4, 167, 0, 4, 3, 172]
abbrev dktX16_isOfTwo_0 : List UInt8 := dkwX16_isOfTwo_0 ++ []
theorem dksX16_isOfTwo_0 : cX16_isOfTwo.data.toList.drop 0 = dktX16_isOfTwo_0 := by decide +kernel
theorem dX16_isOfTwo_0 : decode cX16_isOfTwo 0 = .ok (.aload_n 0, 1) := dk_42 (dk_at dksX16_isOfTwo_0 0 rfl rfl)
theorem dX16_isOfTwo_1 : decode cX16_isOfTwo 1 = .ok (.getfield 7, 3) := dk_180 0 7 (dk_at dksX16_isOfTwo_0 1 rfl rfl)
theorem dX16_isOfTwo_4 : decode cX16_isOfTwo 4 = .ok (.invokevirtual 20, 3) := dk_182 0 20 (dk_at dksX16_isOfTwo_0 4 rfl rfl)
theorem dX16_isOfTwo_7 : decode cX16_isOfTwo 7 = .ok (.getstatic 26, 3) := dk_178 0 26 (dk_at dksX16_isOfTwo_0 7 rfl rfl)
theorem dX16_isOfTwo_10 : decode cX16_isOfTwo 10 = .ok (.invokevirtual 20, 3) := dk_182 0 20 (dk_at dksX16_isOfTwo_0 10 rfl rfl)
theorem dX16_isOfTwo_13 : decode cX16_isOfTwo 13 = .ok (.if_icmp .lt 7, 3) := dk_161 0 7 (dk_at dksX16_isOfTwo_0 13 rfl rfl)
theorem dX16_isOfTwo_16 : decode cX16_isOfTwo 16 = .ok (.iconst 1, 1) := dk_4 (dk_at dksX16_isOfTwo_0 16 rfl rfl)
theorem dX16_isOfTwo_17 : decode cX16_isOfTwo 17 = .ok (.goto 4, 3) := dk_167 0 4 (dk_at dksX16_isOfTwo_0 17 rfl rfl)
theorem dX16_isOfTwo_20 : decode cX16_isOfTwo 20 = .ok (.iconst 0, 1) := dk_3 (dk_at dksX16_isOfTwo_0 20 rfl rfl)
theorem dX16_isOfTwo_21 : decode cX16_isOfTwo 21 = .ok (.ireturn, 1) := dk_172 (dk_at dksX16_isOfTwo_0 21 rfl rfl)
abbrev cX16_is : ByteArray := prog_9_method_2_code
def yX16_is : MethodName := ⟨RX16, "is", "(LSpillslotWorks$Kind;)Z"⟩
def dkwX16_is_0 : List UInt8 := [42, 180, 0, 7, 43, 166, 0, 7, 4, 167, 0, 4, 3, 172]
abbrev dktX16_is_0 : List UInt8 := dkwX16_is_0 ++ []
theorem dksX16_is_0 : cX16_is.data.toList.drop 0 = dktX16_is_0 := by decide +kernel
theorem dX16_is_0 : decode cX16_is 0 = .ok (.aload_n 0, 1) := dk_42 (dk_at dksX16_is_0 0 rfl rfl)
theorem dX16_is_1 : decode cX16_is 1 = .ok (.getfield 7, 3) := dk_180 0 7 (dk_at dksX16_is_0 1 rfl rfl)
theorem dX16_is_4 : decode cX16_is 4 = .ok (.aload_n 1, 1) := dk_43 (dk_at dksX16_is_0 4 rfl rfl)
theorem dX16_is_5 : decode cX16_is 5 = .ok (.if_acmp .ne 7, 3) := dk_166 0 7 (dk_at dksX16_is_0 5 rfl rfl)
theorem dX16_is_8 : decode cX16_is 8 = .ok (.iconst 1, 1) := dk_4 (dk_at dksX16_is_0 8 rfl rfl)
theorem dX16_is_9 : decode cX16_is 9 = .ok (.goto 4, 3) := dk_167 0 4 (dk_at dksX16_is_0 9 rfl rfl)
theorem dX16_is_12 : decode cX16_is 12 = .ok (.iconst 0, 1) := dk_3 (dk_at dksX16_is_0 12 rfl rfl)
theorem dX16_is_13 : decode cX16_is 13 = .ok (.ireturn, 1) := dk_172 (dk_at dksX16_is_0 13 rfl rfl)
abbrev cX16_init : ByteArray := prog_9_method_1_code
def yX16_init : MethodName := ⟨RX16, "<init>", "(LSpillslotWorks$Kind;II)V"⟩
def dkwX16_init_0 : List UInt8 := [42, 183, 0, 1, 42, 43, 181, 0, 7, 42, 28, 181, 0, 13, 42, 29, 181, 0, 17, 177]
abbrev dktX16_init_0 : List UInt8 := dkwX16_init_0 ++ []
theorem dksX16_init_0 : cX16_init.data.toList.drop 0 = dktX16_init_0 := by decide +kernel
theorem dX16_init_0 : decode cX16_init 0 = .ok (.aload_n 0, 1) := dk_42 (dk_at dksX16_init_0 0 rfl rfl)
theorem dX16_init_1 : decode cX16_init 1 = .ok (.invokespecial 1, 3) := dk_183 0 1 (dk_at dksX16_init_0 1 rfl rfl)
theorem dX16_init_4 : decode cX16_init 4 = .ok (.aload_n 0, 1) := dk_42 (dk_at dksX16_init_0 4 rfl rfl)
theorem dX16_init_5 : decode cX16_init 5 = .ok (.aload_n 1, 1) := dk_43 (dk_at dksX16_init_0 5 rfl rfl)
theorem dX16_init_6 : decode cX16_init 6 = .ok (.putfield 7, 3) := dk_181 0 7 (dk_at dksX16_init_0 6 rfl rfl)
theorem dX16_init_9 : decode cX16_init 9 = .ok (.aload_n 0, 1) := dk_42 (dk_at dksX16_init_0 9 rfl rfl)
theorem dX16_init_10 : decode cX16_init 10 = .ok (.iload_n 2, 1) := dk_28 (dk_at dksX16_init_0 10 rfl rfl)
theorem dX16_init_11 : decode cX16_init 11 = .ok (.putfield 13, 3) := dk_181 0 13 (dk_at dksX16_init_0 11 rfl rfl)
theorem dX16_init_14 : decode cX16_init 14 = .ok (.aload_n 0, 1) := dk_42 (dk_at dksX16_init_0 14 rfl rfl)
theorem dX16_init_15 : decode cX16_init 15 = .ok (.iload_n 3, 1) := dk_29 (dk_at dksX16_init_0 15 rfl rfl)
theorem dX16_init_16 : decode cX16_init 16 = .ok (.putfield 17, 3) := dk_181 0 17 (dk_at dksX16_init_0 16 rfl rfl)
theorem dX16_init_19 : decode cX16_init 19 = .ok (.return_, 1) := dk_177 (dk_at dksX16_init_0 19 rfl rfl)
theorem q159 : (Jvm.Cond.initialized "SpillslotWorks$Node") ∈ lw_all := lw_g (lw_at lw_m1 40 rfl) rfl
theorem q260 : (Jvm.Cond.selects "SpillslotWorks$Node" ({ cls := "java/lang/Object", name := "getClass", desc := "()Ljava/lang/Class;" } : Jvm.MethodName) ({ cls := "java/lang/Object", name := "getClass", desc := "()Ljava/lang/Class;" } : Jvm.MethodName)) ∈ lw_all := lw_g (lw_at lw_m1 141 rfl) rfl
theorem q417 : (Jvm.Cond.instanceMethod ({ cls := "SpillslotWorks$Node", name := "isOfTwo", desc := "()Z" } : Jvm.MethodName)) ∈ lw_all := lw_g (lw_at lw_m2 58 rfl) rfl
theorem q418 : (Jvm.Cond.selects "SpillslotWorks$Node" ({ cls := "SpillslotWorks$Node", name := "isOfTwo", desc := "()Z" } : Jvm.MethodName) ({ cls := "SpillslotWorks$Node", name := "isOfTwo", desc := "()Z" } : Jvm.MethodName)) ∈ lw_all := lw_g (lw_at lw_m2 59 rfl) rfl
theorem q419 : (Jvm.Cond.code ({ cls := "SpillslotWorks$Node", name := "isOfTwo", desc := "()Z" } : Jvm.MethodName) prog_9_method_3_code (1 : Nat) (Option.some Jvm.ClassFile.FieldType.boolean)) ∈ lw_all := lw_g (lw_at lw_m2 60 rfl) rfl
theorem q420 : (Jvm.Cond.methodLink "SpillslotWorks$Node" (20 : Nat) ({ cls := "SpillslotWorks$Kind", name := "ordinal", desc := "()I" } : Jvm.MethodName)) ∈ lw_all := lw_g (lw_at lw_m2 61 rfl) rfl
theorem q426 : (Jvm.Cond.fieldLink "SpillslotWorks$Node" (26 : Nat) "SpillslotWorks$Kind" "ADD" "LSpillslotWorks$Kind;") ∈ lw_all := lw_g (lw_at lw_m2 67 rfl) rfl
theorem q431 : (Jvm.Cond.instanceMethod ({ cls := "SpillslotWorks$Node", name := "is", desc := "(LSpillslotWorks$Kind;)Z" } : Jvm.MethodName)) ∈ lw_all := lw_g (lw_at lw_m2 72 rfl) rfl
theorem q432 : (Jvm.Cond.selects "SpillslotWorks$Node" ({ cls := "SpillslotWorks$Node", name := "is", desc := "(LSpillslotWorks$Kind;)Z" } : Jvm.MethodName) ({ cls := "SpillslotWorks$Node", name := "is", desc := "(LSpillslotWorks$Kind;)Z" } : Jvm.MethodName)) ∈ lw_all := lw_g (lw_at lw_m2 73 rfl) rfl
theorem q433 : (Jvm.Cond.code ({ cls := "SpillslotWorks$Node", name := "is", desc := "(LSpillslotWorks$Kind;)Z" } : Jvm.MethodName) prog_9_method_2_code (2 : Nat) (Option.some Jvm.ClassFile.FieldType.boolean)) ∈ lw_all := lw_g (lw_at lw_m2 74 rfl) rfl
theorem q1634 : (Jvm.Cond.instantiable "SpillslotWorks$Node" (4 : Nat)) ∈ lw_all := lw_g (lw_at lw_m7 75 rfl) rfl
theorem q1646 : (Jvm.Cond.instanceMethod ({ cls := "SpillslotWorks$Node", name := "<init>", desc := "(LSpillslotWorks$Kind;II)V" } : Jvm.MethodName)) ∈ lw_all := lw_g (lw_at lw_m7 87 rfl) rfl
theorem q1647 : (Jvm.Cond.code ({ cls := "SpillslotWorks$Node", name := "<init>", desc := "(LSpillslotWorks$Kind;II)V" } : Jvm.MethodName) prog_9_method_1_code (4 : Nat) (Option.none : Option Jvm.ClassFile.FieldType)) ∈ lw_all := lw_g (lw_at lw_m7 88 rfl) rfl
theorem q1648 : (Jvm.Cond.methodLink "SpillslotWorks$Node" (1 : Nat) ({ cls := "java/lang/Object", name := "<init>", desc := "()V" } : Jvm.MethodName)) ∈ lw_all := lw_g (lw_at lw_m7 89 rfl) rfl
theorem q1649 : (Jvm.Cond.fieldLink "SpillslotWorks$Node" (7 : Nat) "SpillslotWorks$Node" "kind" "LSpillslotWorks$Kind;") ∈ lw_all := lw_g (lw_at lw_m7 90 rfl) rfl
theorem q1651 : (Jvm.Cond.fieldLink "SpillslotWorks$Node" (13 : Nat) "SpillslotWorks$Node" "a" "I") ∈ lw_all := lw_g (lw_at lw_m7 92 rfl) rfl
theorem q1654 : (Jvm.Cond.fieldLink "SpillslotWorks$Node" (17 : Nat) "SpillslotWorks$Node" "b" "I") ∈ lw_all := lw_g (lw_at lw_m7 95 rfl) rfl
theorem q1658 : (Jvm.Cond.laysFinal "SpillslotWorks$Node" "SpillslotWorks$Node" "kind" "LSpillslotWorks$Kind;") ∈ lw_all := lw_g (lw_at lw_m7 99 rfl) rfl
theorem q1659 : (Jvm.Cond.soleField "SpillslotWorks$Node" "kind") ∈ lw_all := lw_g (lw_at lw_m7 100 rfl) rfl
theorem q1660 : (Jvm.Cond.laysFinal "SpillslotWorks$Node" "SpillslotWorks$Node" "a" "I") ∈ lw_all := lw_g (lw_at lw_m7 101 rfl) rfl
theorem q1661 : (Jvm.Cond.soleField "SpillslotWorks$Node" "a") ∈ lw_all := lw_g (lw_at lw_m7 102 rfl) rfl
theorem q1662 : (Jvm.Cond.laysFinal "SpillslotWorks$Node" "SpillslotWorks$Node" "b" "I") ∈ lw_all := lw_g (lw_at lw_m7 103 rfl) rfl
theorem q1663 : (Jvm.Cond.soleField "SpillslotWorks$Node" "b") ∈ lw_all := lw_g (lw_at lw_m7 104 rfl) rfl
theorem q1664 : (Jvm.Cond.lays "SpillslotWorks$Node" "SpillslotWorks$Node" "isPart" "Z") ∈ lw_all := lw_g (lw_at lw_m7 105 rfl) rfl
theorem q1665 : (Jvm.Cond.soleField "SpillslotWorks$Node" "isPart") ∈ lw_all := lw_g (lw_at lw_m7 106 rfl) rfl
theorem q1666 : (Jvm.Cond.superclass "SpillslotWorks$Node" "java/lang/Object") ∈ lw_all := lw_g (lw_at lw_m7 107 rfl) rfl
theorem q2305 : (Jvm.Cond.selects "SpillslotWorks$Node" ({ cls := "java/lang/Object", name := "equals", desc := "(Ljava/lang/Object;)Z" } : Jvm.MethodName) ({ cls := "java/lang/Object", name := "equals", desc := "(Ljava/lang/Object;)Z" } : Jvm.MethodName)) ∈ lw_all := lw_g (lw_at lw_m10 26 rfl) rfl
theorem q2877 : (Jvm.Cond.castable "SpillslotWorks$Node" "java/lang/Object") ∈ lw_tbl := lw_at lw_m12 118 rfl
theorem in_X16 : ∀ w ∈ wsX160, w ∈ lw_all := lw_in wsX160 [1658, 1660, 1662, 1664] (by decide +kernel) (by decide +kernel)
/-! SpillslotWorksModel$Node -/
def RX17 : String := "SpillslotWorksModel$Node"
def TX17 : u_T := fun k => match k with
  | 0 => ("SpillslotWorksModel$Node", "kind", "I", true)
  | 1 => ("SpillslotWorksModel$Node", "a", "I", true)
  | 2 => ("SpillslotWorksModel$Node", "b", "I", true)
  | _ => ("SpillslotWorksModel$Node", "isPart", "Z", false)
def tyX17 : Nat → FieldType := fun k => match k with
  | 0 => .int
  | 1 => .int
  | 2 => .int
  | _ => .boolean
abbrev wsX170 : List Cond := u_ws RX17 TX17 4
theorem nmX17 : ∀ a, a < 4 → ∀ b, b < 4 → a ≠ b → (TX17 a).2.1 ≠ (TX17 b).2.1 := by decide +kernel
theorem tyX17_ok : ∀ k, k < 4 → parseFieldDescriptor (TX17 k).2.2.1 = some (tyX17 k) := by decide +kernel
abbrev cX17_init : ByteArray := prog_21_method_1_code
def yX17_init : MethodName := ⟨RX17, "<init>", "(III)V"⟩
def dkwX17_init_0 : List UInt8 := [42, 183, 0, 3, 42, 27, 181, 0, 9, 42, 28, 181, 0, 15, 42, 29, 181, 0, 18, 177]
abbrev dktX17_init_0 : List UInt8 := dkwX17_init_0 ++ []
theorem dksX17_init_0 : cX17_init.data.toList.drop 0 = dktX17_init_0 := by decide +kernel
theorem dX17_init_0 : decode cX17_init 0 = .ok (.aload_n 0, 1) := dk_42 (dk_at dksX17_init_0 0 rfl rfl)
theorem dX17_init_1 : decode cX17_init 1 = .ok (.invokespecial 3, 3) := dk_183 0 3 (dk_at dksX17_init_0 1 rfl rfl)
theorem dX17_init_4 : decode cX17_init 4 = .ok (.aload_n 0, 1) := dk_42 (dk_at dksX17_init_0 4 rfl rfl)
theorem dX17_init_5 : decode cX17_init 5 = .ok (.iload_n 1, 1) := dk_27 (dk_at dksX17_init_0 5 rfl rfl)
theorem dX17_init_6 : decode cX17_init 6 = .ok (.putfield 9, 3) := dk_181 0 9 (dk_at dksX17_init_0 6 rfl rfl)
theorem dX17_init_9 : decode cX17_init 9 = .ok (.aload_n 0, 1) := dk_42 (dk_at dksX17_init_0 9 rfl rfl)
theorem dX17_init_10 : decode cX17_init 10 = .ok (.iload_n 2, 1) := dk_28 (dk_at dksX17_init_0 10 rfl rfl)
theorem dX17_init_11 : decode cX17_init 11 = .ok (.putfield 15, 3) := dk_181 0 15 (dk_at dksX17_init_0 11 rfl rfl)
theorem dX17_init_14 : decode cX17_init 14 = .ok (.aload_n 0, 1) := dk_42 (dk_at dksX17_init_0 14 rfl rfl)
theorem dX17_init_15 : decode cX17_init 15 = .ok (.iload_n 3, 1) := dk_29 (dk_at dksX17_init_0 15 rfl rfl)
theorem dX17_init_16 : decode cX17_init 16 = .ok (.putfield 18, 3) := dk_181 0 18 (dk_at dksX17_init_0 16 rfl rfl)
theorem dX17_init_19 : decode cX17_init 19 = .ok (.return_, 1) := dk_177 (dk_at dksX17_init_0 19 rfl rfl)
abbrev cX17_isOfTwo : ByteArray := prog_21_method_2_code
def yX17_isOfTwo : MethodName := ⟨RX17, "isOfTwo", "()Z"⟩
def dkwX17_isOfTwo_0 : List UInt8 := [42, 180, 0, 9, 5, 161, 0, 7, 4, 167, 0, 4, 3, 172]
abbrev dktX17_isOfTwo_0 : List UInt8 := dkwX17_isOfTwo_0 ++ []
theorem dksX17_isOfTwo_0 : cX17_isOfTwo.data.toList.drop 0 = dktX17_isOfTwo_0 := by decide +kernel
theorem dX17_isOfTwo_0 : decode cX17_isOfTwo 0 = .ok (.aload_n 0, 1) := dk_42 (dk_at dksX17_isOfTwo_0 0 rfl rfl)
theorem dX17_isOfTwo_1 : decode cX17_isOfTwo 1 = .ok (.getfield 9, 3) := dk_180 0 9 (dk_at dksX17_isOfTwo_0 1 rfl rfl)
theorem dX17_isOfTwo_4 : decode cX17_isOfTwo 4 = .ok (.iconst 2, 1) := dk_5 (dk_at dksX17_isOfTwo_0 4 rfl rfl)
theorem dX17_isOfTwo_5 : decode cX17_isOfTwo 5 = .ok (.if_icmp .lt 7, 3) := dk_161 0 7 (dk_at dksX17_isOfTwo_0 5 rfl rfl)
theorem dX17_isOfTwo_8 : decode cX17_isOfTwo 8 = .ok (.iconst 1, 1) := dk_4 (dk_at dksX17_isOfTwo_0 8 rfl rfl)
theorem dX17_isOfTwo_9 : decode cX17_isOfTwo 9 = .ok (.goto 4, 3) := dk_167 0 4 (dk_at dksX17_isOfTwo_0 9 rfl rfl)
theorem dX17_isOfTwo_12 : decode cX17_isOfTwo 12 = .ok (.iconst 0, 1) := dk_3 (dk_at dksX17_isOfTwo_0 12 rfl rfl)
theorem dX17_isOfTwo_13 : decode cX17_isOfTwo 13 = .ok (.ireturn, 1) := dk_172 (dk_at dksX17_isOfTwo_0 13 rfl rfl)
theorem q161 : (Jvm.Cond.initialized "SpillslotWorksModel$Node") ∈ lw_all := lw_g (lw_at lw_m1 42 rfl) rfl
theorem q271 : (Jvm.Cond.selects "SpillslotWorksModel$Node" ({ cls := "java/lang/Object", name := "getClass", desc := "()Ljava/lang/Class;" } : Jvm.MethodName) ({ cls := "java/lang/Object", name := "getClass", desc := "()Ljava/lang/Class;" } : Jvm.MethodName)) ∈ lw_all := lw_g (lw_at lw_m1 152 rfl) rfl
theorem q1980 : (Jvm.Cond.instantiable "SpillslotWorksModel$Node" (4 : Nat)) ∈ lw_all := lw_g (lw_at lw_m8 181 rfl) rfl
theorem q1982 : (Jvm.Cond.instanceMethod ({ cls := "SpillslotWorksModel$Node", name := "<init>", desc := "(III)V" } : Jvm.MethodName)) ∈ lw_all := lw_g (lw_at lw_m8 183 rfl) rfl
theorem q1983 : (Jvm.Cond.code ({ cls := "SpillslotWorksModel$Node", name := "<init>", desc := "(III)V" } : Jvm.MethodName) prog_21_method_1_code (4 : Nat) (Option.none : Option Jvm.ClassFile.FieldType)) ∈ lw_all := lw_g (lw_at lw_m8 184 rfl) rfl
theorem q1984 : (Jvm.Cond.methodLink "SpillslotWorksModel$Node" (3 : Nat) ({ cls := "java/lang/Object", name := "<init>", desc := "()V" } : Jvm.MethodName)) ∈ lw_all := lw_g (lw_at lw_m8 185 rfl) rfl
theorem q1985 : (Jvm.Cond.fieldLink "SpillslotWorksModel$Node" (9 : Nat) "SpillslotWorksModel$Node" "kind" "I") ∈ lw_all := lw_g (lw_at lw_m8 186 rfl) rfl
theorem q1988 : (Jvm.Cond.fieldLink "SpillslotWorksModel$Node" (15 : Nat) "SpillslotWorksModel$Node" "a" "I") ∈ lw_all := lw_g (lw_at lw_m8 189 rfl) rfl
theorem q1991 : (Jvm.Cond.fieldLink "SpillslotWorksModel$Node" (18 : Nat) "SpillslotWorksModel$Node" "b" "I") ∈ lw_all := lw_g (lw_at lw_m8 192 rfl) rfl
theorem q1995 : (Jvm.Cond.laysFinal "SpillslotWorksModel$Node" "SpillslotWorksModel$Node" "kind" "I") ∈ lw_all := lw_g (lw_at lw_m8 196 rfl) rfl
theorem q1996 : (Jvm.Cond.soleField "SpillslotWorksModel$Node" "kind") ∈ lw_all := lw_g (lw_at lw_m8 197 rfl) rfl
theorem q1997 : (Jvm.Cond.laysFinal "SpillslotWorksModel$Node" "SpillslotWorksModel$Node" "a" "I") ∈ lw_all := lw_g (lw_at lw_m8 198 rfl) rfl
theorem q1998 : (Jvm.Cond.soleField "SpillslotWorksModel$Node" "a") ∈ lw_all := lw_g (lw_at lw_m8 199 rfl) rfl
theorem q1999 : (Jvm.Cond.laysFinal "SpillslotWorksModel$Node" "SpillslotWorksModel$Node" "b" "I") ∈ lw_all := lw_g (lw_at lw_m8 200 rfl) rfl
theorem q2000 : (Jvm.Cond.soleField "SpillslotWorksModel$Node" "b") ∈ lw_all := lw_g (lw_at lw_m8 201 rfl) rfl
theorem q2001 : (Jvm.Cond.lays "SpillslotWorksModel$Node" "SpillslotWorksModel$Node" "isPart" "Z") ∈ lw_all := lw_g (lw_at lw_m8 202 rfl) rfl
theorem q2002 : (Jvm.Cond.soleField "SpillslotWorksModel$Node" "isPart") ∈ lw_all := lw_g (lw_at lw_m8 203 rfl) rfl
theorem q2003 : (Jvm.Cond.superclass "SpillslotWorksModel$Node" "java/lang/Object") ∈ lw_all := lw_g (lw_at lw_m8 204 rfl) rfl
theorem q2006 : (Jvm.Cond.instanceMethod ({ cls := "SpillslotWorksModel$Node", name := "isOfTwo", desc := "()Z" } : Jvm.MethodName)) ∈ lw_all := lw_g (lw_at lw_m8 207 rfl) rfl
theorem q2007 : (Jvm.Cond.selects "SpillslotWorksModel$Node" ({ cls := "SpillslotWorksModel$Node", name := "isOfTwo", desc := "()Z" } : Jvm.MethodName) ({ cls := "SpillslotWorksModel$Node", name := "isOfTwo", desc := "()Z" } : Jvm.MethodName)) ∈ lw_all := lw_g (lw_at lw_m8 208 rfl) rfl
theorem q2008 : (Jvm.Cond.code ({ cls := "SpillslotWorksModel$Node", name := "isOfTwo", desc := "()Z" } : Jvm.MethodName) prog_21_method_2_code (1 : Nat) (Option.some Jvm.ClassFile.FieldType.boolean)) ∈ lw_all := lw_g (lw_at lw_m8 209 rfl) rfl
theorem q2316 : (Jvm.Cond.selects "SpillslotWorksModel$Node" ({ cls := "java/lang/Object", name := "equals", desc := "(Ljava/lang/Object;)Z" } : Jvm.MethodName) ({ cls := "java/lang/Object", name := "equals", desc := "(Ljava/lang/Object;)Z" } : Jvm.MethodName)) ∈ lw_all := lw_g (lw_at lw_m10 37 rfl) rfl
theorem q2879 : (Jvm.Cond.castable "SpillslotWorksModel$Node" "java/lang/Object") ∈ lw_tbl := lw_at lw_m12 120 rfl
theorem in_X17 : ∀ w ∈ wsX170, w ∈ lw_all := lw_in wsX170 [1995, 1997, 1999, 2001] (by decide +kernel) (by decide +kernel)
/-! SpillslotWorks$Statement -/
def RX18 : String := "SpillslotWorks$Statement"
def TX18 : u_T := fun k => match k with
  | 0 => ("SpillslotWorks$Statement", "variable", "I", true)
  | _ => ("SpillslotWorks$Statement", "node", "I", true)
def tyX18 : Nat → FieldType := fun k => match k with
  | 0 => .int
  | _ => .int
abbrev wsX180 : List Cond := u_ws RX18 TX18 2
theorem nmX18 : ∀ a, a < 2 → ∀ b, b < 2 → a ≠ b → (TX18 a).2.1 ≠ (TX18 b).2.1 := by decide +kernel
theorem tyX18_ok : ∀ k, k < 2 → parseFieldDescriptor (TX18 k).2.2.1 = some (tyX18 k) := by decide +kernel
abbrev cX18_init : ByteArray := prog_14_method_1_code
def yX18_init : MethodName := ⟨RX18, "<init>", "(II)V"⟩
def dkwX18_init_0 : List UInt8 := [42, 183, 0, 1, 42, 27, 181, 0, 7, 42, 28, 181, 0, 13, 177]
abbrev dktX18_init_0 : List UInt8 := dkwX18_init_0 ++ []
theorem dksX18_init_0 : cX18_init.data.toList.drop 0 = dktX18_init_0 := by decide +kernel
theorem dX18_init_0 : decode cX18_init 0 = .ok (.aload_n 0, 1) := dk_42 (dk_at dksX18_init_0 0 rfl rfl)
theorem dX18_init_1 : decode cX18_init 1 = .ok (.invokespecial 1, 3) := dk_183 0 1 (dk_at dksX18_init_0 1 rfl rfl)
theorem dX18_init_4 : decode cX18_init 4 = .ok (.aload_n 0, 1) := dk_42 (dk_at dksX18_init_0 4 rfl rfl)
theorem dX18_init_5 : decode cX18_init 5 = .ok (.iload_n 1, 1) := dk_27 (dk_at dksX18_init_0 5 rfl rfl)
theorem dX18_init_6 : decode cX18_init 6 = .ok (.putfield 7, 3) := dk_181 0 7 (dk_at dksX18_init_0 6 rfl rfl)
theorem dX18_init_9 : decode cX18_init 9 = .ok (.aload_n 0, 1) := dk_42 (dk_at dksX18_init_0 9 rfl rfl)
theorem dX18_init_10 : decode cX18_init 10 = .ok (.iload_n 2, 1) := dk_28 (dk_at dksX18_init_0 10 rfl rfl)
theorem dX18_init_11 : decode cX18_init 11 = .ok (.putfield 13, 3) := dk_181 0 13 (dk_at dksX18_init_0 11 rfl rfl)
theorem dX18_init_14 : decode cX18_init 14 = .ok (.return_, 1) := dk_177 (dk_at dksX18_init_0 14 rfl rfl)
theorem q162 : (Jvm.Cond.initialized "SpillslotWorks$Statement") ∈ lw_all := lw_g (lw_at lw_m1 43 rfl) rfl
theorem q265 : (Jvm.Cond.selects "SpillslotWorks$Statement" ({ cls := "java/lang/Object", name := "getClass", desc := "()Ljava/lang/Class;" } : Jvm.MethodName) ({ cls := "java/lang/Object", name := "getClass", desc := "()Ljava/lang/Class;" } : Jvm.MethodName)) ∈ lw_all := lw_g (lw_at lw_m1 146 rfl) rfl
theorem q1704 : (Jvm.Cond.instantiable "SpillslotWorks$Statement" (2 : Nat)) ∈ lw_all := lw_g (lw_at lw_m7 145 rfl) rfl
theorem q1706 : (Jvm.Cond.instanceMethod ({ cls := "SpillslotWorks$Statement", name := "<init>", desc := "(II)V" } : Jvm.MethodName)) ∈ lw_all := lw_g (lw_at lw_m7 147 rfl) rfl
theorem q1707 : (Jvm.Cond.code ({ cls := "SpillslotWorks$Statement", name := "<init>", desc := "(II)V" } : Jvm.MethodName) prog_14_method_1_code (3 : Nat) (Option.none : Option Jvm.ClassFile.FieldType)) ∈ lw_all := lw_g (lw_at lw_m7 148 rfl) rfl
theorem q1708 : (Jvm.Cond.methodLink "SpillslotWorks$Statement" (1 : Nat) ({ cls := "java/lang/Object", name := "<init>", desc := "()V" } : Jvm.MethodName)) ∈ lw_all := lw_g (lw_at lw_m7 149 rfl) rfl
theorem q1709 : (Jvm.Cond.fieldLink "SpillslotWorks$Statement" (7 : Nat) "SpillslotWorks$Statement" "variable" "I") ∈ lw_all := lw_g (lw_at lw_m7 150 rfl) rfl
theorem q1712 : (Jvm.Cond.fieldLink "SpillslotWorks$Statement" (13 : Nat) "SpillslotWorks$Statement" "node" "I") ∈ lw_all := lw_g (lw_at lw_m7 153 rfl) rfl
theorem q1716 : (Jvm.Cond.laysFinal "SpillslotWorks$Statement" "SpillslotWorks$Statement" "variable" "I") ∈ lw_all := lw_g (lw_at lw_m7 157 rfl) rfl
theorem q1717 : (Jvm.Cond.soleField "SpillslotWorks$Statement" "variable") ∈ lw_all := lw_g (lw_at lw_m7 158 rfl) rfl
theorem q1718 : (Jvm.Cond.laysFinal "SpillslotWorks$Statement" "SpillslotWorks$Statement" "node" "I") ∈ lw_all := lw_g (lw_at lw_m7 159 rfl) rfl
theorem q1719 : (Jvm.Cond.soleField "SpillslotWorks$Statement" "node") ∈ lw_all := lw_g (lw_at lw_m7 160 rfl) rfl
theorem q1720 : (Jvm.Cond.superclass "SpillslotWorks$Statement" "java/lang/Object") ∈ lw_all := lw_g (lw_at lw_m7 161 rfl) rfl
theorem q2310 : (Jvm.Cond.selects "SpillslotWorks$Statement" ({ cls := "java/lang/Object", name := "equals", desc := "(Ljava/lang/Object;)Z" } : Jvm.MethodName) ({ cls := "java/lang/Object", name := "equals", desc := "(Ljava/lang/Object;)Z" } : Jvm.MethodName)) ∈ lw_all := lw_g (lw_at lw_m10 31 rfl) rfl
theorem q2880 : (Jvm.Cond.castable "SpillslotWorks$Statement" "java/lang/Object") ∈ lw_tbl := lw_at lw_m12 121 rfl
theorem in_X18 : ∀ w ∈ wsX180, w ∈ lw_all := lw_in wsX180 [1716, 1718] (by decide +kernel) (by decide +kernel)
/-! SpillslotWorksModel$Op -/
def RX21 : String := "SpillslotWorksModel$Op"
def TX21 : u_T := fun k => match k with
  | 0 => ("SpillslotWorksModel$Op", "which", "I", true)
  | 1 => ("SpillslotWorksModel$Op", "writes", "I", true)
  | 2 => ("SpillslotWorksModel$Op", "reads", "[I", true)
  | 3 => ("SpillslotWorksModel$Op", "n", "I", true)
  | 4 => ("SpillslotWorksModel$Op", "block", "I", true)
  | _ => ("SpillslotWorksModel$Op", "height", "I", false)
def tyX21 : Nat → FieldType := fun k => match k with
  | 0 => .int
  | 1 => .int
  | 2 => .array .int
  | 3 => .int
  | 4 => .int
  | _ => .int
abbrev wsX210 : List Cond := u_ws RX21 TX21 6
theorem nmX21 : ∀ a, a < 6 → ∀ b, b < 6 → a ≠ b → (TX21 a).2.1 ≠ (TX21 b).2.1 := by decide +kernel
theorem tyX21_ok : ∀ k, k < 6 → parseFieldDescriptor (TX21 k).2.2.1 = some (tyX21 k) := by decide +kernel
abbrev cX21_init : ByteArray := prog_22_method_1_code
def yX21_init : MethodName := ⟨RX21, "<init>", "(II[III)V"⟩
def dkwX21_init_1 : List UInt8 := [181, 0, 22, 42, 21, 5, 181, 0, 25, 177]
abbrev dktX21_init_1 : List UInt8 := dkwX21_init_1 ++ []
def dkwX21_init_0 : List UInt8 := [42, 183, 0, 3, 42, 27, 181, 0, 9, 42, 28, 181, 0, 15, 42, 45, 181, 0, 18, 42, 21, 4]
abbrev dktX21_init_0 : List UInt8 := dkwX21_init_0 ++ dktX21_init_1
theorem dksX21_init_0 : cX21_init.data.toList.drop 0 = dktX21_init_0 := by decide +kernel
theorem dksX21_init_1 : cX21_init.data.toList.drop 22 = dktX21_init_1 := dk_seg dksX21_init_0 22 rfl rfl
theorem dX21_init_0 : decode cX21_init 0 = .ok (.aload_n 0, 1) := dk_42 (dk_at dksX21_init_0 0 rfl rfl)
theorem dX21_init_1 : decode cX21_init 1 = .ok (.invokespecial 3, 3) := dk_183 0 3 (dk_at dksX21_init_0 1 rfl rfl)
theorem dX21_init_4 : decode cX21_init 4 = .ok (.aload_n 0, 1) := dk_42 (dk_at dksX21_init_0 4 rfl rfl)
theorem dX21_init_5 : decode cX21_init 5 = .ok (.iload_n 1, 1) := dk_27 (dk_at dksX21_init_0 5 rfl rfl)
theorem dX21_init_6 : decode cX21_init 6 = .ok (.putfield 9, 3) := dk_181 0 9 (dk_at dksX21_init_0 6 rfl rfl)
theorem dX21_init_9 : decode cX21_init 9 = .ok (.aload_n 0, 1) := dk_42 (dk_at dksX21_init_0 9 rfl rfl)
theorem dX21_init_10 : decode cX21_init 10 = .ok (.iload_n 2, 1) := dk_28 (dk_at dksX21_init_0 10 rfl rfl)
theorem dX21_init_11 : decode cX21_init 11 = .ok (.putfield 15, 3) := dk_181 0 15 (dk_at dksX21_init_0 11 rfl rfl)
theorem dX21_init_14 : decode cX21_init 14 = .ok (.aload_n 0, 1) := dk_42 (dk_at dksX21_init_0 14 rfl rfl)
theorem dX21_init_15 : decode cX21_init 15 = .ok (.aload_n 3, 1) := dk_45 (dk_at dksX21_init_0 15 rfl rfl)
theorem dX21_init_16 : decode cX21_init 16 = .ok (.putfield 18, 3) := dk_181 0 18 (dk_at dksX21_init_0 16 rfl rfl)
theorem dX21_init_19 : decode cX21_init 19 = .ok (.aload_n 0, 1) := dk_42 (dk_at dksX21_init_0 19 rfl rfl)
theorem dX21_init_20 : decode cX21_init 20 = .ok (.iload 4, 2) := dk_21 4 (dk_at dksX21_init_0 20 rfl rfl)
theorem dX21_init_22 : decode cX21_init 22 = .ok (.putfield 22, 3) := dk_181 0 22 (dk_at dksX21_init_1 0 rfl rfl)
theorem dX21_init_25 : decode cX21_init 25 = .ok (.aload_n 0, 1) := dk_42 (dk_at dksX21_init_1 3 rfl rfl)
theorem dX21_init_26 : decode cX21_init 26 = .ok (.iload 5, 2) := dk_21 5 (dk_at dksX21_init_1 4 rfl rfl)
theorem dX21_init_28 : decode cX21_init 28 = .ok (.putfield 25, 3) := dk_181 0 25 (dk_at dksX21_init_1 6 rfl rfl)
theorem dX21_init_31 : decode cX21_init 31 = .ok (.return_, 1) := dk_177 (dk_at dksX21_init_1 9 rfl rfl)
abbrev cX21_needs : ByteArray := prog_22_method_3_code
def yX21_needs : MethodName := ⟨RX21, "needs", "(LSpillslotWorksModel$Op;)Z"⟩
def dkwX21_needs_2 : List UInt8 := [16, 9, 160, 0, 7, 4, 167, 0, 4, 3, 172]
abbrev dktX21_needs_2 : List UInt8 := dkwX21_needs_2 ++ []
def dkwX21_needs_1 : List UInt8 := [180, 0, 15, 43, 180, 0, 15, 159, 0, 21, 42, 180, 0, 9, 16, 9, 160, 0, 16, 43, 180, 0, 9]
abbrev dktX21_needs_1 : List UInt8 := dkwX21_needs_1 ++ dktX21_needs_2
def dkwX21_needs_0 : List UInt8 := [42, 43, 180, 0, 15, 182, 0, 28, 154, 0, 43, 43, 42, 180, 0, 15, 182, 0, 28, 154, 0, 32, 42]
abbrev dktX21_needs_0 : List UInt8 := dkwX21_needs_0 ++ dktX21_needs_1
theorem dksX21_needs_0 : cX21_needs.data.toList.drop 0 = dktX21_needs_0 := by decide +kernel
theorem dksX21_needs_1 : cX21_needs.data.toList.drop 23 = dktX21_needs_1 := dk_seg dksX21_needs_0 23 rfl rfl
theorem dksX21_needs_2 : cX21_needs.data.toList.drop 46 = dktX21_needs_2 := dk_seg dksX21_needs_1 23 rfl rfl
theorem dX21_needs_0 : decode cX21_needs 0 = .ok (.aload_n 0, 1) := dk_42 (dk_at dksX21_needs_0 0 rfl rfl)
theorem dX21_needs_1 : decode cX21_needs 1 = .ok (.aload_n 1, 1) := dk_43 (dk_at dksX21_needs_0 1 rfl rfl)
theorem dX21_needs_2 : decode cX21_needs 2 = .ok (.getfield 15, 3) := dk_180 0 15 (dk_at dksX21_needs_0 2 rfl rfl)
theorem dX21_needs_5 : decode cX21_needs 5 = .ok (.invokevirtual 28, 3) := dk_182 0 28 (dk_at dksX21_needs_0 5 rfl rfl)
theorem dX21_needs_8 : decode cX21_needs 8 = .ok (.ifCond .ne 43, 3) := dk_154 0 43 (dk_at dksX21_needs_0 8 rfl rfl)
theorem dX21_needs_11 : decode cX21_needs 11 = .ok (.aload_n 1, 1) := dk_43 (dk_at dksX21_needs_0 11 rfl rfl)
theorem dX21_needs_12 : decode cX21_needs 12 = .ok (.aload_n 0, 1) := dk_42 (dk_at dksX21_needs_0 12 rfl rfl)
theorem dX21_needs_13 : decode cX21_needs 13 = .ok (.getfield 15, 3) := dk_180 0 15 (dk_at dksX21_needs_0 13 rfl rfl)
theorem dX21_needs_16 : decode cX21_needs 16 = .ok (.invokevirtual 28, 3) := dk_182 0 28 (dk_at dksX21_needs_0 16 rfl rfl)
theorem dX21_needs_19 : decode cX21_needs 19 = .ok (.ifCond .ne 32, 3) := dk_154 0 32 (dk_at dksX21_needs_0 19 rfl rfl)
theorem dX21_needs_22 : decode cX21_needs 22 = .ok (.aload_n 0, 1) := dk_42 (dk_at dksX21_needs_0 22 rfl rfl)
theorem dX21_needs_23 : decode cX21_needs 23 = .ok (.getfield 15, 3) := dk_180 0 15 (dk_at dksX21_needs_1 0 rfl rfl)
theorem dX21_needs_26 : decode cX21_needs 26 = .ok (.aload_n 1, 1) := dk_43 (dk_at dksX21_needs_1 3 rfl rfl)
theorem dX21_needs_27 : decode cX21_needs 27 = .ok (.getfield 15, 3) := dk_180 0 15 (dk_at dksX21_needs_1 4 rfl rfl)
theorem dX21_needs_30 : decode cX21_needs 30 = .ok (.if_icmp .eq 21, 3) := dk_159 0 21 (dk_at dksX21_needs_1 7 rfl rfl)
theorem dX21_needs_33 : decode cX21_needs 33 = .ok (.aload_n 0, 1) := dk_42 (dk_at dksX21_needs_1 10 rfl rfl)
theorem dX21_needs_34 : decode cX21_needs 34 = .ok (.getfield 9, 3) := dk_180 0 9 (dk_at dksX21_needs_1 11 rfl rfl)
theorem dX21_needs_37 : decode cX21_needs 37 = .ok (.bipush 9, 2) := dk_16 9 (dk_at dksX21_needs_1 14 rfl rfl)
theorem dX21_needs_39 : decode cX21_needs 39 = .ok (.if_icmp .ne 16, 3) := dk_160 0 16 (dk_at dksX21_needs_1 16 rfl rfl)
theorem dX21_needs_42 : decode cX21_needs 42 = .ok (.aload_n 1, 1) := dk_43 (dk_at dksX21_needs_1 19 rfl rfl)
theorem dX21_needs_43 : decode cX21_needs 43 = .ok (.getfield 9, 3) := dk_180 0 9 (dk_at dksX21_needs_1 20 rfl rfl)
theorem dX21_needs_46 : decode cX21_needs 46 = .ok (.bipush 9, 2) := dk_16 9 (dk_at dksX21_needs_2 0 rfl rfl)
theorem dX21_needs_48 : decode cX21_needs 48 = .ok (.if_icmp .ne 7, 3) := dk_160 0 7 (dk_at dksX21_needs_2 2 rfl rfl)
theorem dX21_needs_51 : decode cX21_needs 51 = .ok (.iconst 1, 1) := dk_4 (dk_at dksX21_needs_2 5 rfl rfl)
theorem dX21_needs_52 : decode cX21_needs 52 = .ok (.goto 4, 3) := dk_167 0 4 (dk_at dksX21_needs_2 6 rfl rfl)
theorem dX21_needs_55 : decode cX21_needs 55 = .ok (.iconst 0, 1) := dk_3 (dk_at dksX21_needs_2 9 rfl rfl)
theorem dX21_needs_56 : decode cX21_needs 56 = .ok (.ireturn, 1) := dk_172 (dk_at dksX21_needs_2 10 rfl rfl)
abbrev cX21_reads : ByteArray := prog_22_method_2_code
def yX21_reads : MethodName := ⟨RX21, "reads", "(I)Z"⟩
def dkwX21_reads_1 : List UInt8 := [21, 5, 27, 160, 0, 5, 4, 172, 132, 4, 1, 167, 255, 233, 3, 172]
abbrev dktX21_reads_1 : List UInt8 := dkwX21_reads_1 ++ []
def dkwX21_reads_0 : List UInt8 := [42, 180, 0, 18, 77, 44, 190, 62, 3, 54, 4, 21, 4, 29, 162, 0, 23, 44, 21, 4, 46, 54, 5]
abbrev dktX21_reads_0 : List UInt8 := dkwX21_reads_0 ++ dktX21_reads_1
theorem dksX21_reads_0 : cX21_reads.data.toList.drop 0 = dktX21_reads_0 := by decide +kernel
theorem dksX21_reads_1 : cX21_reads.data.toList.drop 23 = dktX21_reads_1 := dk_seg dksX21_reads_0 23 rfl rfl
theorem dX21_reads_0 : decode cX21_reads 0 = .ok (.aload_n 0, 1) := dk_42 (dk_at dksX21_reads_0 0 rfl rfl)
theorem dX21_reads_1 : decode cX21_reads 1 = .ok (.getfield 18, 3) := dk_180 0 18 (dk_at dksX21_reads_0 1 rfl rfl)
theorem dX21_reads_4 : decode cX21_reads 4 = .ok (.astore_n 2, 1) := dk_77 (dk_at dksX21_reads_0 4 rfl rfl)
theorem dX21_reads_5 : decode cX21_reads 5 = .ok (.aload_n 2, 1) := dk_44 (dk_at dksX21_reads_0 5 rfl rfl)
theorem dX21_reads_6 : decode cX21_reads 6 = .ok (.arraylength, 1) := dk_190 (dk_at dksX21_reads_0 6 rfl rfl)
theorem dX21_reads_7 : decode cX21_reads 7 = .ok (.istore_n 3, 1) := dk_62 (dk_at dksX21_reads_0 7 rfl rfl)
theorem dX21_reads_8 : decode cX21_reads 8 = .ok (.iconst 0, 1) := dk_3 (dk_at dksX21_reads_0 8 rfl rfl)
theorem dX21_reads_9 : decode cX21_reads 9 = .ok (.istore 4, 2) := dk_54 4 (dk_at dksX21_reads_0 9 rfl rfl)
theorem dX21_reads_11 : decode cX21_reads 11 = .ok (.iload 4, 2) := dk_21 4 (dk_at dksX21_reads_0 11 rfl rfl)
theorem dX21_reads_13 : decode cX21_reads 13 = .ok (.iload_n 3, 1) := dk_29 (dk_at dksX21_reads_0 13 rfl rfl)
theorem dX21_reads_14 : decode cX21_reads 14 = .ok (.if_icmp .ge 23, 3) := dk_162 0 23 (dk_at dksX21_reads_0 14 rfl rfl)
theorem dX21_reads_17 : decode cX21_reads 17 = .ok (.aload_n 2, 1) := dk_44 (dk_at dksX21_reads_0 17 rfl rfl)
theorem dX21_reads_18 : decode cX21_reads 18 = .ok (.iload 4, 2) := dk_21 4 (dk_at dksX21_reads_0 18 rfl rfl)
theorem dX21_reads_20 : decode cX21_reads 20 = .ok (.iaload, 1) := dk_46 (dk_at dksX21_reads_0 20 rfl rfl)
theorem dX21_reads_21 : decode cX21_reads 21 = .ok (.istore 5, 2) := dk_54 5 (dk_at dksX21_reads_0 21 rfl rfl)
theorem dX21_reads_23 : decode cX21_reads 23 = .ok (.iload 5, 2) := dk_21 5 (dk_at dksX21_reads_1 0 rfl rfl)
theorem dX21_reads_25 : decode cX21_reads 25 = .ok (.iload_n 1, 1) := dk_27 (dk_at dksX21_reads_1 2 rfl rfl)
theorem dX21_reads_26 : decode cX21_reads 26 = .ok (.if_icmp .ne 5, 3) := dk_160 0 5 (dk_at dksX21_reads_1 3 rfl rfl)
theorem dX21_reads_29 : decode cX21_reads 29 = .ok (.iconst 1, 1) := dk_4 (dk_at dksX21_reads_1 6 rfl rfl)
theorem dX21_reads_30 : decode cX21_reads 30 = .ok (.ireturn, 1) := dk_172 (dk_at dksX21_reads_1 7 rfl rfl)
theorem dX21_reads_31 : decode cX21_reads 31 = .ok (.iinc 4 1, 3) := dk_132 4 1 (dk_at dksX21_reads_1 8 rfl rfl)
theorem dX21_reads_34 : decode cX21_reads 34 = .ok (.goto (-23), 3) := dk_167 255 233 (dk_at dksX21_reads_1 11 rfl rfl)
theorem dX21_reads_37 : decode cX21_reads 37 = .ok (.iconst 0, 1) := dk_3 (dk_at dksX21_reads_1 14 rfl rfl)
theorem dX21_reads_38 : decode cX21_reads 38 = .ok (.ireturn, 1) := dk_172 (dk_at dksX21_reads_1 15 rfl rfl)
theorem q166 : (Jvm.Cond.initialized "SpillslotWorksModel$Op") ∈ lw_all := lw_g (lw_at lw_m1 47 rfl) rfl
theorem q272 : (Jvm.Cond.selects "SpillslotWorksModel$Op" ({ cls := "java/lang/Object", name := "getClass", desc := "()Ljava/lang/Class;" } : Jvm.MethodName) ({ cls := "java/lang/Object", name := "getClass", desc := "()Ljava/lang/Class;" } : Jvm.MethodName)) ∈ lw_all := lw_g (lw_at lw_m1 153 rfl) rfl
theorem q2158 : (Jvm.Cond.instantiable "SpillslotWorksModel$Op" (6 : Nat)) ∈ lw_all := lw_g (lw_at lw_m9 119 rfl) rfl
theorem q2160 : (Jvm.Cond.instanceMethod ({ cls := "SpillslotWorksModel$Op", name := "<init>", desc := "(II[III)V" } : Jvm.MethodName)) ∈ lw_all := lw_g (lw_at lw_m9 121 rfl) rfl
theorem q2161 : (Jvm.Cond.code ({ cls := "SpillslotWorksModel$Op", name := "<init>", desc := "(II[III)V" } : Jvm.MethodName) prog_22_method_1_code (6 : Nat) (Option.none : Option Jvm.ClassFile.FieldType)) ∈ lw_all := lw_g (lw_at lw_m9 122 rfl) rfl
theorem q2162 : (Jvm.Cond.methodLink "SpillslotWorksModel$Op" (3 : Nat) ({ cls := "java/lang/Object", name := "<init>", desc := "()V" } : Jvm.MethodName)) ∈ lw_all := lw_g (lw_at lw_m9 123 rfl) rfl
theorem q2163 : (Jvm.Cond.fieldLink "SpillslotWorksModel$Op" (9 : Nat) "SpillslotWorksModel$Op" "which" "I") ∈ lw_all := lw_g (lw_at lw_m9 124 rfl) rfl
theorem q2168 : (Jvm.Cond.fieldLink "SpillslotWorksModel$Op" (15 : Nat) "SpillslotWorksModel$Op" "writes" "I") ∈ lw_all := lw_g (lw_at lw_m9 129 rfl) rfl
theorem q2172 : (Jvm.Cond.fieldLink "SpillslotWorksModel$Op" (18 : Nat) "SpillslotWorksModel$Op" "reads" "[I") ∈ lw_all := lw_g (lw_at lw_m9 133 rfl) rfl
theorem q2176 : (Jvm.Cond.fieldLink "SpillslotWorksModel$Op" (22 : Nat) "SpillslotWorksModel$Op" "n" "I") ∈ lw_all := lw_g (lw_at lw_m9 137 rfl) rfl
theorem q2180 : (Jvm.Cond.fieldLink "SpillslotWorksModel$Op" (25 : Nat) "SpillslotWorksModel$Op" "block" "I") ∈ lw_all := lw_g (lw_at lw_m9 141 rfl) rfl
theorem q2186 : (Jvm.Cond.laysFinal "SpillslotWorksModel$Op" "SpillslotWorksModel$Op" "which" "I") ∈ lw_all := lw_g (lw_at lw_m9 147 rfl) rfl
theorem q2187 : (Jvm.Cond.soleField "SpillslotWorksModel$Op" "which") ∈ lw_all := lw_g (lw_at lw_m9 148 rfl) rfl
theorem q2188 : (Jvm.Cond.laysFinal "SpillslotWorksModel$Op" "SpillslotWorksModel$Op" "writes" "I") ∈ lw_all := lw_g (lw_at lw_m9 149 rfl) rfl
theorem q2189 : (Jvm.Cond.soleField "SpillslotWorksModel$Op" "writes") ∈ lw_all := lw_g (lw_at lw_m9 150 rfl) rfl
theorem q2190 : (Jvm.Cond.laysFinal "SpillslotWorksModel$Op" "SpillslotWorksModel$Op" "reads" "[I") ∈ lw_all := lw_g (lw_at lw_m9 151 rfl) rfl
theorem q2191 : (Jvm.Cond.soleField "SpillslotWorksModel$Op" "reads") ∈ lw_all := lw_g (lw_at lw_m9 152 rfl) rfl
theorem q2192 : (Jvm.Cond.laysFinal "SpillslotWorksModel$Op" "SpillslotWorksModel$Op" "n" "I") ∈ lw_all := lw_g (lw_at lw_m9 153 rfl) rfl
theorem q2193 : (Jvm.Cond.soleField "SpillslotWorksModel$Op" "n") ∈ lw_all := lw_g (lw_at lw_m9 154 rfl) rfl
theorem q2194 : (Jvm.Cond.laysFinal "SpillslotWorksModel$Op" "SpillslotWorksModel$Op" "block" "I") ∈ lw_all := lw_g (lw_at lw_m9 155 rfl) rfl
theorem q2195 : (Jvm.Cond.soleField "SpillslotWorksModel$Op" "block") ∈ lw_all := lw_g (lw_at lw_m9 156 rfl) rfl
theorem q2196 : (Jvm.Cond.lays "SpillslotWorksModel$Op" "SpillslotWorksModel$Op" "height" "I") ∈ lw_all := lw_g (lw_at lw_m9 157 rfl) rfl
theorem q2197 : (Jvm.Cond.soleField "SpillslotWorksModel$Op" "height") ∈ lw_all := lw_g (lw_at lw_m9 158 rfl) rfl
theorem q2198 : (Jvm.Cond.superclass "SpillslotWorksModel$Op" "java/lang/Object") ∈ lw_all := lw_g (lw_at lw_m9 159 rfl) rfl
theorem q2257 : (Jvm.Cond.instanceMethod ({ cls := "SpillslotWorksModel$Op", name := "needs", desc := "(LSpillslotWorksModel$Op;)Z" } : Jvm.MethodName)) ∈ lw_all := lw_g (lw_at lw_m9 218 rfl) rfl
theorem q2258 : (Jvm.Cond.selects "SpillslotWorksModel$Op" ({ cls := "SpillslotWorksModel$Op", name := "needs", desc := "(LSpillslotWorksModel$Op;)Z" } : Jvm.MethodName) ({ cls := "SpillslotWorksModel$Op", name := "needs", desc := "(LSpillslotWorksModel$Op;)Z" } : Jvm.MethodName)) ∈ lw_all := lw_g (lw_at lw_m9 219 rfl) rfl
theorem q2259 : (Jvm.Cond.code ({ cls := "SpillslotWorksModel$Op", name := "needs", desc := "(LSpillslotWorksModel$Op;)Z" } : Jvm.MethodName) prog_22_method_3_code (2 : Nat) (Option.some Jvm.ClassFile.FieldType.boolean)) ∈ lw_all := lw_g (lw_at lw_m9 220 rfl) rfl
theorem q2260 : (Jvm.Cond.methodLink "SpillslotWorksModel$Op" (28 : Nat) ({ cls := "SpillslotWorksModel$Op", name := "reads", desc := "(I)Z" } : Jvm.MethodName)) ∈ lw_all := lw_g (lw_at lw_m9 221 rfl) rfl
theorem q2261 : (Jvm.Cond.instanceMethod ({ cls := "SpillslotWorksModel$Op", name := "reads", desc := "(I)Z" } : Jvm.MethodName)) ∈ lw_all := lw_g (lw_at lw_m9 222 rfl) rfl
theorem q2262 : (Jvm.Cond.selects "SpillslotWorksModel$Op" ({ cls := "SpillslotWorksModel$Op", name := "reads", desc := "(I)Z" } : Jvm.MethodName) ({ cls := "SpillslotWorksModel$Op", name := "reads", desc := "(I)Z" } : Jvm.MethodName)) ∈ lw_all := lw_g (lw_at lw_m9 223 rfl) rfl
theorem q2263 : (Jvm.Cond.code ({ cls := "SpillslotWorksModel$Op", name := "reads", desc := "(I)Z" } : Jvm.MethodName) prog_22_method_2_code (6 : Nat) (Option.some Jvm.ClassFile.FieldType.boolean)) ∈ lw_all := lw_g (lw_at lw_m9 224 rfl) rfl
theorem q2317 : (Jvm.Cond.selects "SpillslotWorksModel$Op" ({ cls := "java/lang/Object", name := "equals", desc := "(Ljava/lang/Object;)Z" } : Jvm.MethodName) ({ cls := "java/lang/Object", name := "equals", desc := "(Ljava/lang/Object;)Z" } : Jvm.MethodName)) ∈ lw_all := lw_g (lw_at lw_m10 38 rfl) rfl
theorem q2884 : (Jvm.Cond.castable "SpillslotWorksModel$Op" "java/lang/Object") ∈ lw_tbl := lw_at lw_m12 125 rfl
theorem in_X21 : ∀ w ∈ wsX210, w ∈ lw_all := lw_in wsX210 [2186, 2188, 2190, 2192, 2194, 2196] (by decide +kernel) (by decide +kernel)
/-! SpillslotWorksModel$Life -/
def RX22 : String := "SpillslotWorksModel$Life"
def TX22 : u_T := fun k => match k with
  | 0 => ("SpillslotWorksModel$Life", "value", "I", true)
  | 1 => ("SpillslotWorksModel$Life", "first", "I", false)
  | 2 => ("SpillslotWorksModel$Life", "last", "I", false)
  | 3 => ("SpillslotWorksModel$Life", "touched", "I", false)
  | 4 => ("SpillslotWorksModel$Life", "weight", "I", false)
  | 5 => ("SpillslotWorksModel$Life", "crosses", "I", false)
  | 6 => ("SpillslotWorksModel$Life", "register", "I", false)
  | 7 => ("SpillslotWorksModel$Life", "slot", "I", false)
  | 8 => ("SpillslotWorksModel$Life", "isRemade", "Z", false)
  | 9 => ("SpillslotWorksModel$Life", "number", "I", false)
  | 10 => ("SpillslotWorksModel$Life", "hint", "I", false)
  | _ => ("SpillslotWorksModel$Life", "writes", "I", false)
def tyX22 : Nat → FieldType := fun k => match k with
  | 0 => .int
  | 1 => .int
  | 2 => .int
  | 3 => .int
  | 4 => .int
  | 5 => .int
  | 6 => .int
  | 7 => .int
  | 8 => .boolean
  | 9 => .int
  | 10 => .int
  | _ => .int
abbrev wsX220 : List Cond := u_ws RX22 TX22 12
theorem nmX22 : ∀ a, a < 12 → ∀ b, b < 12 → a ≠ b → (TX22 a).2.1 ≠ (TX22 b).2.1 := by decide +kernel
theorem tyX22_ok : ∀ k, k < 12 → parseFieldDescriptor (TX22 k).2.2.1 = some (tyX22 k) := by decide +kernel
abbrev cX22_init : ByteArray := prog_19_method_1_code
def yX22_init : MethodName := ⟨RX22, "<init>", "(I)V"⟩
def dkwX22_init_1 : List UInt8 := [42, 27, 181, 0, 24, 177]
abbrev dktX22_init_1 : List UInt8 := dkwX22_init_1 ++ []
def dkwX22_init_0 : List UInt8 := [42, 183, 0, 3, 42, 2, 181, 0, 9, 42, 2, 181, 0, 15, 42, 2, 181, 0, 18, 42, 2, 181, 0, 21]
abbrev dktX22_init_0 : List UInt8 := dkwX22_init_0 ++ dktX22_init_1
theorem dksX22_init_0 : cX22_init.data.toList.drop 0 = dktX22_init_0 := by decide +kernel
theorem dksX22_init_1 : cX22_init.data.toList.drop 24 = dktX22_init_1 := dk_seg dksX22_init_0 24 rfl rfl
theorem dX22_init_0 : decode cX22_init 0 = .ok (.aload_n 0, 1) := dk_42 (dk_at dksX22_init_0 0 rfl rfl)
theorem dX22_init_1 : decode cX22_init 1 = .ok (.invokespecial 3, 3) := dk_183 0 3 (dk_at dksX22_init_0 1 rfl rfl)
theorem dX22_init_4 : decode cX22_init 4 = .ok (.aload_n 0, 1) := dk_42 (dk_at dksX22_init_0 4 rfl rfl)
theorem dX22_init_5 : decode cX22_init 5 = .ok (.iconst (-1), 1) := dk_2 (dk_at dksX22_init_0 5 rfl rfl)
theorem dX22_init_6 : decode cX22_init 6 = .ok (.putfield 9, 3) := dk_181 0 9 (dk_at dksX22_init_0 6 rfl rfl)
theorem dX22_init_9 : decode cX22_init 9 = .ok (.aload_n 0, 1) := dk_42 (dk_at dksX22_init_0 9 rfl rfl)
theorem dX22_init_10 : decode cX22_init 10 = .ok (.iconst (-1), 1) := dk_2 (dk_at dksX22_init_0 10 rfl rfl)
theorem dX22_init_11 : decode cX22_init 11 = .ok (.putfield 15, 3) := dk_181 0 15 (dk_at dksX22_init_0 11 rfl rfl)
theorem dX22_init_14 : decode cX22_init 14 = .ok (.aload_n 0, 1) := dk_42 (dk_at dksX22_init_0 14 rfl rfl)
theorem dX22_init_15 : decode cX22_init 15 = .ok (.iconst (-1), 1) := dk_2 (dk_at dksX22_init_0 15 rfl rfl)
theorem dX22_init_16 : decode cX22_init 16 = .ok (.putfield 18, 3) := dk_181 0 18 (dk_at dksX22_init_0 16 rfl rfl)
theorem dX22_init_19 : decode cX22_init 19 = .ok (.aload_n 0, 1) := dk_42 (dk_at dksX22_init_0 19 rfl rfl)
theorem dX22_init_20 : decode cX22_init 20 = .ok (.iconst (-1), 1) := dk_2 (dk_at dksX22_init_0 20 rfl rfl)
theorem dX22_init_21 : decode cX22_init 21 = .ok (.putfield 21, 3) := dk_181 0 21 (dk_at dksX22_init_0 21 rfl rfl)
theorem dX22_init_24 : decode cX22_init 24 = .ok (.aload_n 0, 1) := dk_42 (dk_at dksX22_init_1 0 rfl rfl)
theorem dX22_init_25 : decode cX22_init 25 = .ok (.iload_n 1, 1) := dk_27 (dk_at dksX22_init_1 1 rfl rfl)
theorem dX22_init_26 : decode cX22_init 26 = .ok (.putfield 24, 3) := dk_181 0 24 (dk_at dksX22_init_1 2 rfl rfl)
theorem dX22_init_29 : decode cX22_init 29 = .ok (.return_, 1) := dk_177 (dk_at dksX22_init_1 5 rfl rfl)
abbrev cX22_isIn : ByteArray := prog_19_method_2_code
def yX22_isIn : MethodName := ⟨RX22, "isIn", "()Z"⟩
def dkwX22_isIn_0 : List UInt8 := [42, 180, 0, 9, 2, 159, 0, 7, 4, 167, 0, 4, 3, 172]
abbrev dktX22_isIn_0 : List UInt8 := dkwX22_isIn_0 ++ []
theorem dksX22_isIn_0 : cX22_isIn.data.toList.drop 0 = dktX22_isIn_0 := by decide +kernel
theorem dX22_isIn_0 : decode cX22_isIn 0 = .ok (.aload_n 0, 1) := dk_42 (dk_at dksX22_isIn_0 0 rfl rfl)
theorem dX22_isIn_1 : decode cX22_isIn 1 = .ok (.getfield 9, 3) := dk_180 0 9 (dk_at dksX22_isIn_0 1 rfl rfl)
theorem dX22_isIn_4 : decode cX22_isIn 4 = .ok (.iconst (-1), 1) := dk_2 (dk_at dksX22_isIn_0 4 rfl rfl)
theorem dX22_isIn_5 : decode cX22_isIn 5 = .ok (.if_icmp .eq 7, 3) := dk_159 0 7 (dk_at dksX22_isIn_0 5 rfl rfl)
theorem dX22_isIn_8 : decode cX22_isIn 8 = .ok (.iconst 1, 1) := dk_4 (dk_at dksX22_isIn_0 8 rfl rfl)
theorem dX22_isIn_9 : decode cX22_isIn 9 = .ok (.goto 4, 3) := dk_167 0 4 (dk_at dksX22_isIn_0 9 rfl rfl)
theorem dX22_isIn_12 : decode cX22_isIn 12 = .ok (.iconst 0, 1) := dk_3 (dk_at dksX22_isIn_0 12 rfl rfl)
theorem dX22_isIn_13 : decode cX22_isIn 13 = .ok (.ireturn, 1) := dk_172 (dk_at dksX22_isIn_0 13 rfl rfl)
abbrev cX22_goesOver : ByteArray := prog_19_method_5_code
def yX22_goesOver : MethodName := ⟨RX22, "goesOver", "(I)Z"⟩
def dkwX22_goesOver_0 : List UInt8 := [42, 180, 0, 9, 27, 162, 0, 15, 27, 42, 180, 0, 31, 162, 0, 7, 4, 167, 0, 4, 3, 172]
abbrev dktX22_goesOver_0 : List UInt8 := dkwX22_goesOver_0 ++ []
theorem dksX22_goesOver_0 : cX22_goesOver.data.toList.drop 0 = dktX22_goesOver_0 := by decide +kernel
theorem dX22_goesOver_0 : decode cX22_goesOver 0 = .ok (.aload_n 0, 1) := dk_42 (dk_at dksX22_goesOver_0 0 rfl rfl)
theorem dX22_goesOver_1 : decode cX22_goesOver 1 = .ok (.getfield 9, 3) := dk_180 0 9 (dk_at dksX22_goesOver_0 1 rfl rfl)
theorem dX22_goesOver_4 : decode cX22_goesOver 4 = .ok (.iload_n 1, 1) := dk_27 (dk_at dksX22_goesOver_0 4 rfl rfl)
theorem dX22_goesOver_5 : decode cX22_goesOver 5 = .ok (.if_icmp .ge 15, 3) := dk_162 0 15 (dk_at dksX22_goesOver_0 5 rfl rfl)
theorem dX22_goesOver_8 : decode cX22_goesOver 8 = .ok (.iload_n 1, 1) := dk_27 (dk_at dksX22_goesOver_0 8 rfl rfl)
theorem dX22_goesOver_9 : decode cX22_goesOver 9 = .ok (.aload_n 0, 1) := dk_42 (dk_at dksX22_goesOver_0 9 rfl rfl)
theorem dX22_goesOver_10 : decode cX22_goesOver 10 = .ok (.getfield 31, 3) := dk_180 0 31 (dk_at dksX22_goesOver_0 10 rfl rfl)
theorem dX22_goesOver_13 : decode cX22_goesOver 13 = .ok (.if_icmp .ge 7, 3) := dk_162 0 7 (dk_at dksX22_goesOver_0 13 rfl rfl)
theorem dX22_goesOver_16 : decode cX22_goesOver 16 = .ok (.iconst 1, 1) := dk_4 (dk_at dksX22_goesOver_0 16 rfl rfl)
theorem dX22_goesOver_17 : decode cX22_goesOver 17 = .ok (.goto 4, 3) := dk_167 0 4 (dk_at dksX22_goesOver_0 17 rfl rfl)
theorem dX22_goesOver_20 : decode cX22_goesOver 20 = .ok (.iconst 0, 1) := dk_3 (dk_at dksX22_goesOver_0 20 rfl rfl)
theorem dX22_goesOver_21 : decode cX22_goesOver 21 = .ok (.ireturn, 1) := dk_172 (dk_at dksX22_goesOver_0 21 rfl rfl)
abbrev cX22_isSpilled : ByteArray := prog_19_method_3_code
def yX22_isSpilled : MethodName := ⟨RX22, "isSpilled", "()Z"⟩
def dkwX22_isSpilled_0 : List UInt8 := [42, 182, 0, 27, 153, 0, 15, 42, 180, 0, 15, 2, 160, 0, 7, 4, 167, 0, 4, 3, 172]
abbrev dktX22_isSpilled_0 : List UInt8 := dkwX22_isSpilled_0 ++ []
theorem dksX22_isSpilled_0 : cX22_isSpilled.data.toList.drop 0 = dktX22_isSpilled_0 := by decide +kernel
theorem dX22_isSpilled_0 : decode cX22_isSpilled 0 = .ok (.aload_n 0, 1) := dk_42 (dk_at dksX22_isSpilled_0 0 rfl rfl)
theorem dX22_isSpilled_1 : decode cX22_isSpilled 1 = .ok (.invokevirtual 27, 3) := dk_182 0 27 (dk_at dksX22_isSpilled_0 1 rfl rfl)
theorem dX22_isSpilled_4 : decode cX22_isSpilled 4 = .ok (.ifCond .eq 15, 3) := dk_153 0 15 (dk_at dksX22_isSpilled_0 4 rfl rfl)
theorem dX22_isSpilled_7 : decode cX22_isSpilled 7 = .ok (.aload_n 0, 1) := dk_42 (dk_at dksX22_isSpilled_0 7 rfl rfl)
theorem dX22_isSpilled_8 : decode cX22_isSpilled 8 = .ok (.getfield 15, 3) := dk_180 0 15 (dk_at dksX22_isSpilled_0 8 rfl rfl)
theorem dX22_isSpilled_11 : decode cX22_isSpilled 11 = .ok (.iconst (-1), 1) := dk_2 (dk_at dksX22_isSpilled_0 11 rfl rfl)
theorem dX22_isSpilled_12 : decode cX22_isSpilled 12 = .ok (.if_icmp .ne 7, 3) := dk_160 0 7 (dk_at dksX22_isSpilled_0 12 rfl rfl)
theorem dX22_isSpilled_15 : decode cX22_isSpilled 15 = .ok (.iconst 1, 1) := dk_4 (dk_at dksX22_isSpilled_0 15 rfl rfl)
theorem dX22_isSpilled_16 : decode cX22_isSpilled 16 = .ok (.goto 4, 3) := dk_167 0 4 (dk_at dksX22_isSpilled_0 16 rfl rfl)
theorem dX22_isSpilled_19 : decode cX22_isSpilled 19 = .ok (.iconst 0, 1) := dk_3 (dk_at dksX22_isSpilled_0 19 rfl rfl)
theorem dX22_isSpilled_20 : decode cX22_isSpilled 20 = .ok (.ireturn, 1) := dk_172 (dk_at dksX22_isSpilled_0 20 rfl rfl)
abbrev cX22_meets : ByteArray := prog_19_method_4_code
def yX22_meets : MethodName := ⟨RX22, "meets", "(LSpillslotWorksModel$Life;)Z"⟩
def dkwX22_meets_1 : List UInt8 := [167, 0, 4, 3, 172]
abbrev dktX22_meets_1 : List UInt8 := dkwX22_meets_1 ++ []
def dkwX22_meets_0 : List UInt8 := [42, 180, 0, 9, 43, 180, 0, 31, 163, 0, 18, 43, 180, 0, 9, 42, 180, 0, 31, 163, 0, 7, 4]
abbrev dktX22_meets_0 : List UInt8 := dkwX22_meets_0 ++ dktX22_meets_1
theorem dksX22_meets_0 : cX22_meets.data.toList.drop 0 = dktX22_meets_0 := by decide +kernel
theorem dksX22_meets_1 : cX22_meets.data.toList.drop 23 = dktX22_meets_1 := dk_seg dksX22_meets_0 23 rfl rfl
theorem dX22_meets_0 : decode cX22_meets 0 = .ok (.aload_n 0, 1) := dk_42 (dk_at dksX22_meets_0 0 rfl rfl)
theorem dX22_meets_1 : decode cX22_meets 1 = .ok (.getfield 9, 3) := dk_180 0 9 (dk_at dksX22_meets_0 1 rfl rfl)
theorem dX22_meets_4 : decode cX22_meets 4 = .ok (.aload_n 1, 1) := dk_43 (dk_at dksX22_meets_0 4 rfl rfl)
theorem dX22_meets_5 : decode cX22_meets 5 = .ok (.getfield 31, 3) := dk_180 0 31 (dk_at dksX22_meets_0 5 rfl rfl)
theorem dX22_meets_8 : decode cX22_meets 8 = .ok (.if_icmp .gt 18, 3) := dk_163 0 18 (dk_at dksX22_meets_0 8 rfl rfl)
theorem dX22_meets_11 : decode cX22_meets 11 = .ok (.aload_n 1, 1) := dk_43 (dk_at dksX22_meets_0 11 rfl rfl)
theorem dX22_meets_12 : decode cX22_meets 12 = .ok (.getfield 9, 3) := dk_180 0 9 (dk_at dksX22_meets_0 12 rfl rfl)
theorem dX22_meets_15 : decode cX22_meets 15 = .ok (.aload_n 0, 1) := dk_42 (dk_at dksX22_meets_0 15 rfl rfl)
theorem dX22_meets_16 : decode cX22_meets 16 = .ok (.getfield 31, 3) := dk_180 0 31 (dk_at dksX22_meets_0 16 rfl rfl)
theorem dX22_meets_19 : decode cX22_meets 19 = .ok (.if_icmp .gt 7, 3) := dk_163 0 7 (dk_at dksX22_meets_0 19 rfl rfl)
theorem dX22_meets_22 : decode cX22_meets 22 = .ok (.iconst 1, 1) := dk_4 (dk_at dksX22_meets_0 22 rfl rfl)
theorem dX22_meets_23 : decode cX22_meets 23 = .ok (.goto 4, 3) := dk_167 0 4 (dk_at dksX22_meets_1 0 rfl rfl)
theorem dX22_meets_26 : decode cX22_meets 26 = .ok (.iconst 0, 1) := dk_3 (dk_at dksX22_meets_1 3 rfl rfl)
theorem dX22_meets_27 : decode cX22_meets 27 = .ok (.ireturn, 1) := dk_172 (dk_at dksX22_meets_1 4 rfl rfl)
theorem q167 : (Jvm.Cond.initialized "SpillslotWorksModel$Life") ∈ lw_all := lw_g (lw_at lw_m1 48 rfl) rfl
theorem q269 : (Jvm.Cond.selects "SpillslotWorksModel$Life" ({ cls := "java/lang/Object", name := "getClass", desc := "()Ljava/lang/Class;" } : Jvm.MethodName) ({ cls := "java/lang/Object", name := "getClass", desc := "()Ljava/lang/Class;" } : Jvm.MethodName)) ∈ lw_all := lw_g (lw_at lw_m1 150 rfl) rfl
theorem q2314 : (Jvm.Cond.selects "SpillslotWorksModel$Life" ({ cls := "java/lang/Object", name := "equals", desc := "(Ljava/lang/Object;)Z" } : Jvm.MethodName) ({ cls := "java/lang/Object", name := "equals", desc := "(Ljava/lang/Object;)Z" } : Jvm.MethodName)) ∈ lw_all := lw_g (lw_at lw_m10 35 rfl) rfl
theorem q2391 : (Jvm.Cond.instantiable "SpillslotWorksModel$Life" (12 : Nat)) ∈ lw_all := lw_g (lw_at lw_m10 112 rfl) rfl
theorem q2393 : (Jvm.Cond.instanceMethod ({ cls := "SpillslotWorksModel$Life", name := "<init>", desc := "(I)V" } : Jvm.MethodName)) ∈ lw_all := lw_g (lw_at lw_m10 114 rfl) rfl
theorem q2394 : (Jvm.Cond.code ({ cls := "SpillslotWorksModel$Life", name := "<init>", desc := "(I)V" } : Jvm.MethodName) prog_19_method_1_code (2 : Nat) (Option.none : Option Jvm.ClassFile.FieldType)) ∈ lw_all := lw_g (lw_at lw_m10 115 rfl) rfl
theorem q2395 : (Jvm.Cond.methodLink "SpillslotWorksModel$Life" (3 : Nat) ({ cls := "java/lang/Object", name := "<init>", desc := "()V" } : Jvm.MethodName)) ∈ lw_all := lw_g (lw_at lw_m10 116 rfl) rfl
theorem q2396 : (Jvm.Cond.fieldLink "SpillslotWorksModel$Life" (24 : Nat) "SpillslotWorksModel$Life" "value" "I") ∈ lw_all := lw_g (lw_at lw_m10 117 rfl) rfl
theorem q2399 : (Jvm.Cond.fieldLink "SpillslotWorksModel$Life" (9 : Nat) "SpillslotWorksModel$Life" "first" "I") ∈ lw_all := lw_g (lw_at lw_m10 120 rfl) rfl
theorem q2403 : (Jvm.Cond.fieldLink "SpillslotWorksModel$Life" (31 : Nat) "SpillslotWorksModel$Life" "last" "I") ∈ lw_all := lw_g (lw_at lw_m10 124 rfl) rfl
theorem q2411 : (Jvm.Cond.fieldLink "SpillslotWorksModel$Life" (15 : Nat) "SpillslotWorksModel$Life" "register" "I") ∈ lw_all := lw_g (lw_at lw_m10 132 rfl) rfl
theorem q2415 : (Jvm.Cond.fieldLink "SpillslotWorksModel$Life" (18 : Nat) "SpillslotWorksModel$Life" "slot" "I") ∈ lw_all := lw_g (lw_at lw_m10 136 rfl) rfl
theorem q2424 : (Jvm.Cond.fieldLink "SpillslotWorksModel$Life" (21 : Nat) "SpillslotWorksModel$Life" "hint" "I") ∈ lw_all := lw_g (lw_at lw_m10 145 rfl) rfl
theorem q2427 : (Jvm.Cond.laysFinal "SpillslotWorksModel$Life" "SpillslotWorksModel$Life" "value" "I") ∈ lw_all := lw_g (lw_at lw_m10 148 rfl) rfl
theorem q2428 : (Jvm.Cond.soleField "SpillslotWorksModel$Life" "value") ∈ lw_all := lw_g (lw_at lw_m10 149 rfl) rfl
theorem q2429 : (Jvm.Cond.lays "SpillslotWorksModel$Life" "SpillslotWorksModel$Life" "first" "I") ∈ lw_all := lw_g (lw_at lw_m10 150 rfl) rfl
theorem q2430 : (Jvm.Cond.soleField "SpillslotWorksModel$Life" "first") ∈ lw_all := lw_g (lw_at lw_m10 151 rfl) rfl
theorem q2431 : (Jvm.Cond.lays "SpillslotWorksModel$Life" "SpillslotWorksModel$Life" "last" "I") ∈ lw_all := lw_g (lw_at lw_m10 152 rfl) rfl
theorem q2432 : (Jvm.Cond.soleField "SpillslotWorksModel$Life" "last") ∈ lw_all := lw_g (lw_at lw_m10 153 rfl) rfl
theorem q2433 : (Jvm.Cond.lays "SpillslotWorksModel$Life" "SpillslotWorksModel$Life" "touched" "I") ∈ lw_all := lw_g (lw_at lw_m10 154 rfl) rfl
theorem q2434 : (Jvm.Cond.soleField "SpillslotWorksModel$Life" "touched") ∈ lw_all := lw_g (lw_at lw_m10 155 rfl) rfl
theorem q2435 : (Jvm.Cond.lays "SpillslotWorksModel$Life" "SpillslotWorksModel$Life" "weight" "I") ∈ lw_all := lw_g (lw_at lw_m10 156 rfl) rfl
theorem q2436 : (Jvm.Cond.soleField "SpillslotWorksModel$Life" "weight") ∈ lw_all := lw_g (lw_at lw_m10 157 rfl) rfl
theorem q2437 : (Jvm.Cond.lays "SpillslotWorksModel$Life" "SpillslotWorksModel$Life" "crosses" "I") ∈ lw_all := lw_g (lw_at lw_m10 158 rfl) rfl
theorem q2438 : (Jvm.Cond.soleField "SpillslotWorksModel$Life" "crosses") ∈ lw_all := lw_g (lw_at lw_m10 159 rfl) rfl
theorem q2439 : (Jvm.Cond.lays "SpillslotWorksModel$Life" "SpillslotWorksModel$Life" "register" "I") ∈ lw_all := lw_g (lw_at lw_m10 160 rfl) rfl
theorem q2440 : (Jvm.Cond.soleField "SpillslotWorksModel$Life" "register") ∈ lw_all := lw_g (lw_at lw_m10 161 rfl) rfl
theorem q2441 : (Jvm.Cond.lays "SpillslotWorksModel$Life" "SpillslotWorksModel$Life" "slot" "I") ∈ lw_all := lw_g (lw_at lw_m10 162 rfl) rfl
theorem q2442 : (Jvm.Cond.soleField "SpillslotWorksModel$Life" "slot") ∈ lw_all := lw_g (lw_at lw_m10 163 rfl) rfl
theorem q2443 : (Jvm.Cond.lays "SpillslotWorksModel$Life" "SpillslotWorksModel$Life" "isRemade" "Z") ∈ lw_all := lw_g (lw_at lw_m10 164 rfl) rfl
theorem q2444 : (Jvm.Cond.soleField "SpillslotWorksModel$Life" "isRemade") ∈ lw_all := lw_g (lw_at lw_m10 165 rfl) rfl
theorem q2445 : (Jvm.Cond.lays "SpillslotWorksModel$Life" "SpillslotWorksModel$Life" "number" "I") ∈ lw_all := lw_g (lw_at lw_m10 166 rfl) rfl
theorem q2446 : (Jvm.Cond.soleField "SpillslotWorksModel$Life" "number") ∈ lw_all := lw_g (lw_at lw_m10 167 rfl) rfl
theorem q2447 : (Jvm.Cond.lays "SpillslotWorksModel$Life" "SpillslotWorksModel$Life" "hint" "I") ∈ lw_all := lw_g (lw_at lw_m10 168 rfl) rfl
theorem q2448 : (Jvm.Cond.soleField "SpillslotWorksModel$Life" "hint") ∈ lw_all := lw_g (lw_at lw_m10 169 rfl) rfl
theorem q2449 : (Jvm.Cond.lays "SpillslotWorksModel$Life" "SpillslotWorksModel$Life" "writes" "I") ∈ lw_all := lw_g (lw_at lw_m10 170 rfl) rfl
theorem q2450 : (Jvm.Cond.soleField "SpillslotWorksModel$Life" "writes") ∈ lw_all := lw_g (lw_at lw_m10 171 rfl) rfl
theorem q2451 : (Jvm.Cond.superclass "SpillslotWorksModel$Life" "java/lang/Object") ∈ lw_all := lw_g (lw_at lw_m10 172 rfl) rfl
theorem q2491 : (Jvm.Cond.instanceMethod ({ cls := "SpillslotWorksModel$Life", name := "isIn", desc := "()Z" } : Jvm.MethodName)) ∈ lw_all := lw_g (lw_at lw_m10 212 rfl) rfl
theorem q2492 : (Jvm.Cond.selects "SpillslotWorksModel$Life" ({ cls := "SpillslotWorksModel$Life", name := "isIn", desc := "()Z" } : Jvm.MethodName) ({ cls := "SpillslotWorksModel$Life", name := "isIn", desc := "()Z" } : Jvm.MethodName)) ∈ lw_all := lw_g (lw_at lw_m10 213 rfl) rfl
theorem q2493 : (Jvm.Cond.code ({ cls := "SpillslotWorksModel$Life", name := "isIn", desc := "()Z" } : Jvm.MethodName) prog_19_method_2_code (1 : Nat) (Option.some Jvm.ClassFile.FieldType.boolean)) ∈ lw_all := lw_g (lw_at lw_m10 214 rfl) rfl
theorem q2506 : (Jvm.Cond.instanceMethod ({ cls := "SpillslotWorksModel$Life", name := "goesOver", desc := "(I)Z" } : Jvm.MethodName)) ∈ lw_all := lw_g (lw_at lw_m10 227 rfl) rfl
theorem q2507 : (Jvm.Cond.selects "SpillslotWorksModel$Life" ({ cls := "SpillslotWorksModel$Life", name := "goesOver", desc := "(I)Z" } : Jvm.MethodName) ({ cls := "SpillslotWorksModel$Life", name := "goesOver", desc := "(I)Z" } : Jvm.MethodName)) ∈ lw_all := lw_g (lw_at lw_m10 228 rfl) rfl
theorem q2508 : (Jvm.Cond.code ({ cls := "SpillslotWorksModel$Life", name := "goesOver", desc := "(I)Z" } : Jvm.MethodName) prog_19_method_5_code (2 : Nat) (Option.some Jvm.ClassFile.FieldType.boolean)) ∈ lw_all := lw_g (lw_at lw_m10 229 rfl) rfl
theorem q2531 : (Jvm.Cond.instanceMethod ({ cls := "SpillslotWorksModel$Life", name := "isSpilled", desc := "()Z" } : Jvm.MethodName)) ∈ lw_all := lw_g (lw_at lw_m11 12 rfl) rfl
theorem q2532 : (Jvm.Cond.selects "SpillslotWorksModel$Life" ({ cls := "SpillslotWorksModel$Life", name := "isSpilled", desc := "()Z" } : Jvm.MethodName) ({ cls := "SpillslotWorksModel$Life", name := "isSpilled", desc := "()Z" } : Jvm.MethodName)) ∈ lw_all := lw_g (lw_at lw_m11 13 rfl) rfl
theorem q2533 : (Jvm.Cond.code ({ cls := "SpillslotWorksModel$Life", name := "isSpilled", desc := "()Z" } : Jvm.MethodName) prog_19_method_3_code (1 : Nat) (Option.some Jvm.ClassFile.FieldType.boolean)) ∈ lw_all := lw_g (lw_at lw_m11 14 rfl) rfl
theorem q2534 : (Jvm.Cond.methodLink "SpillslotWorksModel$Life" (27 : Nat) ({ cls := "SpillslotWorksModel$Life", name := "isIn", desc := "()Z" } : Jvm.MethodName)) ∈ lw_all := lw_g (lw_at lw_m11 15 rfl) rfl
theorem q2544 : (Jvm.Cond.instanceMethod ({ cls := "SpillslotWorksModel$Life", name := "meets", desc := "(LSpillslotWorksModel$Life;)Z" } : Jvm.MethodName)) ∈ lw_all := lw_g (lw_at lw_m11 25 rfl) rfl
theorem q2545 : (Jvm.Cond.selects "SpillslotWorksModel$Life" ({ cls := "SpillslotWorksModel$Life", name := "meets", desc := "(LSpillslotWorksModel$Life;)Z" } : Jvm.MethodName) ({ cls := "SpillslotWorksModel$Life", name := "meets", desc := "(LSpillslotWorksModel$Life;)Z" } : Jvm.MethodName)) ∈ lw_all := lw_g (lw_at lw_m11 26 rfl) rfl
theorem q2546 : (Jvm.Cond.code ({ cls := "SpillslotWorksModel$Life", name := "meets", desc := "(LSpillslotWorksModel$Life;)Z" } : Jvm.MethodName) prog_19_method_4_code (2 : Nat) (Option.some Jvm.ClassFile.FieldType.boolean)) ∈ lw_all := lw_g (lw_at lw_m11 27 rfl) rfl
theorem q2854 : (Jvm.Cond.castable "SpillslotWorksModel$Life" "java/lang/Object") ∈ lw_tbl := lw_at lw_m12 95 rfl
theorem in_X22 : ∀ w ∈ wsX220, w ∈ lw_all := lw_in wsX220 [2427, 2429, 2431, 2433, 2435, 2437, 2439, 2441, 2443, 2445, 2447, 2449] (by decide +kernel) (by decide +kernel)
/-! SpillslotWorksModel$Plan$Layer -/
def RX23 : String := "SpillslotWorksModel$Plan$Layer"
def TX23 : u_T := fun k => match k with
  | 0 => ("SpillslotWorksModel$Plan$Layer", "point", "I", true)
  | 1 => ("SpillslotWorksModel$Plan$Layer", "op", "LSpillslotWorksModel$Op;", true)
  | _ => ("SpillslotWorksModel$Plan$Layer", "this$0", "LSpillslotWorksModel$Plan;", true)
def tyX23 : Nat → FieldType := fun k => match k with
  | 0 => .int
  | 1 => .object "SpillslotWorksModel$Op"
  | _ => .object "SpillslotWorksModel$Plan"
abbrev wsX230 : List Cond := u_ws RX23 TX23 3
theorem nmX23 : ∀ a, a < 3 → ∀ b, b < 3 → a ≠ b → (TX23 a).2.1 ≠ (TX23 b).2.1 := by decide +kernel
theorem tyX23_ok : ∀ k, k < 3 → parseFieldDescriptor (TX23 k).2.2.1 = some (tyX23 k) := by decide +kernel
abbrev cX23_init : ByteArray := prog_24_method_1_code
def yX23_init : MethodName := ⟨RX23, "<init>", "(LSpillslotWorksModel$Plan;I)V"⟩
def dkwX23_init_1 : List UInt8 := [192, 0, 31, 181, 0, 33, 177]
abbrev dktX23_init_1 : List UInt8 := dkwX23_init_1 ++ []
def dkwX23_init_0 : List UInt8 := [42, 43, 181, 0, 3, 42, 183, 0, 9, 42, 28, 181, 0, 15, 42, 43, 180, 0, 19, 28, 182, 0, 25]
abbrev dktX23_init_0 : List UInt8 := dkwX23_init_0 ++ dktX23_init_1
theorem dksX23_init_0 : cX23_init.data.toList.drop 0 = dktX23_init_0 := by decide +kernel
theorem dksX23_init_1 : cX23_init.data.toList.drop 23 = dktX23_init_1 := dk_seg dksX23_init_0 23 rfl rfl
theorem dX23_init_0 : decode cX23_init 0 = .ok (.aload_n 0, 1) := dk_42 (dk_at dksX23_init_0 0 rfl rfl)
theorem dX23_init_1 : decode cX23_init 1 = .ok (.aload_n 1, 1) := dk_43 (dk_at dksX23_init_0 1 rfl rfl)
theorem dX23_init_2 : decode cX23_init 2 = .ok (.putfield 3, 3) := dk_181 0 3 (dk_at dksX23_init_0 2 rfl rfl)
theorem dX23_init_5 : decode cX23_init 5 = .ok (.aload_n 0, 1) := dk_42 (dk_at dksX23_init_0 5 rfl rfl)
theorem dX23_init_6 : decode cX23_init 6 = .ok (.invokespecial 9, 3) := dk_183 0 9 (dk_at dksX23_init_0 6 rfl rfl)
theorem dX23_init_9 : decode cX23_init 9 = .ok (.aload_n 0, 1) := dk_42 (dk_at dksX23_init_0 9 rfl rfl)
theorem dX23_init_10 : decode cX23_init 10 = .ok (.iload_n 2, 1) := dk_28 (dk_at dksX23_init_0 10 rfl rfl)
theorem dX23_init_11 : decode cX23_init 11 = .ok (.putfield 15, 3) := dk_181 0 15 (dk_at dksX23_init_0 11 rfl rfl)
theorem dX23_init_14 : decode cX23_init 14 = .ok (.aload_n 0, 1) := dk_42 (dk_at dksX23_init_0 14 rfl rfl)
theorem dX23_init_15 : decode cX23_init 15 = .ok (.aload_n 1, 1) := dk_43 (dk_at dksX23_init_0 15 rfl rfl)
theorem dX23_init_16 : decode cX23_init 16 = .ok (.getfield 19, 3) := dk_180 0 19 (dk_at dksX23_init_0 16 rfl rfl)
theorem dX23_init_19 : decode cX23_init 19 = .ok (.iload_n 2, 1) := dk_28 (dk_at dksX23_init_0 19 rfl rfl)
theorem dX23_init_20 : decode cX23_init 20 = .ok (.invokevirtual 25, 3) := dk_182 0 25 (dk_at dksX23_init_0 20 rfl rfl)
theorem dX23_init_23 : decode cX23_init 23 = .ok (.checkcast 31, 3) := dk_192 0 31 (dk_at dksX23_init_1 0 rfl rfl)
theorem dX23_init_26 : decode cX23_init 26 = .ok (.putfield 33, 3) := dk_181 0 33 (dk_at dksX23_init_1 3 rfl rfl)
theorem dX23_init_29 : decode cX23_init 29 = .ok (.return_, 1) := dk_177 (dk_at dksX23_init_1 6 rfl rfl)
abbrev cX23_lay : ByteArray := prog_24_method_5_code
def yX23_lay : MethodName := ⟨RX23, "lay", "()V"⟩
def dkwX23_lay_12 : List UInt8 := [177]
abbrev dktX23_lay_12 : List UInt8 := dkwX23_lay_12 ++ []
def dkwX23_lay_11 : List UInt8 := [167, 0, 18, 42, 21, 4, 45, 3, 46, 45, 4, 46, 45, 5, 46, 182, 0, 105, 42, 43, 28, 182, 0, 109]
abbrev dktX23_lay_11 : List UInt8 := dkwX23_lay_11 ++ dktX23_lay_12
def dkwX23_lay_10 : List UInt8 := [167, 0, 41, 42, 180, 0, 3, 180, 0, 77, 180, 0, 98, 153, 0, 13, 42, 21, 4, 45, 182, 0, 101]
abbrev dktX23_lay_10 : List UInt8 := dkwX23_lay_10 ++ dktX23_lay_11
def dkwX23_lay_9 : List UInt8 := [180, 0, 33, 180, 0, 70, 4, 160, 0, 18, 42, 4, 21, 4, 45, 3, 46, 3, 3, 182, 0, 49]
abbrev dktX23_lay_9 : List UInt8 := dkwX23_lay_9 ++ dktX23_lay_10
def dkwX23_lay_8 : List UInt8 := [154, 0, 22, 42, 3, 21, 4, 42, 180, 0, 33, 180, 0, 95, 3, 3, 182, 0, 49, 167, 0, 67, 42]
abbrev dktX23_lay_8 : List UInt8 := dkwX23_lay_8 ++ dktX23_lay_9
def dkwX23_lay_7 : List UInt8 := [180, 0, 44, 2, 160, 0, 7, 28, 167, 0, 7, 43, 180, 0, 44, 54, 4, 42, 180, 0, 33, 180, 0, 70]
abbrev dktX23_lay_7 : List UInt8 := dkwX23_lay_7 ++ dktX23_lay_8
def dkwX23_lay_6 : List UInt8 := [180, 0, 44, 2, 160, 0, 13, 42, 25, 5, 28, 21, 4, 96, 182, 0, 91, 132, 4, 1, 167, 255, 176, 43]
abbrev dktX23_lay_6 : List UInt8 := dkwX23_lay_6 ++ dktX23_lay_7
def dkwX23_lay_5 : List UInt8 := [25, 5, 180, 0, 44, 2, 160, 0, 10, 28, 21, 4, 96, 167, 0, 8, 25, 5, 180, 0, 44, 79, 25, 5]
abbrev dktX23_lay_5 : List UInt8 := dkwX23_lay_5 ++ dktX23_lay_6
def dkwX23_lay_4 : List UInt8 := [42, 180, 0, 3, 180, 0, 63, 42, 180, 0, 33, 180, 0, 87, 21, 4, 46, 50, 58, 5, 45, 21, 4]
abbrev dktX23_lay_4 : List UInt8 := dkwX23_lay_4 ++ dktX23_lay_5
def dkwX23_lay_3 : List UInt8 := [182, 0, 81, 61, 6, 188, 10, 78, 3, 54, 4, 21, 4, 42, 180, 0, 33, 180, 0, 87, 190, 162, 0, 73]
abbrev dktX23_lay_3 : List UInt8 := dkwX23_lay_3 ++ dktX23_lay_4
def dkwX23_lay_2 : List UInt8 := [180, 0, 44, 2, 160, 0, 11, 43, 180, 0, 53, 153, 0, 4, 177, 42, 180, 0, 3, 180, 0, 77]
abbrev dktX23_lay_2 : List UInt8 := dkwX23_lay_2 ++ dktX23_lay_3
def dkwX23_lay_1 : List UInt8 := [16, 9, 160, 0, 9, 42, 43, 182, 0, 73, 177, 42, 180, 0, 33, 180, 0, 70, 154, 0, 19, 43]
abbrev dktX23_lay_1 : List UInt8 := dkwX23_lay_1 ++ dktX23_lay_2
def dkwX23_lay_0 : List UInt8 := [42, 180, 0, 3, 180, 0, 63, 42, 180, 0, 33, 180, 0, 67, 50, 76, 42, 180, 0, 33, 180, 0, 70]
abbrev dktX23_lay_0 : List UInt8 := dkwX23_lay_0 ++ dktX23_lay_1
theorem dksX23_lay_0 : cX23_lay.data.toList.drop 0 = dktX23_lay_0 := by decide +kernel
theorem dksX23_lay_1 : cX23_lay.data.toList.drop 23 = dktX23_lay_1 := dk_seg dksX23_lay_0 23 rfl rfl
theorem dksX23_lay_2 : cX23_lay.data.toList.drop 45 = dktX23_lay_2 := dk_seg dksX23_lay_1 22 rfl rfl
theorem dksX23_lay_3 : cX23_lay.data.toList.drop 67 = dktX23_lay_3 := dk_seg dksX23_lay_2 22 rfl rfl
theorem dksX23_lay_4 : cX23_lay.data.toList.drop 91 = dktX23_lay_4 := dk_seg dksX23_lay_3 24 rfl rfl
theorem dksX23_lay_5 : cX23_lay.data.toList.drop 114 = dktX23_lay_5 := dk_seg dksX23_lay_4 23 rfl rfl
theorem dksX23_lay_6 : cX23_lay.data.toList.drop 138 = dktX23_lay_6 := dk_seg dksX23_lay_5 24 rfl rfl
theorem dksX23_lay_7 : cX23_lay.data.toList.drop 162 = dktX23_lay_7 := dk_seg dksX23_lay_6 24 rfl rfl
theorem dksX23_lay_8 : cX23_lay.data.toList.drop 186 = dktX23_lay_8 := dk_seg dksX23_lay_7 24 rfl rfl
theorem dksX23_lay_9 : cX23_lay.data.toList.drop 209 = dktX23_lay_9 := dk_seg dksX23_lay_8 23 rfl rfl
theorem dksX23_lay_10 : cX23_lay.data.toList.drop 231 = dktX23_lay_10 := dk_seg dksX23_lay_9 22 rfl rfl
theorem dksX23_lay_11 : cX23_lay.data.toList.drop 254 = dktX23_lay_11 := dk_seg dksX23_lay_10 23 rfl rfl
theorem dksX23_lay_12 : cX23_lay.data.toList.drop 278 = dktX23_lay_12 := dk_seg dksX23_lay_11 24 rfl rfl
theorem dX23_lay_0 : decode cX23_lay 0 = .ok (.aload_n 0, 1) := dk_42 (dk_at dksX23_lay_0 0 rfl rfl)
theorem dX23_lay_1 : decode cX23_lay 1 = .ok (.getfield 3, 3) := dk_180 0 3 (dk_at dksX23_lay_0 1 rfl rfl)
theorem dX23_lay_4 : decode cX23_lay 4 = .ok (.getfield 63, 3) := dk_180 0 63 (dk_at dksX23_lay_0 4 rfl rfl)
theorem dX23_lay_7 : decode cX23_lay 7 = .ok (.aload_n 0, 1) := dk_42 (dk_at dksX23_lay_0 7 rfl rfl)
theorem dX23_lay_8 : decode cX23_lay 8 = .ok (.getfield 33, 3) := dk_180 0 33 (dk_at dksX23_lay_0 8 rfl rfl)
theorem dX23_lay_11 : decode cX23_lay 11 = .ok (.getfield 67, 3) := dk_180 0 67 (dk_at dksX23_lay_0 11 rfl rfl)
theorem dX23_lay_14 : decode cX23_lay 14 = .ok (.aaload, 1) := dk_50 (dk_at dksX23_lay_0 14 rfl rfl)
theorem dX23_lay_15 : decode cX23_lay 15 = .ok (.astore_n 1, 1) := dk_76 (dk_at dksX23_lay_0 15 rfl rfl)
theorem dX23_lay_16 : decode cX23_lay 16 = .ok (.aload_n 0, 1) := dk_42 (dk_at dksX23_lay_0 16 rfl rfl)
theorem dX23_lay_17 : decode cX23_lay 17 = .ok (.getfield 33, 3) := dk_180 0 33 (dk_at dksX23_lay_0 17 rfl rfl)
theorem dX23_lay_20 : decode cX23_lay 20 = .ok (.getfield 70, 3) := dk_180 0 70 (dk_at dksX23_lay_0 20 rfl rfl)
theorem dX23_lay_23 : decode cX23_lay 23 = .ok (.bipush 9, 2) := dk_16 9 (dk_at dksX23_lay_1 0 rfl rfl)
theorem dX23_lay_25 : decode cX23_lay 25 = .ok (.if_icmp .ne 9, 3) := dk_160 0 9 (dk_at dksX23_lay_1 2 rfl rfl)
theorem dX23_lay_28 : decode cX23_lay 28 = .ok (.aload_n 0, 1) := dk_42 (dk_at dksX23_lay_1 5 rfl rfl)
theorem dX23_lay_29 : decode cX23_lay 29 = .ok (.aload_n 1, 1) := dk_43 (dk_at dksX23_lay_1 6 rfl rfl)
theorem dX23_lay_30 : decode cX23_lay 30 = .ok (.invokevirtual 73, 3) := dk_182 0 73 (dk_at dksX23_lay_1 7 rfl rfl)
theorem dX23_lay_33 : decode cX23_lay 33 = .ok (.return_, 1) := dk_177 (dk_at dksX23_lay_1 10 rfl rfl)
theorem dX23_lay_34 : decode cX23_lay 34 = .ok (.aload_n 0, 1) := dk_42 (dk_at dksX23_lay_1 11 rfl rfl)
theorem dX23_lay_35 : decode cX23_lay 35 = .ok (.getfield 33, 3) := dk_180 0 33 (dk_at dksX23_lay_1 12 rfl rfl)
theorem dX23_lay_38 : decode cX23_lay 38 = .ok (.getfield 70, 3) := dk_180 0 70 (dk_at dksX23_lay_1 15 rfl rfl)
theorem dX23_lay_41 : decode cX23_lay 41 = .ok (.ifCond .ne 19, 3) := dk_154 0 19 (dk_at dksX23_lay_1 18 rfl rfl)
theorem dX23_lay_44 : decode cX23_lay 44 = .ok (.aload_n 1, 1) := dk_43 (dk_at dksX23_lay_1 21 rfl rfl)
theorem dX23_lay_45 : decode cX23_lay 45 = .ok (.getfield 44, 3) := dk_180 0 44 (dk_at dksX23_lay_2 0 rfl rfl)
theorem dX23_lay_48 : decode cX23_lay 48 = .ok (.iconst (-1), 1) := dk_2 (dk_at dksX23_lay_2 3 rfl rfl)
theorem dX23_lay_49 : decode cX23_lay 49 = .ok (.if_icmp .ne 11, 3) := dk_160 0 11 (dk_at dksX23_lay_2 4 rfl rfl)
theorem dX23_lay_52 : decode cX23_lay 52 = .ok (.aload_n 1, 1) := dk_43 (dk_at dksX23_lay_2 7 rfl rfl)
theorem dX23_lay_53 : decode cX23_lay 53 = .ok (.getfield 53, 3) := dk_180 0 53 (dk_at dksX23_lay_2 8 rfl rfl)
theorem dX23_lay_56 : decode cX23_lay 56 = .ok (.ifCond .eq 4, 3) := dk_153 0 4 (dk_at dksX23_lay_2 11 rfl rfl)
theorem dX23_lay_59 : decode cX23_lay 59 = .ok (.return_, 1) := dk_177 (dk_at dksX23_lay_2 14 rfl rfl)
theorem dX23_lay_60 : decode cX23_lay 60 = .ok (.aload_n 0, 1) := dk_42 (dk_at dksX23_lay_2 15 rfl rfl)
theorem dX23_lay_61 : decode cX23_lay 61 = .ok (.getfield 3, 3) := dk_180 0 3 (dk_at dksX23_lay_2 16 rfl rfl)
theorem dX23_lay_64 : decode cX23_lay 64 = .ok (.getfield 77, 3) := dk_180 0 77 (dk_at dksX23_lay_2 19 rfl rfl)
theorem dX23_lay_67 : decode cX23_lay 67 = .ok (.invokevirtual 81, 3) := dk_182 0 81 (dk_at dksX23_lay_3 0 rfl rfl)
theorem dX23_lay_70 : decode cX23_lay 70 = .ok (.istore_n 2, 1) := dk_61 (dk_at dksX23_lay_3 3 rfl rfl)
theorem dX23_lay_71 : decode cX23_lay 71 = .ok (.iconst 3, 1) := dk_6 (dk_at dksX23_lay_3 4 rfl rfl)
theorem dX23_lay_72 : decode cX23_lay 72 = .ok (.newarray .int, 2) := dk_188_10 (dk_at dksX23_lay_3 5 rfl rfl)
theorem dX23_lay_74 : decode cX23_lay 74 = .ok (.astore_n 3, 1) := dk_78 (dk_at dksX23_lay_3 7 rfl rfl)
theorem dX23_lay_75 : decode cX23_lay 75 = .ok (.iconst 0, 1) := dk_3 (dk_at dksX23_lay_3 8 rfl rfl)
theorem dX23_lay_76 : decode cX23_lay 76 = .ok (.istore 4, 2) := dk_54 4 (dk_at dksX23_lay_3 9 rfl rfl)
theorem dX23_lay_78 : decode cX23_lay 78 = .ok (.iload 4, 2) := dk_21 4 (dk_at dksX23_lay_3 11 rfl rfl)
theorem dX23_lay_80 : decode cX23_lay 80 = .ok (.aload_n 0, 1) := dk_42 (dk_at dksX23_lay_3 13 rfl rfl)
theorem dX23_lay_81 : decode cX23_lay 81 = .ok (.getfield 33, 3) := dk_180 0 33 (dk_at dksX23_lay_3 14 rfl rfl)
theorem dX23_lay_84 : decode cX23_lay 84 = .ok (.getfield 87, 3) := dk_180 0 87 (dk_at dksX23_lay_3 17 rfl rfl)
theorem dX23_lay_87 : decode cX23_lay 87 = .ok (.arraylength, 1) := dk_190 (dk_at dksX23_lay_3 20 rfl rfl)
theorem dX23_lay_88 : decode cX23_lay 88 = .ok (.if_icmp .ge 73, 3) := dk_162 0 73 (dk_at dksX23_lay_3 21 rfl rfl)
theorem dX23_lay_91 : decode cX23_lay 91 = .ok (.aload_n 0, 1) := dk_42 (dk_at dksX23_lay_4 0 rfl rfl)
theorem dX23_lay_92 : decode cX23_lay 92 = .ok (.getfield 3, 3) := dk_180 0 3 (dk_at dksX23_lay_4 1 rfl rfl)
theorem dX23_lay_95 : decode cX23_lay 95 = .ok (.getfield 63, 3) := dk_180 0 63 (dk_at dksX23_lay_4 4 rfl rfl)
theorem dX23_lay_98 : decode cX23_lay 98 = .ok (.aload_n 0, 1) := dk_42 (dk_at dksX23_lay_4 7 rfl rfl)
theorem dX23_lay_99 : decode cX23_lay 99 = .ok (.getfield 33, 3) := dk_180 0 33 (dk_at dksX23_lay_4 8 rfl rfl)
theorem dX23_lay_102 : decode cX23_lay 102 = .ok (.getfield 87, 3) := dk_180 0 87 (dk_at dksX23_lay_4 11 rfl rfl)
theorem dX23_lay_105 : decode cX23_lay 105 = .ok (.iload 4, 2) := dk_21 4 (dk_at dksX23_lay_4 14 rfl rfl)
theorem dX23_lay_107 : decode cX23_lay 107 = .ok (.iaload, 1) := dk_46 (dk_at dksX23_lay_4 16 rfl rfl)
theorem dX23_lay_108 : decode cX23_lay 108 = .ok (.aaload, 1) := dk_50 (dk_at dksX23_lay_4 17 rfl rfl)
theorem dX23_lay_109 : decode cX23_lay 109 = .ok (.astore 5, 2) := dk_58 5 (dk_at dksX23_lay_4 18 rfl rfl)
theorem dX23_lay_111 : decode cX23_lay 111 = .ok (.aload_n 3, 1) := dk_45 (dk_at dksX23_lay_4 20 rfl rfl)
theorem dX23_lay_112 : decode cX23_lay 112 = .ok (.iload 4, 2) := dk_21 4 (dk_at dksX23_lay_4 21 rfl rfl)
theorem dX23_lay_114 : decode cX23_lay 114 = .ok (.aload 5, 2) := dk_25 5 (dk_at dksX23_lay_5 0 rfl rfl)
theorem dX23_lay_116 : decode cX23_lay 116 = .ok (.getfield 44, 3) := dk_180 0 44 (dk_at dksX23_lay_5 2 rfl rfl)
theorem dX23_lay_119 : decode cX23_lay 119 = .ok (.iconst (-1), 1) := dk_2 (dk_at dksX23_lay_5 5 rfl rfl)
theorem dX23_lay_120 : decode cX23_lay 120 = .ok (.if_icmp .ne 10, 3) := dk_160 0 10 (dk_at dksX23_lay_5 6 rfl rfl)
theorem dX23_lay_123 : decode cX23_lay 123 = .ok (.iload_n 2, 1) := dk_28 (dk_at dksX23_lay_5 9 rfl rfl)
theorem dX23_lay_124 : decode cX23_lay 124 = .ok (.iload 4, 2) := dk_21 4 (dk_at dksX23_lay_5 10 rfl rfl)
theorem dX23_lay_126 : decode cX23_lay 126 = .ok (.iadd, 1) := dk_96 (dk_at dksX23_lay_5 12 rfl rfl)
theorem dX23_lay_127 : decode cX23_lay 127 = .ok (.goto 8, 3) := dk_167 0 8 (dk_at dksX23_lay_5 13 rfl rfl)
theorem dX23_lay_130 : decode cX23_lay 130 = .ok (.aload 5, 2) := dk_25 5 (dk_at dksX23_lay_5 16 rfl rfl)
theorem dX23_lay_132 : decode cX23_lay 132 = .ok (.getfield 44, 3) := dk_180 0 44 (dk_at dksX23_lay_5 18 rfl rfl)
theorem dX23_lay_135 : decode cX23_lay 135 = .ok (.iastore, 1) := dk_79 (dk_at dksX23_lay_5 21 rfl rfl)
theorem dX23_lay_136 : decode cX23_lay 136 = .ok (.aload 5, 2) := dk_25 5 (dk_at dksX23_lay_5 22 rfl rfl)
theorem dX23_lay_138 : decode cX23_lay 138 = .ok (.getfield 44, 3) := dk_180 0 44 (dk_at dksX23_lay_6 0 rfl rfl)
theorem dX23_lay_141 : decode cX23_lay 141 = .ok (.iconst (-1), 1) := dk_2 (dk_at dksX23_lay_6 3 rfl rfl)
theorem dX23_lay_142 : decode cX23_lay 142 = .ok (.if_icmp .ne 13, 3) := dk_160 0 13 (dk_at dksX23_lay_6 4 rfl rfl)
theorem dX23_lay_145 : decode cX23_lay 145 = .ok (.aload_n 0, 1) := dk_42 (dk_at dksX23_lay_6 7 rfl rfl)
theorem dX23_lay_146 : decode cX23_lay 146 = .ok (.aload 5, 2) := dk_25 5 (dk_at dksX23_lay_6 8 rfl rfl)
theorem dX23_lay_148 : decode cX23_lay 148 = .ok (.iload_n 2, 1) := dk_28 (dk_at dksX23_lay_6 10 rfl rfl)
theorem dX23_lay_149 : decode cX23_lay 149 = .ok (.iload 4, 2) := dk_21 4 (dk_at dksX23_lay_6 11 rfl rfl)
theorem dX23_lay_151 : decode cX23_lay 151 = .ok (.iadd, 1) := dk_96 (dk_at dksX23_lay_6 13 rfl rfl)
theorem dX23_lay_152 : decode cX23_lay 152 = .ok (.invokevirtual 91, 3) := dk_182 0 91 (dk_at dksX23_lay_6 14 rfl rfl)
theorem dX23_lay_155 : decode cX23_lay 155 = .ok (.iinc 4 1, 3) := dk_132 4 1 (dk_at dksX23_lay_6 17 rfl rfl)
theorem dX23_lay_158 : decode cX23_lay 158 = .ok (.goto (-80), 3) := dk_167 255 176 (dk_at dksX23_lay_6 20 rfl rfl)
theorem dX23_lay_161 : decode cX23_lay 161 = .ok (.aload_n 1, 1) := dk_43 (dk_at dksX23_lay_6 23 rfl rfl)
theorem dX23_lay_162 : decode cX23_lay 162 = .ok (.getfield 44, 3) := dk_180 0 44 (dk_at dksX23_lay_7 0 rfl rfl)
theorem dX23_lay_165 : decode cX23_lay 165 = .ok (.iconst (-1), 1) := dk_2 (dk_at dksX23_lay_7 3 rfl rfl)
theorem dX23_lay_166 : decode cX23_lay 166 = .ok (.if_icmp .ne 7, 3) := dk_160 0 7 (dk_at dksX23_lay_7 4 rfl rfl)
theorem dX23_lay_169 : decode cX23_lay 169 = .ok (.iload_n 2, 1) := dk_28 (dk_at dksX23_lay_7 7 rfl rfl)
theorem dX23_lay_170 : decode cX23_lay 170 = .ok (.goto 7, 3) := dk_167 0 7 (dk_at dksX23_lay_7 8 rfl rfl)
theorem dX23_lay_173 : decode cX23_lay 173 = .ok (.aload_n 1, 1) := dk_43 (dk_at dksX23_lay_7 11 rfl rfl)
theorem dX23_lay_174 : decode cX23_lay 174 = .ok (.getfield 44, 3) := dk_180 0 44 (dk_at dksX23_lay_7 12 rfl rfl)
theorem dX23_lay_177 : decode cX23_lay 177 = .ok (.istore 4, 2) := dk_54 4 (dk_at dksX23_lay_7 15 rfl rfl)
theorem dX23_lay_179 : decode cX23_lay 179 = .ok (.aload_n 0, 1) := dk_42 (dk_at dksX23_lay_7 17 rfl rfl)
theorem dX23_lay_180 : decode cX23_lay 180 = .ok (.getfield 33, 3) := dk_180 0 33 (dk_at dksX23_lay_7 18 rfl rfl)
theorem dX23_lay_183 : decode cX23_lay 183 = .ok (.getfield 70, 3) := dk_180 0 70 (dk_at dksX23_lay_7 21 rfl rfl)
theorem dX23_lay_186 : decode cX23_lay 186 = .ok (.ifCond .ne 22, 3) := dk_154 0 22 (dk_at dksX23_lay_8 0 rfl rfl)
theorem dX23_lay_189 : decode cX23_lay 189 = .ok (.aload_n 0, 1) := dk_42 (dk_at dksX23_lay_8 3 rfl rfl)
theorem dX23_lay_190 : decode cX23_lay 190 = .ok (.iconst 0, 1) := dk_3 (dk_at dksX23_lay_8 4 rfl rfl)
theorem dX23_lay_191 : decode cX23_lay 191 = .ok (.iload 4, 2) := dk_21 4 (dk_at dksX23_lay_8 5 rfl rfl)
theorem dX23_lay_193 : decode cX23_lay 193 = .ok (.aload_n 0, 1) := dk_42 (dk_at dksX23_lay_8 7 rfl rfl)
theorem dX23_lay_194 : decode cX23_lay 194 = .ok (.getfield 33, 3) := dk_180 0 33 (dk_at dksX23_lay_8 8 rfl rfl)
theorem dX23_lay_197 : decode cX23_lay 197 = .ok (.getfield 95, 3) := dk_180 0 95 (dk_at dksX23_lay_8 11 rfl rfl)
theorem dX23_lay_200 : decode cX23_lay 200 = .ok (.iconst 0, 1) := dk_3 (dk_at dksX23_lay_8 14 rfl rfl)
theorem dX23_lay_201 : decode cX23_lay 201 = .ok (.iconst 0, 1) := dk_3 (dk_at dksX23_lay_8 15 rfl rfl)
theorem dX23_lay_202 : decode cX23_lay 202 = .ok (.invokevirtual 49, 3) := dk_182 0 49 (dk_at dksX23_lay_8 16 rfl rfl)
theorem dX23_lay_205 : decode cX23_lay 205 = .ok (.goto 67, 3) := dk_167 0 67 (dk_at dksX23_lay_8 19 rfl rfl)
theorem dX23_lay_208 : decode cX23_lay 208 = .ok (.aload_n 0, 1) := dk_42 (dk_at dksX23_lay_8 22 rfl rfl)
theorem dX23_lay_209 : decode cX23_lay 209 = .ok (.getfield 33, 3) := dk_180 0 33 (dk_at dksX23_lay_9 0 rfl rfl)
theorem dX23_lay_212 : decode cX23_lay 212 = .ok (.getfield 70, 3) := dk_180 0 70 (dk_at dksX23_lay_9 3 rfl rfl)
theorem dX23_lay_215 : decode cX23_lay 215 = .ok (.iconst 1, 1) := dk_4 (dk_at dksX23_lay_9 6 rfl rfl)
theorem dX23_lay_216 : decode cX23_lay 216 = .ok (.if_icmp .ne 18, 3) := dk_160 0 18 (dk_at dksX23_lay_9 7 rfl rfl)
theorem dX23_lay_219 : decode cX23_lay 219 = .ok (.aload_n 0, 1) := dk_42 (dk_at dksX23_lay_9 10 rfl rfl)
theorem dX23_lay_220 : decode cX23_lay 220 = .ok (.iconst 1, 1) := dk_4 (dk_at dksX23_lay_9 11 rfl rfl)
theorem dX23_lay_221 : decode cX23_lay 221 = .ok (.iload 4, 2) := dk_21 4 (dk_at dksX23_lay_9 12 rfl rfl)
theorem dX23_lay_223 : decode cX23_lay 223 = .ok (.aload_n 3, 1) := dk_45 (dk_at dksX23_lay_9 14 rfl rfl)
theorem dX23_lay_224 : decode cX23_lay 224 = .ok (.iconst 0, 1) := dk_3 (dk_at dksX23_lay_9 15 rfl rfl)
theorem dX23_lay_225 : decode cX23_lay 225 = .ok (.iaload, 1) := dk_46 (dk_at dksX23_lay_9 16 rfl rfl)
theorem dX23_lay_226 : decode cX23_lay 226 = .ok (.iconst 0, 1) := dk_3 (dk_at dksX23_lay_9 17 rfl rfl)
theorem dX23_lay_227 : decode cX23_lay 227 = .ok (.iconst 0, 1) := dk_3 (dk_at dksX23_lay_9 18 rfl rfl)
theorem dX23_lay_228 : decode cX23_lay 228 = .ok (.invokevirtual 49, 3) := dk_182 0 49 (dk_at dksX23_lay_9 19 rfl rfl)
theorem dX23_lay_231 : decode cX23_lay 231 = .ok (.goto 41, 3) := dk_167 0 41 (dk_at dksX23_lay_10 0 rfl rfl)
theorem dX23_lay_234 : decode cX23_lay 234 = .ok (.aload_n 0, 1) := dk_42 (dk_at dksX23_lay_10 3 rfl rfl)
theorem dX23_lay_235 : decode cX23_lay 235 = .ok (.getfield 3, 3) := dk_180 0 3 (dk_at dksX23_lay_10 4 rfl rfl)
theorem dX23_lay_238 : decode cX23_lay 238 = .ok (.getfield 77, 3) := dk_180 0 77 (dk_at dksX23_lay_10 7 rfl rfl)
theorem dX23_lay_241 : decode cX23_lay 241 = .ok (.getfield 98, 3) := dk_180 0 98 (dk_at dksX23_lay_10 10 rfl rfl)
theorem dX23_lay_244 : decode cX23_lay 244 = .ok (.ifCond .eq 13, 3) := dk_153 0 13 (dk_at dksX23_lay_10 13 rfl rfl)
theorem dX23_lay_247 : decode cX23_lay 247 = .ok (.aload_n 0, 1) := dk_42 (dk_at dksX23_lay_10 16 rfl rfl)
theorem dX23_lay_248 : decode cX23_lay 248 = .ok (.iload 4, 2) := dk_21 4 (dk_at dksX23_lay_10 17 rfl rfl)
theorem dX23_lay_250 : decode cX23_lay 250 = .ok (.aload_n 3, 1) := dk_45 (dk_at dksX23_lay_10 19 rfl rfl)
theorem dX23_lay_251 : decode cX23_lay 251 = .ok (.invokevirtual 101, 3) := dk_182 0 101 (dk_at dksX23_lay_10 20 rfl rfl)
theorem dX23_lay_254 : decode cX23_lay 254 = .ok (.goto 18, 3) := dk_167 0 18 (dk_at dksX23_lay_11 0 rfl rfl)
theorem dX23_lay_257 : decode cX23_lay 257 = .ok (.aload_n 0, 1) := dk_42 (dk_at dksX23_lay_11 3 rfl rfl)
theorem dX23_lay_258 : decode cX23_lay 258 = .ok (.iload 4, 2) := dk_21 4 (dk_at dksX23_lay_11 4 rfl rfl)
theorem dX23_lay_260 : decode cX23_lay 260 = .ok (.aload_n 3, 1) := dk_45 (dk_at dksX23_lay_11 6 rfl rfl)
theorem dX23_lay_261 : decode cX23_lay 261 = .ok (.iconst 0, 1) := dk_3 (dk_at dksX23_lay_11 7 rfl rfl)
theorem dX23_lay_262 : decode cX23_lay 262 = .ok (.iaload, 1) := dk_46 (dk_at dksX23_lay_11 8 rfl rfl)
theorem dX23_lay_263 : decode cX23_lay 263 = .ok (.aload_n 3, 1) := dk_45 (dk_at dksX23_lay_11 9 rfl rfl)
theorem dX23_lay_264 : decode cX23_lay 264 = .ok (.iconst 1, 1) := dk_4 (dk_at dksX23_lay_11 10 rfl rfl)
theorem dX23_lay_265 : decode cX23_lay 265 = .ok (.iaload, 1) := dk_46 (dk_at dksX23_lay_11 11 rfl rfl)
theorem dX23_lay_266 : decode cX23_lay 266 = .ok (.aload_n 3, 1) := dk_45 (dk_at dksX23_lay_11 12 rfl rfl)
theorem dX23_lay_267 : decode cX23_lay 267 = .ok (.iconst 2, 1) := dk_5 (dk_at dksX23_lay_11 13 rfl rfl)
theorem dX23_lay_268 : decode cX23_lay 268 = .ok (.iaload, 1) := dk_46 (dk_at dksX23_lay_11 14 rfl rfl)
theorem dX23_lay_269 : decode cX23_lay 269 = .ok (.invokevirtual 105, 3) := dk_182 0 105 (dk_at dksX23_lay_11 15 rfl rfl)
theorem dX23_lay_272 : decode cX23_lay 272 = .ok (.aload_n 0, 1) := dk_42 (dk_at dksX23_lay_11 18 rfl rfl)
theorem dX23_lay_273 : decode cX23_lay 273 = .ok (.aload_n 1, 1) := dk_43 (dk_at dksX23_lay_11 19 rfl rfl)
theorem dX23_lay_274 : decode cX23_lay 274 = .ok (.iload_n 2, 1) := dk_28 (dk_at dksX23_lay_11 20 rfl rfl)
theorem dX23_lay_275 : decode cX23_lay 275 = .ok (.invokevirtual 109, 3) := dk_182 0 109 (dk_at dksX23_lay_11 21 rfl rfl)
theorem dX23_lay_278 : decode cX23_lay 278 = .ok (.return_, 1) := dk_177 (dk_at dksX23_lay_12 0 rfl rfl)
abbrev cX23_layCall : ByteArray := prog_24_method_8_code
def yX23_layCall : MethodName := ⟨RX23, "layCall", "(LSpillslotWorksModel$Life;)V"⟩
def dkwX23_layCall_7 : List UInt8 := [42, 43, 3, 182, 0, 109, 177]
abbrev dktX23_layCall_7 : List UInt8 := dkwX23_layCall_7 ++ []
def dkwX23_layCall_6 : List UInt8 := [3, 182, 0, 49, 43, 180, 0, 44, 2, 159, 0, 15, 42, 4, 43, 180, 0, 44, 3, 3, 3, 182, 0, 49]
abbrev dktX23_layCall_6 : List UInt8 := dkwX23_layCall_6 ++ dktX23_layCall_7
def dkwX23_layCall_5 : List UInt8 := [182, 0, 91, 167, 0, 15, 42, 44, 3, 182, 0, 91, 42, 45, 4, 182, 0, 91, 42, 16, 9, 3, 3, 3]
abbrev dktX23_layCall_5 : List UInt8 := dkwX23_layCall_5 ++ dktX23_layCall_6
def dkwX23_layCall_4 : List UInt8 := [167, 0, 40, 45, 180, 0, 44, 154, 0, 21, 42, 4, 4, 3, 3, 3, 182, 0, 49, 42, 44, 3]
abbrev dktX23_layCall_4 : List UInt8 := dkwX23_layCall_4 ++ dktX23_layCall_5
def dkwX23_layCall_3 : List UInt8 := [182, 0, 49, 42, 4, 3, 4, 3, 3, 182, 0, 49, 42, 4, 4, 21, 4, 3, 3, 182, 0, 49]
abbrev dktX23_layCall_3 : List UInt8 := dkwX23_layCall_3 ++ dktX23_layCall_4
def dkwX23_layCall_2 : List UInt8 := [54, 4, 44, 180, 0, 44, 4, 160, 0, 42, 45, 180, 0, 44, 154, 0, 35, 42, 4, 21, 4, 3, 3, 3]
abbrev dktX23_layCall_2 : List UInt8 := dkwX23_layCall_2 ++ dktX23_layCall_3
def dkwX23_layCall_1 : List UInt8 := [180, 0, 63, 42, 180, 0, 33, 180, 0, 87, 4, 46, 50, 78, 42, 180, 0, 3, 180, 0, 77, 182, 0, 81]
abbrev dktX23_layCall_1 : List UInt8 := dkwX23_layCall_1 ++ dktX23_layCall_2
def dkwX23_layCall_0 : List UInt8 := [42, 180, 0, 3, 180, 0, 63, 42, 180, 0, 33, 180, 0, 87, 3, 46, 50, 77, 42, 180, 0, 3]
abbrev dktX23_layCall_0 : List UInt8 := dkwX23_layCall_0 ++ dktX23_layCall_1
theorem dksX23_layCall_0 : cX23_layCall.data.toList.drop 0 = dktX23_layCall_0 := by decide +kernel
theorem dksX23_layCall_1 : cX23_layCall.data.toList.drop 22 = dktX23_layCall_1 := dk_seg dksX23_layCall_0 22 rfl rfl
theorem dksX23_layCall_2 : cX23_layCall.data.toList.drop 46 = dktX23_layCall_2 := dk_seg dksX23_layCall_1 24 rfl rfl
theorem dksX23_layCall_3 : cX23_layCall.data.toList.drop 70 = dktX23_layCall_3 := dk_seg dksX23_layCall_2 24 rfl rfl
theorem dksX23_layCall_4 : cX23_layCall.data.toList.drop 92 = dktX23_layCall_4 := dk_seg dksX23_layCall_3 22 rfl rfl
theorem dksX23_layCall_5 : cX23_layCall.data.toList.drop 114 = dktX23_layCall_5 := dk_seg dksX23_layCall_4 22 rfl rfl
theorem dksX23_layCall_6 : cX23_layCall.data.toList.drop 138 = dktX23_layCall_6 := dk_seg dksX23_layCall_5 24 rfl rfl
theorem dksX23_layCall_7 : cX23_layCall.data.toList.drop 162 = dktX23_layCall_7 := dk_seg dksX23_layCall_6 24 rfl rfl
theorem dX23_layCall_0 : decode cX23_layCall 0 = .ok (.aload_n 0, 1) := dk_42 (dk_at dksX23_layCall_0 0 rfl rfl)
theorem dX23_layCall_1 : decode cX23_layCall 1 = .ok (.getfield 3, 3) := dk_180 0 3 (dk_at dksX23_layCall_0 1 rfl rfl)
theorem dX23_layCall_4 : decode cX23_layCall 4 = .ok (.getfield 63, 3) := dk_180 0 63 (dk_at dksX23_layCall_0 4 rfl rfl)
theorem dX23_layCall_7 : decode cX23_layCall 7 = .ok (.aload_n 0, 1) := dk_42 (dk_at dksX23_layCall_0 7 rfl rfl)
theorem dX23_layCall_8 : decode cX23_layCall 8 = .ok (.getfield 33, 3) := dk_180 0 33 (dk_at dksX23_layCall_0 8 rfl rfl)
theorem dX23_layCall_11 : decode cX23_layCall 11 = .ok (.getfield 87, 3) := dk_180 0 87 (dk_at dksX23_layCall_0 11 rfl rfl)
theorem dX23_layCall_14 : decode cX23_layCall 14 = .ok (.iconst 0, 1) := dk_3 (dk_at dksX23_layCall_0 14 rfl rfl)
theorem dX23_layCall_15 : decode cX23_layCall 15 = .ok (.iaload, 1) := dk_46 (dk_at dksX23_layCall_0 15 rfl rfl)
theorem dX23_layCall_16 : decode cX23_layCall 16 = .ok (.aaload, 1) := dk_50 (dk_at dksX23_layCall_0 16 rfl rfl)
theorem dX23_layCall_17 : decode cX23_layCall 17 = .ok (.astore_n 2, 1) := dk_77 (dk_at dksX23_layCall_0 17 rfl rfl)
theorem dX23_layCall_18 : decode cX23_layCall 18 = .ok (.aload_n 0, 1) := dk_42 (dk_at dksX23_layCall_0 18 rfl rfl)
theorem dX23_layCall_19 : decode cX23_layCall 19 = .ok (.getfield 3, 3) := dk_180 0 3 (dk_at dksX23_layCall_0 19 rfl rfl)
theorem dX23_layCall_22 : decode cX23_layCall 22 = .ok (.getfield 63, 3) := dk_180 0 63 (dk_at dksX23_layCall_1 0 rfl rfl)
theorem dX23_layCall_25 : decode cX23_layCall 25 = .ok (.aload_n 0, 1) := dk_42 (dk_at dksX23_layCall_1 3 rfl rfl)
theorem dX23_layCall_26 : decode cX23_layCall 26 = .ok (.getfield 33, 3) := dk_180 0 33 (dk_at dksX23_layCall_1 4 rfl rfl)
theorem dX23_layCall_29 : decode cX23_layCall 29 = .ok (.getfield 87, 3) := dk_180 0 87 (dk_at dksX23_layCall_1 7 rfl rfl)
theorem dX23_layCall_32 : decode cX23_layCall 32 = .ok (.iconst 1, 1) := dk_4 (dk_at dksX23_layCall_1 10 rfl rfl)
theorem dX23_layCall_33 : decode cX23_layCall 33 = .ok (.iaload, 1) := dk_46 (dk_at dksX23_layCall_1 11 rfl rfl)
theorem dX23_layCall_34 : decode cX23_layCall 34 = .ok (.aaload, 1) := dk_50 (dk_at dksX23_layCall_1 12 rfl rfl)
theorem dX23_layCall_35 : decode cX23_layCall 35 = .ok (.astore_n 3, 1) := dk_78 (dk_at dksX23_layCall_1 13 rfl rfl)
theorem dX23_layCall_36 : decode cX23_layCall 36 = .ok (.aload_n 0, 1) := dk_42 (dk_at dksX23_layCall_1 14 rfl rfl)
theorem dX23_layCall_37 : decode cX23_layCall 37 = .ok (.getfield 3, 3) := dk_180 0 3 (dk_at dksX23_layCall_1 15 rfl rfl)
theorem dX23_layCall_40 : decode cX23_layCall 40 = .ok (.getfield 77, 3) := dk_180 0 77 (dk_at dksX23_layCall_1 18 rfl rfl)
theorem dX23_layCall_43 : decode cX23_layCall 43 = .ok (.invokevirtual 81, 3) := dk_182 0 81 (dk_at dksX23_layCall_1 21 rfl rfl)
theorem dX23_layCall_46 : decode cX23_layCall 46 = .ok (.istore 4, 2) := dk_54 4 (dk_at dksX23_layCall_2 0 rfl rfl)
theorem dX23_layCall_48 : decode cX23_layCall 48 = .ok (.aload_n 2, 1) := dk_44 (dk_at dksX23_layCall_2 2 rfl rfl)
theorem dX23_layCall_49 : decode cX23_layCall 49 = .ok (.getfield 44, 3) := dk_180 0 44 (dk_at dksX23_layCall_2 3 rfl rfl)
theorem dX23_layCall_52 : decode cX23_layCall 52 = .ok (.iconst 1, 1) := dk_4 (dk_at dksX23_layCall_2 6 rfl rfl)
theorem dX23_layCall_53 : decode cX23_layCall 53 = .ok (.if_icmp .ne 42, 3) := dk_160 0 42 (dk_at dksX23_layCall_2 7 rfl rfl)
theorem dX23_layCall_56 : decode cX23_layCall 56 = .ok (.aload_n 3, 1) := dk_45 (dk_at dksX23_layCall_2 10 rfl rfl)
theorem dX23_layCall_57 : decode cX23_layCall 57 = .ok (.getfield 44, 3) := dk_180 0 44 (dk_at dksX23_layCall_2 11 rfl rfl)
theorem dX23_layCall_60 : decode cX23_layCall 60 = .ok (.ifCond .ne 35, 3) := dk_154 0 35 (dk_at dksX23_layCall_2 14 rfl rfl)
theorem dX23_layCall_63 : decode cX23_layCall 63 = .ok (.aload_n 0, 1) := dk_42 (dk_at dksX23_layCall_2 17 rfl rfl)
theorem dX23_layCall_64 : decode cX23_layCall 64 = .ok (.iconst 1, 1) := dk_4 (dk_at dksX23_layCall_2 18 rfl rfl)
theorem dX23_layCall_65 : decode cX23_layCall 65 = .ok (.iload 4, 2) := dk_21 4 (dk_at dksX23_layCall_2 19 rfl rfl)
theorem dX23_layCall_67 : decode cX23_layCall 67 = .ok (.iconst 0, 1) := dk_3 (dk_at dksX23_layCall_2 21 rfl rfl)
theorem dX23_layCall_68 : decode cX23_layCall 68 = .ok (.iconst 0, 1) := dk_3 (dk_at dksX23_layCall_2 22 rfl rfl)
theorem dX23_layCall_69 : decode cX23_layCall 69 = .ok (.iconst 0, 1) := dk_3 (dk_at dksX23_layCall_2 23 rfl rfl)
theorem dX23_layCall_70 : decode cX23_layCall 70 = .ok (.invokevirtual 49, 3) := dk_182 0 49 (dk_at dksX23_layCall_3 0 rfl rfl)
theorem dX23_layCall_73 : decode cX23_layCall 73 = .ok (.aload_n 0, 1) := dk_42 (dk_at dksX23_layCall_3 3 rfl rfl)
theorem dX23_layCall_74 : decode cX23_layCall 74 = .ok (.iconst 1, 1) := dk_4 (dk_at dksX23_layCall_3 4 rfl rfl)
theorem dX23_layCall_75 : decode cX23_layCall 75 = .ok (.iconst 0, 1) := dk_3 (dk_at dksX23_layCall_3 5 rfl rfl)
theorem dX23_layCall_76 : decode cX23_layCall 76 = .ok (.iconst 1, 1) := dk_4 (dk_at dksX23_layCall_3 6 rfl rfl)
theorem dX23_layCall_77 : decode cX23_layCall 77 = .ok (.iconst 0, 1) := dk_3 (dk_at dksX23_layCall_3 7 rfl rfl)
theorem dX23_layCall_78 : decode cX23_layCall 78 = .ok (.iconst 0, 1) := dk_3 (dk_at dksX23_layCall_3 8 rfl rfl)
theorem dX23_layCall_79 : decode cX23_layCall 79 = .ok (.invokevirtual 49, 3) := dk_182 0 49 (dk_at dksX23_layCall_3 9 rfl rfl)
theorem dX23_layCall_82 : decode cX23_layCall 82 = .ok (.aload_n 0, 1) := dk_42 (dk_at dksX23_layCall_3 12 rfl rfl)
theorem dX23_layCall_83 : decode cX23_layCall 83 = .ok (.iconst 1, 1) := dk_4 (dk_at dksX23_layCall_3 13 rfl rfl)
theorem dX23_layCall_84 : decode cX23_layCall 84 = .ok (.iconst 1, 1) := dk_4 (dk_at dksX23_layCall_3 14 rfl rfl)
theorem dX23_layCall_85 : decode cX23_layCall 85 = .ok (.iload 4, 2) := dk_21 4 (dk_at dksX23_layCall_3 15 rfl rfl)
theorem dX23_layCall_87 : decode cX23_layCall 87 = .ok (.iconst 0, 1) := dk_3 (dk_at dksX23_layCall_3 17 rfl rfl)
theorem dX23_layCall_88 : decode cX23_layCall 88 = .ok (.iconst 0, 1) := dk_3 (dk_at dksX23_layCall_3 18 rfl rfl)
theorem dX23_layCall_89 : decode cX23_layCall 89 = .ok (.invokevirtual 49, 3) := dk_182 0 49 (dk_at dksX23_layCall_3 19 rfl rfl)
theorem dX23_layCall_92 : decode cX23_layCall 92 = .ok (.goto 40, 3) := dk_167 0 40 (dk_at dksX23_layCall_4 0 rfl rfl)
theorem dX23_layCall_95 : decode cX23_layCall 95 = .ok (.aload_n 3, 1) := dk_45 (dk_at dksX23_layCall_4 3 rfl rfl)
theorem dX23_layCall_96 : decode cX23_layCall 96 = .ok (.getfield 44, 3) := dk_180 0 44 (dk_at dksX23_layCall_4 4 rfl rfl)
theorem dX23_layCall_99 : decode cX23_layCall 99 = .ok (.ifCond .ne 21, 3) := dk_154 0 21 (dk_at dksX23_layCall_4 7 rfl rfl)
theorem dX23_layCall_102 : decode cX23_layCall 102 = .ok (.aload_n 0, 1) := dk_42 (dk_at dksX23_layCall_4 10 rfl rfl)
theorem dX23_layCall_103 : decode cX23_layCall 103 = .ok (.iconst 1, 1) := dk_4 (dk_at dksX23_layCall_4 11 rfl rfl)
theorem dX23_layCall_104 : decode cX23_layCall 104 = .ok (.iconst 1, 1) := dk_4 (dk_at dksX23_layCall_4 12 rfl rfl)
theorem dX23_layCall_105 : decode cX23_layCall 105 = .ok (.iconst 0, 1) := dk_3 (dk_at dksX23_layCall_4 13 rfl rfl)
theorem dX23_layCall_106 : decode cX23_layCall 106 = .ok (.iconst 0, 1) := dk_3 (dk_at dksX23_layCall_4 14 rfl rfl)
theorem dX23_layCall_107 : decode cX23_layCall 107 = .ok (.iconst 0, 1) := dk_3 (dk_at dksX23_layCall_4 15 rfl rfl)
theorem dX23_layCall_108 : decode cX23_layCall 108 = .ok (.invokevirtual 49, 3) := dk_182 0 49 (dk_at dksX23_layCall_4 16 rfl rfl)
theorem dX23_layCall_111 : decode cX23_layCall 111 = .ok (.aload_n 0, 1) := dk_42 (dk_at dksX23_layCall_4 19 rfl rfl)
theorem dX23_layCall_112 : decode cX23_layCall 112 = .ok (.aload_n 2, 1) := dk_44 (dk_at dksX23_layCall_4 20 rfl rfl)
theorem dX23_layCall_113 : decode cX23_layCall 113 = .ok (.iconst 0, 1) := dk_3 (dk_at dksX23_layCall_4 21 rfl rfl)
theorem dX23_layCall_114 : decode cX23_layCall 114 = .ok (.invokevirtual 91, 3) := dk_182 0 91 (dk_at dksX23_layCall_5 0 rfl rfl)
theorem dX23_layCall_117 : decode cX23_layCall 117 = .ok (.goto 15, 3) := dk_167 0 15 (dk_at dksX23_layCall_5 3 rfl rfl)
theorem dX23_layCall_120 : decode cX23_layCall 120 = .ok (.aload_n 0, 1) := dk_42 (dk_at dksX23_layCall_5 6 rfl rfl)
theorem dX23_layCall_121 : decode cX23_layCall 121 = .ok (.aload_n 2, 1) := dk_44 (dk_at dksX23_layCall_5 7 rfl rfl)
theorem dX23_layCall_122 : decode cX23_layCall 122 = .ok (.iconst 0, 1) := dk_3 (dk_at dksX23_layCall_5 8 rfl rfl)
theorem dX23_layCall_123 : decode cX23_layCall 123 = .ok (.invokevirtual 91, 3) := dk_182 0 91 (dk_at dksX23_layCall_5 9 rfl rfl)
theorem dX23_layCall_126 : decode cX23_layCall 126 = .ok (.aload_n 0, 1) := dk_42 (dk_at dksX23_layCall_5 12 rfl rfl)
theorem dX23_layCall_127 : decode cX23_layCall 127 = .ok (.aload_n 3, 1) := dk_45 (dk_at dksX23_layCall_5 13 rfl rfl)
theorem dX23_layCall_128 : decode cX23_layCall 128 = .ok (.iconst 1, 1) := dk_4 (dk_at dksX23_layCall_5 14 rfl rfl)
theorem dX23_layCall_129 : decode cX23_layCall 129 = .ok (.invokevirtual 91, 3) := dk_182 0 91 (dk_at dksX23_layCall_5 15 rfl rfl)
theorem dX23_layCall_132 : decode cX23_layCall 132 = .ok (.aload_n 0, 1) := dk_42 (dk_at dksX23_layCall_5 18 rfl rfl)
theorem dX23_layCall_133 : decode cX23_layCall 133 = .ok (.bipush 9, 2) := dk_16 9 (dk_at dksX23_layCall_5 19 rfl rfl)
theorem dX23_layCall_135 : decode cX23_layCall 135 = .ok (.iconst 0, 1) := dk_3 (dk_at dksX23_layCall_5 21 rfl rfl)
theorem dX23_layCall_136 : decode cX23_layCall 136 = .ok (.iconst 0, 1) := dk_3 (dk_at dksX23_layCall_5 22 rfl rfl)
theorem dX23_layCall_137 : decode cX23_layCall 137 = .ok (.iconst 0, 1) := dk_3 (dk_at dksX23_layCall_5 23 rfl rfl)
theorem dX23_layCall_138 : decode cX23_layCall 138 = .ok (.iconst 0, 1) := dk_3 (dk_at dksX23_layCall_6 0 rfl rfl)
theorem dX23_layCall_139 : decode cX23_layCall 139 = .ok (.invokevirtual 49, 3) := dk_182 0 49 (dk_at dksX23_layCall_6 1 rfl rfl)
theorem dX23_layCall_142 : decode cX23_layCall 142 = .ok (.aload_n 1, 1) := dk_43 (dk_at dksX23_layCall_6 4 rfl rfl)
theorem dX23_layCall_143 : decode cX23_layCall 143 = .ok (.getfield 44, 3) := dk_180 0 44 (dk_at dksX23_layCall_6 5 rfl rfl)
theorem dX23_layCall_146 : decode cX23_layCall 146 = .ok (.iconst (-1), 1) := dk_2 (dk_at dksX23_layCall_6 8 rfl rfl)
theorem dX23_layCall_147 : decode cX23_layCall 147 = .ok (.if_icmp .eq 15, 3) := dk_159 0 15 (dk_at dksX23_layCall_6 9 rfl rfl)
theorem dX23_layCall_150 : decode cX23_layCall 150 = .ok (.aload_n 0, 1) := dk_42 (dk_at dksX23_layCall_6 12 rfl rfl)
theorem dX23_layCall_151 : decode cX23_layCall 151 = .ok (.iconst 1, 1) := dk_4 (dk_at dksX23_layCall_6 13 rfl rfl)
theorem dX23_layCall_152 : decode cX23_layCall 152 = .ok (.aload_n 1, 1) := dk_43 (dk_at dksX23_layCall_6 14 rfl rfl)
theorem dX23_layCall_153 : decode cX23_layCall 153 = .ok (.getfield 44, 3) := dk_180 0 44 (dk_at dksX23_layCall_6 15 rfl rfl)
theorem dX23_layCall_156 : decode cX23_layCall 156 = .ok (.iconst 0, 1) := dk_3 (dk_at dksX23_layCall_6 18 rfl rfl)
theorem dX23_layCall_157 : decode cX23_layCall 157 = .ok (.iconst 0, 1) := dk_3 (dk_at dksX23_layCall_6 19 rfl rfl)
theorem dX23_layCall_158 : decode cX23_layCall 158 = .ok (.iconst 0, 1) := dk_3 (dk_at dksX23_layCall_6 20 rfl rfl)
theorem dX23_layCall_159 : decode cX23_layCall 159 = .ok (.invokevirtual 49, 3) := dk_182 0 49 (dk_at dksX23_layCall_6 21 rfl rfl)
theorem dX23_layCall_162 : decode cX23_layCall 162 = .ok (.aload_n 0, 1) := dk_42 (dk_at dksX23_layCall_7 0 rfl rfl)
theorem dX23_layCall_163 : decode cX23_layCall 163 = .ok (.aload_n 1, 1) := dk_43 (dk_at dksX23_layCall_7 1 rfl rfl)
theorem dX23_layCall_164 : decode cX23_layCall 164 = .ok (.iconst 0, 1) := dk_3 (dk_at dksX23_layCall_7 2 rfl rfl)
theorem dX23_layCall_165 : decode cX23_layCall 165 = .ok (.invokevirtual 109, 3) := dk_182 0 109 (dk_at dksX23_layCall_7 3 rfl rfl)
theorem dX23_layCall_168 : decode cX23_layCall 168 = .ok (.return_, 1) := dk_177 (dk_at dksX23_layCall_7 6 rfl rfl)
abbrev cX23_put : ByteArray := prog_24_method_2_code
def yX23_put : MethodName := ⟨RX23, "put", "(IIIII)V"⟩
def dkwX23_put_2 : List UInt8 := [180, 0, 15, 79, 182, 0, 40, 87, 177]
abbrev dktX23_put_2 : List UInt8 := dkwX23_put_2 ++ []
def dkwX23_put_1 : List UInt8 := [27, 79, 89, 4, 28, 79, 89, 5, 29, 79, 89, 6, 21, 4, 79, 89, 7, 21, 5, 79, 89, 8, 42]
abbrev dktX23_put_1 : List UInt8 := dkwX23_put_1 ++ dktX23_put_2
def dkwX23_put_0 : List UInt8 := [27, 4, 160, 0, 9, 28, 29, 160, 0, 4, 177, 42, 180, 0, 3, 180, 0, 37, 16, 6, 188, 10, 89, 3]
abbrev dktX23_put_0 : List UInt8 := dkwX23_put_0 ++ dktX23_put_1
theorem dksX23_put_0 : cX23_put.data.toList.drop 0 = dktX23_put_0 := by decide +kernel
theorem dksX23_put_1 : cX23_put.data.toList.drop 24 = dktX23_put_1 := dk_seg dksX23_put_0 24 rfl rfl
theorem dksX23_put_2 : cX23_put.data.toList.drop 47 = dktX23_put_2 := dk_seg dksX23_put_1 23 rfl rfl
theorem dX23_put_0 : decode cX23_put 0 = .ok (.iload_n 1, 1) := dk_27 (dk_at dksX23_put_0 0 rfl rfl)
theorem dX23_put_1 : decode cX23_put 1 = .ok (.iconst 1, 1) := dk_4 (dk_at dksX23_put_0 1 rfl rfl)
theorem dX23_put_2 : decode cX23_put 2 = .ok (.if_icmp .ne 9, 3) := dk_160 0 9 (dk_at dksX23_put_0 2 rfl rfl)
theorem dX23_put_5 : decode cX23_put 5 = .ok (.iload_n 2, 1) := dk_28 (dk_at dksX23_put_0 5 rfl rfl)
theorem dX23_put_6 : decode cX23_put 6 = .ok (.iload_n 3, 1) := dk_29 (dk_at dksX23_put_0 6 rfl rfl)
theorem dX23_put_7 : decode cX23_put 7 = .ok (.if_icmp .ne 4, 3) := dk_160 0 4 (dk_at dksX23_put_0 7 rfl rfl)
theorem dX23_put_10 : decode cX23_put 10 = .ok (.return_, 1) := dk_177 (dk_at dksX23_put_0 10 rfl rfl)
theorem dX23_put_11 : decode cX23_put 11 = .ok (.aload_n 0, 1) := dk_42 (dk_at dksX23_put_0 11 rfl rfl)
theorem dX23_put_12 : decode cX23_put 12 = .ok (.getfield 3, 3) := dk_180 0 3 (dk_at dksX23_put_0 12 rfl rfl)
theorem dX23_put_15 : decode cX23_put 15 = .ok (.getfield 37, 3) := dk_180 0 37 (dk_at dksX23_put_0 15 rfl rfl)
theorem dX23_put_18 : decode cX23_put 18 = .ok (.bipush 6, 2) := dk_16 6 (dk_at dksX23_put_0 18 rfl rfl)
theorem dX23_put_20 : decode cX23_put 20 = .ok (.newarray .int, 2) := dk_188_10 (dk_at dksX23_put_0 20 rfl rfl)
theorem dX23_put_22 : decode cX23_put 22 = .ok (.dup, 1) := dk_89 (dk_at dksX23_put_0 22 rfl rfl)
theorem dX23_put_23 : decode cX23_put 23 = .ok (.iconst 0, 1) := dk_3 (dk_at dksX23_put_0 23 rfl rfl)
theorem dX23_put_24 : decode cX23_put 24 = .ok (.iload_n 1, 1) := dk_27 (dk_at dksX23_put_1 0 rfl rfl)
theorem dX23_put_25 : decode cX23_put 25 = .ok (.iastore, 1) := dk_79 (dk_at dksX23_put_1 1 rfl rfl)
theorem dX23_put_26 : decode cX23_put 26 = .ok (.dup, 1) := dk_89 (dk_at dksX23_put_1 2 rfl rfl)
theorem dX23_put_27 : decode cX23_put 27 = .ok (.iconst 1, 1) := dk_4 (dk_at dksX23_put_1 3 rfl rfl)
theorem dX23_put_28 : decode cX23_put 28 = .ok (.iload_n 2, 1) := dk_28 (dk_at dksX23_put_1 4 rfl rfl)
theorem dX23_put_29 : decode cX23_put 29 = .ok (.iastore, 1) := dk_79 (dk_at dksX23_put_1 5 rfl rfl)
theorem dX23_put_30 : decode cX23_put 30 = .ok (.dup, 1) := dk_89 (dk_at dksX23_put_1 6 rfl rfl)
theorem dX23_put_31 : decode cX23_put 31 = .ok (.iconst 2, 1) := dk_5 (dk_at dksX23_put_1 7 rfl rfl)
theorem dX23_put_32 : decode cX23_put 32 = .ok (.iload_n 3, 1) := dk_29 (dk_at dksX23_put_1 8 rfl rfl)
theorem dX23_put_33 : decode cX23_put 33 = .ok (.iastore, 1) := dk_79 (dk_at dksX23_put_1 9 rfl rfl)
theorem dX23_put_34 : decode cX23_put 34 = .ok (.dup, 1) := dk_89 (dk_at dksX23_put_1 10 rfl rfl)
theorem dX23_put_35 : decode cX23_put 35 = .ok (.iconst 3, 1) := dk_6 (dk_at dksX23_put_1 11 rfl rfl)
theorem dX23_put_36 : decode cX23_put 36 = .ok (.iload 4, 2) := dk_21 4 (dk_at dksX23_put_1 12 rfl rfl)
theorem dX23_put_38 : decode cX23_put 38 = .ok (.iastore, 1) := dk_79 (dk_at dksX23_put_1 14 rfl rfl)
theorem dX23_put_39 : decode cX23_put 39 = .ok (.dup, 1) := dk_89 (dk_at dksX23_put_1 15 rfl rfl)
theorem dX23_put_40 : decode cX23_put 40 = .ok (.iconst 4, 1) := dk_7 (dk_at dksX23_put_1 16 rfl rfl)
theorem dX23_put_41 : decode cX23_put 41 = .ok (.iload 5, 2) := dk_21 5 (dk_at dksX23_put_1 17 rfl rfl)
theorem dX23_put_43 : decode cX23_put 43 = .ok (.iastore, 1) := dk_79 (dk_at dksX23_put_1 19 rfl rfl)
theorem dX23_put_44 : decode cX23_put 44 = .ok (.dup, 1) := dk_89 (dk_at dksX23_put_1 20 rfl rfl)
theorem dX23_put_45 : decode cX23_put 45 = .ok (.iconst 5, 1) := dk_8 (dk_at dksX23_put_1 21 rfl rfl)
theorem dX23_put_46 : decode cX23_put 46 = .ok (.aload_n 0, 1) := dk_42 (dk_at dksX23_put_1 22 rfl rfl)
theorem dX23_put_47 : decode cX23_put 47 = .ok (.getfield 15, 3) := dk_180 0 15 (dk_at dksX23_put_2 0 rfl rfl)
theorem dX23_put_50 : decode cX23_put 50 = .ok (.iastore, 1) := dk_79 (dk_at dksX23_put_2 3 rfl rfl)
theorem dX23_put_51 : decode cX23_put 51 = .ok (.invokevirtual 40, 3) := dk_182 0 40 (dk_at dksX23_put_2 4 rfl rfl)
theorem dX23_put_54 : decode cX23_put 54 = .ok (.pop, 1) := dk_87 (dk_at dksX23_put_2 7 rfl rfl)
theorem dX23_put_55 : decode cX23_put 55 = .ok (.return_, 1) := dk_177 (dk_at dksX23_put_2 8 rfl rfl)
abbrev cX23_bring : ByteArray := prog_24_method_3_code
def yX23_bring : MethodName := ⟨RX23, "bring", "(LSpillslotWorksModel$Life;I)V"⟩
def dkwX23_bring_2 : List UInt8 := [28, 43, 180, 0, 60, 3, 3, 182, 0, 49, 177]
abbrev dktX23_bring_2 : List UInt8 := dkwX23_bring_2 ++ []
def dkwX23_bring_1 : List UInt8 := [180, 0, 53, 153, 0, 18, 42, 3, 28, 43, 180, 0, 57, 3, 3, 182, 0, 49, 167, 0, 16, 42, 16, 7]
abbrev dktX23_bring_1 : List UInt8 := dkwX23_bring_1 ++ dktX23_bring_2
def dkwX23_bring_0 : List UInt8 := [43, 180, 0, 44, 2, 159, 0, 18, 42, 4, 28, 43, 180, 0, 44, 3, 3, 182, 0, 49, 167, 0, 38, 43]
abbrev dktX23_bring_0 : List UInt8 := dkwX23_bring_0 ++ dktX23_bring_1
theorem dksX23_bring_0 : cX23_bring.data.toList.drop 0 = dktX23_bring_0 := by decide +kernel
theorem dksX23_bring_1 : cX23_bring.data.toList.drop 24 = dktX23_bring_1 := dk_seg dksX23_bring_0 24 rfl rfl
theorem dksX23_bring_2 : cX23_bring.data.toList.drop 48 = dktX23_bring_2 := dk_seg dksX23_bring_1 24 rfl rfl
theorem dX23_bring_0 : decode cX23_bring 0 = .ok (.aload_n 1, 1) := dk_43 (dk_at dksX23_bring_0 0 rfl rfl)
theorem dX23_bring_1 : decode cX23_bring 1 = .ok (.getfield 44, 3) := dk_180 0 44 (dk_at dksX23_bring_0 1 rfl rfl)
theorem dX23_bring_4 : decode cX23_bring 4 = .ok (.iconst (-1), 1) := dk_2 (dk_at dksX23_bring_0 4 rfl rfl)
theorem dX23_bring_5 : decode cX23_bring 5 = .ok (.if_icmp .eq 18, 3) := dk_159 0 18 (dk_at dksX23_bring_0 5 rfl rfl)
theorem dX23_bring_8 : decode cX23_bring 8 = .ok (.aload_n 0, 1) := dk_42 (dk_at dksX23_bring_0 8 rfl rfl)
theorem dX23_bring_9 : decode cX23_bring 9 = .ok (.iconst 1, 1) := dk_4 (dk_at dksX23_bring_0 9 rfl rfl)
theorem dX23_bring_10 : decode cX23_bring 10 = .ok (.iload_n 2, 1) := dk_28 (dk_at dksX23_bring_0 10 rfl rfl)
theorem dX23_bring_11 : decode cX23_bring 11 = .ok (.aload_n 1, 1) := dk_43 (dk_at dksX23_bring_0 11 rfl rfl)
theorem dX23_bring_12 : decode cX23_bring 12 = .ok (.getfield 44, 3) := dk_180 0 44 (dk_at dksX23_bring_0 12 rfl rfl)
theorem dX23_bring_15 : decode cX23_bring 15 = .ok (.iconst 0, 1) := dk_3 (dk_at dksX23_bring_0 15 rfl rfl)
theorem dX23_bring_16 : decode cX23_bring 16 = .ok (.iconst 0, 1) := dk_3 (dk_at dksX23_bring_0 16 rfl rfl)
theorem dX23_bring_17 : decode cX23_bring 17 = .ok (.invokevirtual 49, 3) := dk_182 0 49 (dk_at dksX23_bring_0 17 rfl rfl)
theorem dX23_bring_20 : decode cX23_bring 20 = .ok (.goto 38, 3) := dk_167 0 38 (dk_at dksX23_bring_0 20 rfl rfl)
theorem dX23_bring_23 : decode cX23_bring 23 = .ok (.aload_n 1, 1) := dk_43 (dk_at dksX23_bring_0 23 rfl rfl)
theorem dX23_bring_24 : decode cX23_bring 24 = .ok (.getfield 53, 3) := dk_180 0 53 (dk_at dksX23_bring_1 0 rfl rfl)
theorem dX23_bring_27 : decode cX23_bring 27 = .ok (.ifCond .eq 18, 3) := dk_153 0 18 (dk_at dksX23_bring_1 3 rfl rfl)
theorem dX23_bring_30 : decode cX23_bring 30 = .ok (.aload_n 0, 1) := dk_42 (dk_at dksX23_bring_1 6 rfl rfl)
theorem dX23_bring_31 : decode cX23_bring 31 = .ok (.iconst 0, 1) := dk_3 (dk_at dksX23_bring_1 7 rfl rfl)
theorem dX23_bring_32 : decode cX23_bring 32 = .ok (.iload_n 2, 1) := dk_28 (dk_at dksX23_bring_1 8 rfl rfl)
theorem dX23_bring_33 : decode cX23_bring 33 = .ok (.aload_n 1, 1) := dk_43 (dk_at dksX23_bring_1 9 rfl rfl)
theorem dX23_bring_34 : decode cX23_bring 34 = .ok (.getfield 57, 3) := dk_180 0 57 (dk_at dksX23_bring_1 10 rfl rfl)
theorem dX23_bring_37 : decode cX23_bring 37 = .ok (.iconst 0, 1) := dk_3 (dk_at dksX23_bring_1 13 rfl rfl)
theorem dX23_bring_38 : decode cX23_bring 38 = .ok (.iconst 0, 1) := dk_3 (dk_at dksX23_bring_1 14 rfl rfl)
theorem dX23_bring_39 : decode cX23_bring 39 = .ok (.invokevirtual 49, 3) := dk_182 0 49 (dk_at dksX23_bring_1 15 rfl rfl)
theorem dX23_bring_42 : decode cX23_bring 42 = .ok (.goto 16, 3) := dk_167 0 16 (dk_at dksX23_bring_1 18 rfl rfl)
theorem dX23_bring_45 : decode cX23_bring 45 = .ok (.aload_n 0, 1) := dk_42 (dk_at dksX23_bring_1 21 rfl rfl)
theorem dX23_bring_46 : decode cX23_bring 46 = .ok (.bipush 7, 2) := dk_16 7 (dk_at dksX23_bring_1 22 rfl rfl)
theorem dX23_bring_48 : decode cX23_bring 48 = .ok (.iload_n 2, 1) := dk_28 (dk_at dksX23_bring_2 0 rfl rfl)
theorem dX23_bring_49 : decode cX23_bring 49 = .ok (.aload_n 1, 1) := dk_43 (dk_at dksX23_bring_2 1 rfl rfl)
theorem dX23_bring_50 : decode cX23_bring 50 = .ok (.getfield 60, 3) := dk_180 0 60 (dk_at dksX23_bring_2 2 rfl rfl)
theorem dX23_bring_53 : decode cX23_bring 53 = .ok (.iconst 0, 1) := dk_3 (dk_at dksX23_bring_2 5 rfl rfl)
theorem dX23_bring_54 : decode cX23_bring 54 = .ok (.iconst 0, 1) := dk_3 (dk_at dksX23_bring_2 6 rfl rfl)
theorem dX23_bring_55 : decode cX23_bring 55 = .ok (.invokevirtual 49, 3) := dk_182 0 49 (dk_at dksX23_bring_2 7 rfl rfl)
theorem dX23_bring_58 : decode cX23_bring 58 = .ok (.return_, 1) := dk_177 (dk_at dksX23_bring_2 10 rfl rfl)
abbrev cX23_store : ByteArray := prog_24_method_4_code
def yX23_store : MethodName := ⟨RX23, "store", "(LSpillslotWorksModel$Life;I)V"⟩
def dkwX23_store_0 : List UInt8 := [43, 180, 0, 44, 2, 160, 0, 16, 42, 16, 8, 28, 43, 180, 0, 60, 3, 3, 182, 0, 49, 177]
abbrev dktX23_store_0 : List UInt8 := dkwX23_store_0 ++ []
theorem dksX23_store_0 : cX23_store.data.toList.drop 0 = dktX23_store_0 := by decide +kernel
theorem dX23_store_0 : decode cX23_store 0 = .ok (.aload_n 1, 1) := dk_43 (dk_at dksX23_store_0 0 rfl rfl)
theorem dX23_store_1 : decode cX23_store 1 = .ok (.getfield 44, 3) := dk_180 0 44 (dk_at dksX23_store_0 1 rfl rfl)
theorem dX23_store_4 : decode cX23_store 4 = .ok (.iconst (-1), 1) := dk_2 (dk_at dksX23_store_0 4 rfl rfl)
theorem dX23_store_5 : decode cX23_store 5 = .ok (.if_icmp .ne 16, 3) := dk_160 0 16 (dk_at dksX23_store_0 5 rfl rfl)
theorem dX23_store_8 : decode cX23_store 8 = .ok (.aload_n 0, 1) := dk_42 (dk_at dksX23_store_0 8 rfl rfl)
theorem dX23_store_9 : decode cX23_store 9 = .ok (.bipush 8, 2) := dk_16 8 (dk_at dksX23_store_0 9 rfl rfl)
theorem dX23_store_11 : decode cX23_store 11 = .ok (.iload_n 2, 1) := dk_28 (dk_at dksX23_store_0 11 rfl rfl)
theorem dX23_store_12 : decode cX23_store 12 = .ok (.aload_n 1, 1) := dk_43 (dk_at dksX23_store_0 12 rfl rfl)
theorem dX23_store_13 : decode cX23_store 13 = .ok (.getfield 60, 3) := dk_180 0 60 (dk_at dksX23_store_0 13 rfl rfl)
theorem dX23_store_16 : decode cX23_store 16 = .ok (.iconst 0, 1) := dk_3 (dk_at dksX23_store_0 16 rfl rfl)
theorem dX23_store_17 : decode cX23_store 17 = .ok (.iconst 0, 1) := dk_3 (dk_at dksX23_store_0 17 rfl rfl)
theorem dX23_store_18 : decode cX23_store 18 = .ok (.invokevirtual 49, 3) := dk_182 0 49 (dk_at dksX23_store_0 18 rfl rfl)
theorem dX23_store_21 : decode cX23_store 21 = .ok (.return_, 1) := dk_177 (dk_at dksX23_store_0 21 rfl rfl)
abbrev cX23_layTwo : ByteArray := prog_24_method_7_code
def yX23_layTwo : MethodName := ⟨RX23, "layTwo", "(I[I)V"⟩
def dkwX23_layTwo_8 : List UInt8 := [5, 46, 182, 0, 105, 177]
abbrev dktX23_layTwo_8 : List UInt8 := dkwX23_layTwo_8 ++ []
def dkwX23_layTwo_7 : List UInt8 := [182, 0, 49, 167, 0, 26, 42, 4, 27, 44, 3, 46, 3, 3, 182, 0, 49, 42, 27, 27, 44, 4, 46, 44]
abbrev dktX23_layTwo_7 : List UInt8 := dkwX23_layTwo_7 ++ dktX23_layTwo_8
def dkwX23_layTwo_6 : List UInt8 := [46, 3, 3, 182, 0, 49, 42, 29, 29, 44, 4, 46, 44, 5, 46, 182, 0, 105, 42, 4, 27, 29, 3, 3]
abbrev dktX23_layTwo_6 : List UInt8 := dkwX23_layTwo_6 ++ dktX23_layTwo_7
def dkwX23_layTwo_5 : List UInt8 := [3, 46, 3, 182, 0, 105, 167, 0, 71, 21, 4, 154, 0, 8, 21, 5, 153, 0, 38, 42, 4, 29, 44, 3]
abbrev dktX23_layTwo_5 : List UInt8 := dkwX23_layTwo_5 ++ dktX23_layTwo_6
def dkwX23_layTwo_4 : List UInt8 := [180, 0, 70, 5, 159, 0, 14, 42, 180, 0, 33, 180, 0, 70, 7, 160, 0, 18, 42, 27, 44, 4, 46, 44]
abbrev dktX23_layTwo_4 : List UInt8 := dkwX23_layTwo_4 ++ dktX23_layTwo_5
def dkwX23_layTwo_3 : List UInt8 := [3, 46, 44, 4, 46, 44, 5, 46, 182, 0, 105, 167, 0, 113, 21, 4, 153, 0, 40, 42, 180, 0, 33]
abbrev dktX23_layTwo_3 : List UInt8 := dkwX23_layTwo_3 ++ dktX23_layTwo_4
def dkwX23_layTwo_2 : List UInt8 := [27, 44, 5, 46, 160, 0, 7, 4, 167, 0, 4, 3, 54, 5, 27, 44, 3, 46, 160, 0, 20, 42, 27, 44]
abbrev dktX23_layTwo_2 : List UInt8 := dkwX23_layTwo_2 ++ dktX23_layTwo_3
def dkwX23_layTwo_1 : List UInt8 := [4, 46, 160, 0, 7, 4, 167, 0, 4, 3, 54, 4, 42, 180, 0, 33, 180, 0, 70, 16, 6, 160, 0, 14]
abbrev dktX23_layTwo_1 : List UInt8 := dkwX23_layTwo_1 ++ dktX23_layTwo_2
def dkwX23_layTwo_0 : List UInt8 := [42, 180, 0, 3, 180, 0, 77, 182, 0, 81, 62, 42, 180, 0, 33, 180, 0, 70, 8, 159, 0, 14, 27, 44]
abbrev dktX23_layTwo_0 : List UInt8 := dkwX23_layTwo_0 ++ dktX23_layTwo_1
theorem dksX23_layTwo_0 : cX23_layTwo.data.toList.drop 0 = dktX23_layTwo_0 := by decide +kernel
theorem dksX23_layTwo_1 : cX23_layTwo.data.toList.drop 24 = dktX23_layTwo_1 := dk_seg dksX23_layTwo_0 24 rfl rfl
theorem dksX23_layTwo_2 : cX23_layTwo.data.toList.drop 48 = dktX23_layTwo_2 := dk_seg dksX23_layTwo_1 24 rfl rfl
theorem dksX23_layTwo_3 : cX23_layTwo.data.toList.drop 72 = dktX23_layTwo_3 := dk_seg dksX23_layTwo_2 24 rfl rfl
theorem dksX23_layTwo_4 : cX23_layTwo.data.toList.drop 95 = dktX23_layTwo_4 := dk_seg dksX23_layTwo_3 23 rfl rfl
theorem dksX23_layTwo_5 : cX23_layTwo.data.toList.drop 119 = dktX23_layTwo_5 := dk_seg dksX23_layTwo_4 24 rfl rfl
theorem dksX23_layTwo_6 : cX23_layTwo.data.toList.drop 143 = dktX23_layTwo_6 := dk_seg dksX23_layTwo_5 24 rfl rfl
theorem dksX23_layTwo_7 : cX23_layTwo.data.toList.drop 167 = dktX23_layTwo_7 := dk_seg dksX23_layTwo_6 24 rfl rfl
theorem dksX23_layTwo_8 : cX23_layTwo.data.toList.drop 191 = dktX23_layTwo_8 := dk_seg dksX23_layTwo_7 24 rfl rfl
theorem dX23_layTwo_0 : decode cX23_layTwo 0 = .ok (.aload_n 0, 1) := dk_42 (dk_at dksX23_layTwo_0 0 rfl rfl)
theorem dX23_layTwo_1 : decode cX23_layTwo 1 = .ok (.getfield 3, 3) := dk_180 0 3 (dk_at dksX23_layTwo_0 1 rfl rfl)
theorem dX23_layTwo_4 : decode cX23_layTwo 4 = .ok (.getfield 77, 3) := dk_180 0 77 (dk_at dksX23_layTwo_0 4 rfl rfl)
theorem dX23_layTwo_7 : decode cX23_layTwo 7 = .ok (.invokevirtual 81, 3) := dk_182 0 81 (dk_at dksX23_layTwo_0 7 rfl rfl)
theorem dX23_layTwo_10 : decode cX23_layTwo 10 = .ok (.istore_n 3, 1) := dk_62 (dk_at dksX23_layTwo_0 10 rfl rfl)
theorem dX23_layTwo_11 : decode cX23_layTwo 11 = .ok (.aload_n 0, 1) := dk_42 (dk_at dksX23_layTwo_0 11 rfl rfl)
theorem dX23_layTwo_12 : decode cX23_layTwo 12 = .ok (.getfield 33, 3) := dk_180 0 33 (dk_at dksX23_layTwo_0 12 rfl rfl)
theorem dX23_layTwo_15 : decode cX23_layTwo 15 = .ok (.getfield 70, 3) := dk_180 0 70 (dk_at dksX23_layTwo_0 15 rfl rfl)
theorem dX23_layTwo_18 : decode cX23_layTwo 18 = .ok (.iconst 5, 1) := dk_8 (dk_at dksX23_layTwo_0 18 rfl rfl)
theorem dX23_layTwo_19 : decode cX23_layTwo 19 = .ok (.if_icmp .eq 14, 3) := dk_159 0 14 (dk_at dksX23_layTwo_0 19 rfl rfl)
theorem dX23_layTwo_22 : decode cX23_layTwo 22 = .ok (.iload_n 1, 1) := dk_27 (dk_at dksX23_layTwo_0 22 rfl rfl)
theorem dX23_layTwo_23 : decode cX23_layTwo 23 = .ok (.aload_n 2, 1) := dk_44 (dk_at dksX23_layTwo_0 23 rfl rfl)
theorem dX23_layTwo_24 : decode cX23_layTwo 24 = .ok (.iconst 1, 1) := dk_4 (dk_at dksX23_layTwo_1 0 rfl rfl)
theorem dX23_layTwo_25 : decode cX23_layTwo 25 = .ok (.iaload, 1) := dk_46 (dk_at dksX23_layTwo_1 1 rfl rfl)
theorem dX23_layTwo_26 : decode cX23_layTwo 26 = .ok (.if_icmp .ne 7, 3) := dk_160 0 7 (dk_at dksX23_layTwo_1 2 rfl rfl)
theorem dX23_layTwo_29 : decode cX23_layTwo 29 = .ok (.iconst 1, 1) := dk_4 (dk_at dksX23_layTwo_1 5 rfl rfl)
theorem dX23_layTwo_30 : decode cX23_layTwo 30 = .ok (.goto 4, 3) := dk_167 0 4 (dk_at dksX23_layTwo_1 6 rfl rfl)
theorem dX23_layTwo_33 : decode cX23_layTwo 33 = .ok (.iconst 0, 1) := dk_3 (dk_at dksX23_layTwo_1 9 rfl rfl)
theorem dX23_layTwo_34 : decode cX23_layTwo 34 = .ok (.istore 4, 2) := dk_54 4 (dk_at dksX23_layTwo_1 10 rfl rfl)
theorem dX23_layTwo_36 : decode cX23_layTwo 36 = .ok (.aload_n 0, 1) := dk_42 (dk_at dksX23_layTwo_1 12 rfl rfl)
theorem dX23_layTwo_37 : decode cX23_layTwo 37 = .ok (.getfield 33, 3) := dk_180 0 33 (dk_at dksX23_layTwo_1 13 rfl rfl)
theorem dX23_layTwo_40 : decode cX23_layTwo 40 = .ok (.getfield 70, 3) := dk_180 0 70 (dk_at dksX23_layTwo_1 16 rfl rfl)
theorem dX23_layTwo_43 : decode cX23_layTwo 43 = .ok (.bipush 6, 2) := dk_16 6 (dk_at dksX23_layTwo_1 19 rfl rfl)
theorem dX23_layTwo_45 : decode cX23_layTwo 45 = .ok (.if_icmp .ne 14, 3) := dk_160 0 14 (dk_at dksX23_layTwo_1 21 rfl rfl)
theorem dX23_layTwo_48 : decode cX23_layTwo 48 = .ok (.iload_n 1, 1) := dk_27 (dk_at dksX23_layTwo_2 0 rfl rfl)
theorem dX23_layTwo_49 : decode cX23_layTwo 49 = .ok (.aload_n 2, 1) := dk_44 (dk_at dksX23_layTwo_2 1 rfl rfl)
theorem dX23_layTwo_50 : decode cX23_layTwo 50 = .ok (.iconst 2, 1) := dk_5 (dk_at dksX23_layTwo_2 2 rfl rfl)
theorem dX23_layTwo_51 : decode cX23_layTwo 51 = .ok (.iaload, 1) := dk_46 (dk_at dksX23_layTwo_2 3 rfl rfl)
theorem dX23_layTwo_52 : decode cX23_layTwo 52 = .ok (.if_icmp .ne 7, 3) := dk_160 0 7 (dk_at dksX23_layTwo_2 4 rfl rfl)
theorem dX23_layTwo_55 : decode cX23_layTwo 55 = .ok (.iconst 1, 1) := dk_4 (dk_at dksX23_layTwo_2 7 rfl rfl)
theorem dX23_layTwo_56 : decode cX23_layTwo 56 = .ok (.goto 4, 3) := dk_167 0 4 (dk_at dksX23_layTwo_2 8 rfl rfl)
theorem dX23_layTwo_59 : decode cX23_layTwo 59 = .ok (.iconst 0, 1) := dk_3 (dk_at dksX23_layTwo_2 11 rfl rfl)
theorem dX23_layTwo_60 : decode cX23_layTwo 60 = .ok (.istore 5, 2) := dk_54 5 (dk_at dksX23_layTwo_2 12 rfl rfl)
theorem dX23_layTwo_62 : decode cX23_layTwo 62 = .ok (.iload_n 1, 1) := dk_27 (dk_at dksX23_layTwo_2 14 rfl rfl)
theorem dX23_layTwo_63 : decode cX23_layTwo 63 = .ok (.aload_n 2, 1) := dk_44 (dk_at dksX23_layTwo_2 15 rfl rfl)
theorem dX23_layTwo_64 : decode cX23_layTwo 64 = .ok (.iconst 0, 1) := dk_3 (dk_at dksX23_layTwo_2 16 rfl rfl)
theorem dX23_layTwo_65 : decode cX23_layTwo 65 = .ok (.iaload, 1) := dk_46 (dk_at dksX23_layTwo_2 17 rfl rfl)
theorem dX23_layTwo_66 : decode cX23_layTwo 66 = .ok (.if_icmp .ne 20, 3) := dk_160 0 20 (dk_at dksX23_layTwo_2 18 rfl rfl)
theorem dX23_layTwo_69 : decode cX23_layTwo 69 = .ok (.aload_n 0, 1) := dk_42 (dk_at dksX23_layTwo_2 21 rfl rfl)
theorem dX23_layTwo_70 : decode cX23_layTwo 70 = .ok (.iload_n 1, 1) := dk_27 (dk_at dksX23_layTwo_2 22 rfl rfl)
theorem dX23_layTwo_71 : decode cX23_layTwo 71 = .ok (.aload_n 2, 1) := dk_44 (dk_at dksX23_layTwo_2 23 rfl rfl)
theorem dX23_layTwo_72 : decode cX23_layTwo 72 = .ok (.iconst 0, 1) := dk_3 (dk_at dksX23_layTwo_3 0 rfl rfl)
theorem dX23_layTwo_73 : decode cX23_layTwo 73 = .ok (.iaload, 1) := dk_46 (dk_at dksX23_layTwo_3 1 rfl rfl)
theorem dX23_layTwo_74 : decode cX23_layTwo 74 = .ok (.aload_n 2, 1) := dk_44 (dk_at dksX23_layTwo_3 2 rfl rfl)
theorem dX23_layTwo_75 : decode cX23_layTwo 75 = .ok (.iconst 1, 1) := dk_4 (dk_at dksX23_layTwo_3 3 rfl rfl)
theorem dX23_layTwo_76 : decode cX23_layTwo 76 = .ok (.iaload, 1) := dk_46 (dk_at dksX23_layTwo_3 4 rfl rfl)
theorem dX23_layTwo_77 : decode cX23_layTwo 77 = .ok (.aload_n 2, 1) := dk_44 (dk_at dksX23_layTwo_3 5 rfl rfl)
theorem dX23_layTwo_78 : decode cX23_layTwo 78 = .ok (.iconst 2, 1) := dk_5 (dk_at dksX23_layTwo_3 6 rfl rfl)
theorem dX23_layTwo_79 : decode cX23_layTwo 79 = .ok (.iaload, 1) := dk_46 (dk_at dksX23_layTwo_3 7 rfl rfl)
theorem dX23_layTwo_80 : decode cX23_layTwo 80 = .ok (.invokevirtual 105, 3) := dk_182 0 105 (dk_at dksX23_layTwo_3 8 rfl rfl)
theorem dX23_layTwo_83 : decode cX23_layTwo 83 = .ok (.goto 113, 3) := dk_167 0 113 (dk_at dksX23_layTwo_3 11 rfl rfl)
theorem dX23_layTwo_86 : decode cX23_layTwo 86 = .ok (.iload 4, 2) := dk_21 4 (dk_at dksX23_layTwo_3 14 rfl rfl)
theorem dX23_layTwo_88 : decode cX23_layTwo 88 = .ok (.ifCond .eq 40, 3) := dk_153 0 40 (dk_at dksX23_layTwo_3 16 rfl rfl)
theorem dX23_layTwo_91 : decode cX23_layTwo 91 = .ok (.aload_n 0, 1) := dk_42 (dk_at dksX23_layTwo_3 19 rfl rfl)
theorem dX23_layTwo_92 : decode cX23_layTwo 92 = .ok (.getfield 33, 3) := dk_180 0 33 (dk_at dksX23_layTwo_3 20 rfl rfl)
theorem dX23_layTwo_95 : decode cX23_layTwo 95 = .ok (.getfield 70, 3) := dk_180 0 70 (dk_at dksX23_layTwo_4 0 rfl rfl)
theorem dX23_layTwo_98 : decode cX23_layTwo 98 = .ok (.iconst 2, 1) := dk_5 (dk_at dksX23_layTwo_4 3 rfl rfl)
theorem dX23_layTwo_99 : decode cX23_layTwo 99 = .ok (.if_icmp .eq 14, 3) := dk_159 0 14 (dk_at dksX23_layTwo_4 4 rfl rfl)
theorem dX23_layTwo_102 : decode cX23_layTwo 102 = .ok (.aload_n 0, 1) := dk_42 (dk_at dksX23_layTwo_4 7 rfl rfl)
theorem dX23_layTwo_103 : decode cX23_layTwo 103 = .ok (.getfield 33, 3) := dk_180 0 33 (dk_at dksX23_layTwo_4 8 rfl rfl)
theorem dX23_layTwo_106 : decode cX23_layTwo 106 = .ok (.getfield 70, 3) := dk_180 0 70 (dk_at dksX23_layTwo_4 11 rfl rfl)
theorem dX23_layTwo_109 : decode cX23_layTwo 109 = .ok (.iconst 4, 1) := dk_7 (dk_at dksX23_layTwo_4 14 rfl rfl)
theorem dX23_layTwo_110 : decode cX23_layTwo 110 = .ok (.if_icmp .ne 18, 3) := dk_160 0 18 (dk_at dksX23_layTwo_4 15 rfl rfl)
theorem dX23_layTwo_113 : decode cX23_layTwo 113 = .ok (.aload_n 0, 1) := dk_42 (dk_at dksX23_layTwo_4 18 rfl rfl)
theorem dX23_layTwo_114 : decode cX23_layTwo 114 = .ok (.iload_n 1, 1) := dk_27 (dk_at dksX23_layTwo_4 19 rfl rfl)
theorem dX23_layTwo_115 : decode cX23_layTwo 115 = .ok (.aload_n 2, 1) := dk_44 (dk_at dksX23_layTwo_4 20 rfl rfl)
theorem dX23_layTwo_116 : decode cX23_layTwo 116 = .ok (.iconst 1, 1) := dk_4 (dk_at dksX23_layTwo_4 21 rfl rfl)
theorem dX23_layTwo_117 : decode cX23_layTwo 117 = .ok (.iaload, 1) := dk_46 (dk_at dksX23_layTwo_4 22 rfl rfl)
theorem dX23_layTwo_118 : decode cX23_layTwo 118 = .ok (.aload_n 2, 1) := dk_44 (dk_at dksX23_layTwo_4 23 rfl rfl)
theorem dX23_layTwo_119 : decode cX23_layTwo 119 = .ok (.iconst 0, 1) := dk_3 (dk_at dksX23_layTwo_5 0 rfl rfl)
theorem dX23_layTwo_120 : decode cX23_layTwo 120 = .ok (.iaload, 1) := dk_46 (dk_at dksX23_layTwo_5 1 rfl rfl)
theorem dX23_layTwo_121 : decode cX23_layTwo 121 = .ok (.iconst 0, 1) := dk_3 (dk_at dksX23_layTwo_5 2 rfl rfl)
theorem dX23_layTwo_122 : decode cX23_layTwo 122 = .ok (.invokevirtual 105, 3) := dk_182 0 105 (dk_at dksX23_layTwo_5 3 rfl rfl)
theorem dX23_layTwo_125 : decode cX23_layTwo 125 = .ok (.goto 71, 3) := dk_167 0 71 (dk_at dksX23_layTwo_5 6 rfl rfl)
theorem dX23_layTwo_128 : decode cX23_layTwo 128 = .ok (.iload 4, 2) := dk_21 4 (dk_at dksX23_layTwo_5 9 rfl rfl)
theorem dX23_layTwo_130 : decode cX23_layTwo 130 = .ok (.ifCond .ne 8, 3) := dk_154 0 8 (dk_at dksX23_layTwo_5 11 rfl rfl)
theorem dX23_layTwo_133 : decode cX23_layTwo 133 = .ok (.iload 5, 2) := dk_21 5 (dk_at dksX23_layTwo_5 14 rfl rfl)
theorem dX23_layTwo_135 : decode cX23_layTwo 135 = .ok (.ifCond .eq 38, 3) := dk_153 0 38 (dk_at dksX23_layTwo_5 16 rfl rfl)
theorem dX23_layTwo_138 : decode cX23_layTwo 138 = .ok (.aload_n 0, 1) := dk_42 (dk_at dksX23_layTwo_5 19 rfl rfl)
theorem dX23_layTwo_139 : decode cX23_layTwo 139 = .ok (.iconst 1, 1) := dk_4 (dk_at dksX23_layTwo_5 20 rfl rfl)
theorem dX23_layTwo_140 : decode cX23_layTwo 140 = .ok (.iload_n 3, 1) := dk_29 (dk_at dksX23_layTwo_5 21 rfl rfl)
theorem dX23_layTwo_141 : decode cX23_layTwo 141 = .ok (.aload_n 2, 1) := dk_44 (dk_at dksX23_layTwo_5 22 rfl rfl)
theorem dX23_layTwo_142 : decode cX23_layTwo 142 = .ok (.iconst 0, 1) := dk_3 (dk_at dksX23_layTwo_5 23 rfl rfl)
theorem dX23_layTwo_143 : decode cX23_layTwo 143 = .ok (.iaload, 1) := dk_46 (dk_at dksX23_layTwo_6 0 rfl rfl)
theorem dX23_layTwo_144 : decode cX23_layTwo 144 = .ok (.iconst 0, 1) := dk_3 (dk_at dksX23_layTwo_6 1 rfl rfl)
theorem dX23_layTwo_145 : decode cX23_layTwo 145 = .ok (.iconst 0, 1) := dk_3 (dk_at dksX23_layTwo_6 2 rfl rfl)
theorem dX23_layTwo_146 : decode cX23_layTwo 146 = .ok (.invokevirtual 49, 3) := dk_182 0 49 (dk_at dksX23_layTwo_6 3 rfl rfl)
theorem dX23_layTwo_149 : decode cX23_layTwo 149 = .ok (.aload_n 0, 1) := dk_42 (dk_at dksX23_layTwo_6 6 rfl rfl)
theorem dX23_layTwo_150 : decode cX23_layTwo 150 = .ok (.iload_n 3, 1) := dk_29 (dk_at dksX23_layTwo_6 7 rfl rfl)
theorem dX23_layTwo_151 : decode cX23_layTwo 151 = .ok (.iload_n 3, 1) := dk_29 (dk_at dksX23_layTwo_6 8 rfl rfl)
theorem dX23_layTwo_152 : decode cX23_layTwo 152 = .ok (.aload_n 2, 1) := dk_44 (dk_at dksX23_layTwo_6 9 rfl rfl)
theorem dX23_layTwo_153 : decode cX23_layTwo 153 = .ok (.iconst 1, 1) := dk_4 (dk_at dksX23_layTwo_6 10 rfl rfl)
theorem dX23_layTwo_154 : decode cX23_layTwo 154 = .ok (.iaload, 1) := dk_46 (dk_at dksX23_layTwo_6 11 rfl rfl)
theorem dX23_layTwo_155 : decode cX23_layTwo 155 = .ok (.aload_n 2, 1) := dk_44 (dk_at dksX23_layTwo_6 12 rfl rfl)
theorem dX23_layTwo_156 : decode cX23_layTwo 156 = .ok (.iconst 2, 1) := dk_5 (dk_at dksX23_layTwo_6 13 rfl rfl)
theorem dX23_layTwo_157 : decode cX23_layTwo 157 = .ok (.iaload, 1) := dk_46 (dk_at dksX23_layTwo_6 14 rfl rfl)
theorem dX23_layTwo_158 : decode cX23_layTwo 158 = .ok (.invokevirtual 105, 3) := dk_182 0 105 (dk_at dksX23_layTwo_6 15 rfl rfl)
theorem dX23_layTwo_161 : decode cX23_layTwo 161 = .ok (.aload_n 0, 1) := dk_42 (dk_at dksX23_layTwo_6 18 rfl rfl)
theorem dX23_layTwo_162 : decode cX23_layTwo 162 = .ok (.iconst 1, 1) := dk_4 (dk_at dksX23_layTwo_6 19 rfl rfl)
theorem dX23_layTwo_163 : decode cX23_layTwo 163 = .ok (.iload_n 1, 1) := dk_27 (dk_at dksX23_layTwo_6 20 rfl rfl)
theorem dX23_layTwo_164 : decode cX23_layTwo 164 = .ok (.iload_n 3, 1) := dk_29 (dk_at dksX23_layTwo_6 21 rfl rfl)
theorem dX23_layTwo_165 : decode cX23_layTwo 165 = .ok (.iconst 0, 1) := dk_3 (dk_at dksX23_layTwo_6 22 rfl rfl)
theorem dX23_layTwo_166 : decode cX23_layTwo 166 = .ok (.iconst 0, 1) := dk_3 (dk_at dksX23_layTwo_6 23 rfl rfl)
theorem dX23_layTwo_167 : decode cX23_layTwo 167 = .ok (.invokevirtual 49, 3) := dk_182 0 49 (dk_at dksX23_layTwo_7 0 rfl rfl)
theorem dX23_layTwo_170 : decode cX23_layTwo 170 = .ok (.goto 26, 3) := dk_167 0 26 (dk_at dksX23_layTwo_7 3 rfl rfl)
theorem dX23_layTwo_173 : decode cX23_layTwo 173 = .ok (.aload_n 0, 1) := dk_42 (dk_at dksX23_layTwo_7 6 rfl rfl)
theorem dX23_layTwo_174 : decode cX23_layTwo 174 = .ok (.iconst 1, 1) := dk_4 (dk_at dksX23_layTwo_7 7 rfl rfl)
theorem dX23_layTwo_175 : decode cX23_layTwo 175 = .ok (.iload_n 1, 1) := dk_27 (dk_at dksX23_layTwo_7 8 rfl rfl)
theorem dX23_layTwo_176 : decode cX23_layTwo 176 = .ok (.aload_n 2, 1) := dk_44 (dk_at dksX23_layTwo_7 9 rfl rfl)
theorem dX23_layTwo_177 : decode cX23_layTwo 177 = .ok (.iconst 0, 1) := dk_3 (dk_at dksX23_layTwo_7 10 rfl rfl)
theorem dX23_layTwo_178 : decode cX23_layTwo 178 = .ok (.iaload, 1) := dk_46 (dk_at dksX23_layTwo_7 11 rfl rfl)
theorem dX23_layTwo_179 : decode cX23_layTwo 179 = .ok (.iconst 0, 1) := dk_3 (dk_at dksX23_layTwo_7 12 rfl rfl)
theorem dX23_layTwo_180 : decode cX23_layTwo 180 = .ok (.iconst 0, 1) := dk_3 (dk_at dksX23_layTwo_7 13 rfl rfl)
theorem dX23_layTwo_181 : decode cX23_layTwo 181 = .ok (.invokevirtual 49, 3) := dk_182 0 49 (dk_at dksX23_layTwo_7 14 rfl rfl)
theorem dX23_layTwo_184 : decode cX23_layTwo 184 = .ok (.aload_n 0, 1) := dk_42 (dk_at dksX23_layTwo_7 17 rfl rfl)
theorem dX23_layTwo_185 : decode cX23_layTwo 185 = .ok (.iload_n 1, 1) := dk_27 (dk_at dksX23_layTwo_7 18 rfl rfl)
theorem dX23_layTwo_186 : decode cX23_layTwo 186 = .ok (.iload_n 1, 1) := dk_27 (dk_at dksX23_layTwo_7 19 rfl rfl)
theorem dX23_layTwo_187 : decode cX23_layTwo 187 = .ok (.aload_n 2, 1) := dk_44 (dk_at dksX23_layTwo_7 20 rfl rfl)
theorem dX23_layTwo_188 : decode cX23_layTwo 188 = .ok (.iconst 1, 1) := dk_4 (dk_at dksX23_layTwo_7 21 rfl rfl)
theorem dX23_layTwo_189 : decode cX23_layTwo 189 = .ok (.iaload, 1) := dk_46 (dk_at dksX23_layTwo_7 22 rfl rfl)
theorem dX23_layTwo_190 : decode cX23_layTwo 190 = .ok (.aload_n 2, 1) := dk_44 (dk_at dksX23_layTwo_7 23 rfl rfl)
theorem dX23_layTwo_191 : decode cX23_layTwo 191 = .ok (.iconst 2, 1) := dk_5 (dk_at dksX23_layTwo_8 0 rfl rfl)
theorem dX23_layTwo_192 : decode cX23_layTwo 192 = .ok (.iaload, 1) := dk_46 (dk_at dksX23_layTwo_8 1 rfl rfl)
theorem dX23_layTwo_193 : decode cX23_layTwo 193 = .ok (.invokevirtual 105, 3) := dk_182 0 105 (dk_at dksX23_layTwo_8 2 rfl rfl)
theorem dX23_layTwo_196 : decode cX23_layTwo 196 = .ok (.return_, 1) := dk_177 (dk_at dksX23_layTwo_8 5 rfl rfl)
abbrev cX23_layOp : ByteArray := prog_24_method_6_code
def yX23_layOp : MethodName := ⟨RX23, "layOp", "(IIII)V"⟩
def dkwX23_layOp_2 : List UInt8 := [16, 6, 160, 0, 8, 21, 4, 167, 0, 4, 3, 182, 0, 49, 177]
abbrev dktX23_layOp_2 : List UInt8 := dkwX23_layOp_2 ++ []
def dkwX23_layOp_1 : List UInt8 := [182, 0, 49, 167, 0, 35, 42, 42, 180, 0, 33, 180, 0, 70, 27, 28, 29, 42, 180, 0, 33, 180, 0, 70]
abbrev dktX23_layOp_1 : List UInt8 := dkwX23_layOp_1 ++ dktX23_layOp_2
def dkwX23_layOp_0 : List UInt8 := [42, 180, 0, 33, 180, 0, 70, 8, 160, 0, 21, 42, 8, 27, 28, 42, 180, 0, 33, 180, 0, 95, 3]
abbrev dktX23_layOp_0 : List UInt8 := dkwX23_layOp_0 ++ dktX23_layOp_1
theorem dksX23_layOp_0 : cX23_layOp.data.toList.drop 0 = dktX23_layOp_0 := by decide +kernel
theorem dksX23_layOp_1 : cX23_layOp.data.toList.drop 23 = dktX23_layOp_1 := dk_seg dksX23_layOp_0 23 rfl rfl
theorem dksX23_layOp_2 : cX23_layOp.data.toList.drop 47 = dktX23_layOp_2 := dk_seg dksX23_layOp_1 24 rfl rfl
theorem dX23_layOp_0 : decode cX23_layOp 0 = .ok (.aload_n 0, 1) := dk_42 (dk_at dksX23_layOp_0 0 rfl rfl)
theorem dX23_layOp_1 : decode cX23_layOp 1 = .ok (.getfield 33, 3) := dk_180 0 33 (dk_at dksX23_layOp_0 1 rfl rfl)
theorem dX23_layOp_4 : decode cX23_layOp 4 = .ok (.getfield 70, 3) := dk_180 0 70 (dk_at dksX23_layOp_0 4 rfl rfl)
theorem dX23_layOp_7 : decode cX23_layOp 7 = .ok (.iconst 5, 1) := dk_8 (dk_at dksX23_layOp_0 7 rfl rfl)
theorem dX23_layOp_8 : decode cX23_layOp 8 = .ok (.if_icmp .ne 21, 3) := dk_160 0 21 (dk_at dksX23_layOp_0 8 rfl rfl)
theorem dX23_layOp_11 : decode cX23_layOp 11 = .ok (.aload_n 0, 1) := dk_42 (dk_at dksX23_layOp_0 11 rfl rfl)
theorem dX23_layOp_12 : decode cX23_layOp 12 = .ok (.iconst 5, 1) := dk_8 (dk_at dksX23_layOp_0 12 rfl rfl)
theorem dX23_layOp_13 : decode cX23_layOp 13 = .ok (.iload_n 1, 1) := dk_27 (dk_at dksX23_layOp_0 13 rfl rfl)
theorem dX23_layOp_14 : decode cX23_layOp 14 = .ok (.iload_n 2, 1) := dk_28 (dk_at dksX23_layOp_0 14 rfl rfl)
theorem dX23_layOp_15 : decode cX23_layOp 15 = .ok (.aload_n 0, 1) := dk_42 (dk_at dksX23_layOp_0 15 rfl rfl)
theorem dX23_layOp_16 : decode cX23_layOp 16 = .ok (.getfield 33, 3) := dk_180 0 33 (dk_at dksX23_layOp_0 16 rfl rfl)
theorem dX23_layOp_19 : decode cX23_layOp 19 = .ok (.getfield 95, 3) := dk_180 0 95 (dk_at dksX23_layOp_0 19 rfl rfl)
theorem dX23_layOp_22 : decode cX23_layOp 22 = .ok (.iconst 0, 1) := dk_3 (dk_at dksX23_layOp_0 22 rfl rfl)
theorem dX23_layOp_23 : decode cX23_layOp 23 = .ok (.invokevirtual 49, 3) := dk_182 0 49 (dk_at dksX23_layOp_1 0 rfl rfl)
theorem dX23_layOp_26 : decode cX23_layOp 26 = .ok (.goto 35, 3) := dk_167 0 35 (dk_at dksX23_layOp_1 3 rfl rfl)
theorem dX23_layOp_29 : decode cX23_layOp 29 = .ok (.aload_n 0, 1) := dk_42 (dk_at dksX23_layOp_1 6 rfl rfl)
theorem dX23_layOp_30 : decode cX23_layOp 30 = .ok (.aload_n 0, 1) := dk_42 (dk_at dksX23_layOp_1 7 rfl rfl)
theorem dX23_layOp_31 : decode cX23_layOp 31 = .ok (.getfield 33, 3) := dk_180 0 33 (dk_at dksX23_layOp_1 8 rfl rfl)
theorem dX23_layOp_34 : decode cX23_layOp 34 = .ok (.getfield 70, 3) := dk_180 0 70 (dk_at dksX23_layOp_1 11 rfl rfl)
theorem dX23_layOp_37 : decode cX23_layOp 37 = .ok (.iload_n 1, 1) := dk_27 (dk_at dksX23_layOp_1 14 rfl rfl)
theorem dX23_layOp_38 : decode cX23_layOp 38 = .ok (.iload_n 2, 1) := dk_28 (dk_at dksX23_layOp_1 15 rfl rfl)
theorem dX23_layOp_39 : decode cX23_layOp 39 = .ok (.iload_n 3, 1) := dk_29 (dk_at dksX23_layOp_1 16 rfl rfl)
theorem dX23_layOp_40 : decode cX23_layOp 40 = .ok (.aload_n 0, 1) := dk_42 (dk_at dksX23_layOp_1 17 rfl rfl)
theorem dX23_layOp_41 : decode cX23_layOp 41 = .ok (.getfield 33, 3) := dk_180 0 33 (dk_at dksX23_layOp_1 18 rfl rfl)
theorem dX23_layOp_44 : decode cX23_layOp 44 = .ok (.getfield 70, 3) := dk_180 0 70 (dk_at dksX23_layOp_1 21 rfl rfl)
theorem dX23_layOp_47 : decode cX23_layOp 47 = .ok (.bipush 6, 2) := dk_16 6 (dk_at dksX23_layOp_2 0 rfl rfl)
theorem dX23_layOp_49 : decode cX23_layOp 49 = .ok (.if_icmp .ne 8, 3) := dk_160 0 8 (dk_at dksX23_layOp_2 2 rfl rfl)
theorem dX23_layOp_52 : decode cX23_layOp 52 = .ok (.iload 4, 2) := dk_21 4 (dk_at dksX23_layOp_2 5 rfl rfl)
theorem dX23_layOp_54 : decode cX23_layOp 54 = .ok (.goto 4, 3) := dk_167 0 4 (dk_at dksX23_layOp_2 7 rfl rfl)
theorem dX23_layOp_57 : decode cX23_layOp 57 = .ok (.iconst 0, 1) := dk_3 (dk_at dksX23_layOp_2 10 rfl rfl)
theorem dX23_layOp_58 : decode cX23_layOp 58 = .ok (.invokevirtual 49, 3) := dk_182 0 49 (dk_at dksX23_layOp_2 11 rfl rfl)
theorem dX23_layOp_61 : decode cX23_layOp 61 = .ok (.return_, 1) := dk_177 (dk_at dksX23_layOp_2 14 rfl rfl)
theorem q169 : (Jvm.Cond.initialized "SpillslotWorksModel$Plan$Layer") ∈ lw_all := lw_g (lw_at lw_m1 50 rfl) rfl
theorem q274 : (Jvm.Cond.selects "SpillslotWorksModel$Plan$Layer" ({ cls := "java/lang/Object", name := "getClass", desc := "()Ljava/lang/Class;" } : Jvm.MethodName) ({ cls := "java/lang/Object", name := "getClass", desc := "()Ljava/lang/Class;" } : Jvm.MethodName)) ∈ lw_all := lw_g (lw_at lw_m1 155 rfl) rfl
theorem q1905 : (Jvm.Cond.fieldLink "SpillslotWorksModel$Plan$Layer" (98 : Nat) "SpillslotWorksModel$Machine" "isTwo" "Z") ∈ lw_all := lw_g (lw_at lw_m8 106 rfl) rfl
theorem q2165 : (Jvm.Cond.fieldLink "SpillslotWorksModel$Plan$Layer" (70 : Nat) "SpillslotWorksModel$Op" "which" "I") ∈ lw_all := lw_g (lw_at lw_m9 126 rfl) rfl
theorem q2170 : (Jvm.Cond.fieldLink "SpillslotWorksModel$Plan$Layer" (67 : Nat) "SpillslotWorksModel$Op" "writes" "I") ∈ lw_all := lw_g (lw_at lw_m9 131 rfl) rfl
theorem q2174 : (Jvm.Cond.fieldLink "SpillslotWorksModel$Plan$Layer" (87 : Nat) "SpillslotWorksModel$Op" "reads" "[I") ∈ lw_all := lw_g (lw_at lw_m9 135 rfl) rfl
theorem q2178 : (Jvm.Cond.fieldLink "SpillslotWorksModel$Plan$Layer" (95 : Nat) "SpillslotWorksModel$Op" "n" "I") ∈ lw_all := lw_g (lw_at lw_m9 139 rfl) rfl
theorem q2319 : (Jvm.Cond.selects "SpillslotWorksModel$Plan$Layer" ({ cls := "java/lang/Object", name := "equals", desc := "(Ljava/lang/Object;)Z" } : Jvm.MethodName) ({ cls := "java/lang/Object", name := "equals", desc := "(Ljava/lang/Object;)Z" } : Jvm.MethodName)) ∈ lw_all := lw_g (lw_at lw_m10 40 rfl) rfl
theorem q2412 : (Jvm.Cond.fieldLink "SpillslotWorksModel$Plan$Layer" (44 : Nat) "SpillslotWorksModel$Life" "register" "I") ∈ lw_all := lw_g (lw_at lw_m10 133 rfl) rfl
theorem q2416 : (Jvm.Cond.fieldLink "SpillslotWorksModel$Plan$Layer" (60 : Nat) "SpillslotWorksModel$Life" "slot" "I") ∈ lw_all := lw_g (lw_at lw_m10 137 rfl) rfl
theorem q2419 : (Jvm.Cond.fieldLink "SpillslotWorksModel$Plan$Layer" (53 : Nat) "SpillslotWorksModel$Life" "isRemade" "Z") ∈ lw_all := lw_g (lw_at lw_m10 140 rfl) rfl
theorem q2422 : (Jvm.Cond.fieldLink "SpillslotWorksModel$Plan$Layer" (57 : Nat) "SpillslotWorksModel$Life" "number" "I") ∈ lw_all := lw_g (lw_at lw_m10 143 rfl) rfl
theorem q2548 : (Jvm.Cond.instantiable "SpillslotWorksModel$Plan$Layer" (3 : Nat)) ∈ lw_all := lw_g (lw_at lw_m11 29 rfl) rfl
theorem q2550 : (Jvm.Cond.instanceMethod ({ cls := "SpillslotWorksModel$Plan$Layer", name := "<init>", desc := "(LSpillslotWorksModel$Plan;I)V" } : Jvm.MethodName)) ∈ lw_all := lw_g (lw_at lw_m11 31 rfl) rfl
theorem q2551 : (Jvm.Cond.code ({ cls := "SpillslotWorksModel$Plan$Layer", name := "<init>", desc := "(LSpillslotWorksModel$Plan;I)V" } : Jvm.MethodName) prog_24_method_1_code (3 : Nat) (Option.none : Option Jvm.ClassFile.FieldType)) ∈ lw_all := lw_g (lw_at lw_m11 32 rfl) rfl
theorem q2552 : (Jvm.Cond.methodLink "SpillslotWorksModel$Plan$Layer" (9 : Nat) ({ cls := "java/lang/Object", name := "<init>", desc := "()V" } : Jvm.MethodName)) ∈ lw_all := lw_g (lw_at lw_m11 33 rfl) rfl
theorem q2553 : (Jvm.Cond.methodLink "SpillslotWorksModel$Plan$Layer" (25 : Nat) ({ cls := "java/util/ArrayList", name := "get", desc := "(I)Ljava/lang/Object;" } : Jvm.MethodName)) ∈ lw_all := lw_g (lw_at lw_m11 34 rfl) rfl
theorem q2554 : (Jvm.Cond.classLink "SpillslotWorksModel$Plan$Layer" (31 : Nat) "SpillslotWorksModel$Op") ∈ lw_all := lw_g (lw_at lw_m11 35 rfl) rfl
theorem q2555 : (Jvm.Cond.fieldLink "SpillslotWorksModel$Plan$Layer" (15 : Nat) "SpillslotWorksModel$Plan$Layer" "point" "I") ∈ lw_all := lw_g (lw_at lw_m11 36 rfl) rfl
theorem q2556 : (Jvm.Cond.fieldLink "SpillslotWorksModel$Plan$Layer" (33 : Nat) "SpillslotWorksModel$Plan$Layer" "op" "LSpillslotWorksModel$Op;") ∈ lw_all := lw_g (lw_at lw_m11 37 rfl) rfl
theorem q2557 : (Jvm.Cond.fieldLink "SpillslotWorksModel$Plan$Layer" (3 : Nat) "SpillslotWorksModel$Plan$Layer" "this$0" "LSpillslotWorksModel$Plan;") ∈ lw_all := lw_g (lw_at lw_m11 38 rfl) rfl
theorem q2558 : (Jvm.Cond.laysFinal "SpillslotWorksModel$Plan$Layer" "SpillslotWorksModel$Plan$Layer" "point" "I") ∈ lw_all := lw_g (lw_at lw_m11 39 rfl) rfl
theorem q2559 : (Jvm.Cond.soleField "SpillslotWorksModel$Plan$Layer" "point") ∈ lw_all := lw_g (lw_at lw_m11 40 rfl) rfl
theorem q2560 : (Jvm.Cond.laysFinal "SpillslotWorksModel$Plan$Layer" "SpillslotWorksModel$Plan$Layer" "op" "LSpillslotWorksModel$Op;") ∈ lw_all := lw_g (lw_at lw_m11 41 rfl) rfl
theorem q2561 : (Jvm.Cond.soleField "SpillslotWorksModel$Plan$Layer" "op") ∈ lw_all := lw_g (lw_at lw_m11 42 rfl) rfl
theorem q2562 : (Jvm.Cond.laysFinal "SpillslotWorksModel$Plan$Layer" "SpillslotWorksModel$Plan$Layer" "this$0" "LSpillslotWorksModel$Plan;") ∈ lw_all := lw_g (lw_at lw_m11 43 rfl) rfl
theorem q2563 : (Jvm.Cond.soleField "SpillslotWorksModel$Plan$Layer" "this$0") ∈ lw_all := lw_g (lw_at lw_m11 44 rfl) rfl
theorem q2564 : (Jvm.Cond.superclass "SpillslotWorksModel$Plan$Layer" "java/lang/Object") ∈ lw_all := lw_g (lw_at lw_m11 45 rfl) rfl
theorem q2566 : (Jvm.Cond.instanceMethod ({ cls := "SpillslotWorksModel$Plan$Layer", name := "lay", desc := "()V" } : Jvm.MethodName)) ∈ lw_all := lw_g (lw_at lw_m11 47 rfl) rfl
theorem q2567 : (Jvm.Cond.selects "SpillslotWorksModel$Plan$Layer" ({ cls := "SpillslotWorksModel$Plan$Layer", name := "lay", desc := "()V" } : Jvm.MethodName) ({ cls := "SpillslotWorksModel$Plan$Layer", name := "lay", desc := "()V" } : Jvm.MethodName)) ∈ lw_all := lw_g (lw_at lw_m11 48 rfl) rfl
theorem q2568 : (Jvm.Cond.code ({ cls := "SpillslotWorksModel$Plan$Layer", name := "lay", desc := "()V" } : Jvm.MethodName) prog_24_method_5_code (6 : Nat) (Option.none : Option Jvm.ClassFile.FieldType)) ∈ lw_all := lw_g (lw_at lw_m11 49 rfl) rfl
theorem q2569 : (Jvm.Cond.methodLink "SpillslotWorksModel$Plan$Layer" (73 : Nat) ({ cls := "SpillslotWorksModel$Plan$Layer", name := "layCall", desc := "(LSpillslotWorksModel$Life;)V" } : Jvm.MethodName)) ∈ lw_all := lw_g (lw_at lw_m11 50 rfl) rfl
theorem q2570 : (Jvm.Cond.privateMethod ({ cls := "SpillslotWorksModel$Plan$Layer", name := "layCall", desc := "(LSpillslotWorksModel$Life;)V" } : Jvm.MethodName)) ∈ lw_tbl := lw_at lw_m11 51 rfl
theorem q2571 : (Jvm.Cond.instanceMethod ({ cls := "SpillslotWorksModel$Plan$Layer", name := "layCall", desc := "(LSpillslotWorksModel$Life;)V" } : Jvm.MethodName)) ∈ lw_all := lw_g (lw_at lw_m11 52 rfl) rfl
theorem q2572 : (Jvm.Cond.code ({ cls := "SpillslotWorksModel$Plan$Layer", name := "layCall", desc := "(LSpillslotWorksModel$Life;)V" } : Jvm.MethodName) prog_24_method_8_code (5 : Nat) (Option.none : Option Jvm.ClassFile.FieldType)) ∈ lw_all := lw_g (lw_at lw_m11 53 rfl) rfl
theorem q2573 : (Jvm.Cond.methodLink "SpillslotWorksModel$Plan$Layer" (81 : Nat) ({ cls := "SpillslotWorksModel$Machine", name := "scratch", desc := "()I" } : Jvm.MethodName)) ∈ lw_all := lw_g (lw_at lw_m11 54 rfl) rfl
theorem q2574 : (Jvm.Cond.methodLink "SpillslotWorksModel$Plan$Layer" (49 : Nat) ({ cls := "SpillslotWorksModel$Plan$Layer", name := "put", desc := "(IIIII)V" } : Jvm.MethodName)) ∈ lw_all := lw_g (lw_at lw_m11 55 rfl) rfl
theorem q2575 : (Jvm.Cond.privateMethod ({ cls := "SpillslotWorksModel$Plan$Layer", name := "put", desc := "(IIIII)V" } : Jvm.MethodName)) ∈ lw_tbl := lw_at lw_m11 56 rfl
theorem q2576 : (Jvm.Cond.instanceMethod ({ cls := "SpillslotWorksModel$Plan$Layer", name := "put", desc := "(IIIII)V" } : Jvm.MethodName)) ∈ lw_all := lw_g (lw_at lw_m11 57 rfl) rfl
theorem q2577 : (Jvm.Cond.code ({ cls := "SpillslotWorksModel$Plan$Layer", name := "put", desc := "(IIIII)V" } : Jvm.MethodName) prog_24_method_2_code (6 : Nat) (Option.none : Option Jvm.ClassFile.FieldType)) ∈ lw_all := lw_g (lw_at lw_m11 58 rfl) rfl
theorem q2578 : (Jvm.Cond.methodLink "SpillslotWorksModel$Plan$Layer" (40 : Nat) ({ cls := "java/util/ArrayList", name := "add", desc := "(Ljava/lang/Object;)Z" } : Jvm.MethodName)) ∈ lw_all := lw_g (lw_at lw_m11 59 rfl) rfl
theorem q2579 : (Jvm.Cond.methodLink "SpillslotWorksModel$Plan$Layer" (91 : Nat) ({ cls := "SpillslotWorksModel$Plan$Layer", name := "bring", desc := "(LSpillslotWorksModel$Life;I)V" } : Jvm.MethodName)) ∈ lw_all := lw_g (lw_at lw_m11 60 rfl) rfl
theorem q2580 : (Jvm.Cond.privateMethod ({ cls := "SpillslotWorksModel$Plan$Layer", name := "bring", desc := "(LSpillslotWorksModel$Life;I)V" } : Jvm.MethodName)) ∈ lw_tbl := lw_at lw_m11 61 rfl
theorem q2581 : (Jvm.Cond.instanceMethod ({ cls := "SpillslotWorksModel$Plan$Layer", name := "bring", desc := "(LSpillslotWorksModel$Life;I)V" } : Jvm.MethodName)) ∈ lw_all := lw_g (lw_at lw_m11 62 rfl) rfl
theorem q2582 : (Jvm.Cond.code ({ cls := "SpillslotWorksModel$Plan$Layer", name := "bring", desc := "(LSpillslotWorksModel$Life;I)V" } : Jvm.MethodName) prog_24_method_3_code (3 : Nat) (Option.none : Option Jvm.ClassFile.FieldType)) ∈ lw_all := lw_g (lw_at lw_m11 63 rfl) rfl
theorem q2583 : (Jvm.Cond.methodLink "SpillslotWorksModel$Plan$Layer" (109 : Nat) ({ cls := "SpillslotWorksModel$Plan$Layer", name := "store", desc := "(LSpillslotWorksModel$Life;I)V" } : Jvm.MethodName)) ∈ lw_all := lw_g (lw_at lw_m11 64 rfl) rfl
theorem q2584 : (Jvm.Cond.privateMethod ({ cls := "SpillslotWorksModel$Plan$Layer", name := "store", desc := "(LSpillslotWorksModel$Life;I)V" } : Jvm.MethodName)) ∈ lw_tbl := lw_at lw_m11 65 rfl
theorem q2585 : (Jvm.Cond.instanceMethod ({ cls := "SpillslotWorksModel$Plan$Layer", name := "store", desc := "(LSpillslotWorksModel$Life;I)V" } : Jvm.MethodName)) ∈ lw_all := lw_g (lw_at lw_m11 66 rfl) rfl
theorem q2586 : (Jvm.Cond.code ({ cls := "SpillslotWorksModel$Plan$Layer", name := "store", desc := "(LSpillslotWorksModel$Life;I)V" } : Jvm.MethodName) prog_24_method_4_code (3 : Nat) (Option.none : Option Jvm.ClassFile.FieldType)) ∈ lw_all := lw_g (lw_at lw_m11 67 rfl) rfl
theorem q2587 : (Jvm.Cond.methodLink "SpillslotWorksModel$Plan$Layer" (101 : Nat) ({ cls := "SpillslotWorksModel$Plan$Layer", name := "layTwo", desc := "(I[I)V" } : Jvm.MethodName)) ∈ lw_all := lw_g (lw_at lw_m11 68 rfl) rfl
theorem q2588 : (Jvm.Cond.privateMethod ({ cls := "SpillslotWorksModel$Plan$Layer", name := "layTwo", desc := "(I[I)V" } : Jvm.MethodName)) ∈ lw_tbl := lw_at lw_m11 69 rfl
theorem q2589 : (Jvm.Cond.instanceMethod ({ cls := "SpillslotWorksModel$Plan$Layer", name := "layTwo", desc := "(I[I)V" } : Jvm.MethodName)) ∈ lw_all := lw_g (lw_at lw_m11 70 rfl) rfl
theorem q2590 : (Jvm.Cond.code ({ cls := "SpillslotWorksModel$Plan$Layer", name := "layTwo", desc := "(I[I)V" } : Jvm.MethodName) prog_24_method_7_code (6 : Nat) (Option.none : Option Jvm.ClassFile.FieldType)) ∈ lw_all := lw_g (lw_at lw_m11 71 rfl) rfl
theorem q2591 : (Jvm.Cond.methodLink "SpillslotWorksModel$Plan$Layer" (105 : Nat) ({ cls := "SpillslotWorksModel$Plan$Layer", name := "layOp", desc := "(IIII)V" } : Jvm.MethodName)) ∈ lw_all := lw_g (lw_at lw_m11 72 rfl) rfl
theorem q2592 : (Jvm.Cond.privateMethod ({ cls := "SpillslotWorksModel$Plan$Layer", name := "layOp", desc := "(IIII)V" } : Jvm.MethodName)) ∈ lw_tbl := lw_at lw_m11 73 rfl
theorem q2593 : (Jvm.Cond.instanceMethod ({ cls := "SpillslotWorksModel$Plan$Layer", name := "layOp", desc := "(IIII)V" } : Jvm.MethodName)) ∈ lw_all := lw_g (lw_at lw_m11 74 rfl) rfl
theorem q2594 : (Jvm.Cond.code ({ cls := "SpillslotWorksModel$Plan$Layer", name := "layOp", desc := "(IIII)V" } : Jvm.MethodName) prog_24_method_6_code (5 : Nat) (Option.none : Option Jvm.ClassFile.FieldType)) ∈ lw_all := lw_g (lw_at lw_m11 75 rfl) rfl
theorem q2650 : (Jvm.Cond.fieldLink "SpillslotWorksModel$Plan$Layer" (77 : Nat) "SpillslotWorksModel$Plan" "machine" "LSpillslotWorksModel$Machine;") ∈ lw_all := lw_g (lw_at lw_m11 131 rfl) rfl
theorem q2651 : (Jvm.Cond.fieldLink "SpillslotWorksModel$Plan$Layer" (19 : Nat) "SpillslotWorksModel$Plan" "ops" "Ljava/util/ArrayList;") ∈ lw_all := lw_g (lw_at lw_m11 132 rfl) rfl
theorem q2656 : (Jvm.Cond.fieldLink "SpillslotWorksModel$Plan$Layer" (63 : Nat) "SpillslotWorksModel$Plan" "lives" "[LSpillslotWorksModel$Life;") ∈ lw_all := lw_g (lw_at lw_m11 137 rfl) rfl
theorem q2665 : (Jvm.Cond.fieldLink "SpillslotWorksModel$Plan$Layer" (37 : Nat) "SpillslotWorksModel$Plan" "code" "Ljava/util/ArrayList;") ∈ lw_all := lw_g (lw_at lw_m11 146 rfl) rfl
theorem q2886 : (Jvm.Cond.castable "SpillslotWorksModel$Plan$Layer" "java/lang/Object") ∈ lw_tbl := lw_at lw_m12 127 rfl
theorem in_X23 : ∀ w ∈ wsX230, w ∈ lw_all := lw_in wsX230 [2558, 2560, 2562] (by decide +kernel) (by decide +kernel)
/-! SpillslotWorksModel$Plan$Runner -/
def RX24 : String := "SpillslotWorksModel$Plan$Runner"
def TX24 : u_T := fun k => match k with
  | 0 => ("SpillslotWorksModel$Plan$Runner", "ready", "[I", true)
  | 1 => ("SpillslotWorksModel$Plan$Runner", "next", "I", false)
  | 2 => ("SpillslotWorksModel$Plan$Runner", "end", "I", false)
  | _ => ("SpillslotWorksModel$Plan$Runner", "this$0", "LSpillslotWorksModel$Plan;", true)
def tyX24 : Nat → FieldType := fun k => match k with
  | 0 => .array .int
  | 1 => .int
  | 2 => .int
  | _ => .object "SpillslotWorksModel$Plan"
abbrev wsX240 : List Cond := u_ws RX24 TX24 4
theorem nmX24 : ∀ a, a < 4 → ∀ b, b < 4 → a ≠ b → (TX24 a).2.1 ≠ (TX24 b).2.1 := by decide +kernel
theorem tyX24_ok : ∀ k, k < 4 → parseFieldDescriptor (TX24 k).2.2.1 = some (tyX24 k) := by decide +kernel
abbrev cX24_init : ByteArray := prog_25_method_1_code
def yX24_init : MethodName := ⟨RX24, "<init>", "(LSpillslotWorksModel$Plan;)V"⟩
def dkwX24_init_1 : List UInt8 := [181, 0, 27, 177]
abbrev dktX24_init_1 : List UInt8 := dkwX24_init_1 ++ []
def dkwX24_init_0 : List UInt8 := [42, 43, 181, 0, 3, 42, 183, 0, 9, 42, 42, 180, 0, 3, 180, 0, 15, 180, 0, 21, 188, 10]
abbrev dktX24_init_0 : List UInt8 := dkwX24_init_0 ++ dktX24_init_1
theorem dksX24_init_0 : cX24_init.data.toList.drop 0 = dktX24_init_0 := by decide +kernel
theorem dksX24_init_1 : cX24_init.data.toList.drop 22 = dktX24_init_1 := dk_seg dksX24_init_0 22 rfl rfl
theorem dX24_init_0 : decode cX24_init 0 = .ok (.aload_n 0, 1) := dk_42 (dk_at dksX24_init_0 0 rfl rfl)
theorem dX24_init_1 : decode cX24_init 1 = .ok (.aload_n 1, 1) := dk_43 (dk_at dksX24_init_0 1 rfl rfl)
theorem dX24_init_2 : decode cX24_init 2 = .ok (.putfield 3, 3) := dk_181 0 3 (dk_at dksX24_init_0 2 rfl rfl)
theorem dX24_init_5 : decode cX24_init 5 = .ok (.aload_n 0, 1) := dk_42 (dk_at dksX24_init_0 5 rfl rfl)
theorem dX24_init_6 : decode cX24_init 6 = .ok (.invokespecial 9, 3) := dk_183 0 9 (dk_at dksX24_init_0 6 rfl rfl)
theorem dX24_init_9 : decode cX24_init 9 = .ok (.aload_n 0, 1) := dk_42 (dk_at dksX24_init_0 9 rfl rfl)
theorem dX24_init_10 : decode cX24_init 10 = .ok (.aload_n 0, 1) := dk_42 (dk_at dksX24_init_0 10 rfl rfl)
theorem dX24_init_11 : decode cX24_init 11 = .ok (.getfield 3, 3) := dk_180 0 3 (dk_at dksX24_init_0 11 rfl rfl)
theorem dX24_init_14 : decode cX24_init 14 = .ok (.getfield 15, 3) := dk_180 0 15 (dk_at dksX24_init_0 14 rfl rfl)
theorem dX24_init_17 : decode cX24_init 17 = .ok (.getfield 21, 3) := dk_180 0 21 (dk_at dksX24_init_0 17 rfl rfl)
theorem dX24_init_20 : decode cX24_init 20 = .ok (.newarray .int, 2) := dk_188_10 (dk_at dksX24_init_0 20 rfl rfl)
theorem dX24_init_22 : decode cX24_init 22 = .ok (.putfield 27, 3) := dk_181 0 27 (dk_at dksX24_init_1 0 rfl rfl)
theorem dX24_init_25 : decode cX24_init 25 = .ok (.return_, 1) := dk_177 (dk_at dksX24_init_1 3 rfl rfl)
abbrev cX24_go : ByteArray := prog_25_method_2_code
def yX24_go : MethodName := ⟨RX24, "go", "()V"⟩
def dkwX24_go_6 : List UInt8 := [181, 0, 68, 177]
abbrev dktX24_go_6 : List UInt8 := dkwX24_go_6 ++ []
def dkwX24_go_5 : List UInt8 := [182, 0, 52, 132, 2, 1, 167, 255, 232, 132, 1, 1, 167, 255, 219, 42, 180, 0, 3, 42, 180, 0, 65]
abbrev dktX24_go_5 : List UInt8 := dkwX24_go_5 ++ dktX24_go_6
def dkwX24_go_4 : List UInt8 := [162, 0, 38, 3, 61, 28, 42, 180, 0, 3, 180, 0, 56, 180, 0, 60, 27, 46, 162, 0, 14, 42, 27]
abbrev dktX24_go_4 : List UInt8 := dkwX24_go_4 ++ dktX24_go_5
def dkwX24_go_3 : List UInt8 := [180, 0, 3, 180, 0, 49, 27, 2, 79, 132, 1, 1, 167, 255, 231, 42, 2, 182, 0, 52, 3, 60, 27, 7]
abbrev dktX24_go_3 : List UInt8 := dkwX24_go_3 ++ dktX24_go_4
def dkwX24_go_2 : List UInt8 := [182, 0, 43, 188, 10, 181, 0, 49, 3, 60, 27, 42, 180, 0, 3, 180, 0, 49, 190, 162, 0, 19, 42]
abbrev dktX24_go_2 : List UInt8 := dkwX24_go_2 ++ dktX24_go_3
def dkwX24_go_1 : List UInt8 := [180, 0, 3, 180, 0, 33, 188, 10, 181, 0, 36, 42, 180, 0, 3, 42, 180, 0, 3, 180, 0, 39]
abbrev dktX24_go_1 : List UInt8 := dkwX24_go_1 ++ dktX24_go_2
def dkwX24_go_0 : List UInt8 := [42, 180, 0, 3, 42, 180, 0, 3, 180, 0, 15, 180, 0, 21, 188, 10, 181, 0, 31, 42, 180, 0, 3, 42]
abbrev dktX24_go_0 : List UInt8 := dkwX24_go_0 ++ dktX24_go_1
theorem dksX24_go_0 : cX24_go.data.toList.drop 0 = dktX24_go_0 := by decide +kernel
theorem dksX24_go_1 : cX24_go.data.toList.drop 24 = dktX24_go_1 := dk_seg dksX24_go_0 24 rfl rfl
theorem dksX24_go_2 : cX24_go.data.toList.drop 46 = dktX24_go_2 := dk_seg dksX24_go_1 22 rfl rfl
theorem dksX24_go_3 : cX24_go.data.toList.drop 69 = dktX24_go_3 := dk_seg dksX24_go_2 23 rfl rfl
theorem dksX24_go_4 : cX24_go.data.toList.drop 93 = dktX24_go_4 := dk_seg dksX24_go_3 24 rfl rfl
theorem dksX24_go_5 : cX24_go.data.toList.drop 116 = dktX24_go_5 := dk_seg dksX24_go_4 23 rfl rfl
theorem dksX24_go_6 : cX24_go.data.toList.drop 139 = dktX24_go_6 := dk_seg dksX24_go_5 23 rfl rfl
theorem dX24_go_0 : decode cX24_go 0 = .ok (.aload_n 0, 1) := dk_42 (dk_at dksX24_go_0 0 rfl rfl)
theorem dX24_go_1 : decode cX24_go 1 = .ok (.getfield 3, 3) := dk_180 0 3 (dk_at dksX24_go_0 1 rfl rfl)
theorem dX24_go_4 : decode cX24_go 4 = .ok (.aload_n 0, 1) := dk_42 (dk_at dksX24_go_0 4 rfl rfl)
theorem dX24_go_5 : decode cX24_go 5 = .ok (.getfield 3, 3) := dk_180 0 3 (dk_at dksX24_go_0 5 rfl rfl)
theorem dX24_go_8 : decode cX24_go 8 = .ok (.getfield 15, 3) := dk_180 0 15 (dk_at dksX24_go_0 8 rfl rfl)
theorem dX24_go_11 : decode cX24_go 11 = .ok (.getfield 21, 3) := dk_180 0 21 (dk_at dksX24_go_0 11 rfl rfl)
theorem dX24_go_14 : decode cX24_go 14 = .ok (.newarray .int, 2) := dk_188_10 (dk_at dksX24_go_0 14 rfl rfl)
theorem dX24_go_16 : decode cX24_go 16 = .ok (.putfield 31, 3) := dk_181 0 31 (dk_at dksX24_go_0 16 rfl rfl)
theorem dX24_go_19 : decode cX24_go 19 = .ok (.aload_n 0, 1) := dk_42 (dk_at dksX24_go_0 19 rfl rfl)
theorem dX24_go_20 : decode cX24_go 20 = .ok (.getfield 3, 3) := dk_180 0 3 (dk_at dksX24_go_0 20 rfl rfl)
theorem dX24_go_23 : decode cX24_go 23 = .ok (.aload_n 0, 1) := dk_42 (dk_at dksX24_go_0 23 rfl rfl)
theorem dX24_go_24 : decode cX24_go 24 = .ok (.getfield 3, 3) := dk_180 0 3 (dk_at dksX24_go_1 0 rfl rfl)
theorem dX24_go_27 : decode cX24_go 27 = .ok (.getfield 33, 3) := dk_180 0 33 (dk_at dksX24_go_1 3 rfl rfl)
theorem dX24_go_30 : decode cX24_go 30 = .ok (.newarray .int, 2) := dk_188_10 (dk_at dksX24_go_1 6 rfl rfl)
theorem dX24_go_32 : decode cX24_go 32 = .ok (.putfield 36, 3) := dk_181 0 36 (dk_at dksX24_go_1 8 rfl rfl)
theorem dX24_go_35 : decode cX24_go 35 = .ok (.aload_n 0, 1) := dk_42 (dk_at dksX24_go_1 11 rfl rfl)
theorem dX24_go_36 : decode cX24_go 36 = .ok (.getfield 3, 3) := dk_180 0 3 (dk_at dksX24_go_1 12 rfl rfl)
theorem dX24_go_39 : decode cX24_go 39 = .ok (.aload_n 0, 1) := dk_42 (dk_at dksX24_go_1 15 rfl rfl)
theorem dX24_go_40 : decode cX24_go 40 = .ok (.getfield 3, 3) := dk_180 0 3 (dk_at dksX24_go_1 16 rfl rfl)
theorem dX24_go_43 : decode cX24_go 43 = .ok (.getfield 39, 3) := dk_180 0 39 (dk_at dksX24_go_1 19 rfl rfl)
theorem dX24_go_46 : decode cX24_go 46 = .ok (.invokevirtual 43, 3) := dk_182 0 43 (dk_at dksX24_go_2 0 rfl rfl)
theorem dX24_go_49 : decode cX24_go 49 = .ok (.newarray .int, 2) := dk_188_10 (dk_at dksX24_go_2 3 rfl rfl)
theorem dX24_go_51 : decode cX24_go 51 = .ok (.putfield 49, 3) := dk_181 0 49 (dk_at dksX24_go_2 5 rfl rfl)
theorem dX24_go_54 : decode cX24_go 54 = .ok (.iconst 0, 1) := dk_3 (dk_at dksX24_go_2 8 rfl rfl)
theorem dX24_go_55 : decode cX24_go 55 = .ok (.istore_n 1, 1) := dk_60 (dk_at dksX24_go_2 9 rfl rfl)
theorem dX24_go_56 : decode cX24_go 56 = .ok (.iload_n 1, 1) := dk_27 (dk_at dksX24_go_2 10 rfl rfl)
theorem dX24_go_57 : decode cX24_go 57 = .ok (.aload_n 0, 1) := dk_42 (dk_at dksX24_go_2 11 rfl rfl)
theorem dX24_go_58 : decode cX24_go 58 = .ok (.getfield 3, 3) := dk_180 0 3 (dk_at dksX24_go_2 12 rfl rfl)
theorem dX24_go_61 : decode cX24_go 61 = .ok (.getfield 49, 3) := dk_180 0 49 (dk_at dksX24_go_2 15 rfl rfl)
theorem dX24_go_64 : decode cX24_go 64 = .ok (.arraylength, 1) := dk_190 (dk_at dksX24_go_2 18 rfl rfl)
theorem dX24_go_65 : decode cX24_go 65 = .ok (.if_icmp .ge 19, 3) := dk_162 0 19 (dk_at dksX24_go_2 19 rfl rfl)
theorem dX24_go_68 : decode cX24_go 68 = .ok (.aload_n 0, 1) := dk_42 (dk_at dksX24_go_2 22 rfl rfl)
theorem dX24_go_69 : decode cX24_go 69 = .ok (.getfield 3, 3) := dk_180 0 3 (dk_at dksX24_go_3 0 rfl rfl)
theorem dX24_go_72 : decode cX24_go 72 = .ok (.getfield 49, 3) := dk_180 0 49 (dk_at dksX24_go_3 3 rfl rfl)
theorem dX24_go_75 : decode cX24_go 75 = .ok (.iload_n 1, 1) := dk_27 (dk_at dksX24_go_3 6 rfl rfl)
theorem dX24_go_76 : decode cX24_go 76 = .ok (.iconst (-1), 1) := dk_2 (dk_at dksX24_go_3 7 rfl rfl)
theorem dX24_go_77 : decode cX24_go 77 = .ok (.iastore, 1) := dk_79 (dk_at dksX24_go_3 8 rfl rfl)
theorem dX24_go_78 : decode cX24_go 78 = .ok (.iinc 1 1, 3) := dk_132 1 1 (dk_at dksX24_go_3 9 rfl rfl)
theorem dX24_go_81 : decode cX24_go 81 = .ok (.goto (-25), 3) := dk_167 255 231 (dk_at dksX24_go_3 12 rfl rfl)
theorem dX24_go_84 : decode cX24_go 84 = .ok (.aload_n 0, 1) := dk_42 (dk_at dksX24_go_3 15 rfl rfl)
theorem dX24_go_85 : decode cX24_go 85 = .ok (.iconst (-1), 1) := dk_2 (dk_at dksX24_go_3 16 rfl rfl)
theorem dX24_go_86 : decode cX24_go 86 = .ok (.invokevirtual 52, 3) := dk_182 0 52 (dk_at dksX24_go_3 17 rfl rfl)
theorem dX24_go_89 : decode cX24_go 89 = .ok (.iconst 0, 1) := dk_3 (dk_at dksX24_go_3 20 rfl rfl)
theorem dX24_go_90 : decode cX24_go 90 = .ok (.istore_n 1, 1) := dk_60 (dk_at dksX24_go_3 21 rfl rfl)
theorem dX24_go_91 : decode cX24_go 91 = .ok (.iload_n 1, 1) := dk_27 (dk_at dksX24_go_3 22 rfl rfl)
theorem dX24_go_92 : decode cX24_go 92 = .ok (.iconst 4, 1) := dk_7 (dk_at dksX24_go_3 23 rfl rfl)
theorem dX24_go_93 : decode cX24_go 93 = .ok (.if_icmp .ge 38, 3) := dk_162 0 38 (dk_at dksX24_go_4 0 rfl rfl)
theorem dX24_go_96 : decode cX24_go 96 = .ok (.iconst 0, 1) := dk_3 (dk_at dksX24_go_4 3 rfl rfl)
theorem dX24_go_97 : decode cX24_go 97 = .ok (.istore_n 2, 1) := dk_61 (dk_at dksX24_go_4 4 rfl rfl)
theorem dX24_go_98 : decode cX24_go 98 = .ok (.iload_n 2, 1) := dk_28 (dk_at dksX24_go_4 5 rfl rfl)
theorem dX24_go_99 : decode cX24_go 99 = .ok (.aload_n 0, 1) := dk_42 (dk_at dksX24_go_4 6 rfl rfl)
theorem dX24_go_100 : decode cX24_go 100 = .ok (.getfield 3, 3) := dk_180 0 3 (dk_at dksX24_go_4 7 rfl rfl)
theorem dX24_go_103 : decode cX24_go 103 = .ok (.getfield 56, 3) := dk_180 0 56 (dk_at dksX24_go_4 10 rfl rfl)
theorem dX24_go_106 : decode cX24_go 106 = .ok (.getfield 60, 3) := dk_180 0 60 (dk_at dksX24_go_4 13 rfl rfl)
theorem dX24_go_109 : decode cX24_go 109 = .ok (.iload_n 1, 1) := dk_27 (dk_at dksX24_go_4 16 rfl rfl)
theorem dX24_go_110 : decode cX24_go 110 = .ok (.iaload, 1) := dk_46 (dk_at dksX24_go_4 17 rfl rfl)
theorem dX24_go_111 : decode cX24_go 111 = .ok (.if_icmp .ge 14, 3) := dk_162 0 14 (dk_at dksX24_go_4 18 rfl rfl)
theorem dX24_go_114 : decode cX24_go 114 = .ok (.aload_n 0, 1) := dk_42 (dk_at dksX24_go_4 21 rfl rfl)
theorem dX24_go_115 : decode cX24_go 115 = .ok (.iload_n 1, 1) := dk_27 (dk_at dksX24_go_4 22 rfl rfl)
theorem dX24_go_116 : decode cX24_go 116 = .ok (.invokevirtual 52, 3) := dk_182 0 52 (dk_at dksX24_go_5 0 rfl rfl)
theorem dX24_go_119 : decode cX24_go 119 = .ok (.iinc 2 1, 3) := dk_132 2 1 (dk_at dksX24_go_5 3 rfl rfl)
theorem dX24_go_122 : decode cX24_go 122 = .ok (.goto (-24), 3) := dk_167 255 232 (dk_at dksX24_go_5 6 rfl rfl)
theorem dX24_go_125 : decode cX24_go 125 = .ok (.iinc 1 1, 3) := dk_132 1 1 (dk_at dksX24_go_5 9 rfl rfl)
theorem dX24_go_128 : decode cX24_go 128 = .ok (.goto (-37), 3) := dk_167 255 219 (dk_at dksX24_go_5 12 rfl rfl)
theorem dX24_go_131 : decode cX24_go 131 = .ok (.aload_n 0, 1) := dk_42 (dk_at dksX24_go_5 15 rfl rfl)
theorem dX24_go_132 : decode cX24_go 132 = .ok (.getfield 3, 3) := dk_180 0 3 (dk_at dksX24_go_5 16 rfl rfl)
theorem dX24_go_135 : decode cX24_go 135 = .ok (.aload_n 0, 1) := dk_42 (dk_at dksX24_go_5 19 rfl rfl)
theorem dX24_go_136 : decode cX24_go 136 = .ok (.getfield 65, 3) := dk_180 0 65 (dk_at dksX24_go_5 20 rfl rfl)
theorem dX24_go_139 : decode cX24_go 139 = .ok (.putfield 68, 3) := dk_181 0 68 (dk_at dksX24_go_6 0 rfl rfl)
theorem dX24_go_142 : decode cX24_go 142 = .ok (.return_, 1) := dk_177 (dk_at dksX24_go_6 3 rfl rfl)
abbrev cX24_pass : ByteArray := prog_25_method_3_code
def yX24_pass : MethodName := ⟨RX24, "pass", "(I)V"⟩
def dkwX24_pass_3 : List UInt8 := [132, 2, 1, 167, 255, 184, 177]
abbrev dktX24_pass_3 : List UInt8 := dkwX24_pass_3 ++ []
def dkwX24_pass_2 : List UInt8 := [27, 160, 0, 22, 42, 28, 42, 180, 0, 3, 180, 0, 39, 28, 182, 0, 74, 192, 0, 78, 182, 0, 84]
abbrev dktX24_pass_2 : List UInt8 := dkwX24_pass_2 ++ dktX24_pass_3
def dkwX24_pass_1 : List UInt8 := [180, 0, 3, 180, 0, 39, 28, 182, 0, 74, 192, 0, 78, 8, 46, 182, 0, 74, 192, 0, 79, 180, 0, 81]
abbrev dktX24_pass_1 : List UInt8 := dkwX24_pass_1 ++ dktX24_pass_2
def dkwX24_pass_0 : List UInt8 := [3, 61, 28, 42, 180, 0, 3, 180, 0, 39, 182, 0, 43, 162, 0, 64, 42, 180, 0, 3, 180, 0, 71, 42]
abbrev dktX24_pass_0 : List UInt8 := dkwX24_pass_0 ++ dktX24_pass_1
theorem dksX24_pass_0 : cX24_pass.data.toList.drop 0 = dktX24_pass_0 := by decide +kernel
theorem dksX24_pass_1 : cX24_pass.data.toList.drop 24 = dktX24_pass_1 := dk_seg dksX24_pass_0 24 rfl rfl
theorem dksX24_pass_2 : cX24_pass.data.toList.drop 48 = dktX24_pass_2 := dk_seg dksX24_pass_1 24 rfl rfl
theorem dksX24_pass_3 : cX24_pass.data.toList.drop 71 = dktX24_pass_3 := dk_seg dksX24_pass_2 23 rfl rfl
theorem dX24_pass_0 : decode cX24_pass 0 = .ok (.iconst 0, 1) := dk_3 (dk_at dksX24_pass_0 0 rfl rfl)
theorem dX24_pass_1 : decode cX24_pass 1 = .ok (.istore_n 2, 1) := dk_61 (dk_at dksX24_pass_0 1 rfl rfl)
theorem dX24_pass_2 : decode cX24_pass 2 = .ok (.iload_n 2, 1) := dk_28 (dk_at dksX24_pass_0 2 rfl rfl)
theorem dX24_pass_3 : decode cX24_pass 3 = .ok (.aload_n 0, 1) := dk_42 (dk_at dksX24_pass_0 3 rfl rfl)
theorem dX24_pass_4 : decode cX24_pass 4 = .ok (.getfield 3, 3) := dk_180 0 3 (dk_at dksX24_pass_0 4 rfl rfl)
theorem dX24_pass_7 : decode cX24_pass 7 = .ok (.getfield 39, 3) := dk_180 0 39 (dk_at dksX24_pass_0 7 rfl rfl)
theorem dX24_pass_10 : decode cX24_pass 10 = .ok (.invokevirtual 43, 3) := dk_182 0 43 (dk_at dksX24_pass_0 10 rfl rfl)
theorem dX24_pass_13 : decode cX24_pass 13 = .ok (.if_icmp .ge 64, 3) := dk_162 0 64 (dk_at dksX24_pass_0 13 rfl rfl)
theorem dX24_pass_16 : decode cX24_pass 16 = .ok (.aload_n 0, 1) := dk_42 (dk_at dksX24_pass_0 16 rfl rfl)
theorem dX24_pass_17 : decode cX24_pass 17 = .ok (.getfield 3, 3) := dk_180 0 3 (dk_at dksX24_pass_0 17 rfl rfl)
theorem dX24_pass_20 : decode cX24_pass 20 = .ok (.getfield 71, 3) := dk_180 0 71 (dk_at dksX24_pass_0 20 rfl rfl)
theorem dX24_pass_23 : decode cX24_pass 23 = .ok (.aload_n 0, 1) := dk_42 (dk_at dksX24_pass_0 23 rfl rfl)
theorem dX24_pass_24 : decode cX24_pass 24 = .ok (.getfield 3, 3) := dk_180 0 3 (dk_at dksX24_pass_1 0 rfl rfl)
theorem dX24_pass_27 : decode cX24_pass 27 = .ok (.getfield 39, 3) := dk_180 0 39 (dk_at dksX24_pass_1 3 rfl rfl)
theorem dX24_pass_30 : decode cX24_pass 30 = .ok (.iload_n 2, 1) := dk_28 (dk_at dksX24_pass_1 6 rfl rfl)
theorem dX24_pass_31 : decode cX24_pass 31 = .ok (.invokevirtual 74, 3) := dk_182 0 74 (dk_at dksX24_pass_1 7 rfl rfl)
theorem dX24_pass_34 : decode cX24_pass 34 = .ok (.checkcast 78, 3) := dk_192 0 78 (dk_at dksX24_pass_1 10 rfl rfl)
theorem dX24_pass_37 : decode cX24_pass 37 = .ok (.iconst 5, 1) := dk_8 (dk_at dksX24_pass_1 13 rfl rfl)
theorem dX24_pass_38 : decode cX24_pass 38 = .ok (.iaload, 1) := dk_46 (dk_at dksX24_pass_1 14 rfl rfl)
theorem dX24_pass_39 : decode cX24_pass 39 = .ok (.invokevirtual 74, 3) := dk_182 0 74 (dk_at dksX24_pass_1 15 rfl rfl)
theorem dX24_pass_42 : decode cX24_pass 42 = .ok (.checkcast 79, 3) := dk_192 0 79 (dk_at dksX24_pass_1 18 rfl rfl)
theorem dX24_pass_45 : decode cX24_pass 45 = .ok (.getfield 81, 3) := dk_180 0 81 (dk_at dksX24_pass_1 21 rfl rfl)
theorem dX24_pass_48 : decode cX24_pass 48 = .ok (.iload_n 1, 1) := dk_27 (dk_at dksX24_pass_2 0 rfl rfl)
theorem dX24_pass_49 : decode cX24_pass 49 = .ok (.if_icmp .ne 22, 3) := dk_160 0 22 (dk_at dksX24_pass_2 1 rfl rfl)
theorem dX24_pass_52 : decode cX24_pass 52 = .ok (.aload_n 0, 1) := dk_42 (dk_at dksX24_pass_2 4 rfl rfl)
theorem dX24_pass_53 : decode cX24_pass 53 = .ok (.iload_n 2, 1) := dk_28 (dk_at dksX24_pass_2 5 rfl rfl)
theorem dX24_pass_54 : decode cX24_pass 54 = .ok (.aload_n 0, 1) := dk_42 (dk_at dksX24_pass_2 6 rfl rfl)
theorem dX24_pass_55 : decode cX24_pass 55 = .ok (.getfield 3, 3) := dk_180 0 3 (dk_at dksX24_pass_2 7 rfl rfl)
theorem dX24_pass_58 : decode cX24_pass 58 = .ok (.getfield 39, 3) := dk_180 0 39 (dk_at dksX24_pass_2 10 rfl rfl)
theorem dX24_pass_61 : decode cX24_pass 61 = .ok (.iload_n 2, 1) := dk_28 (dk_at dksX24_pass_2 13 rfl rfl)
theorem dX24_pass_62 : decode cX24_pass 62 = .ok (.invokevirtual 74, 3) := dk_182 0 74 (dk_at dksX24_pass_2 14 rfl rfl)
theorem dX24_pass_65 : decode cX24_pass 65 = .ok (.checkcast 78, 3) := dk_192 0 78 (dk_at dksX24_pass_2 17 rfl rfl)
theorem dX24_pass_68 : decode cX24_pass 68 = .ok (.invokevirtual 84, 3) := dk_182 0 84 (dk_at dksX24_pass_2 20 rfl rfl)
theorem dX24_pass_71 : decode cX24_pass 71 = .ok (.iinc 2 1, 3) := dk_132 2 1 (dk_at dksX24_pass_3 0 rfl rfl)
theorem dX24_pass_74 : decode cX24_pass 74 = .ok (.goto (-72), 3) := dk_167 255 184 (dk_at dksX24_pass_3 3 rfl rfl)
theorem dX24_pass_77 : decode cX24_pass 77 = .ok (.return_, 1) := dk_177 (dk_at dksX24_pass_3 6 rfl rfl)
abbrev cX24_step : ByteArray := prog_25_method_5_code
def yX24_step : MethodName := ⟨RX24, "step", "(I[I)V"⟩
def dkwX24_step_5 : List UInt8 := [159, 0, 15, 42, 180, 0, 27, 44, 4, 46, 42, 180, 0, 65, 79, 177]
abbrev dktX24_step_5 : List UInt8 := dkwX24_step_5 ++ []
def dkwX24_step_4 : List UInt8 := [44, 182, 0, 111, 44, 3, 46, 16, 9, 160, 0, 10, 42, 182, 0, 115, 167, 0, 23, 44, 3, 46, 16, 8]
abbrev dktX24_step_4 : List UInt8 := dkwX24_step_4 ++ dktX24_step_5
def dkwX24_step_3 : List UInt8 := [44, 3, 46, 182, 0, 104, 96, 181, 0, 65, 42, 180, 0, 3, 89, 180, 0, 108, 4, 96, 181, 0, 108, 42]
abbrev dktX24_step_3 : List UInt8 := dkwX24_step_3 ++ dktX24_step_4
def dkwX24_step_2 : List UInt8 := [180, 0, 94, 100, 96, 181, 0, 101, 42, 29, 4, 96, 181, 0, 94, 42, 29, 42, 180, 0, 3, 180, 0, 56]
abbrev dktX24_step_2 : List UInt8 := dkwX24_step_2 ++ dktX24_step_3
def dkwX24_step_1 : List UInt8 := [160, 0, 13, 42, 180, 0, 3, 180, 0, 49, 27, 29, 79, 42, 180, 0, 3, 89, 180, 0, 101, 29, 42]
abbrev dktX24_step_1 : List UInt8 := dkwX24_step_1 ++ dktX24_step_2
def dkwX24_step_0 : List UInt8 := [42, 180, 0, 94, 42, 44, 182, 0, 97, 184, 0, 88, 62, 42, 180, 0, 3, 180, 0, 49, 27, 46, 2]
abbrev dktX24_step_0 : List UInt8 := dkwX24_step_0 ++ dktX24_step_1
theorem dksX24_step_0 : cX24_step.data.toList.drop 0 = dktX24_step_0 := by decide +kernel
theorem dksX24_step_1 : cX24_step.data.toList.drop 23 = dktX24_step_1 := dk_seg dksX24_step_0 23 rfl rfl
theorem dksX24_step_2 : cX24_step.data.toList.drop 46 = dktX24_step_2 := dk_seg dksX24_step_1 23 rfl rfl
theorem dksX24_step_3 : cX24_step.data.toList.drop 70 = dktX24_step_3 := dk_seg dksX24_step_2 24 rfl rfl
theorem dksX24_step_4 : cX24_step.data.toList.drop 94 = dktX24_step_4 := dk_seg dksX24_step_3 24 rfl rfl
theorem dksX24_step_5 : cX24_step.data.toList.drop 118 = dktX24_step_5 := dk_seg dksX24_step_4 24 rfl rfl
theorem dX24_step_0 : decode cX24_step 0 = .ok (.aload_n 0, 1) := dk_42 (dk_at dksX24_step_0 0 rfl rfl)
theorem dX24_step_1 : decode cX24_step 1 = .ok (.getfield 94, 3) := dk_180 0 94 (dk_at dksX24_step_0 1 rfl rfl)
theorem dX24_step_4 : decode cX24_step 4 = .ok (.aload_n 0, 1) := dk_42 (dk_at dksX24_step_0 4 rfl rfl)
theorem dX24_step_5 : decode cX24_step 5 = .ok (.aload_n 2, 1) := dk_44 (dk_at dksX24_step_0 5 rfl rfl)
theorem dX24_step_6 : decode cX24_step 6 = .ok (.invokevirtual 97, 3) := dk_182 0 97 (dk_at dksX24_step_0 6 rfl rfl)
theorem dX24_step_9 : decode cX24_step 9 = .ok (.invokestatic 88, 3) := dk_184 0 88 (dk_at dksX24_step_0 9 rfl rfl)
theorem dX24_step_12 : decode cX24_step 12 = .ok (.istore_n 3, 1) := dk_62 (dk_at dksX24_step_0 12 rfl rfl)
theorem dX24_step_13 : decode cX24_step 13 = .ok (.aload_n 0, 1) := dk_42 (dk_at dksX24_step_0 13 rfl rfl)
theorem dX24_step_14 : decode cX24_step 14 = .ok (.getfield 3, 3) := dk_180 0 3 (dk_at dksX24_step_0 14 rfl rfl)
theorem dX24_step_17 : decode cX24_step 17 = .ok (.getfield 49, 3) := dk_180 0 49 (dk_at dksX24_step_0 17 rfl rfl)
theorem dX24_step_20 : decode cX24_step 20 = .ok (.iload_n 1, 1) := dk_27 (dk_at dksX24_step_0 20 rfl rfl)
theorem dX24_step_21 : decode cX24_step 21 = .ok (.iaload, 1) := dk_46 (dk_at dksX24_step_0 21 rfl rfl)
theorem dX24_step_22 : decode cX24_step 22 = .ok (.iconst (-1), 1) := dk_2 (dk_at dksX24_step_0 22 rfl rfl)
theorem dX24_step_23 : decode cX24_step 23 = .ok (.if_icmp .ne 13, 3) := dk_160 0 13 (dk_at dksX24_step_1 0 rfl rfl)
theorem dX24_step_26 : decode cX24_step 26 = .ok (.aload_n 0, 1) := dk_42 (dk_at dksX24_step_1 3 rfl rfl)
theorem dX24_step_27 : decode cX24_step 27 = .ok (.getfield 3, 3) := dk_180 0 3 (dk_at dksX24_step_1 4 rfl rfl)
theorem dX24_step_30 : decode cX24_step 30 = .ok (.getfield 49, 3) := dk_180 0 49 (dk_at dksX24_step_1 7 rfl rfl)
theorem dX24_step_33 : decode cX24_step 33 = .ok (.iload_n 1, 1) := dk_27 (dk_at dksX24_step_1 10 rfl rfl)
theorem dX24_step_34 : decode cX24_step 34 = .ok (.iload_n 3, 1) := dk_29 (dk_at dksX24_step_1 11 rfl rfl)
theorem dX24_step_35 : decode cX24_step 35 = .ok (.iastore, 1) := dk_79 (dk_at dksX24_step_1 12 rfl rfl)
theorem dX24_step_36 : decode cX24_step 36 = .ok (.aload_n 0, 1) := dk_42 (dk_at dksX24_step_1 13 rfl rfl)
theorem dX24_step_37 : decode cX24_step 37 = .ok (.getfield 3, 3) := dk_180 0 3 (dk_at dksX24_step_1 14 rfl rfl)
theorem dX24_step_40 : decode cX24_step 40 = .ok (.dup, 1) := dk_89 (dk_at dksX24_step_1 17 rfl rfl)
theorem dX24_step_41 : decode cX24_step 41 = .ok (.getfield 101, 3) := dk_180 0 101 (dk_at dksX24_step_1 18 rfl rfl)
theorem dX24_step_44 : decode cX24_step 44 = .ok (.iload_n 3, 1) := dk_29 (dk_at dksX24_step_1 21 rfl rfl)
theorem dX24_step_45 : decode cX24_step 45 = .ok (.aload_n 0, 1) := dk_42 (dk_at dksX24_step_1 22 rfl rfl)
theorem dX24_step_46 : decode cX24_step 46 = .ok (.getfield 94, 3) := dk_180 0 94 (dk_at dksX24_step_2 0 rfl rfl)
theorem dX24_step_49 : decode cX24_step 49 = .ok (.isub, 1) := dk_100 (dk_at dksX24_step_2 3 rfl rfl)
theorem dX24_step_50 : decode cX24_step 50 = .ok (.iadd, 1) := dk_96 (dk_at dksX24_step_2 4 rfl rfl)
theorem dX24_step_51 : decode cX24_step 51 = .ok (.putfield 101, 3) := dk_181 0 101 (dk_at dksX24_step_2 5 rfl rfl)
theorem dX24_step_54 : decode cX24_step 54 = .ok (.aload_n 0, 1) := dk_42 (dk_at dksX24_step_2 8 rfl rfl)
theorem dX24_step_55 : decode cX24_step 55 = .ok (.iload_n 3, 1) := dk_29 (dk_at dksX24_step_2 9 rfl rfl)
theorem dX24_step_56 : decode cX24_step 56 = .ok (.iconst 1, 1) := dk_4 (dk_at dksX24_step_2 10 rfl rfl)
theorem dX24_step_57 : decode cX24_step 57 = .ok (.iadd, 1) := dk_96 (dk_at dksX24_step_2 11 rfl rfl)
theorem dX24_step_58 : decode cX24_step 58 = .ok (.putfield 94, 3) := dk_181 0 94 (dk_at dksX24_step_2 12 rfl rfl)
theorem dX24_step_61 : decode cX24_step 61 = .ok (.aload_n 0, 1) := dk_42 (dk_at dksX24_step_2 15 rfl rfl)
theorem dX24_step_62 : decode cX24_step 62 = .ok (.iload_n 3, 1) := dk_29 (dk_at dksX24_step_2 16 rfl rfl)
theorem dX24_step_63 : decode cX24_step 63 = .ok (.aload_n 0, 1) := dk_42 (dk_at dksX24_step_2 17 rfl rfl)
theorem dX24_step_64 : decode cX24_step 64 = .ok (.getfield 3, 3) := dk_180 0 3 (dk_at dksX24_step_2 18 rfl rfl)
theorem dX24_step_67 : decode cX24_step 67 = .ok (.getfield 56, 3) := dk_180 0 56 (dk_at dksX24_step_2 21 rfl rfl)
theorem dX24_step_70 : decode cX24_step 70 = .ok (.aload_n 2, 1) := dk_44 (dk_at dksX24_step_3 0 rfl rfl)
theorem dX24_step_71 : decode cX24_step 71 = .ok (.iconst 0, 1) := dk_3 (dk_at dksX24_step_3 1 rfl rfl)
theorem dX24_step_72 : decode cX24_step 72 = .ok (.iaload, 1) := dk_46 (dk_at dksX24_step_3 2 rfl rfl)
theorem dX24_step_73 : decode cX24_step 73 = .ok (.invokevirtual 104, 3) := dk_182 0 104 (dk_at dksX24_step_3 3 rfl rfl)
theorem dX24_step_76 : decode cX24_step 76 = .ok (.iadd, 1) := dk_96 (dk_at dksX24_step_3 6 rfl rfl)
theorem dX24_step_77 : decode cX24_step 77 = .ok (.putfield 65, 3) := dk_181 0 65 (dk_at dksX24_step_3 7 rfl rfl)
theorem dX24_step_80 : decode cX24_step 80 = .ok (.aload_n 0, 1) := dk_42 (dk_at dksX24_step_3 10 rfl rfl)
theorem dX24_step_81 : decode cX24_step 81 = .ok (.getfield 3, 3) := dk_180 0 3 (dk_at dksX24_step_3 11 rfl rfl)
theorem dX24_step_84 : decode cX24_step 84 = .ok (.dup, 1) := dk_89 (dk_at dksX24_step_3 14 rfl rfl)
theorem dX24_step_85 : decode cX24_step 85 = .ok (.getfield 108, 3) := dk_180 0 108 (dk_at dksX24_step_3 15 rfl rfl)
theorem dX24_step_88 : decode cX24_step 88 = .ok (.iconst 1, 1) := dk_4 (dk_at dksX24_step_3 18 rfl rfl)
theorem dX24_step_89 : decode cX24_step 89 = .ok (.iadd, 1) := dk_96 (dk_at dksX24_step_3 19 rfl rfl)
theorem dX24_step_90 : decode cX24_step 90 = .ok (.putfield 108, 3) := dk_181 0 108 (dk_at dksX24_step_3 20 rfl rfl)
theorem dX24_step_93 : decode cX24_step 93 = .ok (.aload_n 0, 1) := dk_42 (dk_at dksX24_step_3 23 rfl rfl)
theorem dX24_step_94 : decode cX24_step 94 = .ok (.aload_n 2, 1) := dk_44 (dk_at dksX24_step_4 0 rfl rfl)
theorem dX24_step_95 : decode cX24_step 95 = .ok (.invokevirtual 111, 3) := dk_182 0 111 (dk_at dksX24_step_4 1 rfl rfl)
theorem dX24_step_98 : decode cX24_step 98 = .ok (.aload_n 2, 1) := dk_44 (dk_at dksX24_step_4 4 rfl rfl)
theorem dX24_step_99 : decode cX24_step 99 = .ok (.iconst 0, 1) := dk_3 (dk_at dksX24_step_4 5 rfl rfl)
theorem dX24_step_100 : decode cX24_step 100 = .ok (.iaload, 1) := dk_46 (dk_at dksX24_step_4 6 rfl rfl)
theorem dX24_step_101 : decode cX24_step 101 = .ok (.bipush 9, 2) := dk_16 9 (dk_at dksX24_step_4 7 rfl rfl)
theorem dX24_step_103 : decode cX24_step 103 = .ok (.if_icmp .ne 10, 3) := dk_160 0 10 (dk_at dksX24_step_4 9 rfl rfl)
theorem dX24_step_106 : decode cX24_step 106 = .ok (.aload_n 0, 1) := dk_42 (dk_at dksX24_step_4 12 rfl rfl)
theorem dX24_step_107 : decode cX24_step 107 = .ok (.invokevirtual 115, 3) := dk_182 0 115 (dk_at dksX24_step_4 13 rfl rfl)
theorem dX24_step_110 : decode cX24_step 110 = .ok (.goto 23, 3) := dk_167 0 23 (dk_at dksX24_step_4 16 rfl rfl)
theorem dX24_step_113 : decode cX24_step 113 = .ok (.aload_n 2, 1) := dk_44 (dk_at dksX24_step_4 19 rfl rfl)
theorem dX24_step_114 : decode cX24_step 114 = .ok (.iconst 0, 1) := dk_3 (dk_at dksX24_step_4 20 rfl rfl)
theorem dX24_step_115 : decode cX24_step 115 = .ok (.iaload, 1) := dk_46 (dk_at dksX24_step_4 21 rfl rfl)
theorem dX24_step_116 : decode cX24_step 116 = .ok (.bipush 8, 2) := dk_16 8 (dk_at dksX24_step_4 22 rfl rfl)
theorem dX24_step_118 : decode cX24_step 118 = .ok (.if_icmp .eq 15, 3) := dk_159 0 15 (dk_at dksX24_step_5 0 rfl rfl)
theorem dX24_step_121 : decode cX24_step 121 = .ok (.aload_n 0, 1) := dk_42 (dk_at dksX24_step_5 3 rfl rfl)
theorem dX24_step_122 : decode cX24_step 122 = .ok (.getfield 27, 3) := dk_180 0 27 (dk_at dksX24_step_5 4 rfl rfl)
theorem dX24_step_125 : decode cX24_step 125 = .ok (.aload_n 2, 1) := dk_44 (dk_at dksX24_step_5 7 rfl rfl)
theorem dX24_step_126 : decode cX24_step 126 = .ok (.iconst 1, 1) := dk_4 (dk_at dksX24_step_5 8 rfl rfl)
theorem dX24_step_127 : decode cX24_step 127 = .ok (.iaload, 1) := dk_46 (dk_at dksX24_step_5 9 rfl rfl)
theorem dX24_step_128 : decode cX24_step 128 = .ok (.aload_n 0, 1) := dk_42 (dk_at dksX24_step_5 10 rfl rfl)
theorem dX24_step_129 : decode cX24_step 129 = .ok (.getfield 65, 3) := dk_180 0 65 (dk_at dksX24_step_5 11 rfl rfl)
theorem dX24_step_132 : decode cX24_step 132 = .ok (.iastore, 1) := dk_79 (dk_at dksX24_step_5 14 rfl rfl)
theorem dX24_step_133 : decode cX24_step 133 = .ok (.return_, 1) := dk_177 (dk_at dksX24_step_5 15 rfl rfl)
abbrev cX24_readyOf : ByteArray := prog_25_method_4_code
def yX24_readyOf : MethodName := ⟨RX24, "readyOf", "([I)I"⟩
def dkwX24_readyOf_5 : List UInt8 := [180, 0, 27, 43, 5, 46, 46, 42, 180, 0, 27, 43, 6, 46, 46, 184, 0, 88, 172]
abbrev dktX24_readyOf_5 : List UInt8 := dkwX24_readyOf_5 ++ []
def dkwX24_readyOf_4 : List UInt8 := [180, 0, 27, 43, 6, 46, 46, 42, 180, 0, 27, 43, 7, 46, 46, 184, 0, 88, 184, 0, 88, 172, 42]
abbrev dktX24_readyOf_4 : List UInt8 := dkwX24_readyOf_4 ++ dktX24_readyOf_5
def dkwX24_readyOf_3 : List UInt8 := [184, 0, 88, 172, 42, 180, 0, 27, 43, 5, 46, 46, 172, 42, 180, 0, 27, 43, 5, 46, 46, 42]
abbrev dktX24_readyOf_3 : List UInt8 := dkwX24_readyOf_3 ++ dktX24_readyOf_4
def dkwX24_readyOf_2 : List UInt8 := [3, 172, 42, 180, 0, 27, 43, 4, 46, 46, 172, 42, 180, 0, 27, 3, 46, 42, 180, 0, 27, 4, 46]
abbrev dktX24_readyOf_2 : List UInt8 := dkwX24_readyOf_2 ++ dktX24_readyOf_3
def dkwX24_readyOf_1 : List UInt8 := [170, 0, 0, 0, 120, 0, 0, 0, 0, 0, 0, 0, 9, 0, 0, 0, 53, 0, 0, 0, 80, 0, 0, 0, 120, 0, 0, 0, 120, 0, 0, 0, 120, 0, 0, 0, 80, 0, 0, 0, 89, 0, 0, 0, 53, 0, 0, 0, 55, 0, 0, 0, 64]
abbrev dktX24_readyOf_1 : List UInt8 := dkwX24_readyOf_1 ++ dktX24_readyOf_2
def dkwX24_readyOf_0 : List UInt8 := [43, 3, 46]
abbrev dktX24_readyOf_0 : List UInt8 := dkwX24_readyOf_0 ++ dktX24_readyOf_1
theorem dksX24_readyOf_0 : cX24_readyOf.data.toList.drop 0 = dktX24_readyOf_0 := by decide +kernel
theorem dksX24_readyOf_1 : cX24_readyOf.data.toList.drop 3 = dktX24_readyOf_1 := dk_seg dksX24_readyOf_0 3 rfl rfl
theorem dksX24_readyOf_2 : cX24_readyOf.data.toList.drop 56 = dktX24_readyOf_2 := dk_seg dksX24_readyOf_1 53 rfl rfl
theorem dksX24_readyOf_3 : cX24_readyOf.data.toList.drop 79 = dktX24_readyOf_3 := dk_seg dksX24_readyOf_2 23 rfl rfl
theorem dksX24_readyOf_4 : cX24_readyOf.data.toList.drop 101 = dktX24_readyOf_4 := dk_seg dksX24_readyOf_3 22 rfl rfl
theorem dksX24_readyOf_5 : cX24_readyOf.data.toList.drop 124 = dktX24_readyOf_5 := dk_seg dksX24_readyOf_4 23 rfl rfl
theorem dX24_readyOf_0 : decode cX24_readyOf 0 = .ok (.aload_n 1, 1) := dk_43 (dk_at dksX24_readyOf_0 0 rfl rfl)
theorem dX24_readyOf_1 : decode cX24_readyOf 1 = .ok (.iconst 0, 1) := dk_3 (dk_at dksX24_readyOf_0 1 rfl rfl)
theorem dX24_readyOf_2 : decode cX24_readyOf 2 = .ok (.iaload, 1) := dk_46 (dk_at dksX24_readyOf_0 2 rfl rfl)
theorem dX24_readyOf_3 : decode cX24_readyOf 3 = .ok (.tableswitch 120 0 9 #[53, 80, 120, 120, 120, 80, 89, 53, 55, 64], 53) := by decide +kernel
theorem dX24_readyOf_56 : decode cX24_readyOf 56 = .ok (.iconst 0, 1) := dk_3 (dk_at dksX24_readyOf_2 0 rfl rfl)
theorem dX24_readyOf_57 : decode cX24_readyOf 57 = .ok (.ireturn, 1) := dk_172 (dk_at dksX24_readyOf_2 1 rfl rfl)
theorem dX24_readyOf_58 : decode cX24_readyOf 58 = .ok (.aload_n 0, 1) := dk_42 (dk_at dksX24_readyOf_2 2 rfl rfl)
theorem dX24_readyOf_59 : decode cX24_readyOf 59 = .ok (.getfield 27, 3) := dk_180 0 27 (dk_at dksX24_readyOf_2 3 rfl rfl)
theorem dX24_readyOf_62 : decode cX24_readyOf 62 = .ok (.aload_n 1, 1) := dk_43 (dk_at dksX24_readyOf_2 6 rfl rfl)
theorem dX24_readyOf_63 : decode cX24_readyOf 63 = .ok (.iconst 1, 1) := dk_4 (dk_at dksX24_readyOf_2 7 rfl rfl)
theorem dX24_readyOf_64 : decode cX24_readyOf 64 = .ok (.iaload, 1) := dk_46 (dk_at dksX24_readyOf_2 8 rfl rfl)
theorem dX24_readyOf_65 : decode cX24_readyOf 65 = .ok (.iaload, 1) := dk_46 (dk_at dksX24_readyOf_2 9 rfl rfl)
theorem dX24_readyOf_66 : decode cX24_readyOf 66 = .ok (.ireturn, 1) := dk_172 (dk_at dksX24_readyOf_2 10 rfl rfl)
theorem dX24_readyOf_67 : decode cX24_readyOf 67 = .ok (.aload_n 0, 1) := dk_42 (dk_at dksX24_readyOf_2 11 rfl rfl)
theorem dX24_readyOf_68 : decode cX24_readyOf 68 = .ok (.getfield 27, 3) := dk_180 0 27 (dk_at dksX24_readyOf_2 12 rfl rfl)
theorem dX24_readyOf_71 : decode cX24_readyOf 71 = .ok (.iconst 0, 1) := dk_3 (dk_at dksX24_readyOf_2 15 rfl rfl)
theorem dX24_readyOf_72 : decode cX24_readyOf 72 = .ok (.iaload, 1) := dk_46 (dk_at dksX24_readyOf_2 16 rfl rfl)
theorem dX24_readyOf_73 : decode cX24_readyOf 73 = .ok (.aload_n 0, 1) := dk_42 (dk_at dksX24_readyOf_2 17 rfl rfl)
theorem dX24_readyOf_74 : decode cX24_readyOf 74 = .ok (.getfield 27, 3) := dk_180 0 27 (dk_at dksX24_readyOf_2 18 rfl rfl)
theorem dX24_readyOf_77 : decode cX24_readyOf 77 = .ok (.iconst 1, 1) := dk_4 (dk_at dksX24_readyOf_2 21 rfl rfl)
theorem dX24_readyOf_78 : decode cX24_readyOf 78 = .ok (.iaload, 1) := dk_46 (dk_at dksX24_readyOf_2 22 rfl rfl)
theorem dX24_readyOf_79 : decode cX24_readyOf 79 = .ok (.invokestatic 88, 3) := dk_184 0 88 (dk_at dksX24_readyOf_3 0 rfl rfl)
theorem dX24_readyOf_82 : decode cX24_readyOf 82 = .ok (.ireturn, 1) := dk_172 (dk_at dksX24_readyOf_3 3 rfl rfl)
theorem dX24_readyOf_83 : decode cX24_readyOf 83 = .ok (.aload_n 0, 1) := dk_42 (dk_at dksX24_readyOf_3 4 rfl rfl)
theorem dX24_readyOf_84 : decode cX24_readyOf 84 = .ok (.getfield 27, 3) := dk_180 0 27 (dk_at dksX24_readyOf_3 5 rfl rfl)
theorem dX24_readyOf_87 : decode cX24_readyOf 87 = .ok (.aload_n 1, 1) := dk_43 (dk_at dksX24_readyOf_3 8 rfl rfl)
theorem dX24_readyOf_88 : decode cX24_readyOf 88 = .ok (.iconst 2, 1) := dk_5 (dk_at dksX24_readyOf_3 9 rfl rfl)
theorem dX24_readyOf_89 : decode cX24_readyOf 89 = .ok (.iaload, 1) := dk_46 (dk_at dksX24_readyOf_3 10 rfl rfl)
theorem dX24_readyOf_90 : decode cX24_readyOf 90 = .ok (.iaload, 1) := dk_46 (dk_at dksX24_readyOf_3 11 rfl rfl)
theorem dX24_readyOf_91 : decode cX24_readyOf 91 = .ok (.ireturn, 1) := dk_172 (dk_at dksX24_readyOf_3 12 rfl rfl)
theorem dX24_readyOf_92 : decode cX24_readyOf 92 = .ok (.aload_n 0, 1) := dk_42 (dk_at dksX24_readyOf_3 13 rfl rfl)
theorem dX24_readyOf_93 : decode cX24_readyOf 93 = .ok (.getfield 27, 3) := dk_180 0 27 (dk_at dksX24_readyOf_3 14 rfl rfl)
theorem dX24_readyOf_96 : decode cX24_readyOf 96 = .ok (.aload_n 1, 1) := dk_43 (dk_at dksX24_readyOf_3 17 rfl rfl)
theorem dX24_readyOf_97 : decode cX24_readyOf 97 = .ok (.iconst 2, 1) := dk_5 (dk_at dksX24_readyOf_3 18 rfl rfl)
theorem dX24_readyOf_98 : decode cX24_readyOf 98 = .ok (.iaload, 1) := dk_46 (dk_at dksX24_readyOf_3 19 rfl rfl)
theorem dX24_readyOf_99 : decode cX24_readyOf 99 = .ok (.iaload, 1) := dk_46 (dk_at dksX24_readyOf_3 20 rfl rfl)
theorem dX24_readyOf_100 : decode cX24_readyOf 100 = .ok (.aload_n 0, 1) := dk_42 (dk_at dksX24_readyOf_3 21 rfl rfl)
theorem dX24_readyOf_101 : decode cX24_readyOf 101 = .ok (.getfield 27, 3) := dk_180 0 27 (dk_at dksX24_readyOf_4 0 rfl rfl)
theorem dX24_readyOf_104 : decode cX24_readyOf 104 = .ok (.aload_n 1, 1) := dk_43 (dk_at dksX24_readyOf_4 3 rfl rfl)
theorem dX24_readyOf_105 : decode cX24_readyOf 105 = .ok (.iconst 3, 1) := dk_6 (dk_at dksX24_readyOf_4 4 rfl rfl)
theorem dX24_readyOf_106 : decode cX24_readyOf 106 = .ok (.iaload, 1) := dk_46 (dk_at dksX24_readyOf_4 5 rfl rfl)
theorem dX24_readyOf_107 : decode cX24_readyOf 107 = .ok (.iaload, 1) := dk_46 (dk_at dksX24_readyOf_4 6 rfl rfl)
theorem dX24_readyOf_108 : decode cX24_readyOf 108 = .ok (.aload_n 0, 1) := dk_42 (dk_at dksX24_readyOf_4 7 rfl rfl)
theorem dX24_readyOf_109 : decode cX24_readyOf 109 = .ok (.getfield 27, 3) := dk_180 0 27 (dk_at dksX24_readyOf_4 8 rfl rfl)
theorem dX24_readyOf_112 : decode cX24_readyOf 112 = .ok (.aload_n 1, 1) := dk_43 (dk_at dksX24_readyOf_4 11 rfl rfl)
theorem dX24_readyOf_113 : decode cX24_readyOf 113 = .ok (.iconst 4, 1) := dk_7 (dk_at dksX24_readyOf_4 12 rfl rfl)
theorem dX24_readyOf_114 : decode cX24_readyOf 114 = .ok (.iaload, 1) := dk_46 (dk_at dksX24_readyOf_4 13 rfl rfl)
theorem dX24_readyOf_115 : decode cX24_readyOf 115 = .ok (.iaload, 1) := dk_46 (dk_at dksX24_readyOf_4 14 rfl rfl)
theorem dX24_readyOf_116 : decode cX24_readyOf 116 = .ok (.invokestatic 88, 3) := dk_184 0 88 (dk_at dksX24_readyOf_4 15 rfl rfl)
theorem dX24_readyOf_119 : decode cX24_readyOf 119 = .ok (.invokestatic 88, 3) := dk_184 0 88 (dk_at dksX24_readyOf_4 18 rfl rfl)
theorem dX24_readyOf_122 : decode cX24_readyOf 122 = .ok (.ireturn, 1) := dk_172 (dk_at dksX24_readyOf_4 21 rfl rfl)
theorem dX24_readyOf_123 : decode cX24_readyOf 123 = .ok (.aload_n 0, 1) := dk_42 (dk_at dksX24_readyOf_4 22 rfl rfl)
theorem dX24_readyOf_124 : decode cX24_readyOf 124 = .ok (.getfield 27, 3) := dk_180 0 27 (dk_at dksX24_readyOf_5 0 rfl rfl)
theorem dX24_readyOf_127 : decode cX24_readyOf 127 = .ok (.aload_n 1, 1) := dk_43 (dk_at dksX24_readyOf_5 3 rfl rfl)
theorem dX24_readyOf_128 : decode cX24_readyOf 128 = .ok (.iconst 2, 1) := dk_5 (dk_at dksX24_readyOf_5 4 rfl rfl)
theorem dX24_readyOf_129 : decode cX24_readyOf 129 = .ok (.iaload, 1) := dk_46 (dk_at dksX24_readyOf_5 5 rfl rfl)
theorem dX24_readyOf_130 : decode cX24_readyOf 130 = .ok (.iaload, 1) := dk_46 (dk_at dksX24_readyOf_5 6 rfl rfl)
theorem dX24_readyOf_131 : decode cX24_readyOf 131 = .ok (.aload_n 0, 1) := dk_42 (dk_at dksX24_readyOf_5 7 rfl rfl)
theorem dX24_readyOf_132 : decode cX24_readyOf 132 = .ok (.getfield 27, 3) := dk_180 0 27 (dk_at dksX24_readyOf_5 8 rfl rfl)
theorem dX24_readyOf_135 : decode cX24_readyOf 135 = .ok (.aload_n 1, 1) := dk_43 (dk_at dksX24_readyOf_5 11 rfl rfl)
theorem dX24_readyOf_136 : decode cX24_readyOf 136 = .ok (.iconst 3, 1) := dk_6 (dk_at dksX24_readyOf_5 12 rfl rfl)
theorem dX24_readyOf_137 : decode cX24_readyOf 137 = .ok (.iaload, 1) := dk_46 (dk_at dksX24_readyOf_5 13 rfl rfl)
theorem dX24_readyOf_138 : decode cX24_readyOf 138 = .ok (.iaload, 1) := dk_46 (dk_at dksX24_readyOf_5 14 rfl rfl)
theorem dX24_readyOf_139 : decode cX24_readyOf 139 = .ok (.invokestatic 88, 3) := dk_184 0 88 (dk_at dksX24_readyOf_5 15 rfl rfl)
theorem dX24_readyOf_142 : decode cX24_readyOf 142 = .ok (.ireturn, 1) := dk_172 (dk_at dksX24_readyOf_5 18 rfl rfl)
abbrev cX24_work : ByteArray := prog_25_method_7_code
def yX24_work : MethodName := ⟨RX24, "work", "([I)V"⟩
def dkwX24_work_9 : List UInt8 := [104, 5, 44, 4, 46, 104, 96, 4, 96, 79, 177]
abbrev dktX24_work_9 : List UInt8 := dkwX24_work_9 ++ []
def dkwX24_work_8 : List UInt8 := [180, 0, 3, 180, 0, 36, 43, 5, 46, 44, 43, 4, 46, 46, 79, 167, 0, 19, 44, 3, 6, 44, 3, 46]
abbrev dktX24_work_8 : List UInt8 := dkwX24_work_8 ++ dktX24_work_9
def dkwX24_work_7 : List UInt8 := [79, 167, 0, 57, 44, 43, 4, 46, 42, 180, 0, 3, 180, 0, 36, 43, 5, 46, 46, 79, 167, 0, 38, 42]
abbrev dktX24_work_7 : List UInt8 := dkwX24_work_7 ++ dktX24_work_8
def dkwX24_work_6 : List UInt8 := [167, 0, 82, 44, 43, 4, 46, 44, 43, 5, 46, 46, 44, 43, 6, 46, 46, 104, 44, 43, 7, 46, 46, 96]
abbrev dktX24_work_6 : List UInt8 := dkwX24_work_6 ++ dktX24_work_7
def dkwX24_work_5 : List UInt8 := [43, 6, 46, 46, 104, 79, 167, 0, 99, 44, 43, 4, 46, 44, 43, 5, 46, 46, 43, 6, 46, 96, 79]
abbrev dktX24_work_5 : List UInt8 := dkwX24_work_5 ++ dktX24_work_6
def dkwX24_work_4 : List UInt8 := [43, 5, 46, 46, 44, 43, 6, 46, 46, 100, 79, 167, 0, 118, 44, 43, 4, 46, 44, 43, 5, 46, 46, 44]
abbrev dktX24_work_4 : List UInt8 := dkwX24_work_4 ++ dktX24_work_5
def dkwX24_work_3 : List UInt8 := [44, 43, 4, 46, 44, 43, 5, 46, 46, 44, 43, 6, 46, 46, 96, 79, 167, 0, 137, 44, 43, 4, 46, 44]
abbrev dktX24_work_3 : List UInt8 := dkwX24_work_3 ++ dktX24_work_4
def dkwX24_work_2 : List UInt8 := [44, 43, 4, 46, 43, 5, 46, 79, 167, 0, 169, 44, 43, 4, 46, 44, 43, 5, 46, 46, 79, 167, 0, 156]
abbrev dktX24_work_2 : List UInt8 := dkwX24_work_2 ++ dktX24_work_3
def dkwX24_work_1 : List UInt8 := [170, 0, 0, 0, 210, 0, 0, 0, 0, 0, 0, 0, 8, 0, 0, 0, 49, 0, 0, 0, 60, 0, 0, 0, 73, 0, 0, 0, 92, 0, 0, 0, 111, 0, 0, 0, 130, 0, 0, 0, 147, 0, 0, 0, 172, 0, 0, 0, 191]
abbrev dktX24_work_1 : List UInt8 := dkwX24_work_1 ++ dktX24_work_2
def dkwX24_work_0 : List UInt8 := [42, 180, 0, 3, 180, 0, 31, 77, 43, 3, 46]
abbrev dktX24_work_0 : List UInt8 := dkwX24_work_0 ++ dktX24_work_1
theorem dksX24_work_0 : cX24_work.data.toList.drop 0 = dktX24_work_0 := by decide +kernel
theorem dksX24_work_1 : cX24_work.data.toList.drop 11 = dktX24_work_1 := dk_seg dksX24_work_0 11 rfl rfl
theorem dksX24_work_2 : cX24_work.data.toList.drop 60 = dktX24_work_2 := dk_seg dksX24_work_1 49 rfl rfl
theorem dksX24_work_3 : cX24_work.data.toList.drop 84 = dktX24_work_3 := dk_seg dksX24_work_2 24 rfl rfl
theorem dksX24_work_4 : cX24_work.data.toList.drop 108 = dktX24_work_4 := dk_seg dksX24_work_3 24 rfl rfl
theorem dksX24_work_5 : cX24_work.data.toList.drop 132 = dktX24_work_5 := dk_seg dksX24_work_4 24 rfl rfl
theorem dksX24_work_6 : cX24_work.data.toList.drop 155 = dktX24_work_6 := dk_seg dksX24_work_5 23 rfl rfl
theorem dksX24_work_7 : cX24_work.data.toList.drop 179 = dktX24_work_7 := dk_seg dksX24_work_6 24 rfl rfl
theorem dksX24_work_8 : cX24_work.data.toList.drop 203 = dktX24_work_8 := dk_seg dksX24_work_7 24 rfl rfl
theorem dksX24_work_9 : cX24_work.data.toList.drop 227 = dktX24_work_9 := dk_seg dksX24_work_8 24 rfl rfl
theorem dX24_work_0 : decode cX24_work 0 = .ok (.aload_n 0, 1) := dk_42 (dk_at dksX24_work_0 0 rfl rfl)
theorem dX24_work_1 : decode cX24_work 1 = .ok (.getfield 3, 3) := dk_180 0 3 (dk_at dksX24_work_0 1 rfl rfl)
theorem dX24_work_4 : decode cX24_work 4 = .ok (.getfield 31, 3) := dk_180 0 31 (dk_at dksX24_work_0 4 rfl rfl)
theorem dX24_work_7 : decode cX24_work 7 = .ok (.astore_n 2, 1) := dk_77 (dk_at dksX24_work_0 7 rfl rfl)
theorem dX24_work_8 : decode cX24_work 8 = .ok (.aload_n 1, 1) := dk_43 (dk_at dksX24_work_0 8 rfl rfl)
theorem dX24_work_9 : decode cX24_work 9 = .ok (.iconst 0, 1) := dk_3 (dk_at dksX24_work_0 9 rfl rfl)
theorem dX24_work_10 : decode cX24_work 10 = .ok (.iaload, 1) := dk_46 (dk_at dksX24_work_0 10 rfl rfl)
theorem dX24_work_11 : decode cX24_work 11 = .ok (.tableswitch 210 0 8 #[49, 60, 73, 92, 111, 130, 147, 172, 191], 49) := by decide +kernel
theorem dX24_work_60 : decode cX24_work 60 = .ok (.aload_n 2, 1) := dk_44 (dk_at dksX24_work_2 0 rfl rfl)
theorem dX24_work_61 : decode cX24_work 61 = .ok (.aload_n 1, 1) := dk_43 (dk_at dksX24_work_2 1 rfl rfl)
theorem dX24_work_62 : decode cX24_work 62 = .ok (.iconst 1, 1) := dk_4 (dk_at dksX24_work_2 2 rfl rfl)
theorem dX24_work_63 : decode cX24_work 63 = .ok (.iaload, 1) := dk_46 (dk_at dksX24_work_2 3 rfl rfl)
theorem dX24_work_64 : decode cX24_work 64 = .ok (.aload_n 1, 1) := dk_43 (dk_at dksX24_work_2 4 rfl rfl)
theorem dX24_work_65 : decode cX24_work 65 = .ok (.iconst 2, 1) := dk_5 (dk_at dksX24_work_2 5 rfl rfl)
theorem dX24_work_66 : decode cX24_work 66 = .ok (.iaload, 1) := dk_46 (dk_at dksX24_work_2 6 rfl rfl)
theorem dX24_work_67 : decode cX24_work 67 = .ok (.iastore, 1) := dk_79 (dk_at dksX24_work_2 7 rfl rfl)
theorem dX24_work_68 : decode cX24_work 68 = .ok (.goto 169, 3) := dk_167 0 169 (dk_at dksX24_work_2 8 rfl rfl)
theorem dX24_work_71 : decode cX24_work 71 = .ok (.aload_n 2, 1) := dk_44 (dk_at dksX24_work_2 11 rfl rfl)
theorem dX24_work_72 : decode cX24_work 72 = .ok (.aload_n 1, 1) := dk_43 (dk_at dksX24_work_2 12 rfl rfl)
theorem dX24_work_73 : decode cX24_work 73 = .ok (.iconst 1, 1) := dk_4 (dk_at dksX24_work_2 13 rfl rfl)
theorem dX24_work_74 : decode cX24_work 74 = .ok (.iaload, 1) := dk_46 (dk_at dksX24_work_2 14 rfl rfl)
theorem dX24_work_75 : decode cX24_work 75 = .ok (.aload_n 2, 1) := dk_44 (dk_at dksX24_work_2 15 rfl rfl)
theorem dX24_work_76 : decode cX24_work 76 = .ok (.aload_n 1, 1) := dk_43 (dk_at dksX24_work_2 16 rfl rfl)
theorem dX24_work_77 : decode cX24_work 77 = .ok (.iconst 2, 1) := dk_5 (dk_at dksX24_work_2 17 rfl rfl)
theorem dX24_work_78 : decode cX24_work 78 = .ok (.iaload, 1) := dk_46 (dk_at dksX24_work_2 18 rfl rfl)
theorem dX24_work_79 : decode cX24_work 79 = .ok (.iaload, 1) := dk_46 (dk_at dksX24_work_2 19 rfl rfl)
theorem dX24_work_80 : decode cX24_work 80 = .ok (.iastore, 1) := dk_79 (dk_at dksX24_work_2 20 rfl rfl)
theorem dX24_work_81 : decode cX24_work 81 = .ok (.goto 156, 3) := dk_167 0 156 (dk_at dksX24_work_2 21 rfl rfl)
theorem dX24_work_84 : decode cX24_work 84 = .ok (.aload_n 2, 1) := dk_44 (dk_at dksX24_work_3 0 rfl rfl)
theorem dX24_work_85 : decode cX24_work 85 = .ok (.aload_n 1, 1) := dk_43 (dk_at dksX24_work_3 1 rfl rfl)
theorem dX24_work_86 : decode cX24_work 86 = .ok (.iconst 1, 1) := dk_4 (dk_at dksX24_work_3 2 rfl rfl)
theorem dX24_work_87 : decode cX24_work 87 = .ok (.iaload, 1) := dk_46 (dk_at dksX24_work_3 3 rfl rfl)
theorem dX24_work_88 : decode cX24_work 88 = .ok (.aload_n 2, 1) := dk_44 (dk_at dksX24_work_3 4 rfl rfl)
theorem dX24_work_89 : decode cX24_work 89 = .ok (.aload_n 1, 1) := dk_43 (dk_at dksX24_work_3 5 rfl rfl)
theorem dX24_work_90 : decode cX24_work 90 = .ok (.iconst 2, 1) := dk_5 (dk_at dksX24_work_3 6 rfl rfl)
theorem dX24_work_91 : decode cX24_work 91 = .ok (.iaload, 1) := dk_46 (dk_at dksX24_work_3 7 rfl rfl)
theorem dX24_work_92 : decode cX24_work 92 = .ok (.iaload, 1) := dk_46 (dk_at dksX24_work_3 8 rfl rfl)
theorem dX24_work_93 : decode cX24_work 93 = .ok (.aload_n 2, 1) := dk_44 (dk_at dksX24_work_3 9 rfl rfl)
theorem dX24_work_94 : decode cX24_work 94 = .ok (.aload_n 1, 1) := dk_43 (dk_at dksX24_work_3 10 rfl rfl)
theorem dX24_work_95 : decode cX24_work 95 = .ok (.iconst 3, 1) := dk_6 (dk_at dksX24_work_3 11 rfl rfl)
theorem dX24_work_96 : decode cX24_work 96 = .ok (.iaload, 1) := dk_46 (dk_at dksX24_work_3 12 rfl rfl)
theorem dX24_work_97 : decode cX24_work 97 = .ok (.iaload, 1) := dk_46 (dk_at dksX24_work_3 13 rfl rfl)
theorem dX24_work_98 : decode cX24_work 98 = .ok (.iadd, 1) := dk_96 (dk_at dksX24_work_3 14 rfl rfl)
theorem dX24_work_99 : decode cX24_work 99 = .ok (.iastore, 1) := dk_79 (dk_at dksX24_work_3 15 rfl rfl)
theorem dX24_work_100 : decode cX24_work 100 = .ok (.goto 137, 3) := dk_167 0 137 (dk_at dksX24_work_3 16 rfl rfl)
theorem dX24_work_103 : decode cX24_work 103 = .ok (.aload_n 2, 1) := dk_44 (dk_at dksX24_work_3 19 rfl rfl)
theorem dX24_work_104 : decode cX24_work 104 = .ok (.aload_n 1, 1) := dk_43 (dk_at dksX24_work_3 20 rfl rfl)
theorem dX24_work_105 : decode cX24_work 105 = .ok (.iconst 1, 1) := dk_4 (dk_at dksX24_work_3 21 rfl rfl)
theorem dX24_work_106 : decode cX24_work 106 = .ok (.iaload, 1) := dk_46 (dk_at dksX24_work_3 22 rfl rfl)
theorem dX24_work_107 : decode cX24_work 107 = .ok (.aload_n 2, 1) := dk_44 (dk_at dksX24_work_3 23 rfl rfl)
theorem dX24_work_108 : decode cX24_work 108 = .ok (.aload_n 1, 1) := dk_43 (dk_at dksX24_work_4 0 rfl rfl)
theorem dX24_work_109 : decode cX24_work 109 = .ok (.iconst 2, 1) := dk_5 (dk_at dksX24_work_4 1 rfl rfl)
theorem dX24_work_110 : decode cX24_work 110 = .ok (.iaload, 1) := dk_46 (dk_at dksX24_work_4 2 rfl rfl)
theorem dX24_work_111 : decode cX24_work 111 = .ok (.iaload, 1) := dk_46 (dk_at dksX24_work_4 3 rfl rfl)
theorem dX24_work_112 : decode cX24_work 112 = .ok (.aload_n 2, 1) := dk_44 (dk_at dksX24_work_4 4 rfl rfl)
theorem dX24_work_113 : decode cX24_work 113 = .ok (.aload_n 1, 1) := dk_43 (dk_at dksX24_work_4 5 rfl rfl)
theorem dX24_work_114 : decode cX24_work 114 = .ok (.iconst 3, 1) := dk_6 (dk_at dksX24_work_4 6 rfl rfl)
theorem dX24_work_115 : decode cX24_work 115 = .ok (.iaload, 1) := dk_46 (dk_at dksX24_work_4 7 rfl rfl)
theorem dX24_work_116 : decode cX24_work 116 = .ok (.iaload, 1) := dk_46 (dk_at dksX24_work_4 8 rfl rfl)
theorem dX24_work_117 : decode cX24_work 117 = .ok (.isub, 1) := dk_100 (dk_at dksX24_work_4 9 rfl rfl)
theorem dX24_work_118 : decode cX24_work 118 = .ok (.iastore, 1) := dk_79 (dk_at dksX24_work_4 10 rfl rfl)
theorem dX24_work_119 : decode cX24_work 119 = .ok (.goto 118, 3) := dk_167 0 118 (dk_at dksX24_work_4 11 rfl rfl)
theorem dX24_work_122 : decode cX24_work 122 = .ok (.aload_n 2, 1) := dk_44 (dk_at dksX24_work_4 14 rfl rfl)
theorem dX24_work_123 : decode cX24_work 123 = .ok (.aload_n 1, 1) := dk_43 (dk_at dksX24_work_4 15 rfl rfl)
theorem dX24_work_124 : decode cX24_work 124 = .ok (.iconst 1, 1) := dk_4 (dk_at dksX24_work_4 16 rfl rfl)
theorem dX24_work_125 : decode cX24_work 125 = .ok (.iaload, 1) := dk_46 (dk_at dksX24_work_4 17 rfl rfl)
theorem dX24_work_126 : decode cX24_work 126 = .ok (.aload_n 2, 1) := dk_44 (dk_at dksX24_work_4 18 rfl rfl)
theorem dX24_work_127 : decode cX24_work 127 = .ok (.aload_n 1, 1) := dk_43 (dk_at dksX24_work_4 19 rfl rfl)
theorem dX24_work_128 : decode cX24_work 128 = .ok (.iconst 2, 1) := dk_5 (dk_at dksX24_work_4 20 rfl rfl)
theorem dX24_work_129 : decode cX24_work 129 = .ok (.iaload, 1) := dk_46 (dk_at dksX24_work_4 21 rfl rfl)
theorem dX24_work_130 : decode cX24_work 130 = .ok (.iaload, 1) := dk_46 (dk_at dksX24_work_4 22 rfl rfl)
theorem dX24_work_131 : decode cX24_work 131 = .ok (.aload_n 2, 1) := dk_44 (dk_at dksX24_work_4 23 rfl rfl)
theorem dX24_work_132 : decode cX24_work 132 = .ok (.aload_n 1, 1) := dk_43 (dk_at dksX24_work_5 0 rfl rfl)
theorem dX24_work_133 : decode cX24_work 133 = .ok (.iconst 3, 1) := dk_6 (dk_at dksX24_work_5 1 rfl rfl)
theorem dX24_work_134 : decode cX24_work 134 = .ok (.iaload, 1) := dk_46 (dk_at dksX24_work_5 2 rfl rfl)
theorem dX24_work_135 : decode cX24_work 135 = .ok (.iaload, 1) := dk_46 (dk_at dksX24_work_5 3 rfl rfl)
theorem dX24_work_136 : decode cX24_work 136 = .ok (.imul, 1) := dk_104 (dk_at dksX24_work_5 4 rfl rfl)
theorem dX24_work_137 : decode cX24_work 137 = .ok (.iastore, 1) := dk_79 (dk_at dksX24_work_5 5 rfl rfl)
theorem dX24_work_138 : decode cX24_work 138 = .ok (.goto 99, 3) := dk_167 0 99 (dk_at dksX24_work_5 6 rfl rfl)
theorem dX24_work_141 : decode cX24_work 141 = .ok (.aload_n 2, 1) := dk_44 (dk_at dksX24_work_5 9 rfl rfl)
theorem dX24_work_142 : decode cX24_work 142 = .ok (.aload_n 1, 1) := dk_43 (dk_at dksX24_work_5 10 rfl rfl)
theorem dX24_work_143 : decode cX24_work 143 = .ok (.iconst 1, 1) := dk_4 (dk_at dksX24_work_5 11 rfl rfl)
theorem dX24_work_144 : decode cX24_work 144 = .ok (.iaload, 1) := dk_46 (dk_at dksX24_work_5 12 rfl rfl)
theorem dX24_work_145 : decode cX24_work 145 = .ok (.aload_n 2, 1) := dk_44 (dk_at dksX24_work_5 13 rfl rfl)
theorem dX24_work_146 : decode cX24_work 146 = .ok (.aload_n 1, 1) := dk_43 (dk_at dksX24_work_5 14 rfl rfl)
theorem dX24_work_147 : decode cX24_work 147 = .ok (.iconst 2, 1) := dk_5 (dk_at dksX24_work_5 15 rfl rfl)
theorem dX24_work_148 : decode cX24_work 148 = .ok (.iaload, 1) := dk_46 (dk_at dksX24_work_5 16 rfl rfl)
theorem dX24_work_149 : decode cX24_work 149 = .ok (.iaload, 1) := dk_46 (dk_at dksX24_work_5 17 rfl rfl)
theorem dX24_work_150 : decode cX24_work 150 = .ok (.aload_n 1, 1) := dk_43 (dk_at dksX24_work_5 18 rfl rfl)
theorem dX24_work_151 : decode cX24_work 151 = .ok (.iconst 3, 1) := dk_6 (dk_at dksX24_work_5 19 rfl rfl)
theorem dX24_work_152 : decode cX24_work 152 = .ok (.iaload, 1) := dk_46 (dk_at dksX24_work_5 20 rfl rfl)
theorem dX24_work_153 : decode cX24_work 153 = .ok (.iadd, 1) := dk_96 (dk_at dksX24_work_5 21 rfl rfl)
theorem dX24_work_154 : decode cX24_work 154 = .ok (.iastore, 1) := dk_79 (dk_at dksX24_work_5 22 rfl rfl)
theorem dX24_work_155 : decode cX24_work 155 = .ok (.goto 82, 3) := dk_167 0 82 (dk_at dksX24_work_6 0 rfl rfl)
theorem dX24_work_158 : decode cX24_work 158 = .ok (.aload_n 2, 1) := dk_44 (dk_at dksX24_work_6 3 rfl rfl)
theorem dX24_work_159 : decode cX24_work 159 = .ok (.aload_n 1, 1) := dk_43 (dk_at dksX24_work_6 4 rfl rfl)
theorem dX24_work_160 : decode cX24_work 160 = .ok (.iconst 1, 1) := dk_4 (dk_at dksX24_work_6 5 rfl rfl)
theorem dX24_work_161 : decode cX24_work 161 = .ok (.iaload, 1) := dk_46 (dk_at dksX24_work_6 6 rfl rfl)
theorem dX24_work_162 : decode cX24_work 162 = .ok (.aload_n 2, 1) := dk_44 (dk_at dksX24_work_6 7 rfl rfl)
theorem dX24_work_163 : decode cX24_work 163 = .ok (.aload_n 1, 1) := dk_43 (dk_at dksX24_work_6 8 rfl rfl)
theorem dX24_work_164 : decode cX24_work 164 = .ok (.iconst 2, 1) := dk_5 (dk_at dksX24_work_6 9 rfl rfl)
theorem dX24_work_165 : decode cX24_work 165 = .ok (.iaload, 1) := dk_46 (dk_at dksX24_work_6 10 rfl rfl)
theorem dX24_work_166 : decode cX24_work 166 = .ok (.iaload, 1) := dk_46 (dk_at dksX24_work_6 11 rfl rfl)
theorem dX24_work_167 : decode cX24_work 167 = .ok (.aload_n 2, 1) := dk_44 (dk_at dksX24_work_6 12 rfl rfl)
theorem dX24_work_168 : decode cX24_work 168 = .ok (.aload_n 1, 1) := dk_43 (dk_at dksX24_work_6 13 rfl rfl)
theorem dX24_work_169 : decode cX24_work 169 = .ok (.iconst 3, 1) := dk_6 (dk_at dksX24_work_6 14 rfl rfl)
theorem dX24_work_170 : decode cX24_work 170 = .ok (.iaload, 1) := dk_46 (dk_at dksX24_work_6 15 rfl rfl)
theorem dX24_work_171 : decode cX24_work 171 = .ok (.iaload, 1) := dk_46 (dk_at dksX24_work_6 16 rfl rfl)
theorem dX24_work_172 : decode cX24_work 172 = .ok (.imul, 1) := dk_104 (dk_at dksX24_work_6 17 rfl rfl)
theorem dX24_work_173 : decode cX24_work 173 = .ok (.aload_n 2, 1) := dk_44 (dk_at dksX24_work_6 18 rfl rfl)
theorem dX24_work_174 : decode cX24_work 174 = .ok (.aload_n 1, 1) := dk_43 (dk_at dksX24_work_6 19 rfl rfl)
theorem dX24_work_175 : decode cX24_work 175 = .ok (.iconst 4, 1) := dk_7 (dk_at dksX24_work_6 20 rfl rfl)
theorem dX24_work_176 : decode cX24_work 176 = .ok (.iaload, 1) := dk_46 (dk_at dksX24_work_6 21 rfl rfl)
theorem dX24_work_177 : decode cX24_work 177 = .ok (.iaload, 1) := dk_46 (dk_at dksX24_work_6 22 rfl rfl)
theorem dX24_work_178 : decode cX24_work 178 = .ok (.iadd, 1) := dk_96 (dk_at dksX24_work_6 23 rfl rfl)
theorem dX24_work_179 : decode cX24_work 179 = .ok (.iastore, 1) := dk_79 (dk_at dksX24_work_7 0 rfl rfl)
theorem dX24_work_180 : decode cX24_work 180 = .ok (.goto 57, 3) := dk_167 0 57 (dk_at dksX24_work_7 1 rfl rfl)
theorem dX24_work_183 : decode cX24_work 183 = .ok (.aload_n 2, 1) := dk_44 (dk_at dksX24_work_7 4 rfl rfl)
theorem dX24_work_184 : decode cX24_work 184 = .ok (.aload_n 1, 1) := dk_43 (dk_at dksX24_work_7 5 rfl rfl)
theorem dX24_work_185 : decode cX24_work 185 = .ok (.iconst 1, 1) := dk_4 (dk_at dksX24_work_7 6 rfl rfl)
theorem dX24_work_186 : decode cX24_work 186 = .ok (.iaload, 1) := dk_46 (dk_at dksX24_work_7 7 rfl rfl)
theorem dX24_work_187 : decode cX24_work 187 = .ok (.aload_n 0, 1) := dk_42 (dk_at dksX24_work_7 8 rfl rfl)
theorem dX24_work_188 : decode cX24_work 188 = .ok (.getfield 3, 3) := dk_180 0 3 (dk_at dksX24_work_7 9 rfl rfl)
theorem dX24_work_191 : decode cX24_work 191 = .ok (.getfield 36, 3) := dk_180 0 36 (dk_at dksX24_work_7 12 rfl rfl)
theorem dX24_work_194 : decode cX24_work 194 = .ok (.aload_n 1, 1) := dk_43 (dk_at dksX24_work_7 15 rfl rfl)
theorem dX24_work_195 : decode cX24_work 195 = .ok (.iconst 2, 1) := dk_5 (dk_at dksX24_work_7 16 rfl rfl)
theorem dX24_work_196 : decode cX24_work 196 = .ok (.iaload, 1) := dk_46 (dk_at dksX24_work_7 17 rfl rfl)
theorem dX24_work_197 : decode cX24_work 197 = .ok (.iaload, 1) := dk_46 (dk_at dksX24_work_7 18 rfl rfl)
theorem dX24_work_198 : decode cX24_work 198 = .ok (.iastore, 1) := dk_79 (dk_at dksX24_work_7 19 rfl rfl)
theorem dX24_work_199 : decode cX24_work 199 = .ok (.goto 38, 3) := dk_167 0 38 (dk_at dksX24_work_7 20 rfl rfl)
theorem dX24_work_202 : decode cX24_work 202 = .ok (.aload_n 0, 1) := dk_42 (dk_at dksX24_work_7 23 rfl rfl)
theorem dX24_work_203 : decode cX24_work 203 = .ok (.getfield 3, 3) := dk_180 0 3 (dk_at dksX24_work_8 0 rfl rfl)
theorem dX24_work_206 : decode cX24_work 206 = .ok (.getfield 36, 3) := dk_180 0 36 (dk_at dksX24_work_8 3 rfl rfl)
theorem dX24_work_209 : decode cX24_work 209 = .ok (.aload_n 1, 1) := dk_43 (dk_at dksX24_work_8 6 rfl rfl)
theorem dX24_work_210 : decode cX24_work 210 = .ok (.iconst 2, 1) := dk_5 (dk_at dksX24_work_8 7 rfl rfl)
theorem dX24_work_211 : decode cX24_work 211 = .ok (.iaload, 1) := dk_46 (dk_at dksX24_work_8 8 rfl rfl)
theorem dX24_work_212 : decode cX24_work 212 = .ok (.aload_n 2, 1) := dk_44 (dk_at dksX24_work_8 9 rfl rfl)
theorem dX24_work_213 : decode cX24_work 213 = .ok (.aload_n 1, 1) := dk_43 (dk_at dksX24_work_8 10 rfl rfl)
theorem dX24_work_214 : decode cX24_work 214 = .ok (.iconst 1, 1) := dk_4 (dk_at dksX24_work_8 11 rfl rfl)
theorem dX24_work_215 : decode cX24_work 215 = .ok (.iaload, 1) := dk_46 (dk_at dksX24_work_8 12 rfl rfl)
theorem dX24_work_216 : decode cX24_work 216 = .ok (.iaload, 1) := dk_46 (dk_at dksX24_work_8 13 rfl rfl)
theorem dX24_work_217 : decode cX24_work 217 = .ok (.iastore, 1) := dk_79 (dk_at dksX24_work_8 14 rfl rfl)
theorem dX24_work_218 : decode cX24_work 218 = .ok (.goto 19, 3) := dk_167 0 19 (dk_at dksX24_work_8 15 rfl rfl)
theorem dX24_work_221 : decode cX24_work 221 = .ok (.aload_n 2, 1) := dk_44 (dk_at dksX24_work_8 18 rfl rfl)
theorem dX24_work_222 : decode cX24_work 222 = .ok (.iconst 0, 1) := dk_3 (dk_at dksX24_work_8 19 rfl rfl)
theorem dX24_work_223 : decode cX24_work 223 = .ok (.iconst 3, 1) := dk_6 (dk_at dksX24_work_8 20 rfl rfl)
theorem dX24_work_224 : decode cX24_work 224 = .ok (.aload_n 2, 1) := dk_44 (dk_at dksX24_work_8 21 rfl rfl)
theorem dX24_work_225 : decode cX24_work 225 = .ok (.iconst 0, 1) := dk_3 (dk_at dksX24_work_8 22 rfl rfl)
theorem dX24_work_226 : decode cX24_work 226 = .ok (.iaload, 1) := dk_46 (dk_at dksX24_work_8 23 rfl rfl)
theorem dX24_work_227 : decode cX24_work 227 = .ok (.imul, 1) := dk_104 (dk_at dksX24_work_9 0 rfl rfl)
theorem dX24_work_228 : decode cX24_work 228 = .ok (.iconst 2, 1) := dk_5 (dk_at dksX24_work_9 1 rfl rfl)
theorem dX24_work_229 : decode cX24_work 229 = .ok (.aload_n 2, 1) := dk_44 (dk_at dksX24_work_9 2 rfl rfl)
theorem dX24_work_230 : decode cX24_work 230 = .ok (.iconst 1, 1) := dk_4 (dk_at dksX24_work_9 3 rfl rfl)
theorem dX24_work_231 : decode cX24_work 231 = .ok (.iaload, 1) := dk_46 (dk_at dksX24_work_9 4 rfl rfl)
theorem dX24_work_232 : decode cX24_work 232 = .ok (.imul, 1) := dk_104 (dk_at dksX24_work_9 5 rfl rfl)
theorem dX24_work_233 : decode cX24_work 233 = .ok (.iadd, 1) := dk_96 (dk_at dksX24_work_9 6 rfl rfl)
theorem dX24_work_234 : decode cX24_work 234 = .ok (.iconst 1, 1) := dk_4 (dk_at dksX24_work_9 7 rfl rfl)
theorem dX24_work_235 : decode cX24_work 235 = .ok (.iadd, 1) := dk_96 (dk_at dksX24_work_9 8 rfl rfl)
theorem dX24_work_236 : decode cX24_work 236 = .ok (.iastore, 1) := dk_79 (dk_at dksX24_work_9 9 rfl rfl)
theorem dX24_work_237 : decode cX24_work 237 = .ok (.return_, 1) := dk_177 (dk_at dksX24_work_9 10 rfl rfl)
abbrev cX24_lose : ByteArray := prog_25_method_6_code
def yX24_lose : MethodName := ⟨RX24, "lose", "()V"⟩
def dkwX24_lose_3 : List UInt8 := [177]
abbrev dktX24_lose_3 : List UInt8 := dkwX24_lose_3 ++ []
def dkwX24_lose_2 : List UInt8 := [42, 180, 0, 27, 27, 27, 154, 0, 10, 42, 180, 0, 65, 167, 0, 4, 3, 79, 132, 1, 1, 167, 255, 191]
abbrev dktX24_lose_2 : List UInt8 := dkwX24_lose_2 ++ dktX24_lose_3
def dkwX24_lose_1 : List UInt8 := [182, 0, 118, 153, 0, 6, 167, 0, 36, 27, 158, 0, 14, 42, 180, 0, 3, 180, 0, 31, 27, 18, 122, 79]
abbrev dktX24_lose_1 : List UInt8 := dkwX24_lose_1 ++ dktX24_lose_2
def dkwX24_lose_0 : List UInt8 := [3, 60, 27, 42, 180, 0, 3, 180, 0, 31, 190, 162, 0, 59, 42, 180, 0, 3, 180, 0, 15, 27]
abbrev dktX24_lose_0 : List UInt8 := dkwX24_lose_0 ++ dktX24_lose_1
theorem dksX24_lose_0 : cX24_lose.data.toList.drop 0 = dktX24_lose_0 := by decide +kernel
theorem dksX24_lose_1 : cX24_lose.data.toList.drop 22 = dktX24_lose_1 := dk_seg dksX24_lose_0 22 rfl rfl
theorem dksX24_lose_2 : cX24_lose.data.toList.drop 46 = dktX24_lose_2 := dk_seg dksX24_lose_1 24 rfl rfl
theorem dksX24_lose_3 : cX24_lose.data.toList.drop 70 = dktX24_lose_3 := dk_seg dksX24_lose_2 24 rfl rfl
theorem dX24_lose_0 : decode cX24_lose 0 = .ok (.iconst 0, 1) := dk_3 (dk_at dksX24_lose_0 0 rfl rfl)
theorem dX24_lose_1 : decode cX24_lose 1 = .ok (.istore_n 1, 1) := dk_60 (dk_at dksX24_lose_0 1 rfl rfl)
theorem dX24_lose_2 : decode cX24_lose 2 = .ok (.iload_n 1, 1) := dk_27 (dk_at dksX24_lose_0 2 rfl rfl)
theorem dX24_lose_3 : decode cX24_lose 3 = .ok (.aload_n 0, 1) := dk_42 (dk_at dksX24_lose_0 3 rfl rfl)
theorem dX24_lose_4 : decode cX24_lose 4 = .ok (.getfield 3, 3) := dk_180 0 3 (dk_at dksX24_lose_0 4 rfl rfl)
theorem dX24_lose_7 : decode cX24_lose 7 = .ok (.getfield 31, 3) := dk_180 0 31 (dk_at dksX24_lose_0 7 rfl rfl)
theorem dX24_lose_10 : decode cX24_lose 10 = .ok (.arraylength, 1) := dk_190 (dk_at dksX24_lose_0 10 rfl rfl)
theorem dX24_lose_11 : decode cX24_lose 11 = .ok (.if_icmp .ge 59, 3) := dk_162 0 59 (dk_at dksX24_lose_0 11 rfl rfl)
theorem dX24_lose_14 : decode cX24_lose 14 = .ok (.aload_n 0, 1) := dk_42 (dk_at dksX24_lose_0 14 rfl rfl)
theorem dX24_lose_15 : decode cX24_lose 15 = .ok (.getfield 3, 3) := dk_180 0 3 (dk_at dksX24_lose_0 15 rfl rfl)
theorem dX24_lose_18 : decode cX24_lose 18 = .ok (.getfield 15, 3) := dk_180 0 15 (dk_at dksX24_lose_0 18 rfl rfl)
theorem dX24_lose_21 : decode cX24_lose 21 = .ok (.iload_n 1, 1) := dk_27 (dk_at dksX24_lose_0 21 rfl rfl)
theorem dX24_lose_22 : decode cX24_lose 22 = .ok (.invokevirtual 118, 3) := dk_182 0 118 (dk_at dksX24_lose_1 0 rfl rfl)
theorem dX24_lose_25 : decode cX24_lose 25 = .ok (.ifCond .eq 6, 3) := dk_153 0 6 (dk_at dksX24_lose_1 3 rfl rfl)
theorem dX24_lose_28 : decode cX24_lose 28 = .ok (.goto 36, 3) := dk_167 0 36 (dk_at dksX24_lose_1 6 rfl rfl)
theorem dX24_lose_31 : decode cX24_lose 31 = .ok (.iload_n 1, 1) := dk_27 (dk_at dksX24_lose_1 9 rfl rfl)
theorem dX24_lose_32 : decode cX24_lose 32 = .ok (.ifCond .le 14, 3) := dk_158 0 14 (dk_at dksX24_lose_1 10 rfl rfl)
theorem dX24_lose_35 : decode cX24_lose 35 = .ok (.aload_n 0, 1) := dk_42 (dk_at dksX24_lose_1 13 rfl rfl)
theorem dX24_lose_36 : decode cX24_lose 36 = .ok (.getfield 3, 3) := dk_180 0 3 (dk_at dksX24_lose_1 14 rfl rfl)
theorem dX24_lose_39 : decode cX24_lose 39 = .ok (.getfield 31, 3) := dk_180 0 31 (dk_at dksX24_lose_1 17 rfl rfl)
theorem dX24_lose_42 : decode cX24_lose 42 = .ok (.iload_n 1, 1) := dk_27 (dk_at dksX24_lose_1 20 rfl rfl)
theorem dX24_lose_43 : decode cX24_lose 43 = .ok (.ldc 122, 2) := dk_18 122 (dk_at dksX24_lose_1 21 rfl rfl)
theorem dX24_lose_45 : decode cX24_lose 45 = .ok (.iastore, 1) := dk_79 (dk_at dksX24_lose_1 23 rfl rfl)
theorem dX24_lose_46 : decode cX24_lose 46 = .ok (.aload_n 0, 1) := dk_42 (dk_at dksX24_lose_2 0 rfl rfl)
theorem dX24_lose_47 : decode cX24_lose 47 = .ok (.getfield 27, 3) := dk_180 0 27 (dk_at dksX24_lose_2 1 rfl rfl)
theorem dX24_lose_50 : decode cX24_lose 50 = .ok (.iload_n 1, 1) := dk_27 (dk_at dksX24_lose_2 4 rfl rfl)
theorem dX24_lose_51 : decode cX24_lose 51 = .ok (.iload_n 1, 1) := dk_27 (dk_at dksX24_lose_2 5 rfl rfl)
theorem dX24_lose_52 : decode cX24_lose 52 = .ok (.ifCond .ne 10, 3) := dk_154 0 10 (dk_at dksX24_lose_2 6 rfl rfl)
theorem dX24_lose_55 : decode cX24_lose 55 = .ok (.aload_n 0, 1) := dk_42 (dk_at dksX24_lose_2 9 rfl rfl)
theorem dX24_lose_56 : decode cX24_lose 56 = .ok (.getfield 65, 3) := dk_180 0 65 (dk_at dksX24_lose_2 10 rfl rfl)
theorem dX24_lose_59 : decode cX24_lose 59 = .ok (.goto 4, 3) := dk_167 0 4 (dk_at dksX24_lose_2 13 rfl rfl)
theorem dX24_lose_62 : decode cX24_lose 62 = .ok (.iconst 0, 1) := dk_3 (dk_at dksX24_lose_2 16 rfl rfl)
theorem dX24_lose_63 : decode cX24_lose 63 = .ok (.iastore, 1) := dk_79 (dk_at dksX24_lose_2 17 rfl rfl)
theorem dX24_lose_64 : decode cX24_lose 64 = .ok (.iinc 1 1, 3) := dk_132 1 1 (dk_at dksX24_lose_2 18 rfl rfl)
theorem dX24_lose_67 : decode cX24_lose 67 = .ok (.goto (-65), 3) := dk_167 255 191 (dk_at dksX24_lose_2 21 rfl rfl)
theorem dX24_lose_70 : decode cX24_lose 70 = .ok (.return_, 1) := dk_177 (dk_at dksX24_lose_3 0 rfl rfl)
theorem q170 : (Jvm.Cond.initialized "SpillslotWorksModel$Plan$Runner") ∈ lw_all := lw_g (lw_at lw_m1 51 rfl) rfl
theorem q275 : (Jvm.Cond.selects "SpillslotWorksModel$Plan$Runner" ({ cls := "java/lang/Object", name := "getClass", desc := "()Ljava/lang/Class;" } : Jvm.MethodName) ({ cls := "java/lang/Object", name := "getClass", desc := "()Ljava/lang/Class;" } : Jvm.MethodName)) ∈ lw_all := lw_g (lw_at lw_m1 156 rfl) rfl
theorem q1867 : (Jvm.Cond.fieldLink "SpillslotWorksModel$Plan$Runner" (60 : Nat) "SpillslotWorksModel$Program" "times" "[I") ∈ lw_all := lw_g (lw_at lw_m8 68 rfl) rfl
theorem q1893 : (Jvm.Cond.fieldLink "SpillslotWorksModel$Plan$Runner" (21 : Nat) "SpillslotWorksModel$Machine" "registers" "I") ∈ lw_all := lw_g (lw_at lw_m8 94 rfl) rfl
theorem q2182 : (Jvm.Cond.fieldLink "SpillslotWorksModel$Plan$Runner" (81 : Nat) "SpillslotWorksModel$Op" "block" "I") ∈ lw_all := lw_g (lw_at lw_m9 143 rfl) rfl
theorem q2320 : (Jvm.Cond.selects "SpillslotWorksModel$Plan$Runner" ({ cls := "java/lang/Object", name := "equals", desc := "(Ljava/lang/Object;)Z" } : Jvm.MethodName) ({ cls := "java/lang/Object", name := "equals", desc := "(Ljava/lang/Object;)Z" } : Jvm.MethodName)) ∈ lw_all := lw_g (lw_at lw_m10 41 rfl) rfl
theorem q2596 : (Jvm.Cond.instantiable "SpillslotWorksModel$Plan$Runner" (4 : Nat)) ∈ lw_all := lw_g (lw_at lw_m11 77 rfl) rfl
theorem q2598 : (Jvm.Cond.instanceMethod ({ cls := "SpillslotWorksModel$Plan$Runner", name := "<init>", desc := "(LSpillslotWorksModel$Plan;)V" } : Jvm.MethodName)) ∈ lw_all := lw_g (lw_at lw_m11 79 rfl) rfl
theorem q2599 : (Jvm.Cond.code ({ cls := "SpillslotWorksModel$Plan$Runner", name := "<init>", desc := "(LSpillslotWorksModel$Plan;)V" } : Jvm.MethodName) prog_25_method_1_code (2 : Nat) (Option.none : Option Jvm.ClassFile.FieldType)) ∈ lw_all := lw_g (lw_at lw_m11 80 rfl) rfl
theorem q2600 : (Jvm.Cond.methodLink "SpillslotWorksModel$Plan$Runner" (9 : Nat) ({ cls := "java/lang/Object", name := "<init>", desc := "()V" } : Jvm.MethodName)) ∈ lw_all := lw_g (lw_at lw_m11 81 rfl) rfl
theorem q2601 : (Jvm.Cond.fieldLink "SpillslotWorksModel$Plan$Runner" (27 : Nat) "SpillslotWorksModel$Plan$Runner" "ready" "[I") ∈ lw_all := lw_g (lw_at lw_m11 82 rfl) rfl
theorem q2602 : (Jvm.Cond.fieldLink "SpillslotWorksModel$Plan$Runner" (94 : Nat) "SpillslotWorksModel$Plan$Runner" "next" "I") ∈ lw_all := lw_g (lw_at lw_m11 83 rfl) rfl
theorem q2603 : (Jvm.Cond.fieldLink "SpillslotWorksModel$Plan$Runner" (65 : Nat) "SpillslotWorksModel$Plan$Runner" "end" "I") ∈ lw_all := lw_g (lw_at lw_m11 84 rfl) rfl
theorem q2604 : (Jvm.Cond.fieldLink "SpillslotWorksModel$Plan$Runner" (3 : Nat) "SpillslotWorksModel$Plan$Runner" "this$0" "LSpillslotWorksModel$Plan;") ∈ lw_all := lw_g (lw_at lw_m11 85 rfl) rfl
theorem q2605 : (Jvm.Cond.laysFinal "SpillslotWorksModel$Plan$Runner" "SpillslotWorksModel$Plan$Runner" "ready" "[I") ∈ lw_all := lw_g (lw_at lw_m11 86 rfl) rfl
theorem q2606 : (Jvm.Cond.soleField "SpillslotWorksModel$Plan$Runner" "ready") ∈ lw_all := lw_g (lw_at lw_m11 87 rfl) rfl
theorem q2607 : (Jvm.Cond.lays "SpillslotWorksModel$Plan$Runner" "SpillslotWorksModel$Plan$Runner" "next" "I") ∈ lw_all := lw_g (lw_at lw_m11 88 rfl) rfl
theorem q2608 : (Jvm.Cond.soleField "SpillslotWorksModel$Plan$Runner" "next") ∈ lw_all := lw_g (lw_at lw_m11 89 rfl) rfl
theorem q2609 : (Jvm.Cond.lays "SpillslotWorksModel$Plan$Runner" "SpillslotWorksModel$Plan$Runner" "end" "I") ∈ lw_all := lw_g (lw_at lw_m11 90 rfl) rfl
theorem q2610 : (Jvm.Cond.soleField "SpillslotWorksModel$Plan$Runner" "end") ∈ lw_all := lw_g (lw_at lw_m11 91 rfl) rfl
theorem q2611 : (Jvm.Cond.laysFinal "SpillslotWorksModel$Plan$Runner" "SpillslotWorksModel$Plan$Runner" "this$0" "LSpillslotWorksModel$Plan;") ∈ lw_all := lw_g (lw_at lw_m11 92 rfl) rfl
theorem q2612 : (Jvm.Cond.soleField "SpillslotWorksModel$Plan$Runner" "this$0") ∈ lw_all := lw_g (lw_at lw_m11 93 rfl) rfl
theorem q2613 : (Jvm.Cond.superclass "SpillslotWorksModel$Plan$Runner" "java/lang/Object") ∈ lw_all := lw_g (lw_at lw_m11 94 rfl) rfl
theorem q2615 : (Jvm.Cond.instanceMethod ({ cls := "SpillslotWorksModel$Plan$Runner", name := "go", desc := "()V" } : Jvm.MethodName)) ∈ lw_all := lw_g (lw_at lw_m11 96 rfl) rfl
theorem q2616 : (Jvm.Cond.selects "SpillslotWorksModel$Plan$Runner" ({ cls := "SpillslotWorksModel$Plan$Runner", name := "go", desc := "()V" } : Jvm.MethodName) ({ cls := "SpillslotWorksModel$Plan$Runner", name := "go", desc := "()V" } : Jvm.MethodName)) ∈ lw_all := lw_g (lw_at lw_m11 97 rfl) rfl
theorem q2617 : (Jvm.Cond.code ({ cls := "SpillslotWorksModel$Plan$Runner", name := "go", desc := "()V" } : Jvm.MethodName) prog_25_method_2_code (3 : Nat) (Option.none : Option Jvm.ClassFile.FieldType)) ∈ lw_all := lw_g (lw_at lw_m11 98 rfl) rfl
theorem q2618 : (Jvm.Cond.methodLink "SpillslotWorksModel$Plan$Runner" (43 : Nat) ({ cls := "java/util/ArrayList", name := "size", desc := "()I" } : Jvm.MethodName)) ∈ lw_all := lw_g (lw_at lw_m11 99 rfl) rfl
theorem q2619 : (Jvm.Cond.methodLink "SpillslotWorksModel$Plan$Runner" (52 : Nat) ({ cls := "SpillslotWorksModel$Plan$Runner", name := "pass", desc := "(I)V" } : Jvm.MethodName)) ∈ lw_all := lw_g (lw_at lw_m11 100 rfl) rfl
theorem q2620 : (Jvm.Cond.privateMethod ({ cls := "SpillslotWorksModel$Plan$Runner", name := "pass", desc := "(I)V" } : Jvm.MethodName)) ∈ lw_tbl := lw_at lw_m11 101 rfl
theorem q2621 : (Jvm.Cond.instanceMethod ({ cls := "SpillslotWorksModel$Plan$Runner", name := "pass", desc := "(I)V" } : Jvm.MethodName)) ∈ lw_all := lw_g (lw_at lw_m11 102 rfl) rfl
theorem q2622 : (Jvm.Cond.code ({ cls := "SpillslotWorksModel$Plan$Runner", name := "pass", desc := "(I)V" } : Jvm.MethodName) prog_25_method_3_code (3 : Nat) (Option.none : Option Jvm.ClassFile.FieldType)) ∈ lw_all := lw_g (lw_at lw_m11 103 rfl) rfl
theorem q2623 : (Jvm.Cond.methodLink "SpillslotWorksModel$Plan$Runner" (74 : Nat) ({ cls := "java/util/ArrayList", name := "get", desc := "(I)Ljava/lang/Object;" } : Jvm.MethodName)) ∈ lw_all := lw_g (lw_at lw_m11 104 rfl) rfl
theorem q2624 : (Jvm.Cond.classLink "SpillslotWorksModel$Plan$Runner" (78 : Nat) "[I") ∈ lw_all := lw_g (lw_at lw_m11 105 rfl) rfl
theorem q2625 : (Jvm.Cond.classLink "SpillslotWorksModel$Plan$Runner" (79 : Nat) "SpillslotWorksModel$Op") ∈ lw_all := lw_g (lw_at lw_m11 106 rfl) rfl
theorem q2626 : (Jvm.Cond.methodLink "SpillslotWorksModel$Plan$Runner" (84 : Nat) ({ cls := "SpillslotWorksModel$Plan$Runner", name := "step", desc := "(I[I)V" } : Jvm.MethodName)) ∈ lw_all := lw_g (lw_at lw_m11 107 rfl) rfl
theorem q2627 : (Jvm.Cond.privateMethod ({ cls := "SpillslotWorksModel$Plan$Runner", name := "step", desc := "(I[I)V" } : Jvm.MethodName)) ∈ lw_tbl := lw_at lw_m11 108 rfl
theorem q2628 : (Jvm.Cond.instanceMethod ({ cls := "SpillslotWorksModel$Plan$Runner", name := "step", desc := "(I[I)V" } : Jvm.MethodName)) ∈ lw_all := lw_g (lw_at lw_m11 109 rfl) rfl
theorem q2629 : (Jvm.Cond.code ({ cls := "SpillslotWorksModel$Plan$Runner", name := "step", desc := "(I[I)V" } : Jvm.MethodName) prog_25_method_5_code (4 : Nat) (Option.none : Option Jvm.ClassFile.FieldType)) ∈ lw_all := lw_g (lw_at lw_m11 110 rfl) rfl
theorem q2630 : (Jvm.Cond.methodLink "SpillslotWorksModel$Plan$Runner" (97 : Nat) ({ cls := "SpillslotWorksModel$Plan$Runner", name := "readyOf", desc := "([I)I" } : Jvm.MethodName)) ∈ lw_all := lw_g (lw_at lw_m11 111 rfl) rfl
theorem q2631 : (Jvm.Cond.privateMethod ({ cls := "SpillslotWorksModel$Plan$Runner", name := "readyOf", desc := "([I)I" } : Jvm.MethodName)) ∈ lw_tbl := lw_at lw_m11 112 rfl
theorem q2632 : (Jvm.Cond.instanceMethod ({ cls := "SpillslotWorksModel$Plan$Runner", name := "readyOf", desc := "([I)I" } : Jvm.MethodName)) ∈ lw_all := lw_g (lw_at lw_m11 113 rfl) rfl
theorem q2633 : (Jvm.Cond.code ({ cls := "SpillslotWorksModel$Plan$Runner", name := "readyOf", desc := "([I)I" } : Jvm.MethodName) prog_25_method_4_code (2 : Nat) (Option.some Jvm.ClassFile.FieldType.int)) ∈ lw_all := lw_g (lw_at lw_m11 114 rfl) rfl
theorem q2634 : (Jvm.Cond.methodLink "SpillslotWorksModel$Plan$Runner" (88 : Nat) ({ cls := "java/lang/Math", name := "max", desc := "(II)I" } : Jvm.MethodName)) ∈ lw_all := lw_g (lw_at lw_m11 115 rfl) rfl
theorem q2635 : (Jvm.Cond.methodLink "SpillslotWorksModel$Plan$Runner" (104 : Nat) ({ cls := "SpillslotWorksModel$Program", name := "latency", desc := "(I)I" } : Jvm.MethodName)) ∈ lw_all := lw_g (lw_at lw_m11 116 rfl) rfl
theorem q2636 : (Jvm.Cond.methodLink "SpillslotWorksModel$Plan$Runner" (111 : Nat) ({ cls := "SpillslotWorksModel$Plan$Runner", name := "work", desc := "([I)V" } : Jvm.MethodName)) ∈ lw_all := lw_g (lw_at lw_m11 117 rfl) rfl
theorem q2637 : (Jvm.Cond.privateMethod ({ cls := "SpillslotWorksModel$Plan$Runner", name := "work", desc := "([I)V" } : Jvm.MethodName)) ∈ lw_tbl := lw_at lw_m11 118 rfl
theorem q2638 : (Jvm.Cond.instanceMethod ({ cls := "SpillslotWorksModel$Plan$Runner", name := "work", desc := "([I)V" } : Jvm.MethodName)) ∈ lw_all := lw_g (lw_at lw_m11 119 rfl) rfl
theorem q2639 : (Jvm.Cond.code ({ cls := "SpillslotWorksModel$Plan$Runner", name := "work", desc := "([I)V" } : Jvm.MethodName) prog_25_method_7_code (3 : Nat) (Option.none : Option Jvm.ClassFile.FieldType)) ∈ lw_all := lw_g (lw_at lw_m11 120 rfl) rfl
theorem q2640 : (Jvm.Cond.methodLink "SpillslotWorksModel$Plan$Runner" (115 : Nat) ({ cls := "SpillslotWorksModel$Plan$Runner", name := "lose", desc := "()V" } : Jvm.MethodName)) ∈ lw_all := lw_g (lw_at lw_m11 121 rfl) rfl
theorem q2641 : (Jvm.Cond.privateMethod ({ cls := "SpillslotWorksModel$Plan$Runner", name := "lose", desc := "()V" } : Jvm.MethodName)) ∈ lw_tbl := lw_at lw_m11 122 rfl
theorem q2642 : (Jvm.Cond.instanceMethod ({ cls := "SpillslotWorksModel$Plan$Runner", name := "lose", desc := "()V" } : Jvm.MethodName)) ∈ lw_all := lw_g (lw_at lw_m11 123 rfl) rfl
theorem q2643 : (Jvm.Cond.code ({ cls := "SpillslotWorksModel$Plan$Runner", name := "lose", desc := "()V" } : Jvm.MethodName) prog_25_method_6_code (2 : Nat) (Option.none : Option Jvm.ClassFile.FieldType)) ∈ lw_all := lw_g (lw_at lw_m11 124 rfl) rfl
theorem q2644 : (Jvm.Cond.methodLink "SpillslotWorksModel$Plan$Runner" (118 : Nat) ({ cls := "SpillslotWorksModel$Machine", name := "isKept", desc := "(I)Z" } : Jvm.MethodName)) ∈ lw_all := lw_g (lw_at lw_m11 125 rfl) rfl
theorem q2645 : (Jvm.Cond.constant "SpillslotWorksModel$Plan$Runner" (122 : Nat) (-77777 : Int32)) ∈ lw_all := lw_g (lw_at lw_m11 126 rfl) rfl
theorem q2647 : (Jvm.Cond.fieldLink "SpillslotWorksModel$Plan$Runner" (56 : Nat) "SpillslotWorksModel$Plan" "program" "LSpillslotWorksModel$Program;") ∈ lw_all := lw_g (lw_at lw_m11 128 rfl) rfl
theorem q2648 : (Jvm.Cond.fieldLink "SpillslotWorksModel$Plan$Runner" (15 : Nat) "SpillslotWorksModel$Plan" "machine" "LSpillslotWorksModel$Machine;") ∈ lw_all := lw_g (lw_at lw_m11 129 rfl) rfl
theorem q2653 : (Jvm.Cond.fieldLink "SpillslotWorksModel$Plan$Runner" (71 : Nat) "SpillslotWorksModel$Plan" "ops" "Ljava/util/ArrayList;") ∈ lw_all := lw_g (lw_at lw_m11 134 rfl) rfl
theorem q2662 : (Jvm.Cond.fieldLink "SpillslotWorksModel$Plan$Runner" (33 : Nat) "SpillslotWorksModel$Plan" "slots" "I") ∈ lw_all := lw_g (lw_at lw_m11 143 rfl) rfl
theorem q2666 : (Jvm.Cond.fieldLink "SpillslotWorksModel$Plan$Runner" (39 : Nat) "SpillslotWorksModel$Plan" "code" "Ljava/util/ArrayList;") ∈ lw_all := lw_g (lw_at lw_m11 147 rfl) rfl
theorem q2668 : (Jvm.Cond.fieldLink "SpillslotWorksModel$Plan$Runner" (108 : Nat) "SpillslotWorksModel$Plan" "ran" "I") ∈ lw_all := lw_g (lw_at lw_m11 149 rfl) rfl
theorem q2671 : (Jvm.Cond.fieldLink "SpillslotWorksModel$Plan$Runner" (68 : Nat) "SpillslotWorksModel$Plan" "cycles" "I") ∈ lw_all := lw_g (lw_at lw_m11 152 rfl) rfl
theorem q2674 : (Jvm.Cond.fieldLink "SpillslotWorksModel$Plan$Runner" (101 : Nat) "SpillslotWorksModel$Plan" "stalls" "I") ∈ lw_all := lw_g (lw_at lw_m11 155 rfl) rfl
theorem q2677 : (Jvm.Cond.fieldLink "SpillslotWorksModel$Plan$Runner" (31 : Nat) "SpillslotWorksModel$Plan" "registers" "[I") ∈ lw_all := lw_g (lw_at lw_m11 158 rfl) rfl
theorem q2679 : (Jvm.Cond.fieldLink "SpillslotWorksModel$Plan$Runner" (36 : Nat) "SpillslotWorksModel$Plan" "memory" "[I") ∈ lw_all := lw_g (lw_at lw_m11 160 rfl) rfl
theorem q2681 : (Jvm.Cond.fieldLink "SpillslotWorksModel$Plan$Runner" (49 : Nat) "SpillslotWorksModel$Plan" "begins" "[I") ∈ lw_all := lw_g (lw_at lw_m11 162 rfl) rfl
theorem q2887 : (Jvm.Cond.castable "SpillslotWorksModel$Plan$Runner" "java/lang/Object") ∈ lw_tbl := lw_at lw_m12 128 rfl
theorem in_X24 : ∀ w ∈ wsX240, w ∈ lw_all := lw_in wsX240 [2605, 2607, 2609, 2611] (by decide +kernel) (by decide +kernel)
