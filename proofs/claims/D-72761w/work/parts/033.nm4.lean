/-! SignalWaves$Book -/
set_option maxRecDepth 100000
def RX1 : String := "SignalWaves$Book"
def TX1 : u_T := fun k => match k with
  | 0 => ("SignalWaves$Book", "top", "LSignalWaves$Scope;", true)
  | 1 => ("SignalWaves$Book", "scopes", "Ljava/util/List;", true)
  | _ => ("SignalWaves$Book", "nodes", "Ljava/util/List;", true)
def tyX1 : Nat → FieldType := fun k => match k with
  | 0 => .object "SignalWaves$Scope"
  | 1 => .object "java/util/List"
  | _ => .object "java/util/List"
abbrev wsX10 : List Cond := u_ws RX1 TX1 3
theorem nmX1 : ∀ a, a < 3 → ∀ b, b < 3 → a ≠ b → (TX1 a).2.1 ≠ (TX1 b).2.1 := by decide +kernel
theorem tyX1_ok : ∀ k, k < 3 → parseFieldDescriptor (TX1 k).2.2.1 = some (tyX1 k) := by decide +kernel
abbrev cX1_init : ByteArray := prog_3_method_1_code
def yX1_init : MethodName := ⟨RX1, "<init>", "()V"⟩
def dkwX1_init_1 : List UInt8 := [183, 0, 22, 181, 0, 23, 42, 187, 0, 20, 89, 183, 0, 22, 181, 0, 27, 177]
abbrev dktX1_init_1 : List UInt8 := dkwX1_init_1 ++ []
def dkwX1_init_0 : List UInt8 := [42, 183, 0, 3, 42, 187, 0, 9, 89, 16, 247, 1, 3, 183, 0, 11, 181, 0, 14, 42, 187, 0, 20, 89]
abbrev dktX1_init_0 : List UInt8 := dkwX1_init_0 ++ dktX1_init_1
theorem dksX1_init_0 : cX1_init.data.toList.drop 0 = dktX1_init_0 := by decide +kernel
theorem dksX1_init_1 : cX1_init.data.toList.drop 24 = dktX1_init_1 := dk_seg dksX1_init_0 24 rfl rfl
theorem dX1_init_0 : decode cX1_init 0 = .ok (.aload_n 0, 1) := dk_42 (dk_at dksX1_init_0 0 rfl rfl)
theorem dX1_init_1 : decode cX1_init 1 = .ok (.invokespecial 3, 3) := dk_183 0 3 (dk_at dksX1_init_0 1 rfl rfl)
theorem dX1_init_4 : decode cX1_init 4 = .ok (.aload_n 0, 1) := dk_42 (dk_at dksX1_init_0 4 rfl rfl)
theorem dX1_init_5 : decode cX1_init 5 = .ok (.new 9, 3) := dk_187 0 9 (dk_at dksX1_init_0 5 rfl rfl)
theorem dX1_init_8 : decode cX1_init 8 = .ok (.dup, 1) := dk_89 (dk_at dksX1_init_0 8 rfl rfl)
theorem dX1_init_9 : decode cX1_init 9 = .ok (.bipush (-9), 2) := dk_16 247 (dk_at dksX1_init_0 9 rfl rfl)
theorem dX1_init_11 : decode cX1_init 11 = .ok (.aconst_null, 1) := dk_1 (dk_at dksX1_init_0 11 rfl rfl)
theorem dX1_init_12 : decode cX1_init 12 = .ok (.iconst 0, 1) := dk_3 (dk_at dksX1_init_0 12 rfl rfl)
theorem dX1_init_13 : decode cX1_init 13 = .ok (.invokespecial 11, 3) := dk_183 0 11 (dk_at dksX1_init_0 13 rfl rfl)
theorem dX1_init_16 : decode cX1_init 16 = .ok (.putfield 14, 3) := dk_181 0 14 (dk_at dksX1_init_0 16 rfl rfl)
theorem dX1_init_19 : decode cX1_init 19 = .ok (.aload_n 0, 1) := dk_42 (dk_at dksX1_init_0 19 rfl rfl)
theorem dX1_init_20 : decode cX1_init 20 = .ok (.new 20, 3) := dk_187 0 20 (dk_at dksX1_init_0 20 rfl rfl)
theorem dX1_init_23 : decode cX1_init 23 = .ok (.dup, 1) := dk_89 (dk_at dksX1_init_0 23 rfl rfl)
theorem dX1_init_24 : decode cX1_init 24 = .ok (.invokespecial 22, 3) := dk_183 0 22 (dk_at dksX1_init_1 0 rfl rfl)
theorem dX1_init_27 : decode cX1_init 27 = .ok (.putfield 23, 3) := dk_181 0 23 (dk_at dksX1_init_1 3 rfl rfl)
theorem dX1_init_30 : decode cX1_init 30 = .ok (.aload_n 0, 1) := dk_42 (dk_at dksX1_init_1 6 rfl rfl)
theorem dX1_init_31 : decode cX1_init 31 = .ok (.new 20, 3) := dk_187 0 20 (dk_at dksX1_init_1 7 rfl rfl)
theorem dX1_init_34 : decode cX1_init 34 = .ok (.dup, 1) := dk_89 (dk_at dksX1_init_1 10 rfl rfl)
theorem dX1_init_35 : decode cX1_init 35 = .ok (.invokespecial 22, 3) := dk_183 0 22 (dk_at dksX1_init_1 11 rfl rfl)
theorem dX1_init_38 : decode cX1_init 38 = .ok (.putfield 27, 3) := dk_181 0 27 (dk_at dksX1_init_1 14 rfl rfl)
theorem dX1_init_41 : decode cX1_init 41 = .ok (.return_, 1) := dk_177 (dk_at dksX1_init_1 17 rfl rfl)
abbrev cX1_many : ByteArray := prog_3_method_2_code
def yX1_many : MethodName := ⟨RX1, "many", "(I)I"⟩
def dkwX1_many_2 : List UInt8 := [3, 96, 61, 167, 255, 219, 28, 172]
abbrev dktX1_many_2 : List UInt8 := dkwX1_many_2 ++ []
def dkwX1_many_1 : List UInt8 := [185, 0, 42, 1, 0, 192, 0, 46, 58, 4, 28, 25, 4, 180, 0, 48, 27, 160, 0, 7, 4, 167, 0, 4]
abbrev dktX1_many_1 : List UInt8 := dkwX1_many_1 ++ dktX1_many_2
def dkwX1_many_0 : List UInt8 := [3, 61, 42, 180, 0, 27, 185, 0, 30, 1, 0, 78, 45, 185, 0, 36, 1, 0, 153, 0, 34, 45]
abbrev dktX1_many_0 : List UInt8 := dkwX1_many_0 ++ dktX1_many_1
theorem dksX1_many_0 : cX1_many.data.toList.drop 0 = dktX1_many_0 := by decide +kernel
theorem dksX1_many_1 : cX1_many.data.toList.drop 22 = dktX1_many_1 := dk_seg dksX1_many_0 22 rfl rfl
theorem dksX1_many_2 : cX1_many.data.toList.drop 46 = dktX1_many_2 := dk_seg dksX1_many_1 24 rfl rfl
theorem dX1_many_0 : decode cX1_many 0 = .ok (.iconst 0, 1) := dk_3 (dk_at dksX1_many_0 0 rfl rfl)
theorem dX1_many_1 : decode cX1_many 1 = .ok (.istore_n 2, 1) := dk_61 (dk_at dksX1_many_0 1 rfl rfl)
theorem dX1_many_2 : decode cX1_many 2 = .ok (.aload_n 0, 1) := dk_42 (dk_at dksX1_many_0 2 rfl rfl)
theorem dX1_many_3 : decode cX1_many 3 = .ok (.getfield 27, 3) := dk_180 0 27 (dk_at dksX1_many_0 3 rfl rfl)
theorem dX1_many_6 : decode cX1_many 6 = .ok (.invokeinterface 30 1, 5) := by decide +kernel
theorem dX1_many_11 : decode cX1_many 11 = .ok (.astore_n 3, 1) := dk_78 (dk_at dksX1_many_0 11 rfl rfl)
theorem dX1_many_12 : decode cX1_many 12 = .ok (.aload_n 3, 1) := dk_45 (dk_at dksX1_many_0 12 rfl rfl)
theorem dX1_many_13 : decode cX1_many 13 = .ok (.invokeinterface 36 1, 5) := by decide +kernel
theorem dX1_many_18 : decode cX1_many 18 = .ok (.ifCond .eq 34, 3) := dk_153 0 34 (dk_at dksX1_many_0 18 rfl rfl)
theorem dX1_many_21 : decode cX1_many 21 = .ok (.aload_n 3, 1) := dk_45 (dk_at dksX1_many_0 21 rfl rfl)
theorem dX1_many_22 : decode cX1_many 22 = .ok (.invokeinterface 42 1, 5) := by decide +kernel
theorem dX1_many_27 : decode cX1_many 27 = .ok (.checkcast 46, 3) := dk_192 0 46 (dk_at dksX1_many_1 5 rfl rfl)
theorem dX1_many_30 : decode cX1_many 30 = .ok (.astore 4, 2) := dk_58 4 (dk_at dksX1_many_1 8 rfl rfl)
theorem dX1_many_32 : decode cX1_many 32 = .ok (.iload_n 2, 1) := dk_28 (dk_at dksX1_many_1 10 rfl rfl)
theorem dX1_many_33 : decode cX1_many 33 = .ok (.aload 4, 2) := dk_25 4 (dk_at dksX1_many_1 11 rfl rfl)
theorem dX1_many_35 : decode cX1_many 35 = .ok (.getfield 48, 3) := dk_180 0 48 (dk_at dksX1_many_1 13 rfl rfl)
theorem dX1_many_38 : decode cX1_many 38 = .ok (.iload_n 1, 1) := dk_27 (dk_at dksX1_many_1 16 rfl rfl)
theorem dX1_many_39 : decode cX1_many 39 = .ok (.if_icmp .ne 7, 3) := dk_160 0 7 (dk_at dksX1_many_1 17 rfl rfl)
theorem dX1_many_42 : decode cX1_many 42 = .ok (.iconst 1, 1) := dk_4 (dk_at dksX1_many_1 20 rfl rfl)
theorem dX1_many_43 : decode cX1_many 43 = .ok (.goto 4, 3) := dk_167 0 4 (dk_at dksX1_many_1 21 rfl rfl)
theorem dX1_many_46 : decode cX1_many 46 = .ok (.iconst 0, 1) := dk_3 (dk_at dksX1_many_2 0 rfl rfl)
theorem dX1_many_47 : decode cX1_many 47 = .ok (.iadd, 1) := dk_96 (dk_at dksX1_many_2 1 rfl rfl)
theorem dX1_many_48 : decode cX1_many 48 = .ok (.istore_n 2, 1) := dk_61 (dk_at dksX1_many_2 2 rfl rfl)
theorem dX1_many_49 : decode cX1_many 49 = .ok (.goto (-37), 3) := dk_167 255 219 (dk_at dksX1_many_2 3 rfl rfl)
theorem dX1_many_52 : decode cX1_many 52 = .ok (.iload_n 2, 1) := dk_28 (dk_at dksX1_many_2 6 rfl rfl)
theorem dX1_many_53 : decode cX1_many 53 = .ok (.ireturn, 1) := dk_172 (dk_at dksX1_many_2 7 rfl rfl)
abbrev cX1_works : ByteArray := prog_3_method_3_code
def yX1_works : MethodName := ⟨RX1, "works", "([I)V"⟩
def dkwX1_works_2 : List UInt8 := [45, 43, 182, 0, 64, 79, 132, 2, 1, 167, 255, 205, 177]
abbrev dktX1_works_2 : List UInt8 := dkwX1_works_2 ++ []
def dkwX1_works_1 : List UInt8 := [185, 0, 56, 2, 0, 192, 0, 46, 180, 0, 60, 78, 43, 28, 45, 199, 0, 9, 43, 28, 46, 167, 0, 8]
abbrev dktX1_works_1 : List UInt8 := dkwX1_works_1 ++ dktX1_works_2
def dkwX1_works_0 : List UInt8 := [3, 61, 28, 42, 180, 0, 27, 185, 0, 52, 1, 0, 162, 0, 44, 42, 180, 0, 27, 28]
abbrev dktX1_works_0 : List UInt8 := dkwX1_works_0 ++ dktX1_works_1
theorem dksX1_works_0 : cX1_works.data.toList.drop 0 = dktX1_works_0 := by decide +kernel
theorem dksX1_works_1 : cX1_works.data.toList.drop 20 = dktX1_works_1 := dk_seg dksX1_works_0 20 rfl rfl
theorem dksX1_works_2 : cX1_works.data.toList.drop 44 = dktX1_works_2 := dk_seg dksX1_works_1 24 rfl rfl
theorem dX1_works_0 : decode cX1_works 0 = .ok (.iconst 0, 1) := dk_3 (dk_at dksX1_works_0 0 rfl rfl)
theorem dX1_works_1 : decode cX1_works 1 = .ok (.istore_n 2, 1) := dk_61 (dk_at dksX1_works_0 1 rfl rfl)
theorem dX1_works_2 : decode cX1_works 2 = .ok (.iload_n 2, 1) := dk_28 (dk_at dksX1_works_0 2 rfl rfl)
theorem dX1_works_3 : decode cX1_works 3 = .ok (.aload_n 0, 1) := dk_42 (dk_at dksX1_works_0 3 rfl rfl)
theorem dX1_works_4 : decode cX1_works 4 = .ok (.getfield 27, 3) := dk_180 0 27 (dk_at dksX1_works_0 4 rfl rfl)
theorem dX1_works_7 : decode cX1_works 7 = .ok (.invokeinterface 52 1, 5) := by decide +kernel
theorem dX1_works_12 : decode cX1_works 12 = .ok (.if_icmp .ge 44, 3) := dk_162 0 44 (dk_at dksX1_works_0 12 rfl rfl)
theorem dX1_works_15 : decode cX1_works 15 = .ok (.aload_n 0, 1) := dk_42 (dk_at dksX1_works_0 15 rfl rfl)
theorem dX1_works_16 : decode cX1_works 16 = .ok (.getfield 27, 3) := dk_180 0 27 (dk_at dksX1_works_0 16 rfl rfl)
theorem dX1_works_19 : decode cX1_works 19 = .ok (.iload_n 2, 1) := dk_28 (dk_at dksX1_works_0 19 rfl rfl)
theorem dX1_works_20 : decode cX1_works 20 = .ok (.invokeinterface 56 2, 5) := by decide +kernel
theorem dX1_works_25 : decode cX1_works 25 = .ok (.checkcast 46, 3) := dk_192 0 46 (dk_at dksX1_works_1 5 rfl rfl)
theorem dX1_works_28 : decode cX1_works 28 = .ok (.getfield 60, 3) := dk_180 0 60 (dk_at dksX1_works_1 8 rfl rfl)
theorem dX1_works_31 : decode cX1_works 31 = .ok (.astore_n 3, 1) := dk_78 (dk_at dksX1_works_1 11 rfl rfl)
theorem dX1_works_32 : decode cX1_works 32 = .ok (.aload_n 1, 1) := dk_43 (dk_at dksX1_works_1 12 rfl rfl)
theorem dX1_works_33 : decode cX1_works 33 = .ok (.iload_n 2, 1) := dk_28 (dk_at dksX1_works_1 13 rfl rfl)
theorem dX1_works_34 : decode cX1_works 34 = .ok (.aload_n 3, 1) := dk_45 (dk_at dksX1_works_1 14 rfl rfl)
theorem dX1_works_35 : decode cX1_works 35 = .ok (.ifnonnull 9, 3) := dk_199 0 9 (dk_at dksX1_works_1 15 rfl rfl)
theorem dX1_works_38 : decode cX1_works 38 = .ok (.aload_n 1, 1) := dk_43 (dk_at dksX1_works_1 18 rfl rfl)
theorem dX1_works_39 : decode cX1_works 39 = .ok (.iload_n 2, 1) := dk_28 (dk_at dksX1_works_1 19 rfl rfl)
theorem dX1_works_40 : decode cX1_works 40 = .ok (.iaload, 1) := dk_46 (dk_at dksX1_works_1 20 rfl rfl)
theorem dX1_works_41 : decode cX1_works 41 = .ok (.goto 8, 3) := dk_167 0 8 (dk_at dksX1_works_1 21 rfl rfl)
theorem dX1_works_44 : decode cX1_works 44 = .ok (.aload_n 3, 1) := dk_45 (dk_at dksX1_works_2 0 rfl rfl)
theorem dX1_works_45 : decode cX1_works 45 = .ok (.aload_n 1, 1) := dk_43 (dk_at dksX1_works_2 1 rfl rfl)
theorem dX1_works_46 : decode cX1_works 46 = .ok (.invokevirtual 64, 3) := dk_182 0 64 (dk_at dksX1_works_2 2 rfl rfl)
theorem dX1_works_49 : decode cX1_works 49 = .ok (.iastore, 1) := dk_79 (dk_at dksX1_works_2 5 rfl rfl)
theorem dX1_works_50 : decode cX1_works 50 = .ok (.iinc 2 1, 3) := dk_132 2 1 (dk_at dksX1_works_2 6 rfl rfl)
theorem dX1_works_53 : decode cX1_works 53 = .ok (.goto (-51), 3) := dk_167 255 205 (dk_at dksX1_works_2 9 rfl rfl)
theorem dX1_works_56 : decode cX1_works 56 = .ok (.return_, 1) := dk_177 (dk_at dksX1_works_2 12 rfl rfl)
theorem q95 : (Jvm.Cond.initialized "SignalWaves$Book") ∈ lw_all := lw_g (lw_at lw_m1 2 rfl) rfl
theorem q166 : (Jvm.Cond.instantiable "SignalWaves$Book" (3 : Nat)) ∈ lw_all := lw_g (lw_at lw_m1 73 rfl) rfl
theorem q168 : (Jvm.Cond.instanceMethod ({ cls := "SignalWaves$Book", name := "<init>", desc := "()V" } : Jvm.MethodName)) ∈ lw_all := lw_g (lw_at lw_m1 75 rfl) rfl
theorem q169 : (Jvm.Cond.code ({ cls := "SignalWaves$Book", name := "<init>", desc := "()V" } : Jvm.MethodName) prog_3_method_1_code (1 : Nat) (Option.none : Option Jvm.ClassFile.FieldType)) ∈ lw_all := lw_g (lw_at lw_m1 76 rfl) rfl
theorem q170 : (Jvm.Cond.methodLink "SignalWaves$Book" (3 : Nat) ({ cls := "java/lang/Object", name := "<init>", desc := "()V" } : Jvm.MethodName)) ∈ lw_all := lw_g (lw_at lw_m1 77 rfl) rfl
theorem q171 : (Jvm.Cond.classLink "SignalWaves$Book" (9 : Nat) "SignalWaves$Scope") ∈ lw_all := lw_g (lw_at lw_m1 78 rfl) rfl
theorem q173 : (Jvm.Cond.methodLink "SignalWaves$Book" (11 : Nat) ({ cls := "SignalWaves$Scope", name := "<init>", desc := "(ILSignalWaves$Scope;I)V" } : Jvm.MethodName)) ∈ lw_all := lw_g (lw_at lw_m1 80 rfl) rfl
theorem q249 : (Jvm.Cond.classLink "SignalWaves$Book" (20 : Nat) "java/util/ArrayList") ∈ lw_all := lw_g (lw_at lw_m1 156 rfl) rfl
theorem q251 : (Jvm.Cond.methodLink "SignalWaves$Book" (22 : Nat) ({ cls := "java/util/ArrayList", name := "<init>", desc := "()V" } : Jvm.MethodName)) ∈ lw_all := lw_g (lw_at lw_m1 158 rfl) rfl
theorem q278 : (Jvm.Cond.fieldLink "SignalWaves$Book" (14 : Nat) "SignalWaves$Book" "top" "LSignalWaves$Scope;") ∈ lw_all := lw_g (lw_at lw_m1 185 rfl) rfl
theorem q281 : (Jvm.Cond.fieldLink "SignalWaves$Book" (23 : Nat) "SignalWaves$Book" "scopes" "Ljava/util/List;") ∈ lw_all := lw_g (lw_at lw_m1 188 rfl) rfl
theorem q284 : (Jvm.Cond.fieldLink "SignalWaves$Book" (27 : Nat) "SignalWaves$Book" "nodes" "Ljava/util/List;") ∈ lw_all := lw_g (lw_at lw_m1 191 rfl) rfl
theorem q287 : (Jvm.Cond.laysFinal "SignalWaves$Book" "SignalWaves$Book" "top" "LSignalWaves$Scope;") ∈ lw_all := lw_g (lw_at lw_m1 194 rfl) rfl
theorem q288 : (Jvm.Cond.soleField "SignalWaves$Book" "top") ∈ lw_all := lw_g (lw_at lw_m1 195 rfl) rfl
theorem q289 : (Jvm.Cond.laysFinal "SignalWaves$Book" "SignalWaves$Book" "scopes" "Ljava/util/List;") ∈ lw_all := lw_g (lw_at lw_m1 196 rfl) rfl
theorem q290 : (Jvm.Cond.soleField "SignalWaves$Book" "scopes") ∈ lw_all := lw_g (lw_at lw_m1 197 rfl) rfl
theorem q291 : (Jvm.Cond.laysFinal "SignalWaves$Book" "SignalWaves$Book" "nodes" "Ljava/util/List;") ∈ lw_all := lw_g (lw_at lw_m1 198 rfl) rfl
theorem q292 : (Jvm.Cond.soleField "SignalWaves$Book" "nodes") ∈ lw_all := lw_g (lw_at lw_m1 199 rfl) rfl
theorem q293 : (Jvm.Cond.superclass "SignalWaves$Book" "java/lang/Object") ∈ lw_all := lw_g (lw_at lw_m1 200 rfl) rfl
theorem q1429 : (Jvm.Cond.selects "SignalWaves$Book" ({ cls := "java/lang/Object", name := "getClass", desc := "()Ljava/lang/Class;" } : Jvm.MethodName) ({ cls := "java/lang/Object", name := "getClass", desc := "()Ljava/lang/Class;" } : Jvm.MethodName)) ∈ lw_all := lw_g (lw_at lw_m6 136 rfl) rfl
theorem q1481 : (Jvm.Cond.instanceMethod ({ cls := "SignalWaves$Book", name := "many", desc := "(I)I" } : Jvm.MethodName)) ∈ lw_all := lw_g (lw_at lw_m6 188 rfl) rfl
theorem q1482 : (Jvm.Cond.selects "SignalWaves$Book" ({ cls := "SignalWaves$Book", name := "many", desc := "(I)I" } : Jvm.MethodName) ({ cls := "SignalWaves$Book", name := "many", desc := "(I)I" } : Jvm.MethodName)) ∈ lw_all := lw_g (lw_at lw_m6 189 rfl) rfl
theorem q1483 : (Jvm.Cond.code ({ cls := "SignalWaves$Book", name := "many", desc := "(I)I" } : Jvm.MethodName) prog_3_method_2_code (5 : Nat) (Option.some Jvm.ClassFile.FieldType.int)) ∈ lw_all := lw_g (lw_at lw_m6 190 rfl) rfl
theorem q1484 : (Jvm.Cond.interfaceEntry "SignalWaves$Book" (30 : Nat)) ∈ lw_tbl := lw_at lw_m6 191 rfl
theorem q1485 : (Jvm.Cond.methodLink "SignalWaves$Book" (30 : Nat) ({ cls := "java/util/List", name := "iterator", desc := "()Ljava/util/Iterator;" } : Jvm.MethodName)) ∈ lw_all := lw_g (lw_at lw_m6 192 rfl) rfl
theorem q1512 : (Jvm.Cond.interfaceEntry "SignalWaves$Book" (36 : Nat)) ∈ lw_tbl := lw_at lw_m6 219 rfl
theorem q1513 : (Jvm.Cond.methodLink "SignalWaves$Book" (36 : Nat) ({ cls := "java/util/Iterator", name := "hasNext", desc := "()Z" } : Jvm.MethodName)) ∈ lw_all := lw_g (lw_at lw_m6 220 rfl) rfl
theorem q1514 : (Jvm.Cond.interfaceEntry "SignalWaves$Book" (42 : Nat)) ∈ lw_tbl := lw_at lw_m6 221 rfl
theorem q1515 : (Jvm.Cond.methodLink "SignalWaves$Book" (42 : Nat) ({ cls := "java/util/Iterator", name := "next", desc := "()Ljava/lang/Object;" } : Jvm.MethodName)) ∈ lw_all := lw_g (lw_at lw_m6 222 rfl) rfl
theorem q1516 : (Jvm.Cond.classLink "SignalWaves$Book" (46 : Nat) "SignalWaves$Node") ∈ lw_all := lw_g (lw_at lw_m6 223 rfl) rfl
theorem q1527 : (Jvm.Cond.fieldLinkNest "SignalWaves$Book" (48 : Nat) "SignalWaves$Node" "kind" "I" "SignalWaves") ∈ lw_tbl := lw_at lw_m6 234 rfl
theorem q1534 : (Jvm.Cond.fieldLinkNest "SignalWaves$Book" (60 : Nat) "SignalWaves$Node" "by" "LSignalWaves$Expr;" "SignalWaves") ∈ lw_tbl := lw_at lw_m7 1 rfl
theorem q1674 : (Jvm.Cond.selects "SignalWaves$Book" ({ cls := "java/lang/Object", name := "equals", desc := "(Ljava/lang/Object;)Z" } : Jvm.MethodName) ({ cls := "java/lang/Object", name := "equals", desc := "(Ljava/lang/Object;)Z" } : Jvm.MethodName)) ∈ lw_all := lw_g (lw_at lw_m7 141 rfl) rfl
theorem q1753 : (Jvm.Cond.instanceMethod ({ cls := "SignalWaves$Book", name := "works", desc := "([I)V" } : Jvm.MethodName)) ∈ lw_all := lw_g (lw_at lw_m7 220 rfl) rfl
theorem q1754 : (Jvm.Cond.selects "SignalWaves$Book" ({ cls := "SignalWaves$Book", name := "works", desc := "([I)V" } : Jvm.MethodName) ({ cls := "SignalWaves$Book", name := "works", desc := "([I)V" } : Jvm.MethodName)) ∈ lw_all := lw_g (lw_at lw_m7 221 rfl) rfl
theorem q1755 : (Jvm.Cond.code ({ cls := "SignalWaves$Book", name := "works", desc := "([I)V" } : Jvm.MethodName) prog_3_method_3_code (4 : Nat) (Option.none : Option Jvm.ClassFile.FieldType)) ∈ lw_all := lw_g (lw_at lw_m7 222 rfl) rfl
theorem q1756 : (Jvm.Cond.interfaceEntry "SignalWaves$Book" (52 : Nat)) ∈ lw_tbl := lw_at lw_m7 223 rfl
theorem q1757 : (Jvm.Cond.methodLink "SignalWaves$Book" (52 : Nat) ({ cls := "java/util/List", name := "size", desc := "()I" } : Jvm.MethodName)) ∈ lw_all := lw_g (lw_at lw_m7 224 rfl) rfl
theorem q1758 : (Jvm.Cond.interfaceEntry "SignalWaves$Book" (56 : Nat)) ∈ lw_tbl := lw_at lw_m7 225 rfl
theorem q1759 : (Jvm.Cond.methodLink "SignalWaves$Book" (56 : Nat) ({ cls := "java/util/List", name := "get", desc := "(I)Ljava/lang/Object;" } : Jvm.MethodName)) ∈ lw_all := lw_g (lw_at lw_m7 226 rfl) rfl
theorem q1760 : (Jvm.Cond.methodLink "SignalWaves$Book" (64 : Nat) ({ cls := "SignalWaves$Expr", name := "worked", desc := "([I)I" } : Jvm.MethodName)) ∈ lw_all := lw_g (lw_at lw_m7 227 rfl) rfl
theorem q3109 : (Jvm.Cond.castable "SignalWaves$Book" "java/lang/Object") ∈ lw_tbl := lw_at lw_m13 136 rfl
theorem in_X1 : ∀ w ∈ wsX10, w ∈ lw_all := lw_in wsX10 [287, 289, 291] (by decide +kernel) (by decide +kernel)

/-! SignalWaves$Named -/
set_option maxRecDepth 100000
def RX2 : String := "SignalWaves$Named"
abbrev cX2_init : ByteArray := prog_8_method_1_code
def yX2_init : MethodName := ⟨RX2, "<init>", "(ILSignalWaves$Scope;I)V"⟩
def dkwX2_init_0 : List UInt8 := [42, 183, 0, 1, 42, 27, 181, 0, 7, 42, 44, 181, 0, 13, 42, 29, 181, 0, 17, 177]
abbrev dktX2_init_0 : List UInt8 := dkwX2_init_0 ++ []
theorem dksX2_init_0 : cX2_init.data.toList.drop 0 = dktX2_init_0 := by decide +kernel
theorem dX2_init_0 : decode cX2_init 0 = .ok (.aload_n 0, 1) := dk_42 (dk_at dksX2_init_0 0 rfl rfl)
theorem dX2_init_1 : decode cX2_init 1 = .ok (.invokespecial 1, 3) := dk_183 0 1 (dk_at dksX2_init_0 1 rfl rfl)
theorem dX2_init_4 : decode cX2_init 4 = .ok (.aload_n 0, 1) := dk_42 (dk_at dksX2_init_0 4 rfl rfl)
theorem dX2_init_5 : decode cX2_init 5 = .ok (.iload_n 1, 1) := dk_27 (dk_at dksX2_init_0 5 rfl rfl)
theorem dX2_init_6 : decode cX2_init 6 = .ok (.putfield 7, 3) := dk_181 0 7 (dk_at dksX2_init_0 6 rfl rfl)
theorem dX2_init_9 : decode cX2_init 9 = .ok (.aload_n 0, 1) := dk_42 (dk_at dksX2_init_0 9 rfl rfl)
theorem dX2_init_10 : decode cX2_init 10 = .ok (.aload_n 2, 1) := dk_44 (dk_at dksX2_init_0 10 rfl rfl)
theorem dX2_init_11 : decode cX2_init 11 = .ok (.putfield 13, 3) := dk_181 0 13 (dk_at dksX2_init_0 11 rfl rfl)
theorem dX2_init_14 : decode cX2_init 14 = .ok (.aload_n 0, 1) := dk_42 (dk_at dksX2_init_0 14 rfl rfl)
theorem dX2_init_15 : decode cX2_init 15 = .ok (.iload_n 3, 1) := dk_29 (dk_at dksX2_init_0 15 rfl rfl)
theorem dX2_init_16 : decode cX2_init 16 = .ok (.putfield 17, 3) := dk_181 0 17 (dk_at dksX2_init_0 16 rfl rfl)
theorem dX2_init_19 : decode cX2_init 19 = .ok (.return_, 1) := dk_177 (dk_at dksX2_init_0 19 rfl rfl)
abbrev cX2_names : ByteArray := prog_8_method_3_code
def yX2_names : MethodName := ⟨RX2, "names", "()Ljava/util/List;"⟩
def dkwX2_names_2 : List UInt8 := [87, 43, 176]
abbrev dktX2_names_2 : List UInt8 := dkwX2_names_2 ++ []
def dkwX2_names_1 : List UInt8 := [167, 0, 10, 42, 180, 0, 13, 182, 0, 29, 76, 43, 42, 180, 0, 17, 184, 0, 33, 185, 0, 39, 2, 0]
abbrev dktX2_names_1 : List UInt8 := dkwX2_names_1 ++ dktX2_names_2
def dkwX2_names_0 : List UInt8 := [42, 180, 0, 13, 198, 0, 13, 42, 180, 0, 13, 182, 0, 20, 153, 0, 13, 187, 0, 26, 89, 183, 0, 28]
abbrev dktX2_names_0 : List UInt8 := dkwX2_names_0 ++ dktX2_names_1
theorem dksX2_names_0 : cX2_names.data.toList.drop 0 = dktX2_names_0 := by decide +kernel
theorem dksX2_names_1 : cX2_names.data.toList.drop 24 = dktX2_names_1 := dk_seg dksX2_names_0 24 rfl rfl
theorem dksX2_names_2 : cX2_names.data.toList.drop 48 = dktX2_names_2 := dk_seg dksX2_names_1 24 rfl rfl
theorem dX2_names_0 : decode cX2_names 0 = .ok (.aload_n 0, 1) := dk_42 (dk_at dksX2_names_0 0 rfl rfl)
theorem dX2_names_1 : decode cX2_names 1 = .ok (.getfield 13, 3) := dk_180 0 13 (dk_at dksX2_names_0 1 rfl rfl)
theorem dX2_names_4 : decode cX2_names 4 = .ok (.ifnull 13, 3) := dk_198 0 13 (dk_at dksX2_names_0 4 rfl rfl)
theorem dX2_names_7 : decode cX2_names 7 = .ok (.aload_n 0, 1) := dk_42 (dk_at dksX2_names_0 7 rfl rfl)
theorem dX2_names_8 : decode cX2_names 8 = .ok (.getfield 13, 3) := dk_180 0 13 (dk_at dksX2_names_0 8 rfl rfl)
theorem dX2_names_11 : decode cX2_names 11 = .ok (.invokevirtual 20, 3) := dk_182 0 20 (dk_at dksX2_names_0 11 rfl rfl)
theorem dX2_names_14 : decode cX2_names 14 = .ok (.ifCond .eq 13, 3) := dk_153 0 13 (dk_at dksX2_names_0 14 rfl rfl)
theorem dX2_names_17 : decode cX2_names 17 = .ok (.new 26, 3) := dk_187 0 26 (dk_at dksX2_names_0 17 rfl rfl)
theorem dX2_names_20 : decode cX2_names 20 = .ok (.dup, 1) := dk_89 (dk_at dksX2_names_0 20 rfl rfl)
theorem dX2_names_21 : decode cX2_names 21 = .ok (.invokespecial 28, 3) := dk_183 0 28 (dk_at dksX2_names_0 21 rfl rfl)
theorem dX2_names_24 : decode cX2_names 24 = .ok (.goto 10, 3) := dk_167 0 10 (dk_at dksX2_names_1 0 rfl rfl)
theorem dX2_names_27 : decode cX2_names 27 = .ok (.aload_n 0, 1) := dk_42 (dk_at dksX2_names_1 3 rfl rfl)
theorem dX2_names_28 : decode cX2_names 28 = .ok (.getfield 13, 3) := dk_180 0 13 (dk_at dksX2_names_1 4 rfl rfl)
theorem dX2_names_31 : decode cX2_names 31 = .ok (.invokevirtual 29, 3) := dk_182 0 29 (dk_at dksX2_names_1 7 rfl rfl)
theorem dX2_names_34 : decode cX2_names 34 = .ok (.astore_n 1, 1) := dk_76 (dk_at dksX2_names_1 10 rfl rfl)
theorem dX2_names_35 : decode cX2_names 35 = .ok (.aload_n 1, 1) := dk_43 (dk_at dksX2_names_1 11 rfl rfl)
theorem dX2_names_36 : decode cX2_names 36 = .ok (.aload_n 0, 1) := dk_42 (dk_at dksX2_names_1 12 rfl rfl)
theorem dX2_names_37 : decode cX2_names 37 = .ok (.getfield 17, 3) := dk_180 0 17 (dk_at dksX2_names_1 13 rfl rfl)
theorem dX2_names_40 : decode cX2_names 40 = .ok (.invokestatic 33, 3) := dk_184 0 33 (dk_at dksX2_names_1 16 rfl rfl)
theorem dX2_names_43 : decode cX2_names 43 = .ok (.invokeinterface 39 2, 5) := by decide +kernel
theorem dX2_names_48 : decode cX2_names 48 = .ok (.pop, 1) := dk_87 (dk_at dksX2_names_2 0 rfl rfl)
theorem dX2_names_49 : decode cX2_names 49 = .ok (.aload_n 1, 1) := dk_43 (dk_at dksX2_names_2 1 rfl rfl)
theorem dX2_names_50 : decode cX2_names 50 = .ok (.areturn, 1) := dk_176 (dk_at dksX2_names_2 2 rfl rfl)
theorem q96 : (Jvm.Cond.initialized "SignalWaves$Named") ∈ lw_all := lw_g (lw_at lw_m1 3 rfl) rfl
theorem q177 : (Jvm.Cond.instanceMethod ({ cls := "SignalWaves$Named", name := "<init>", desc := "(ILSignalWaves$Scope;I)V" } : Jvm.MethodName)) ∈ lw_all := lw_g (lw_at lw_m1 84 rfl) rfl
theorem q178 : (Jvm.Cond.code ({ cls := "SignalWaves$Named", name := "<init>", desc := "(ILSignalWaves$Scope;I)V" } : Jvm.MethodName) prog_8_method_1_code (4 : Nat) (Option.none : Option Jvm.ClassFile.FieldType)) ∈ lw_all := lw_g (lw_at lw_m1 85 rfl) rfl
theorem q179 : (Jvm.Cond.methodLink "SignalWaves$Named" (1 : Nat) ({ cls := "java/lang/Object", name := "<init>", desc := "()V" } : Jvm.MethodName)) ∈ lw_all := lw_g (lw_at lw_m1 86 rfl) rfl
theorem q221 : (Jvm.Cond.fieldLink "SignalWaves$Named" (7 : Nat) "SignalWaves$Named" "number" "I") ∈ lw_all := lw_g (lw_at lw_m1 128 rfl) rfl
theorem q228 : (Jvm.Cond.fieldLink "SignalWaves$Named" (13 : Nat) "SignalWaves$Named" "scope" "LSignalWaves$Scope;") ∈ lw_all := lw_g (lw_at lw_m1 135 rfl) rfl
theorem q235 : (Jvm.Cond.fieldLink "SignalWaves$Named" (17 : Nat) "SignalWaves$Named" "name" "I") ∈ lw_all := lw_g (lw_at lw_m1 142 rfl) rfl
theorem q243 : (Jvm.Cond.soleField "SignalWaves$Named" "number") ∈ lw_all := lw_g (lw_at lw_m1 150 rfl) rfl
theorem q245 : (Jvm.Cond.soleField "SignalWaves$Named" "scope") ∈ lw_all := lw_g (lw_at lw_m1 152 rfl) rfl
theorem q247 : (Jvm.Cond.soleField "SignalWaves$Named" "name") ∈ lw_all := lw_g (lw_at lw_m1 154 rfl) rfl
theorem q1636 : (Jvm.Cond.declares ({ cls := "SignalWaves$Named", name := "names", desc := "()Ljava/util/List;" } : Jvm.MethodName)) ∈ lw_tbl := lw_at lw_m7 103 rfl
theorem q1638 : (Jvm.Cond.instanceMethod ({ cls := "SignalWaves$Named", name := "names", desc := "()Ljava/util/List;" } : Jvm.MethodName)) ∈ lw_all := lw_g (lw_at lw_m7 105 rfl) rfl
theorem q1639 : (Jvm.Cond.code ({ cls := "SignalWaves$Named", name := "names", desc := "()Ljava/util/List;" } : Jvm.MethodName) prog_8_method_3_code (2 : Nat) (Option.some (Jvm.ClassFile.FieldType.object "java/util/List"))) ∈ lw_all := lw_g (lw_at lw_m7 106 rfl) rfl
theorem q1640 : (Jvm.Cond.methodLink "SignalWaves$Named" (20 : Nat) ({ cls := "SignalWaves$Scope", name := "isTop", desc := "()Z" } : Jvm.MethodName)) ∈ lw_all := lw_g (lw_at lw_m7 107 rfl) rfl
theorem q1641 : (Jvm.Cond.classLink "SignalWaves$Named" (26 : Nat) "java/util/ArrayList") ∈ lw_all := lw_g (lw_at lw_m7 108 rfl) rfl
theorem q1642 : (Jvm.Cond.methodLink "SignalWaves$Named" (28 : Nat) ({ cls := "java/util/ArrayList", name := "<init>", desc := "()V" } : Jvm.MethodName)) ∈ lw_all := lw_g (lw_at lw_m7 109 rfl) rfl
theorem q1643 : (Jvm.Cond.methodLink "SignalWaves$Named" (29 : Nat) ({ cls := "SignalWaves$Scope", name := "names", desc := "()Ljava/util/List;" } : Jvm.MethodName)) ∈ lw_all := lw_g (lw_at lw_m7 110 rfl) rfl
theorem q1646 : (Jvm.Cond.methodLink "SignalWaves$Named" (33 : Nat) ({ cls := "java/lang/Integer", name := "valueOf", desc := "(I)Ljava/lang/Integer;" } : Jvm.MethodName)) ∈ lw_all := lw_g (lw_at lw_m7 113 rfl) rfl
theorem q1647 : (Jvm.Cond.interfaceEntry "SignalWaves$Named" (39 : Nat)) ∈ lw_tbl := lw_at lw_m7 114 rfl
theorem q1648 : (Jvm.Cond.methodLink "SignalWaves$Named" (39 : Nat) ({ cls := "java/util/List", name := "add", desc := "(Ljava/lang/Object;)Z" } : Jvm.MethodName)) ∈ lw_all := lw_g (lw_at lw_m7 115 rfl) rfl
theorem q1957 : (Jvm.Cond.declares ({ cls := "SignalWaves$Named", name := "listed", desc := "()I" } : Jvm.MethodName)) ∈ lw_tbl := lw_at lw_m8 184 rfl
theorem q1958 : (Jvm.Cond.sameMethod "SignalWaves$Named" "SignalWaves$Named" "listed" "()I") ∈ lw_all := lw_g (lw_at lw_m8 185 rfl) rfl

/-! SignalWaves$Scope -/
set_option maxRecDepth 100000
def RX3 : String := "SignalWaves$Scope"
def TX3 : u_T := fun k => match k with
  | 0 => ("SignalWaves$Named", "number", "I", true)
  | 1 => ("SignalWaves$Named", "scope", "LSignalWaves$Scope;", true)
  | 2 => ("SignalWaves$Named", "name", "I", true)
  | _ => ("SignalWaves$Scope", "things", "Ljava/util/TreeMap;", true)
def tyX3 : Nat → FieldType := fun k => match k with
  | 0 => .int
  | 1 => .object "SignalWaves$Scope"
  | 2 => .int
  | _ => .object "java/util/TreeMap"
abbrev wsX30 : List Cond := u_ws RX3 TX3 4
theorem nmX3 : ∀ a, a < 4 → ∀ b, b < 4 → a ≠ b → (TX3 a).2.1 ≠ (TX3 b).2.1 := by decide +kernel
theorem tyX3_ok : ∀ k, k < 4 → parseFieldDescriptor (TX3 k).2.2.1 = some (tyX3 k) := by decide +kernel
abbrev cX3_init : ByteArray := prog_14_method_1_code
def yX3_init : MethodName := ⟨RX3, "<init>", "(ILSignalWaves$Scope;I)V"⟩
def dkwX3_init_0 : List UInt8 := [42, 27, 44, 29, 183, 0, 3, 42, 187, 0, 9, 89, 183, 0, 11, 181, 0, 14, 177]
abbrev dktX3_init_0 : List UInt8 := dkwX3_init_0 ++ []
theorem dksX3_init_0 : cX3_init.data.toList.drop 0 = dktX3_init_0 := by decide +kernel
theorem dX3_init_0 : decode cX3_init 0 = .ok (.aload_n 0, 1) := dk_42 (dk_at dksX3_init_0 0 rfl rfl)
theorem dX3_init_1 : decode cX3_init 1 = .ok (.iload_n 1, 1) := dk_27 (dk_at dksX3_init_0 1 rfl rfl)
theorem dX3_init_2 : decode cX3_init 2 = .ok (.aload_n 2, 1) := dk_44 (dk_at dksX3_init_0 2 rfl rfl)
theorem dX3_init_3 : decode cX3_init 3 = .ok (.iload_n 3, 1) := dk_29 (dk_at dksX3_init_0 3 rfl rfl)
theorem dX3_init_4 : decode cX3_init 4 = .ok (.invokespecial 3, 3) := dk_183 0 3 (dk_at dksX3_init_0 4 rfl rfl)
theorem dX3_init_7 : decode cX3_init 7 = .ok (.aload_n 0, 1) := dk_42 (dk_at dksX3_init_0 7 rfl rfl)
theorem dX3_init_8 : decode cX3_init 8 = .ok (.new 9, 3) := dk_187 0 9 (dk_at dksX3_init_0 8 rfl rfl)
theorem dX3_init_11 : decode cX3_init 11 = .ok (.dup, 1) := dk_89 (dk_at dksX3_init_0 11 rfl rfl)
theorem dX3_init_12 : decode cX3_init 12 = .ok (.invokespecial 11, 3) := dk_183 0 11 (dk_at dksX3_init_0 12 rfl rfl)
theorem dX3_init_15 : decode cX3_init 15 = .ok (.putfield 14, 3) := dk_181 0 14 (dk_at dksX3_init_0 15 rfl rfl)
theorem dX3_init_18 : decode cX3_init 18 = .ok (.return_, 1) := dk_177 (dk_at dksX3_init_0 18 rfl rfl)
abbrev cX3_deep : ByteArray := prog_14_method_4_code
def yX3_deep : MethodName := ⟨RX3, "deep", "()I"⟩
def dkwX3_deep_0 : List UInt8 := [42, 182, 0, 28, 153, 0, 7, 3, 167, 0, 12, 4, 42, 180, 0, 20, 182, 0, 32, 96, 172]
abbrev dktX3_deep_0 : List UInt8 := dkwX3_deep_0 ++ []
theorem dksX3_deep_0 : cX3_deep.data.toList.drop 0 = dktX3_deep_0 := by decide +kernel
theorem dX3_deep_0 : decode cX3_deep 0 = .ok (.aload_n 0, 1) := dk_42 (dk_at dksX3_deep_0 0 rfl rfl)
theorem dX3_deep_1 : decode cX3_deep 1 = .ok (.invokevirtual 28, 3) := dk_182 0 28 (dk_at dksX3_deep_0 1 rfl rfl)
theorem dX3_deep_4 : decode cX3_deep 4 = .ok (.ifCond .eq 7, 3) := dk_153 0 7 (dk_at dksX3_deep_0 4 rfl rfl)
theorem dX3_deep_7 : decode cX3_deep 7 = .ok (.iconst 0, 1) := dk_3 (dk_at dksX3_deep_0 7 rfl rfl)
theorem dX3_deep_8 : decode cX3_deep 8 = .ok (.goto 12, 3) := dk_167 0 12 (dk_at dksX3_deep_0 8 rfl rfl)
theorem dX3_deep_11 : decode cX3_deep 11 = .ok (.iconst 1, 1) := dk_4 (dk_at dksX3_deep_0 11 rfl rfl)
theorem dX3_deep_12 : decode cX3_deep 12 = .ok (.aload_n 0, 1) := dk_42 (dk_at dksX3_deep_0 12 rfl rfl)
theorem dX3_deep_13 : decode cX3_deep 13 = .ok (.getfield 20, 3) := dk_180 0 20 (dk_at dksX3_deep_0 13 rfl rfl)
theorem dX3_deep_16 : decode cX3_deep 16 = .ok (.invokevirtual 32, 3) := dk_182 0 32 (dk_at dksX3_deep_0 16 rfl rfl)
theorem dX3_deep_19 : decode cX3_deep 19 = .ok (.iadd, 1) := dk_96 (dk_at dksX3_deep_0 19 rfl rfl)
theorem dX3_deep_20 : decode cX3_deep 20 = .ok (.ireturn, 1) := dk_172 (dk_at dksX3_deep_0 20 rfl rfl)
abbrev cX3_isTop : ByteArray := prog_14_method_2_code
def yX3_isTop : MethodName := ⟨RX3, "isTop", "()Z"⟩
def dkwX3_isTop_0 : List UInt8 := [42, 180, 0, 20, 199, 0, 7, 4, 167, 0, 4, 3, 172]
abbrev dktX3_isTop_0 : List UInt8 := dkwX3_isTop_0 ++ []
theorem dksX3_isTop_0 : cX3_isTop.data.toList.drop 0 = dktX3_isTop_0 := by decide +kernel
theorem dX3_isTop_0 : decode cX3_isTop 0 = .ok (.aload_n 0, 1) := dk_42 (dk_at dksX3_isTop_0 0 rfl rfl)
theorem dX3_isTop_1 : decode cX3_isTop 1 = .ok (.getfield 20, 3) := dk_180 0 20 (dk_at dksX3_isTop_0 1 rfl rfl)
theorem dX3_isTop_4 : decode cX3_isTop 4 = .ok (.ifnonnull 7, 3) := dk_199 0 7 (dk_at dksX3_isTop_0 4 rfl rfl)
theorem dX3_isTop_7 : decode cX3_isTop 7 = .ok (.iconst 1, 1) := dk_4 (dk_at dksX3_isTop_0 7 rfl rfl)
theorem dX3_isTop_8 : decode cX3_isTop 8 = .ok (.goto 4, 3) := dk_167 0 4 (dk_at dksX3_isTop_0 8 rfl rfl)
theorem dX3_isTop_11 : decode cX3_isTop 11 = .ok (.iconst 0, 1) := dk_3 (dk_at dksX3_isTop_0 11 rfl rfl)
theorem dX3_isTop_12 : decode cX3_isTop 12 = .ok (.ireturn, 1) := dk_172 (dk_at dksX3_isTop_0 12 rfl rfl)
abbrev cX3_numberOrNone : ByteArray := prog_14_method_5_code
def yX3_numberOrNone : MethodName := ⟨RX3, "numberOrNone", "()I"⟩
def dkwX3_numberOrNone_0 : List UInt8 := [42, 182, 0, 28, 153, 0, 8, 16, 247, 167, 0, 7, 42, 180, 0, 24, 172]
abbrev dktX3_numberOrNone_0 : List UInt8 := dkwX3_numberOrNone_0 ++ []
theorem dksX3_numberOrNone_0 : cX3_numberOrNone.data.toList.drop 0 = dktX3_numberOrNone_0 := by decide +kernel
theorem dX3_numberOrNone_0 : decode cX3_numberOrNone 0 = .ok (.aload_n 0, 1) := dk_42 (dk_at dksX3_numberOrNone_0 0 rfl rfl)
theorem dX3_numberOrNone_1 : decode cX3_numberOrNone 1 = .ok (.invokevirtual 28, 3) := dk_182 0 28 (dk_at dksX3_numberOrNone_0 1 rfl rfl)
theorem dX3_numberOrNone_4 : decode cX3_numberOrNone 4 = .ok (.ifCond .eq 8, 3) := dk_153 0 8 (dk_at dksX3_numberOrNone_0 4 rfl rfl)
theorem dX3_numberOrNone_7 : decode cX3_numberOrNone 7 = .ok (.bipush (-9), 2) := dk_16 247 (dk_at dksX3_numberOrNone_0 7 rfl rfl)
theorem dX3_numberOrNone_9 : decode cX3_numberOrNone 9 = .ok (.goto 7, 3) := dk_167 0 7 (dk_at dksX3_numberOrNone_0 9 rfl rfl)
theorem dX3_numberOrNone_12 : decode cX3_numberOrNone 12 = .ok (.aload_n 0, 1) := dk_42 (dk_at dksX3_numberOrNone_0 12 rfl rfl)
theorem dX3_numberOrNone_13 : decode cX3_numberOrNone 13 = .ok (.getfield 24, 3) := dk_180 0 24 (dk_at dksX3_numberOrNone_0 13 rfl rfl)
theorem dX3_numberOrNone_16 : decode cX3_numberOrNone 16 = .ok (.ireturn, 1) := dk_172 (dk_at dksX3_numberOrNone_0 16 rfl rfl)
abbrev cX3_listed : ByteArray := prog_14_method_3_code
def yX3_listed : MethodName := ⟨RX3, "listed", "()I"⟩
def dkwX3_listed_0 : List UInt8 := [16, 100, 42, 180, 0, 24, 96, 172]
abbrev dktX3_listed_0 : List UInt8 := dkwX3_listed_0 ++ []
theorem dksX3_listed_0 : cX3_listed.data.toList.drop 0 = dktX3_listed_0 := by decide +kernel
theorem dX3_listed_0 : decode cX3_listed 0 = .ok (.bipush 100, 2) := dk_16 100 (dk_at dksX3_listed_0 0 rfl rfl)
theorem dX3_listed_2 : decode cX3_listed 2 = .ok (.aload_n 0, 1) := dk_42 (dk_at dksX3_listed_0 2 rfl rfl)
theorem dX3_listed_3 : decode cX3_listed 3 = .ok (.getfield 24, 3) := dk_180 0 24 (dk_at dksX3_listed_0 3 rfl rfl)
theorem dX3_listed_6 : decode cX3_listed 6 = .ok (.iadd, 1) := dk_96 (dk_at dksX3_listed_0 6 rfl rfl)
theorem dX3_listed_7 : decode cX3_listed 7 = .ok (.ireturn, 1) := dk_172 (dk_at dksX3_listed_0 7 rfl rfl)
theorem q97 : (Jvm.Cond.initialized "SignalWaves$Scope") ∈ lw_all := lw_g (lw_at lw_m1 4 rfl) rfl
theorem q172 : (Jvm.Cond.instantiable "SignalWaves$Scope" (4 : Nat)) ∈ lw_all := lw_g (lw_at lw_m1 79 rfl) rfl
theorem q174 : (Jvm.Cond.instanceMethod ({ cls := "SignalWaves$Scope", name := "<init>", desc := "(ILSignalWaves$Scope;I)V" } : Jvm.MethodName)) ∈ lw_all := lw_g (lw_at lw_m1 81 rfl) rfl
theorem q175 : (Jvm.Cond.code ({ cls := "SignalWaves$Scope", name := "<init>", desc := "(ILSignalWaves$Scope;I)V" } : Jvm.MethodName) prog_14_method_1_code (4 : Nat) (Option.none : Option Jvm.ClassFile.FieldType)) ∈ lw_all := lw_g (lw_at lw_m1 82 rfl) rfl
theorem q176 : (Jvm.Cond.methodLink "SignalWaves$Scope" (3 : Nat) ({ cls := "SignalWaves$Named", name := "<init>", desc := "(ILSignalWaves$Scope;I)V" } : Jvm.MethodName)) ∈ lw_all := lw_g (lw_at lw_m1 83 rfl) rfl
theorem q180 : (Jvm.Cond.classLink "SignalWaves$Scope" (9 : Nat) "java/util/TreeMap") ∈ lw_all := lw_g (lw_at lw_m1 87 rfl) rfl
theorem q182 : (Jvm.Cond.methodLink "SignalWaves$Scope" (11 : Nat) ({ cls := "java/util/TreeMap", name := "<init>", desc := "()V" } : Jvm.MethodName)) ∈ lw_all := lw_g (lw_at lw_m1 89 rfl) rfl
theorem q218 : (Jvm.Cond.fieldLink "SignalWaves$Scope" (14 : Nat) "SignalWaves$Scope" "things" "Ljava/util/TreeMap;") ∈ lw_all := lw_g (lw_at lw_m1 125 rfl) rfl
theorem q224 : (Jvm.Cond.fieldLink "SignalWaves$Scope" (24 : Nat) "SignalWaves$Scope" "number" "I") ∈ lw_all := lw_g (lw_at lw_m1 131 rfl) rfl
theorem q225 : (Jvm.Cond.sameField "SignalWaves$Scope" "SignalWaves$Named" "number" "I") ∈ lw_all := lw_g (lw_at lw_m1 132 rfl) rfl
theorem q229 : (Jvm.Cond.fieldLink "SignalWaves$Scope" (20 : Nat) "SignalWaves$Scope" "scope" "LSignalWaves$Scope;") ∈ lw_all := lw_g (lw_at lw_m1 136 rfl) rfl
theorem q230 : (Jvm.Cond.sameField "SignalWaves$Scope" "SignalWaves$Named" "scope" "LSignalWaves$Scope;") ∈ lw_all := lw_g (lw_at lw_m1 137 rfl) rfl
theorem q239 : (Jvm.Cond.sameField "SignalWaves$Scope" "SignalWaves$Named" "name" "I") ∈ lw_all := lw_g (lw_at lw_m1 146 rfl) rfl
theorem q240 : (Jvm.Cond.laysFinal "SignalWaves$Scope" "SignalWaves$Scope" "things" "Ljava/util/TreeMap;") ∈ lw_all := lw_g (lw_at lw_m1 147 rfl) rfl
theorem q241 : (Jvm.Cond.soleField "SignalWaves$Scope" "things") ∈ lw_all := lw_g (lw_at lw_m1 148 rfl) rfl
theorem q242 : (Jvm.Cond.laysFinal "SignalWaves$Scope" "SignalWaves$Named" "number" "I") ∈ lw_all := lw_g (lw_at lw_m1 149 rfl) rfl
theorem q244 : (Jvm.Cond.laysFinal "SignalWaves$Scope" "SignalWaves$Named" "scope" "LSignalWaves$Scope;") ∈ lw_all := lw_g (lw_at lw_m1 151 rfl) rfl
theorem q246 : (Jvm.Cond.laysFinal "SignalWaves$Scope" "SignalWaves$Named" "name" "I") ∈ lw_all := lw_g (lw_at lw_m1 153 rfl) rfl
theorem q248 : (Jvm.Cond.superclass "SignalWaves$Scope" "SignalWaves$Named") ∈ lw_all := lw_g (lw_at lw_m1 155 rfl) rfl
theorem q1259 : (Jvm.Cond.instanceMethod ({ cls := "SignalWaves$Scope", name := "deep", desc := "()I" } : Jvm.MethodName)) ∈ lw_all := lw_g (lw_at lw_m5 206 rfl) rfl
theorem q1260 : (Jvm.Cond.selects "SignalWaves$Scope" ({ cls := "SignalWaves$Scope", name := "deep", desc := "()I" } : Jvm.MethodName) ({ cls := "SignalWaves$Scope", name := "deep", desc := "()I" } : Jvm.MethodName)) ∈ lw_all := lw_g (lw_at lw_m5 207 rfl) rfl
theorem q1261 : (Jvm.Cond.code ({ cls := "SignalWaves$Scope", name := "deep", desc := "()I" } : Jvm.MethodName) prog_14_method_4_code (1 : Nat) (Option.some Jvm.ClassFile.FieldType.int)) ∈ lw_all := lw_g (lw_at lw_m5 208 rfl) rfl
theorem q1262 : (Jvm.Cond.methodLink "SignalWaves$Scope" (28 : Nat) ({ cls := "SignalWaves$Scope", name := "isTop", desc := "()Z" } : Jvm.MethodName)) ∈ lw_all := lw_g (lw_at lw_m5 209 rfl) rfl
theorem q1263 : (Jvm.Cond.instanceMethod ({ cls := "SignalWaves$Scope", name := "isTop", desc := "()Z" } : Jvm.MethodName)) ∈ lw_all := lw_g (lw_at lw_m5 210 rfl) rfl
theorem q1264 : (Jvm.Cond.selects "SignalWaves$Scope" ({ cls := "SignalWaves$Scope", name := "isTop", desc := "()Z" } : Jvm.MethodName) ({ cls := "SignalWaves$Scope", name := "isTop", desc := "()Z" } : Jvm.MethodName)) ∈ lw_all := lw_g (lw_at lw_m5 211 rfl) rfl
theorem q1265 : (Jvm.Cond.code ({ cls := "SignalWaves$Scope", name := "isTop", desc := "()Z" } : Jvm.MethodName) prog_14_method_2_code (1 : Nat) (Option.some Jvm.ClassFile.FieldType.boolean)) ∈ lw_all := lw_g (lw_at lw_m5 212 rfl) rfl
theorem q1266 : (Jvm.Cond.methodLink "SignalWaves$Scope" (32 : Nat) ({ cls := "SignalWaves$Scope", name := "deep", desc := "()I" } : Jvm.MethodName)) ∈ lw_all := lw_g (lw_at lw_m5 213 rfl) rfl
theorem q1438 : (Jvm.Cond.selects "SignalWaves$Scope" ({ cls := "java/lang/Object", name := "getClass", desc := "()Ljava/lang/Class;" } : Jvm.MethodName) ({ cls := "java/lang/Object", name := "getClass", desc := "()Ljava/lang/Class;" } : Jvm.MethodName)) ∈ lw_all := lw_g (lw_at lw_m6 145 rfl) rfl
theorem q1644 : (Jvm.Cond.sameMethod "SignalWaves$Scope" "SignalWaves$Named" "names" "()Ljava/util/List;") ∈ lw_all := lw_g (lw_at lw_m7 111 rfl) rfl
theorem q1645 : (Jvm.Cond.selects "SignalWaves$Scope" ({ cls := "SignalWaves$Scope", name := "names", desc := "()Ljava/util/List;" } : Jvm.MethodName) ({ cls := "SignalWaves$Named", name := "names", desc := "()Ljava/util/List;" } : Jvm.MethodName)) ∈ lw_all := lw_g (lw_at lw_m7 112 rfl) rfl
theorem q1683 : (Jvm.Cond.selects "SignalWaves$Scope" ({ cls := "java/lang/Object", name := "equals", desc := "(Ljava/lang/Object;)Z" } : Jvm.MethodName) ({ cls := "java/lang/Object", name := "equals", desc := "(Ljava/lang/Object;)Z" } : Jvm.MethodName)) ∈ lw_all := lw_g (lw_at lw_m7 150 rfl) rfl
theorem q1747 : (Jvm.Cond.instanceMethod ({ cls := "SignalWaves$Scope", name := "numberOrNone", desc := "()I" } : Jvm.MethodName)) ∈ lw_all := lw_g (lw_at lw_m7 214 rfl) rfl
theorem q1748 : (Jvm.Cond.selects "SignalWaves$Scope" ({ cls := "SignalWaves$Scope", name := "numberOrNone", desc := "()I" } : Jvm.MethodName) ({ cls := "SignalWaves$Scope", name := "numberOrNone", desc := "()I" } : Jvm.MethodName)) ∈ lw_all := lw_g (lw_at lw_m7 215 rfl) rfl
theorem q1749 : (Jvm.Cond.code ({ cls := "SignalWaves$Scope", name := "numberOrNone", desc := "()I" } : Jvm.MethodName) prog_14_method_5_code (1 : Nat) (Option.some Jvm.ClassFile.FieldType.int)) ∈ lw_all := lw_g (lw_at lw_m7 216 rfl) rfl
theorem q1962 : (Jvm.Cond.selects "SignalWaves$Scope" ({ cls := "SignalWaves$Named", name := "listed", desc := "()I" } : Jvm.MethodName) ({ cls := "SignalWaves$Scope", name := "listed", desc := "()I" } : Jvm.MethodName)) ∈ lw_all := lw_g (lw_at lw_m8 189 rfl) rfl
theorem q1963 : (Jvm.Cond.instanceMethod ({ cls := "SignalWaves$Scope", name := "listed", desc := "()I" } : Jvm.MethodName)) ∈ lw_all := lw_g (lw_at lw_m8 190 rfl) rfl
theorem q1964 : (Jvm.Cond.code ({ cls := "SignalWaves$Scope", name := "listed", desc := "()I" } : Jvm.MethodName) prog_14_method_3_code (1 : Nat) (Option.some Jvm.ClassFile.FieldType.int)) ∈ lw_all := lw_g (lw_at lw_m8 191 rfl) rfl
theorem q3105 : (Jvm.Cond.castable "SignalWaves$Scope" "SignalWaves$Named") ∈ lw_tbl := lw_at lw_m13 132 rfl
theorem q3110 : (Jvm.Cond.castable "SignalWaves$Scope" "java/lang/Object") ∈ lw_tbl := lw_at lw_m13 137 rfl
theorem in_X3 : ∀ w ∈ wsX30, w ∈ lw_all := lw_in wsX30 [242, 244, 246, 240] (by decide +kernel) (by decide +kernel)

/-! SignalWaves$Wave -/
set_option maxRecDepth 100000
def RX4 : String := "SignalWaves$Wave"
def TX4 : u_T := fun k => match k with
  | 0 => ("SignalWaves$Wave", "time", "I", false)
  | 1 => ("SignalWaves$Wave", "isOn", "Z", false)
  | 2 => ("SignalWaves$Wave", "size", "I", false)
  | 3 => ("SignalWaves$Wave", "lost", "I", false)
  | 4 => ("SignalWaves$Wave", "begun", "I", false)
  | 5 => ("SignalWaves$Wave", "values", "[I", true)
  | 6 => ("SignalWaves$Wave", "blocks", "Ljava/util/TreeSet;", true)
  | _ => ("SignalWaves$Wave", "behind", "LSignalWaves$Block;", true)
def tyX4 : Nat → FieldType := fun k => match k with
  | 0 => .int
  | 1 => .boolean
  | 2 => .int
  | 3 => .int
  | 4 => .int
  | 5 => .array .int
  | 6 => .object "java/util/TreeSet"
  | _ => .object "SignalWaves$Block"
abbrev wsX40 : List Cond := u_ws RX4 TX4 8
theorem nmX4 : ∀ a, a < 8 → ∀ b, b < 8 → a ≠ b → (TX4 a).2.1 ≠ (TX4 b).2.1 := by decide +kernel
theorem tyX4_ok : ∀ k, k < 8 → parseFieldDescriptor (TX4 k).2.2.1 = some (tyX4 k) := by decide +kernel
abbrev cX4_init : ByteArray := prog_16_method_1_code
def yX4_init : MethodName := ⟨RX4, "<init>", "()V"⟩
def dkwX4_init_2 : List UInt8 := [3, 42, 180, 0, 19, 183, 0, 40, 181, 0, 43, 177]
abbrev dktX4_init_2 : List UInt8 := dkwX4_init_2 ++ []
def dkwX4_init_1 : List UInt8 := [187, 0, 23, 89, 187, 0, 25, 89, 183, 0, 27, 183, 0, 28, 181, 0, 31, 42, 187, 0, 35, 89, 18, 39]
abbrev dktX4_init_1 : List UInt8 := dkwX4_init_1 ++ dktX4_init_2
def dkwX4_init_0 : List UInt8 := [42, 183, 0, 3, 42, 4, 181, 0, 9, 42, 7, 181, 0, 15, 42, 16, 12, 188, 10, 181, 0, 19, 42]
abbrev dktX4_init_0 : List UInt8 := dkwX4_init_0 ++ dktX4_init_1
theorem dksX4_init_0 : cX4_init.data.toList.drop 0 = dktX4_init_0 := by decide +kernel
theorem dksX4_init_1 : cX4_init.data.toList.drop 23 = dktX4_init_1 := dk_seg dksX4_init_0 23 rfl rfl
theorem dksX4_init_2 : cX4_init.data.toList.drop 47 = dktX4_init_2 := dk_seg dksX4_init_1 24 rfl rfl
theorem dX4_init_0 : decode cX4_init 0 = .ok (.aload_n 0, 1) := dk_42 (dk_at dksX4_init_0 0 rfl rfl)
theorem dX4_init_1 : decode cX4_init 1 = .ok (.invokespecial 3, 3) := dk_183 0 3 (dk_at dksX4_init_0 1 rfl rfl)
theorem dX4_init_4 : decode cX4_init 4 = .ok (.aload_n 0, 1) := dk_42 (dk_at dksX4_init_0 4 rfl rfl)
theorem dX4_init_5 : decode cX4_init 5 = .ok (.iconst 1, 1) := dk_4 (dk_at dksX4_init_0 5 rfl rfl)
theorem dX4_init_6 : decode cX4_init 6 = .ok (.putfield 9, 3) := dk_181 0 9 (dk_at dksX4_init_0 6 rfl rfl)
theorem dX4_init_9 : decode cX4_init 9 = .ok (.aload_n 0, 1) := dk_42 (dk_at dksX4_init_0 9 rfl rfl)
theorem dX4_init_10 : decode cX4_init 10 = .ok (.iconst 4, 1) := dk_7 (dk_at dksX4_init_0 10 rfl rfl)
theorem dX4_init_11 : decode cX4_init 11 = .ok (.putfield 15, 3) := dk_181 0 15 (dk_at dksX4_init_0 11 rfl rfl)
theorem dX4_init_14 : decode cX4_init 14 = .ok (.aload_n 0, 1) := dk_42 (dk_at dksX4_init_0 14 rfl rfl)
theorem dX4_init_15 : decode cX4_init 15 = .ok (.bipush 12, 2) := dk_16 12 (dk_at dksX4_init_0 15 rfl rfl)
theorem dX4_init_17 : decode cX4_init 17 = .ok (.newarray .int, 2) := dk_188_10 (dk_at dksX4_init_0 17 rfl rfl)
theorem dX4_init_19 : decode cX4_init 19 = .ok (.putfield 19, 3) := dk_181 0 19 (dk_at dksX4_init_0 19 rfl rfl)
theorem dX4_init_22 : decode cX4_init 22 = .ok (.aload_n 0, 1) := dk_42 (dk_at dksX4_init_0 22 rfl rfl)
theorem dX4_init_23 : decode cX4_init 23 = .ok (.new 23, 3) := dk_187 0 23 (dk_at dksX4_init_1 0 rfl rfl)
theorem dX4_init_26 : decode cX4_init 26 = .ok (.dup, 1) := dk_89 (dk_at dksX4_init_1 3 rfl rfl)
theorem dX4_init_27 : decode cX4_init 27 = .ok (.new 25, 3) := dk_187 0 25 (dk_at dksX4_init_1 4 rfl rfl)
theorem dX4_init_30 : decode cX4_init 30 = .ok (.dup, 1) := dk_89 (dk_at dksX4_init_1 7 rfl rfl)
theorem dX4_init_31 : decode cX4_init 31 = .ok (.invokespecial 27, 3) := dk_183 0 27 (dk_at dksX4_init_1 8 rfl rfl)
theorem dX4_init_34 : decode cX4_init 34 = .ok (.invokespecial 28, 3) := dk_183 0 28 (dk_at dksX4_init_1 11 rfl rfl)
theorem dX4_init_37 : decode cX4_init 37 = .ok (.putfield 31, 3) := dk_181 0 31 (dk_at dksX4_init_1 14 rfl rfl)
theorem dX4_init_40 : decode cX4_init 40 = .ok (.aload_n 0, 1) := dk_42 (dk_at dksX4_init_1 17 rfl rfl)
theorem dX4_init_41 : decode cX4_init 41 = .ok (.new 35, 3) := dk_187 0 35 (dk_at dksX4_init_1 18 rfl rfl)
theorem dX4_init_44 : decode cX4_init 44 = .ok (.dup, 1) := dk_89 (dk_at dksX4_init_1 21 rfl rfl)
theorem dX4_init_45 : decode cX4_init 45 = .ok (.ldc 39, 2) := dk_18 39 (dk_at dksX4_init_1 22 rfl rfl)
theorem dX4_init_47 : decode cX4_init 47 = .ok (.iconst 0, 1) := dk_3 (dk_at dksX4_init_2 0 rfl rfl)
theorem dX4_init_48 : decode cX4_init 48 = .ok (.aload_n 0, 1) := dk_42 (dk_at dksX4_init_2 1 rfl rfl)
theorem dX4_init_49 : decode cX4_init 49 = .ok (.getfield 19, 3) := dk_180 0 19 (dk_at dksX4_init_2 2 rfl rfl)
theorem dX4_init_52 : decode cX4_init 52 = .ok (.invokespecial 40, 3) := dk_183 0 40 (dk_at dksX4_init_2 5 rfl rfl)
theorem dX4_init_55 : decode cX4_init 55 = .ok (.putfield 43, 3) := dk_181 0 43 (dk_at dksX4_init_2 8 rfl rfl)
theorem dX4_init_58 : decode cX4_init 58 = .ok (.return_, 1) := dk_177 (dk_at dksX4_init_2 11 rfl rfl)
abbrev cX4_begins : ByteArray := prog_16_method_3_code
def yX4_begins : MethodName := ⟨RX4, "begins", "()LSignalWaves$Wave;"⟩
def dkwX4_begins_3 : List UInt8 := [181, 0, 51, 42, 176]
abbrev dktX4_begins_3 : List UInt8 := dkwX4_begins_3 ++ []
def dkwX4_begins_2 : List UInt8 := [182, 0, 89, 16, 6, 164, 0, 21, 42, 180, 0, 31, 182, 0, 92, 87, 42, 89, 180, 0, 51, 4, 96]
abbrev dktX4_begins_2 : List UInt8 := dkwX4_begins_2 ++ dktX4_begins_3
def dkwX4_begins_1 : List UInt8 := [192, 0, 86, 183, 0, 40, 182, 0, 81, 87, 42, 89, 180, 0, 54, 4, 96, 181, 0, 54, 42, 180, 0, 31]
abbrev dktX4_begins_1 : List UInt8 := dkwX4_begins_1 ++ dktX4_begins_2
def dkwX4_begins_0 : List UInt8 := [42, 180, 0, 31, 187, 0, 35, 89, 42, 180, 0, 54, 42, 180, 0, 48, 42, 180, 0, 19, 182, 0, 85]
abbrev dktX4_begins_0 : List UInt8 := dkwX4_begins_0 ++ dktX4_begins_1
theorem dksX4_begins_0 : cX4_begins.data.toList.drop 0 = dktX4_begins_0 := by decide +kernel
theorem dksX4_begins_1 : cX4_begins.data.toList.drop 23 = dktX4_begins_1 := dk_seg dksX4_begins_0 23 rfl rfl
theorem dksX4_begins_2 : cX4_begins.data.toList.drop 47 = dktX4_begins_2 := dk_seg dksX4_begins_1 24 rfl rfl
theorem dksX4_begins_3 : cX4_begins.data.toList.drop 70 = dktX4_begins_3 := dk_seg dksX4_begins_2 23 rfl rfl
theorem dX4_begins_0 : decode cX4_begins 0 = .ok (.aload_n 0, 1) := dk_42 (dk_at dksX4_begins_0 0 rfl rfl)
theorem dX4_begins_1 : decode cX4_begins 1 = .ok (.getfield 31, 3) := dk_180 0 31 (dk_at dksX4_begins_0 1 rfl rfl)
theorem dX4_begins_4 : decode cX4_begins 4 = .ok (.new 35, 3) := dk_187 0 35 (dk_at dksX4_begins_0 4 rfl rfl)
theorem dX4_begins_7 : decode cX4_begins 7 = .ok (.dup, 1) := dk_89 (dk_at dksX4_begins_0 7 rfl rfl)
theorem dX4_begins_8 : decode cX4_begins 8 = .ok (.aload_n 0, 1) := dk_42 (dk_at dksX4_begins_0 8 rfl rfl)
theorem dX4_begins_9 : decode cX4_begins 9 = .ok (.getfield 54, 3) := dk_180 0 54 (dk_at dksX4_begins_0 9 rfl rfl)
theorem dX4_begins_12 : decode cX4_begins 12 = .ok (.aload_n 0, 1) := dk_42 (dk_at dksX4_begins_0 12 rfl rfl)
theorem dX4_begins_13 : decode cX4_begins 13 = .ok (.getfield 48, 3) := dk_180 0 48 (dk_at dksX4_begins_0 13 rfl rfl)
theorem dX4_begins_16 : decode cX4_begins 16 = .ok (.aload_n 0, 1) := dk_42 (dk_at dksX4_begins_0 16 rfl rfl)
theorem dX4_begins_17 : decode cX4_begins 17 = .ok (.getfield 19, 3) := dk_180 0 19 (dk_at dksX4_begins_0 17 rfl rfl)
theorem dX4_begins_20 : decode cX4_begins 20 = .ok (.invokevirtual 85, 3) := dk_182 0 85 (dk_at dksX4_begins_0 20 rfl rfl)
theorem dX4_begins_23 : decode cX4_begins 23 = .ok (.checkcast 86, 3) := dk_192 0 86 (dk_at dksX4_begins_1 0 rfl rfl)
theorem dX4_begins_26 : decode cX4_begins 26 = .ok (.invokespecial 40, 3) := dk_183 0 40 (dk_at dksX4_begins_1 3 rfl rfl)
theorem dX4_begins_29 : decode cX4_begins 29 = .ok (.invokevirtual 81, 3) := dk_182 0 81 (dk_at dksX4_begins_1 6 rfl rfl)
theorem dX4_begins_32 : decode cX4_begins 32 = .ok (.pop, 1) := dk_87 (dk_at dksX4_begins_1 9 rfl rfl)
theorem dX4_begins_33 : decode cX4_begins 33 = .ok (.aload_n 0, 1) := dk_42 (dk_at dksX4_begins_1 10 rfl rfl)
theorem dX4_begins_34 : decode cX4_begins 34 = .ok (.dup, 1) := dk_89 (dk_at dksX4_begins_1 11 rfl rfl)
theorem dX4_begins_35 : decode cX4_begins 35 = .ok (.getfield 54, 3) := dk_180 0 54 (dk_at dksX4_begins_1 12 rfl rfl)
theorem dX4_begins_38 : decode cX4_begins 38 = .ok (.iconst 1, 1) := dk_4 (dk_at dksX4_begins_1 15 rfl rfl)
theorem dX4_begins_39 : decode cX4_begins 39 = .ok (.iadd, 1) := dk_96 (dk_at dksX4_begins_1 16 rfl rfl)
theorem dX4_begins_40 : decode cX4_begins 40 = .ok (.putfield 54, 3) := dk_181 0 54 (dk_at dksX4_begins_1 17 rfl rfl)
theorem dX4_begins_43 : decode cX4_begins 43 = .ok (.aload_n 0, 1) := dk_42 (dk_at dksX4_begins_1 20 rfl rfl)
theorem dX4_begins_44 : decode cX4_begins 44 = .ok (.getfield 31, 3) := dk_180 0 31 (dk_at dksX4_begins_1 21 rfl rfl)
theorem dX4_begins_47 : decode cX4_begins 47 = .ok (.invokevirtual 89, 3) := dk_182 0 89 (dk_at dksX4_begins_2 0 rfl rfl)
theorem dX4_begins_50 : decode cX4_begins 50 = .ok (.bipush 6, 2) := dk_16 6 (dk_at dksX4_begins_2 3 rfl rfl)
theorem dX4_begins_52 : decode cX4_begins 52 = .ok (.if_icmp .le 21, 3) := dk_164 0 21 (dk_at dksX4_begins_2 5 rfl rfl)
theorem dX4_begins_55 : decode cX4_begins 55 = .ok (.aload_n 0, 1) := dk_42 (dk_at dksX4_begins_2 8 rfl rfl)
theorem dX4_begins_56 : decode cX4_begins 56 = .ok (.getfield 31, 3) := dk_180 0 31 (dk_at dksX4_begins_2 9 rfl rfl)
theorem dX4_begins_59 : decode cX4_begins 59 = .ok (.invokevirtual 92, 3) := dk_182 0 92 (dk_at dksX4_begins_2 12 rfl rfl)
theorem dX4_begins_62 : decode cX4_begins 62 = .ok (.pop, 1) := dk_87 (dk_at dksX4_begins_2 15 rfl rfl)
theorem dX4_begins_63 : decode cX4_begins 63 = .ok (.aload_n 0, 1) := dk_42 (dk_at dksX4_begins_2 16 rfl rfl)
theorem dX4_begins_64 : decode cX4_begins 64 = .ok (.dup, 1) := dk_89 (dk_at dksX4_begins_2 17 rfl rfl)
theorem dX4_begins_65 : decode cX4_begins 65 = .ok (.getfield 51, 3) := dk_180 0 51 (dk_at dksX4_begins_2 18 rfl rfl)
theorem dX4_begins_68 : decode cX4_begins 68 = .ok (.iconst 1, 1) := dk_4 (dk_at dksX4_begins_2 21 rfl rfl)
theorem dX4_begins_69 : decode cX4_begins 69 = .ok (.iadd, 1) := dk_96 (dk_at dksX4_begins_2 22 rfl rfl)
theorem dX4_begins_70 : decode cX4_begins 70 = .ok (.putfield 51, 3) := dk_181 0 51 (dk_at dksX4_begins_3 0 rfl rfl)
theorem dX4_begins_73 : decode cX4_begins 73 = .ok (.aload_n 0, 1) := dk_42 (dk_at dksX4_begins_3 3 rfl rfl)
theorem dX4_begins_74 : decode cX4_begins 74 = .ok (.areturn, 1) := dk_176 (dk_at dksX4_begins_3 4 rfl rfl)
abbrev cX4_copy : ByteArray := prog_16_method_2_code
def yX4_copy : MethodName := ⟨RX4, "copy", "()LSignalWaves$Wave;"⟩
def dkwX4_copy_4 : List UInt8 := [182, 0, 77, 182, 0, 81, 87, 167, 255, 225, 43, 176]
abbrev dktX4_copy_4 : List UInt8 := dkwX4_copy_4 ++ []
def dkwX4_copy_3 : List UInt8 := [185, 0, 67, 1, 0, 153, 0, 28, 44, 185, 0, 73, 1, 0, 192, 0, 35, 78, 43, 180, 0, 31, 45]
abbrev dktX4_copy_3 : List UInt8 := dkwX4_copy_3 ++ dktX4_copy_4
def dkwX4_copy_2 : List UInt8 := [42, 180, 0, 19, 3, 43, 180, 0, 19, 3, 16, 12, 184, 0, 57, 42, 180, 0, 31, 182, 0, 63, 77, 44]
abbrev dktX4_copy_2 : List UInt8 := dkwX4_copy_2 ++ dktX4_copy_3
def dkwX4_copy_1 : List UInt8 := [43, 42, 180, 0, 15, 181, 0, 15, 43, 42, 180, 0, 51, 181, 0, 51, 43, 42, 180, 0, 54, 181, 0, 54]
abbrev dktX4_copy_1 : List UInt8 := dkwX4_copy_1 ++ dktX4_copy_2
def dkwX4_copy_0 : List UInt8 := [187, 0, 10, 89, 183, 0, 47, 76, 43, 42, 180, 0, 48, 181, 0, 48, 43, 42, 180, 0, 9, 181, 0, 9]
abbrev dktX4_copy_0 : List UInt8 := dkwX4_copy_0 ++ dktX4_copy_1
theorem dksX4_copy_0 : cX4_copy.data.toList.drop 0 = dktX4_copy_0 := by decide +kernel
theorem dksX4_copy_1 : cX4_copy.data.toList.drop 24 = dktX4_copy_1 := dk_seg dksX4_copy_0 24 rfl rfl
theorem dksX4_copy_2 : cX4_copy.data.toList.drop 48 = dktX4_copy_2 := dk_seg dksX4_copy_1 24 rfl rfl
theorem dksX4_copy_3 : cX4_copy.data.toList.drop 72 = dktX4_copy_3 := dk_seg dksX4_copy_2 24 rfl rfl
theorem dksX4_copy_4 : cX4_copy.data.toList.drop 95 = dktX4_copy_4 := dk_seg dksX4_copy_3 23 rfl rfl
theorem dX4_copy_0 : decode cX4_copy 0 = .ok (.new 10, 3) := dk_187 0 10 (dk_at dksX4_copy_0 0 rfl rfl)
theorem dX4_copy_3 : decode cX4_copy 3 = .ok (.dup, 1) := dk_89 (dk_at dksX4_copy_0 3 rfl rfl)
theorem dX4_copy_4 : decode cX4_copy 4 = .ok (.invokespecial 47, 3) := dk_183 0 47 (dk_at dksX4_copy_0 4 rfl rfl)
theorem dX4_copy_7 : decode cX4_copy 7 = .ok (.astore_n 1, 1) := dk_76 (dk_at dksX4_copy_0 7 rfl rfl)
theorem dX4_copy_8 : decode cX4_copy 8 = .ok (.aload_n 1, 1) := dk_43 (dk_at dksX4_copy_0 8 rfl rfl)
theorem dX4_copy_9 : decode cX4_copy 9 = .ok (.aload_n 0, 1) := dk_42 (dk_at dksX4_copy_0 9 rfl rfl)
theorem dX4_copy_10 : decode cX4_copy 10 = .ok (.getfield 48, 3) := dk_180 0 48 (dk_at dksX4_copy_0 10 rfl rfl)
theorem dX4_copy_13 : decode cX4_copy 13 = .ok (.putfield 48, 3) := dk_181 0 48 (dk_at dksX4_copy_0 13 rfl rfl)
theorem dX4_copy_16 : decode cX4_copy 16 = .ok (.aload_n 1, 1) := dk_43 (dk_at dksX4_copy_0 16 rfl rfl)
theorem dX4_copy_17 : decode cX4_copy 17 = .ok (.aload_n 0, 1) := dk_42 (dk_at dksX4_copy_0 17 rfl rfl)
theorem dX4_copy_18 : decode cX4_copy 18 = .ok (.getfield 9, 3) := dk_180 0 9 (dk_at dksX4_copy_0 18 rfl rfl)
theorem dX4_copy_21 : decode cX4_copy 21 = .ok (.putfield 9, 3) := dk_181 0 9 (dk_at dksX4_copy_0 21 rfl rfl)
theorem dX4_copy_24 : decode cX4_copy 24 = .ok (.aload_n 1, 1) := dk_43 (dk_at dksX4_copy_1 0 rfl rfl)
theorem dX4_copy_25 : decode cX4_copy 25 = .ok (.aload_n 0, 1) := dk_42 (dk_at dksX4_copy_1 1 rfl rfl)
theorem dX4_copy_26 : decode cX4_copy 26 = .ok (.getfield 15, 3) := dk_180 0 15 (dk_at dksX4_copy_1 2 rfl rfl)
theorem dX4_copy_29 : decode cX4_copy 29 = .ok (.putfield 15, 3) := dk_181 0 15 (dk_at dksX4_copy_1 5 rfl rfl)
theorem dX4_copy_32 : decode cX4_copy 32 = .ok (.aload_n 1, 1) := dk_43 (dk_at dksX4_copy_1 8 rfl rfl)
theorem dX4_copy_33 : decode cX4_copy 33 = .ok (.aload_n 0, 1) := dk_42 (dk_at dksX4_copy_1 9 rfl rfl)
theorem dX4_copy_34 : decode cX4_copy 34 = .ok (.getfield 51, 3) := dk_180 0 51 (dk_at dksX4_copy_1 10 rfl rfl)
theorem dX4_copy_37 : decode cX4_copy 37 = .ok (.putfield 51, 3) := dk_181 0 51 (dk_at dksX4_copy_1 13 rfl rfl)
theorem dX4_copy_40 : decode cX4_copy 40 = .ok (.aload_n 1, 1) := dk_43 (dk_at dksX4_copy_1 16 rfl rfl)
theorem dX4_copy_41 : decode cX4_copy 41 = .ok (.aload_n 0, 1) := dk_42 (dk_at dksX4_copy_1 17 rfl rfl)
theorem dX4_copy_42 : decode cX4_copy 42 = .ok (.getfield 54, 3) := dk_180 0 54 (dk_at dksX4_copy_1 18 rfl rfl)
theorem dX4_copy_45 : decode cX4_copy 45 = .ok (.putfield 54, 3) := dk_181 0 54 (dk_at dksX4_copy_1 21 rfl rfl)
theorem dX4_copy_48 : decode cX4_copy 48 = .ok (.aload_n 0, 1) := dk_42 (dk_at dksX4_copy_2 0 rfl rfl)
theorem dX4_copy_49 : decode cX4_copy 49 = .ok (.getfield 19, 3) := dk_180 0 19 (dk_at dksX4_copy_2 1 rfl rfl)
theorem dX4_copy_52 : decode cX4_copy 52 = .ok (.iconst 0, 1) := dk_3 (dk_at dksX4_copy_2 4 rfl rfl)
theorem dX4_copy_53 : decode cX4_copy 53 = .ok (.aload_n 1, 1) := dk_43 (dk_at dksX4_copy_2 5 rfl rfl)
theorem dX4_copy_54 : decode cX4_copy 54 = .ok (.getfield 19, 3) := dk_180 0 19 (dk_at dksX4_copy_2 6 rfl rfl)
theorem dX4_copy_57 : decode cX4_copy 57 = .ok (.iconst 0, 1) := dk_3 (dk_at dksX4_copy_2 9 rfl rfl)
theorem dX4_copy_58 : decode cX4_copy 58 = .ok (.bipush 12, 2) := dk_16 12 (dk_at dksX4_copy_2 10 rfl rfl)
theorem dX4_copy_60 : decode cX4_copy 60 = .ok (.invokestatic 57, 3) := dk_184 0 57 (dk_at dksX4_copy_2 12 rfl rfl)
theorem dX4_copy_63 : decode cX4_copy 63 = .ok (.aload_n 0, 1) := dk_42 (dk_at dksX4_copy_2 15 rfl rfl)
theorem dX4_copy_64 : decode cX4_copy 64 = .ok (.getfield 31, 3) := dk_180 0 31 (dk_at dksX4_copy_2 16 rfl rfl)
theorem dX4_copy_67 : decode cX4_copy 67 = .ok (.invokevirtual 63, 3) := dk_182 0 63 (dk_at dksX4_copy_2 19 rfl rfl)
theorem dX4_copy_70 : decode cX4_copy 70 = .ok (.astore_n 2, 1) := dk_77 (dk_at dksX4_copy_2 22 rfl rfl)
theorem dX4_copy_71 : decode cX4_copy 71 = .ok (.aload_n 2, 1) := dk_44 (dk_at dksX4_copy_2 23 rfl rfl)
theorem dX4_copy_72 : decode cX4_copy 72 = .ok (.invokeinterface 67 1, 5) := by decide +kernel
theorem dX4_copy_77 : decode cX4_copy 77 = .ok (.ifCond .eq 28, 3) := dk_153 0 28 (dk_at dksX4_copy_3 5 rfl rfl)
theorem dX4_copy_80 : decode cX4_copy 80 = .ok (.aload_n 2, 1) := dk_44 (dk_at dksX4_copy_3 8 rfl rfl)
theorem dX4_copy_81 : decode cX4_copy 81 = .ok (.invokeinterface 73 1, 5) := by decide +kernel
theorem dX4_copy_86 : decode cX4_copy 86 = .ok (.checkcast 35, 3) := dk_192 0 35 (dk_at dksX4_copy_3 14 rfl rfl)
theorem dX4_copy_89 : decode cX4_copy 89 = .ok (.astore_n 3, 1) := dk_78 (dk_at dksX4_copy_3 17 rfl rfl)
theorem dX4_copy_90 : decode cX4_copy 90 = .ok (.aload_n 1, 1) := dk_43 (dk_at dksX4_copy_3 18 rfl rfl)
theorem dX4_copy_91 : decode cX4_copy 91 = .ok (.getfield 31, 3) := dk_180 0 31 (dk_at dksX4_copy_3 19 rfl rfl)
theorem dX4_copy_94 : decode cX4_copy 94 = .ok (.aload_n 3, 1) := dk_45 (dk_at dksX4_copy_3 22 rfl rfl)
theorem dX4_copy_95 : decode cX4_copy 95 = .ok (.invokevirtual 77, 3) := dk_182 0 77 (dk_at dksX4_copy_4 0 rfl rfl)
theorem dX4_copy_98 : decode cX4_copy 98 = .ok (.invokevirtual 81, 3) := dk_182 0 81 (dk_at dksX4_copy_4 3 rfl rfl)
theorem dX4_copy_101 : decode cX4_copy 101 = .ok (.pop, 1) := dk_87 (dk_at dksX4_copy_4 6 rfl rfl)
theorem dX4_copy_102 : decode cX4_copy 102 = .ok (.goto (-31), 3) := dk_167 255 225 (dk_at dksX4_copy_4 7 rfl rfl)
theorem dX4_copy_105 : decode cX4_copy 105 = .ok (.aload_n 1, 1) := dk_43 (dk_at dksX4_copy_4 10 rfl rfl)
theorem dX4_copy_106 : decode cX4_copy 106 = .ok (.areturn, 1) := dk_176 (dk_at dksX4_copy_4 11 rfl rfl)
abbrev cX4_changes : ByteArray := prog_16_method_4_code
def yX4_changes : MethodName := ⟨RX4, "changes", "(II)V"⟩
def dkwX4_changes_3 : List UInt8 := [87, 42, 180, 0, 19, 27, 28, 79, 177]
abbrev dktX4_changes_3 : List UInt8 := dkwX4_changes_3 ++ []
def dkwX4_changes_2 : List UInt8 := [192, 0, 35, 180, 0, 98, 187, 0, 109, 89, 42, 180, 0, 48, 27, 28, 183, 0, 111, 185, 0, 114, 2, 0]
abbrev dktX4_changes_2 : List UInt8 := dkwX4_changes_2 ++ dktX4_changes_3
def dkwX4_changes_1 : List UInt8 := [185, 0, 102, 1, 0, 42, 180, 0, 15, 161, 0, 8, 42, 182, 0, 105, 87, 42, 180, 0, 31, 182, 0, 95]
abbrev dktX4_changes_1 : List UInt8 := dkwX4_changes_1 ++ dktX4_changes_2
def dkwX4_changes_0 : List UInt8 := [42, 180, 0, 9, 153, 0, 65, 42, 180, 0, 31, 182, 0, 95, 192, 0, 35, 180, 0, 98]
abbrev dktX4_changes_0 : List UInt8 := dkwX4_changes_0 ++ dktX4_changes_1
theorem dksX4_changes_0 : cX4_changes.data.toList.drop 0 = dktX4_changes_0 := by decide +kernel
theorem dksX4_changes_1 : cX4_changes.data.toList.drop 20 = dktX4_changes_1 := dk_seg dksX4_changes_0 20 rfl rfl
theorem dksX4_changes_2 : cX4_changes.data.toList.drop 44 = dktX4_changes_2 := dk_seg dksX4_changes_1 24 rfl rfl
theorem dksX4_changes_3 : cX4_changes.data.toList.drop 68 = dktX4_changes_3 := dk_seg dksX4_changes_2 24 rfl rfl
theorem dX4_changes_0 : decode cX4_changes 0 = .ok (.aload_n 0, 1) := dk_42 (dk_at dksX4_changes_0 0 rfl rfl)
theorem dX4_changes_1 : decode cX4_changes 1 = .ok (.getfield 9, 3) := dk_180 0 9 (dk_at dksX4_changes_0 1 rfl rfl)
theorem dX4_changes_4 : decode cX4_changes 4 = .ok (.ifCond .eq 65, 3) := dk_153 0 65 (dk_at dksX4_changes_0 4 rfl rfl)
theorem dX4_changes_7 : decode cX4_changes 7 = .ok (.aload_n 0, 1) := dk_42 (dk_at dksX4_changes_0 7 rfl rfl)
theorem dX4_changes_8 : decode cX4_changes 8 = .ok (.getfield 31, 3) := dk_180 0 31 (dk_at dksX4_changes_0 8 rfl rfl)
theorem dX4_changes_11 : decode cX4_changes 11 = .ok (.invokevirtual 95, 3) := dk_182 0 95 (dk_at dksX4_changes_0 11 rfl rfl)
theorem dX4_changes_14 : decode cX4_changes 14 = .ok (.checkcast 35, 3) := dk_192 0 35 (dk_at dksX4_changes_0 14 rfl rfl)
theorem dX4_changes_17 : decode cX4_changes 17 = .ok (.getfield 98, 3) := dk_180 0 98 (dk_at dksX4_changes_0 17 rfl rfl)
theorem dX4_changes_20 : decode cX4_changes 20 = .ok (.invokeinterface 102 1, 5) := by decide +kernel
theorem dX4_changes_25 : decode cX4_changes 25 = .ok (.aload_n 0, 1) := dk_42 (dk_at dksX4_changes_1 5 rfl rfl)
theorem dX4_changes_26 : decode cX4_changes 26 = .ok (.getfield 15, 3) := dk_180 0 15 (dk_at dksX4_changes_1 6 rfl rfl)
theorem dX4_changes_29 : decode cX4_changes 29 = .ok (.if_icmp .lt 8, 3) := dk_161 0 8 (dk_at dksX4_changes_1 9 rfl rfl)
theorem dX4_changes_32 : decode cX4_changes 32 = .ok (.aload_n 0, 1) := dk_42 (dk_at dksX4_changes_1 12 rfl rfl)
theorem dX4_changes_33 : decode cX4_changes 33 = .ok (.invokevirtual 105, 3) := dk_182 0 105 (dk_at dksX4_changes_1 13 rfl rfl)
theorem dX4_changes_36 : decode cX4_changes 36 = .ok (.pop, 1) := dk_87 (dk_at dksX4_changes_1 16 rfl rfl)
theorem dX4_changes_37 : decode cX4_changes 37 = .ok (.aload_n 0, 1) := dk_42 (dk_at dksX4_changes_1 17 rfl rfl)
theorem dX4_changes_38 : decode cX4_changes 38 = .ok (.getfield 31, 3) := dk_180 0 31 (dk_at dksX4_changes_1 18 rfl rfl)
theorem dX4_changes_41 : decode cX4_changes 41 = .ok (.invokevirtual 95, 3) := dk_182 0 95 (dk_at dksX4_changes_1 21 rfl rfl)
theorem dX4_changes_44 : decode cX4_changes 44 = .ok (.checkcast 35, 3) := dk_192 0 35 (dk_at dksX4_changes_2 0 rfl rfl)
theorem dX4_changes_47 : decode cX4_changes 47 = .ok (.getfield 98, 3) := dk_180 0 98 (dk_at dksX4_changes_2 3 rfl rfl)
theorem dX4_changes_50 : decode cX4_changes 50 = .ok (.new 109, 3) := dk_187 0 109 (dk_at dksX4_changes_2 6 rfl rfl)
theorem dX4_changes_53 : decode cX4_changes 53 = .ok (.dup, 1) := dk_89 (dk_at dksX4_changes_2 9 rfl rfl)
theorem dX4_changes_54 : decode cX4_changes 54 = .ok (.aload_n 0, 1) := dk_42 (dk_at dksX4_changes_2 10 rfl rfl)
theorem dX4_changes_55 : decode cX4_changes 55 = .ok (.getfield 48, 3) := dk_180 0 48 (dk_at dksX4_changes_2 11 rfl rfl)
theorem dX4_changes_58 : decode cX4_changes 58 = .ok (.iload_n 1, 1) := dk_27 (dk_at dksX4_changes_2 14 rfl rfl)
theorem dX4_changes_59 : decode cX4_changes 59 = .ok (.iload_n 2, 1) := dk_28 (dk_at dksX4_changes_2 15 rfl rfl)
theorem dX4_changes_60 : decode cX4_changes 60 = .ok (.invokespecial 111, 3) := dk_183 0 111 (dk_at dksX4_changes_2 16 rfl rfl)
theorem dX4_changes_63 : decode cX4_changes 63 = .ok (.invokeinterface 114 2, 5) := by decide +kernel
theorem dX4_changes_68 : decode cX4_changes 68 = .ok (.pop, 1) := dk_87 (dk_at dksX4_changes_3 0 rfl rfl)
theorem dX4_changes_69 : decode cX4_changes 69 = .ok (.aload_n 0, 1) := dk_42 (dk_at dksX4_changes_3 1 rfl rfl)
theorem dX4_changes_70 : decode cX4_changes 70 = .ok (.getfield 19, 3) := dk_180 0 19 (dk_at dksX4_changes_3 2 rfl rfl)
theorem dX4_changes_73 : decode cX4_changes 73 = .ok (.iload_n 1, 1) := dk_27 (dk_at dksX4_changes_3 5 rfl rfl)
theorem dX4_changes_74 : decode cX4_changes 74 = .ok (.iload_n 2, 1) := dk_28 (dk_at dksX4_changes_3 6 rfl rfl)
theorem dX4_changes_75 : decode cX4_changes 75 = .ok (.iastore, 1) := dk_79 (dk_at dksX4_changes_3 7 rfl rfl)
theorem dX4_changes_76 : decode cX4_changes 76 = .ok (.return_, 1) := dk_177 (dk_at dksX4_changes_3 8 rfl rfl)
abbrev cX4_goesOff : ByteArray := prog_16_method_5_code
def yX4_goesOff : MethodName := ⟨RX4, "goesOff", "()V"⟩
def dkwX4_goesOff_0 : List UInt8 := [42, 3, 181, 0, 9, 42, 180, 0, 31, 182, 0, 95, 192, 0, 35, 42, 180, 0, 48, 181, 0, 115, 177]
abbrev dktX4_goesOff_0 : List UInt8 := dkwX4_goesOff_0 ++ []
theorem dksX4_goesOff_0 : cX4_goesOff.data.toList.drop 0 = dktX4_goesOff_0 := by decide +kernel
theorem dX4_goesOff_0 : decode cX4_goesOff 0 = .ok (.aload_n 0, 1) := dk_42 (dk_at dksX4_goesOff_0 0 rfl rfl)
theorem dX4_goesOff_1 : decode cX4_goesOff 1 = .ok (.iconst 0, 1) := dk_3 (dk_at dksX4_goesOff_0 1 rfl rfl)
theorem dX4_goesOff_2 : decode cX4_goesOff 2 = .ok (.putfield 9, 3) := dk_181 0 9 (dk_at dksX4_goesOff_0 2 rfl rfl)
theorem dX4_goesOff_5 : decode cX4_goesOff 5 = .ok (.aload_n 0, 1) := dk_42 (dk_at dksX4_goesOff_0 5 rfl rfl)
theorem dX4_goesOff_6 : decode cX4_goesOff 6 = .ok (.getfield 31, 3) := dk_180 0 31 (dk_at dksX4_goesOff_0 6 rfl rfl)
theorem dX4_goesOff_9 : decode cX4_goesOff 9 = .ok (.invokevirtual 95, 3) := dk_182 0 95 (dk_at dksX4_goesOff_0 9 rfl rfl)
theorem dX4_goesOff_12 : decode cX4_goesOff 12 = .ok (.checkcast 35, 3) := dk_192 0 35 (dk_at dksX4_goesOff_0 12 rfl rfl)
theorem dX4_goesOff_15 : decode cX4_goesOff 15 = .ok (.aload_n 0, 1) := dk_42 (dk_at dksX4_goesOff_0 15 rfl rfl)
theorem dX4_goesOff_16 : decode cX4_goesOff 16 = .ok (.getfield 48, 3) := dk_180 0 48 (dk_at dksX4_goesOff_0 16 rfl rfl)
theorem dX4_goesOff_19 : decode cX4_goesOff 19 = .ok (.putfield 115, 3) := dk_181 0 115 (dk_at dksX4_goesOff_0 19 rfl rfl)
theorem dX4_goesOff_22 : decode cX4_goesOff 22 = .ok (.return_, 1) := dk_177 (dk_at dksX4_goesOff_0 22 rfl rfl)
abbrev cX4_by : ByteArray := prog_16_method_6_code
def yX4_by : MethodName := ⟨RX4, "by", "(I)LSignalWaves$Block;"⟩
def dkwX4_by_2 : List UInt8 := [44, 176]
abbrev dktX4_by_2 : List UInt8 := dkwX4_by_2 ++ []
def dkwX4_by_1 : List UInt8 := [198, 0, 20, 44, 180, 0, 115, 16, 247, 159, 0, 15, 44, 180, 0, 115, 27, 162, 0, 7, 1, 167, 0, 4]
abbrev dktX4_by_1 : List UInt8 := dkwX4_by_1 ++ dktX4_by_2
def dkwX4_by_0 : List UInt8 := [42, 180, 0, 43, 27, 181, 0, 118, 42, 180, 0, 31, 42, 180, 0, 43, 182, 0, 121, 192, 0, 35, 77, 44]
abbrev dktX4_by_0 : List UInt8 := dkwX4_by_0 ++ dktX4_by_1
theorem dksX4_by_0 : cX4_by.data.toList.drop 0 = dktX4_by_0 := by decide +kernel
theorem dksX4_by_1 : cX4_by.data.toList.drop 24 = dktX4_by_1 := dk_seg dksX4_by_0 24 rfl rfl
theorem dksX4_by_2 : cX4_by.data.toList.drop 48 = dktX4_by_2 := dk_seg dksX4_by_1 24 rfl rfl
theorem dX4_by_0 : decode cX4_by 0 = .ok (.aload_n 0, 1) := dk_42 (dk_at dksX4_by_0 0 rfl rfl)
theorem dX4_by_1 : decode cX4_by 1 = .ok (.getfield 43, 3) := dk_180 0 43 (dk_at dksX4_by_0 1 rfl rfl)
theorem dX4_by_4 : decode cX4_by 4 = .ok (.iload_n 1, 1) := dk_27 (dk_at dksX4_by_0 4 rfl rfl)
theorem dX4_by_5 : decode cX4_by 5 = .ok (.putfield 118, 3) := dk_181 0 118 (dk_at dksX4_by_0 5 rfl rfl)
theorem dX4_by_8 : decode cX4_by 8 = .ok (.aload_n 0, 1) := dk_42 (dk_at dksX4_by_0 8 rfl rfl)
theorem dX4_by_9 : decode cX4_by 9 = .ok (.getfield 31, 3) := dk_180 0 31 (dk_at dksX4_by_0 9 rfl rfl)
theorem dX4_by_12 : decode cX4_by 12 = .ok (.aload_n 0, 1) := dk_42 (dk_at dksX4_by_0 12 rfl rfl)
theorem dX4_by_13 : decode cX4_by 13 = .ok (.getfield 43, 3) := dk_180 0 43 (dk_at dksX4_by_0 13 rfl rfl)
theorem dX4_by_16 : decode cX4_by 16 = .ok (.invokevirtual 121, 3) := dk_182 0 121 (dk_at dksX4_by_0 16 rfl rfl)
theorem dX4_by_19 : decode cX4_by 19 = .ok (.checkcast 35, 3) := dk_192 0 35 (dk_at dksX4_by_0 19 rfl rfl)
theorem dX4_by_22 : decode cX4_by 22 = .ok (.astore_n 2, 1) := dk_77 (dk_at dksX4_by_0 22 rfl rfl)
theorem dX4_by_23 : decode cX4_by 23 = .ok (.aload_n 2, 1) := dk_44 (dk_at dksX4_by_0 23 rfl rfl)
theorem dX4_by_24 : decode cX4_by 24 = .ok (.ifnull 20, 3) := dk_198 0 20 (dk_at dksX4_by_1 0 rfl rfl)
theorem dX4_by_27 : decode cX4_by 27 = .ok (.aload_n 2, 1) := dk_44 (dk_at dksX4_by_1 3 rfl rfl)
theorem dX4_by_28 : decode cX4_by 28 = .ok (.getfield 115, 3) := dk_180 0 115 (dk_at dksX4_by_1 4 rfl rfl)
theorem dX4_by_31 : decode cX4_by 31 = .ok (.bipush (-9), 2) := dk_16 247 (dk_at dksX4_by_1 7 rfl rfl)
theorem dX4_by_33 : decode cX4_by 33 = .ok (.if_icmp .eq 15, 3) := dk_159 0 15 (dk_at dksX4_by_1 9 rfl rfl)
theorem dX4_by_36 : decode cX4_by 36 = .ok (.aload_n 2, 1) := dk_44 (dk_at dksX4_by_1 12 rfl rfl)
theorem dX4_by_37 : decode cX4_by 37 = .ok (.getfield 115, 3) := dk_180 0 115 (dk_at dksX4_by_1 13 rfl rfl)
theorem dX4_by_40 : decode cX4_by 40 = .ok (.iload_n 1, 1) := dk_27 (dk_at dksX4_by_1 16 rfl rfl)
theorem dX4_by_41 : decode cX4_by 41 = .ok (.if_icmp .ge 7, 3) := dk_162 0 7 (dk_at dksX4_by_1 17 rfl rfl)
theorem dX4_by_44 : decode cX4_by 44 = .ok (.aconst_null, 1) := dk_1 (dk_at dksX4_by_1 20 rfl rfl)
theorem dX4_by_45 : decode cX4_by 45 = .ok (.goto 4, 3) := dk_167 0 4 (dk_at dksX4_by_1 21 rfl rfl)
theorem dX4_by_48 : decode cX4_by 48 = .ok (.aload_n 2, 1) := dk_44 (dk_at dksX4_by_2 0 rfl rfl)
theorem dX4_by_49 : decode cX4_by 49 = .ok (.areturn, 1) := dk_176 (dk_at dksX4_by_2 1 rfl rfl)
theorem q103 : (Jvm.Cond.initialized "SignalWaves$Wave") ∈ lw_all := lw_g (lw_at lw_m1 10 rfl) rfl
theorem q295 : (Jvm.Cond.instantiable "SignalWaves$Wave" (8 : Nat)) ∈ lw_all := lw_g (lw_at lw_m1 202 rfl) rfl
theorem q297 : (Jvm.Cond.instanceMethod ({ cls := "SignalWaves$Wave", name := "<init>", desc := "()V" } : Jvm.MethodName)) ∈ lw_all := lw_g (lw_at lw_m1 204 rfl) rfl
theorem q298 : (Jvm.Cond.code ({ cls := "SignalWaves$Wave", name := "<init>", desc := "()V" } : Jvm.MethodName) prog_16_method_1_code (1 : Nat) (Option.none : Option Jvm.ClassFile.FieldType)) ∈ lw_all := lw_g (lw_at lw_m1 205 rfl) rfl
theorem q299 : (Jvm.Cond.methodLink "SignalWaves$Wave" (3 : Nat) ({ cls := "java/lang/Object", name := "<init>", desc := "()V" } : Jvm.MethodName)) ∈ lw_all := lw_g (lw_at lw_m1 206 rfl) rfl
theorem q300 : (Jvm.Cond.classLink "SignalWaves$Wave" (23 : Nat) "java/util/TreeSet") ∈ lw_all := lw_g (lw_at lw_m1 207 rfl) rfl
theorem q302 : (Jvm.Cond.classLink "SignalWaves$Wave" (25 : Nat) "SignalWaves$ByBegin") ∈ lw_all := lw_g (lw_at lw_m1 209 rfl) rfl
theorem q304 : (Jvm.Cond.methodLinkNest "SignalWaves$Wave" (27 : Nat) ({ cls := "SignalWaves$ByBegin", name := "<init>", desc := "()V" } : Jvm.MethodName) "SignalWaves") ∈ lw_tbl := lw_at lw_m1 211 rfl
theorem q310 : (Jvm.Cond.methodLink "SignalWaves$Wave" (28 : Nat) ({ cls := "java/util/TreeSet", name := "<init>", desc := "(Ljava/util/Comparator;)V" } : Jvm.MethodName)) ∈ lw_all := lw_g (lw_at lw_m1 217 rfl) rfl
theorem q328 : (Jvm.Cond.classLink "SignalWaves$Wave" (35 : Nat) "SignalWaves$Block") ∈ lw_all := lw_g (lw_at lw_m1 235 rfl) rfl
theorem q330 : (Jvm.Cond.constant "SignalWaves$Wave" (39 : Nat) (2147483647 : Int32)) ∈ lw_all := lw_g (lw_at lw_m1 237 rfl) rfl
theorem q331 : (Jvm.Cond.methodLink "SignalWaves$Wave" (40 : Nat) ({ cls := "SignalWaves$Block", name := "<init>", desc := "(II[I)V" } : Jvm.MethodName)) ∈ lw_all := lw_g (lw_at lw_m1 238 rfl) rfl
theorem q341 : (Jvm.Cond.fieldLinkNest "SignalWaves$Wave" (118 : Nat) "SignalWaves$Block" "begin" "I" "SignalWaves") ∈ lw_tbl := lw_at lw_m2 8 rfl
theorem q346 : (Jvm.Cond.fieldLinkNest "SignalWaves$Wave" (115 : Nat) "SignalWaves$Block" "end" "I" "SignalWaves") ∈ lw_tbl := lw_at lw_m2 13 rfl
theorem q349 : (Jvm.Cond.fieldLinkNest "SignalWaves$Wave" (98 : Nat) "SignalWaves$Block" "changes" "Ljava/util/List;" "SignalWaves") ∈ lw_tbl := lw_at lw_m2 16 rfl
theorem q362 : (Jvm.Cond.fieldLink "SignalWaves$Wave" (48 : Nat) "SignalWaves$Wave" "time" "I") ∈ lw_all := lw_g (lw_at lw_m2 29 rfl) rfl
theorem q364 : (Jvm.Cond.fieldLink "SignalWaves$Wave" (9 : Nat) "SignalWaves$Wave" "isOn" "Z") ∈ lw_all := lw_g (lw_at lw_m2 31 rfl) rfl
theorem q366 : (Jvm.Cond.fieldLink "SignalWaves$Wave" (15 : Nat) "SignalWaves$Wave" "size" "I") ∈ lw_all := lw_g (lw_at lw_m2 33 rfl) rfl
theorem q368 : (Jvm.Cond.fieldLink "SignalWaves$Wave" (51 : Nat) "SignalWaves$Wave" "lost" "I") ∈ lw_all := lw_g (lw_at lw_m2 35 rfl) rfl
theorem q370 : (Jvm.Cond.fieldLink "SignalWaves$Wave" (54 : Nat) "SignalWaves$Wave" "begun" "I") ∈ lw_all := lw_g (lw_at lw_m2 37 rfl) rfl
theorem q371 : (Jvm.Cond.fieldLink "SignalWaves$Wave" (19 : Nat) "SignalWaves$Wave" "values" "[I") ∈ lw_all := lw_g (lw_at lw_m2 38 rfl) rfl
theorem q373 : (Jvm.Cond.fieldLink "SignalWaves$Wave" (31 : Nat) "SignalWaves$Wave" "blocks" "Ljava/util/TreeSet;") ∈ lw_all := lw_g (lw_at lw_m2 40 rfl) rfl
theorem q375 : (Jvm.Cond.fieldLink "SignalWaves$Wave" (43 : Nat) "SignalWaves$Wave" "behind" "LSignalWaves$Block;") ∈ lw_all := lw_g (lw_at lw_m2 42 rfl) rfl
theorem q376 : (Jvm.Cond.lays "SignalWaves$Wave" "SignalWaves$Wave" "time" "I") ∈ lw_all := lw_g (lw_at lw_m2 43 rfl) rfl
theorem q377 : (Jvm.Cond.soleField "SignalWaves$Wave" "time") ∈ lw_all := lw_g (lw_at lw_m2 44 rfl) rfl
theorem q378 : (Jvm.Cond.lays "SignalWaves$Wave" "SignalWaves$Wave" "isOn" "Z") ∈ lw_all := lw_g (lw_at lw_m2 45 rfl) rfl
theorem q379 : (Jvm.Cond.soleField "SignalWaves$Wave" "isOn") ∈ lw_all := lw_g (lw_at lw_m2 46 rfl) rfl
theorem q380 : (Jvm.Cond.lays "SignalWaves$Wave" "SignalWaves$Wave" "size" "I") ∈ lw_all := lw_g (lw_at lw_m2 47 rfl) rfl
theorem q381 : (Jvm.Cond.soleField "SignalWaves$Wave" "size") ∈ lw_all := lw_g (lw_at lw_m2 48 rfl) rfl
theorem q382 : (Jvm.Cond.lays "SignalWaves$Wave" "SignalWaves$Wave" "lost" "I") ∈ lw_all := lw_g (lw_at lw_m2 49 rfl) rfl
theorem q383 : (Jvm.Cond.soleField "SignalWaves$Wave" "lost") ∈ lw_all := lw_g (lw_at lw_m2 50 rfl) rfl
theorem q384 : (Jvm.Cond.lays "SignalWaves$Wave" "SignalWaves$Wave" "begun" "I") ∈ lw_all := lw_g (lw_at lw_m2 51 rfl) rfl
theorem q385 : (Jvm.Cond.soleField "SignalWaves$Wave" "begun") ∈ lw_all := lw_g (lw_at lw_m2 52 rfl) rfl
theorem q386 : (Jvm.Cond.laysFinal "SignalWaves$Wave" "SignalWaves$Wave" "values" "[I") ∈ lw_all := lw_g (lw_at lw_m2 53 rfl) rfl
theorem q387 : (Jvm.Cond.soleField "SignalWaves$Wave" "values") ∈ lw_all := lw_g (lw_at lw_m2 54 rfl) rfl
theorem q388 : (Jvm.Cond.laysFinal "SignalWaves$Wave" "SignalWaves$Wave" "blocks" "Ljava/util/TreeSet;") ∈ lw_all := lw_g (lw_at lw_m2 55 rfl) rfl
theorem q389 : (Jvm.Cond.soleField "SignalWaves$Wave" "blocks") ∈ lw_all := lw_g (lw_at lw_m2 56 rfl) rfl
theorem q390 : (Jvm.Cond.laysFinal "SignalWaves$Wave" "SignalWaves$Wave" "behind" "LSignalWaves$Block;") ∈ lw_all := lw_g (lw_at lw_m2 57 rfl) rfl
theorem q391 : (Jvm.Cond.soleField "SignalWaves$Wave" "behind") ∈ lw_all := lw_g (lw_at lw_m2 58 rfl) rfl
theorem q392 : (Jvm.Cond.superclass "SignalWaves$Wave" "java/lang/Object") ∈ lw_all := lw_g (lw_at lw_m2 59 rfl) rfl
theorem q394 : (Jvm.Cond.instanceMethod ({ cls := "SignalWaves$Wave", name := "begins", desc := "()LSignalWaves$Wave;" } : Jvm.MethodName)) ∈ lw_all := lw_g (lw_at lw_m2 61 rfl) rfl
theorem q395 : (Jvm.Cond.selects "SignalWaves$Wave" ({ cls := "SignalWaves$Wave", name := "begins", desc := "()LSignalWaves$Wave;" } : Jvm.MethodName) ({ cls := "SignalWaves$Wave", name := "begins", desc := "()LSignalWaves$Wave;" } : Jvm.MethodName)) ∈ lw_all := lw_g (lw_at lw_m2 62 rfl) rfl
theorem q396 : (Jvm.Cond.code ({ cls := "SignalWaves$Wave", name := "begins", desc := "()LSignalWaves$Wave;" } : Jvm.MethodName) prog_16_method_3_code (1 : Nat) (Option.some (Jvm.ClassFile.FieldType.object "SignalWaves$Wave"))) ∈ lw_all := lw_g (lw_at lw_m2 63 rfl) rfl
theorem q397 : (Jvm.Cond.methodLink "SignalWaves$Wave" (85 : Nat) ({ cls := "[I", name := "clone", desc := "()Ljava/lang/Object;" } : Jvm.MethodName)) ∈ lw_all := lw_g (lw_at lw_m2 64 rfl) rfl
theorem q403 : (Jvm.Cond.classLink "SignalWaves$Wave" (86 : Nat) "[I") ∈ lw_all := lw_g (lw_at lw_m2 70 rfl) rfl
theorem q404 : (Jvm.Cond.methodLink "SignalWaves$Wave" (81 : Nat) ({ cls := "java/util/TreeSet", name := "add", desc := "(Ljava/lang/Object;)Z" } : Jvm.MethodName)) ∈ lw_all := lw_g (lw_at lw_m2 71 rfl) rfl
theorem q736 : (Jvm.Cond.methodLink "SignalWaves$Wave" (89 : Nat) ({ cls := "java/util/TreeSet", name := "size", desc := "()I" } : Jvm.MethodName)) ∈ lw_all := lw_g (lw_at lw_m3 163 rfl) rfl
theorem q977 : (Jvm.Cond.methodLink "SignalWaves$Wave" (92 : Nat) ({ cls := "java/util/TreeSet", name := "pollFirst", desc := "()Ljava/lang/Object;" } : Jvm.MethodName)) ∈ lw_all := lw_g (lw_at lw_m4 164 rfl) rfl
theorem q1440 : (Jvm.Cond.selects "SignalWaves$Wave" ({ cls := "java/lang/Object", name := "getClass", desc := "()Ljava/lang/Class;" } : Jvm.MethodName) ({ cls := "java/lang/Object", name := "getClass", desc := "()Ljava/lang/Class;" } : Jvm.MethodName)) ∈ lw_all := lw_g (lw_at lw_m6 147 rfl) rfl
theorem q1685 : (Jvm.Cond.selects "SignalWaves$Wave" ({ cls := "java/lang/Object", name := "equals", desc := "(Ljava/lang/Object;)Z" } : Jvm.MethodName) ({ cls := "java/lang/Object", name := "equals", desc := "(Ljava/lang/Object;)Z" } : Jvm.MethodName)) ∈ lw_all := lw_g (lw_at lw_m7 152 rfl) rfl
theorem q1985 : (Jvm.Cond.instanceMethod ({ cls := "SignalWaves$Wave", name := "copy", desc := "()LSignalWaves$Wave;" } : Jvm.MethodName)) ∈ lw_all := lw_g (lw_at lw_m8 212 rfl) rfl
theorem q1986 : (Jvm.Cond.selects "SignalWaves$Wave" ({ cls := "SignalWaves$Wave", name := "copy", desc := "()LSignalWaves$Wave;" } : Jvm.MethodName) ({ cls := "SignalWaves$Wave", name := "copy", desc := "()LSignalWaves$Wave;" } : Jvm.MethodName)) ∈ lw_all := lw_g (lw_at lw_m8 213 rfl) rfl
theorem q1987 : (Jvm.Cond.code ({ cls := "SignalWaves$Wave", name := "copy", desc := "()LSignalWaves$Wave;" } : Jvm.MethodName) prog_16_method_2_code (4 : Nat) (Option.some (Jvm.ClassFile.FieldType.object "SignalWaves$Wave"))) ∈ lw_all := lw_g (lw_at lw_m8 214 rfl) rfl
theorem q1988 : (Jvm.Cond.classLink "SignalWaves$Wave" (10 : Nat) "SignalWaves$Wave") ∈ lw_all := lw_g (lw_at lw_m8 215 rfl) rfl
theorem q1989 : (Jvm.Cond.methodLink "SignalWaves$Wave" (47 : Nat) ({ cls := "SignalWaves$Wave", name := "<init>", desc := "()V" } : Jvm.MethodName)) ∈ lw_all := lw_g (lw_at lw_m8 216 rfl) rfl
theorem q1990 : (Jvm.Cond.methodLink "SignalWaves$Wave" (57 : Nat) ({ cls := "java/lang/System", name := "arraycopy", desc := "(Ljava/lang/Object;ILjava/lang/Object;II)V" } : Jvm.MethodName)) ∈ lw_all := lw_g (lw_at lw_m8 217 rfl) rfl
theorem q1991 : (Jvm.Cond.methodLink "SignalWaves$Wave" (63 : Nat) ({ cls := "java/util/TreeSet", name := "iterator", desc := "()Ljava/util/Iterator;" } : Jvm.MethodName)) ∈ lw_all := lw_g (lw_at lw_m8 218 rfl) rfl
theorem q1992 : (Jvm.Cond.interfaceEntry "SignalWaves$Wave" (67 : Nat)) ∈ lw_tbl := lw_at lw_m8 219 rfl
theorem q1993 : (Jvm.Cond.methodLink "SignalWaves$Wave" (67 : Nat) ({ cls := "java/util/Iterator", name := "hasNext", desc := "()Z" } : Jvm.MethodName)) ∈ lw_all := lw_g (lw_at lw_m8 220 rfl) rfl
theorem q1994 : (Jvm.Cond.interfaceEntry "SignalWaves$Wave" (73 : Nat)) ∈ lw_tbl := lw_at lw_m8 221 rfl
theorem q1995 : (Jvm.Cond.methodLink "SignalWaves$Wave" (73 : Nat) ({ cls := "java/util/Iterator", name := "next", desc := "()Ljava/lang/Object;" } : Jvm.MethodName)) ∈ lw_all := lw_g (lw_at lw_m8 222 rfl) rfl
theorem q1996 : (Jvm.Cond.methodLink "SignalWaves$Wave" (77 : Nat) ({ cls := "SignalWaves$Block", name := "copy", desc := "()LSignalWaves$Block;" } : Jvm.MethodName)) ∈ lw_all := lw_g (lw_at lw_m8 223 rfl) rfl
theorem q2064 : (Jvm.Cond.instanceMethod ({ cls := "SignalWaves$Wave", name := "changes", desc := "(II)V" } : Jvm.MethodName)) ∈ lw_all := lw_g (lw_at lw_m9 51 rfl) rfl
theorem q2065 : (Jvm.Cond.selects "SignalWaves$Wave" ({ cls := "SignalWaves$Wave", name := "changes", desc := "(II)V" } : Jvm.MethodName) ({ cls := "SignalWaves$Wave", name := "changes", desc := "(II)V" } : Jvm.MethodName)) ∈ lw_all := lw_g (lw_at lw_m9 52 rfl) rfl
theorem q2066 : (Jvm.Cond.code ({ cls := "SignalWaves$Wave", name := "changes", desc := "(II)V" } : Jvm.MethodName) prog_16_method_4_code (3 : Nat) (Option.none : Option Jvm.ClassFile.FieldType)) ∈ lw_all := lw_g (lw_at lw_m9 53 rfl) rfl
theorem q2067 : (Jvm.Cond.methodLink "SignalWaves$Wave" (95 : Nat) ({ cls := "java/util/TreeSet", name := "last", desc := "()Ljava/lang/Object;" } : Jvm.MethodName)) ∈ lw_all := lw_g (lw_at lw_m9 54 rfl) rfl
theorem q2113 : (Jvm.Cond.interfaceEntry "SignalWaves$Wave" (102 : Nat)) ∈ lw_tbl := lw_at lw_m9 100 rfl
theorem q2114 : (Jvm.Cond.methodLink "SignalWaves$Wave" (102 : Nat) ({ cls := "java/util/List", name := "size", desc := "()I" } : Jvm.MethodName)) ∈ lw_all := lw_g (lw_at lw_m9 101 rfl) rfl
theorem q2115 : (Jvm.Cond.methodLink "SignalWaves$Wave" (105 : Nat) ({ cls := "SignalWaves$Wave", name := "begins", desc := "()LSignalWaves$Wave;" } : Jvm.MethodName)) ∈ lw_all := lw_g (lw_at lw_m9 102 rfl) rfl
theorem q2116 : (Jvm.Cond.classLink "SignalWaves$Wave" (109 : Nat) "SignalWaves$Change") ∈ lw_all := lw_g (lw_at lw_m9 103 rfl) rfl
theorem q2118 : (Jvm.Cond.methodLink "SignalWaves$Wave" (111 : Nat) ({ cls := "SignalWaves$Change", name := "<init>", desc := "(III)V" } : Jvm.MethodName)) ∈ lw_all := lw_g (lw_at lw_m9 105 rfl) rfl
theorem q2135 : (Jvm.Cond.interfaceEntry "SignalWaves$Wave" (114 : Nat)) ∈ lw_tbl := lw_at lw_m9 122 rfl
theorem q2136 : (Jvm.Cond.methodLink "SignalWaves$Wave" (114 : Nat) ({ cls := "java/util/List", name := "add", desc := "(Ljava/lang/Object;)Z" } : Jvm.MethodName)) ∈ lw_all := lw_g (lw_at lw_m9 123 rfl) rfl
theorem q2146 : (Jvm.Cond.instanceMethod ({ cls := "SignalWaves$Wave", name := "goesOff", desc := "()V" } : Jvm.MethodName)) ∈ lw_all := lw_g (lw_at lw_m9 133 rfl) rfl
theorem q2147 : (Jvm.Cond.selects "SignalWaves$Wave" ({ cls := "SignalWaves$Wave", name := "goesOff", desc := "()V" } : Jvm.MethodName) ({ cls := "SignalWaves$Wave", name := "goesOff", desc := "()V" } : Jvm.MethodName)) ∈ lw_all := lw_g (lw_at lw_m9 134 rfl) rfl
theorem q2148 : (Jvm.Cond.code ({ cls := "SignalWaves$Wave", name := "goesOff", desc := "()V" } : Jvm.MethodName) prog_16_method_5_code (1 : Nat) (Option.none : Option Jvm.ClassFile.FieldType)) ∈ lw_all := lw_g (lw_at lw_m9 135 rfl) rfl
theorem q2171 : (Jvm.Cond.instanceMethod ({ cls := "SignalWaves$Wave", name := "by", desc := "(I)LSignalWaves$Block;" } : Jvm.MethodName)) ∈ lw_all := lw_g (lw_at lw_m9 158 rfl) rfl
theorem q2172 : (Jvm.Cond.selects "SignalWaves$Wave" ({ cls := "SignalWaves$Wave", name := "by", desc := "(I)LSignalWaves$Block;" } : Jvm.MethodName) ({ cls := "SignalWaves$Wave", name := "by", desc := "(I)LSignalWaves$Block;" } : Jvm.MethodName)) ∈ lw_all := lw_g (lw_at lw_m9 159 rfl) rfl
theorem q2173 : (Jvm.Cond.code ({ cls := "SignalWaves$Wave", name := "by", desc := "(I)LSignalWaves$Block;" } : Jvm.MethodName) prog_16_method_6_code (3 : Nat) (Option.some (Jvm.ClassFile.FieldType.object "SignalWaves$Block"))) ∈ lw_all := lw_g (lw_at lw_m9 160 rfl) rfl
theorem q2174 : (Jvm.Cond.methodLink "SignalWaves$Wave" (121 : Nat) ({ cls := "java/util/TreeSet", name := "floor", desc := "(Ljava/lang/Object;)Ljava/lang/Object;" } : Jvm.MethodName)) ∈ lw_all := lw_g (lw_at lw_m9 161 rfl) rfl
theorem q3107 : (Jvm.Cond.castable "SignalWaves$Wave" "java/lang/Object") ∈ lw_tbl := lw_at lw_m13 134 rfl
theorem in_X4 : ∀ w ∈ wsX40, w ∈ lw_all := lw_in wsX40 [376, 378, 380, 382, 384, 386, 388, 390] (by decide +kernel) (by decide +kernel)

/-! SignalWaves$ByBegin -/
set_option maxRecDepth 100000
def RX5 : String := "SignalWaves$ByBegin"
abbrev cX5_init : ByteArray := prog_5_method_1_code
def yX5_init : MethodName := ⟨RX5, "<init>", "()V"⟩
theorem dX5_init_0 : decode cX5_init 0 = .ok (.aload_n 0, 1) := by decide +kernel
theorem dX5_init_1 : decode cX5_init 1 = .ok (.invokespecial 1, 3) := by decide +kernel
theorem dX5_init_4 : decode cX5_init 4 = .ok (.return_, 1) := by decide +kernel
abbrev cX5_compare : ByteArray := prog_5_method_3_code
def yX5_compare : MethodName := ⟨RX5, "compare", "(Ljava/lang/Object;Ljava/lang/Object;)I"⟩
def dkwX5_compare_0 : List UInt8 := [42, 43, 192, 0, 8, 44, 192, 0, 8, 182, 0, 22, 172]
abbrev dktX5_compare_0 : List UInt8 := dkwX5_compare_0 ++ []
theorem dksX5_compare_0 : cX5_compare.data.toList.drop 0 = dktX5_compare_0 := by decide +kernel
theorem dX5_compare_0 : decode cX5_compare 0 = .ok (.aload_n 0, 1) := dk_42 (dk_at dksX5_compare_0 0 rfl rfl)
theorem dX5_compare_1 : decode cX5_compare 1 = .ok (.aload_n 1, 1) := dk_43 (dk_at dksX5_compare_0 1 rfl rfl)
theorem dX5_compare_2 : decode cX5_compare 2 = .ok (.checkcast 8, 3) := dk_192 0 8 (dk_at dksX5_compare_0 2 rfl rfl)
theorem dX5_compare_5 : decode cX5_compare 5 = .ok (.aload_n 2, 1) := dk_44 (dk_at dksX5_compare_0 5 rfl rfl)
theorem dX5_compare_6 : decode cX5_compare 6 = .ok (.checkcast 8, 3) := dk_192 0 8 (dk_at dksX5_compare_0 6 rfl rfl)
theorem dX5_compare_9 : decode cX5_compare 9 = .ok (.invokevirtual 22, 3) := dk_182 0 22 (dk_at dksX5_compare_0 9 rfl rfl)
theorem dX5_compare_12 : decode cX5_compare 12 = .ok (.ireturn, 1) := dk_172 (dk_at dksX5_compare_0 12 rfl rfl)
abbrev cX5_compare_2 : ByteArray := prog_5_method_2_code
def yX5_compare_2 : MethodName := ⟨RX5, "compare", "(LSignalWaves$Block;LSignalWaves$Block;)I"⟩
def dkwX5_compare_2_1 : List UInt8 := [167, 0, 14, 43, 180, 0, 19, 44, 180, 0, 19, 184, 0, 13, 172]
abbrev dktX5_compare_2_1 : List UInt8 := dkwX5_compare_2_1 ++ []
def dkwX5_compare_2_0 : List UInt8 := [43, 180, 0, 7, 44, 180, 0, 7, 159, 0, 17, 43, 180, 0, 7, 44, 180, 0, 7, 184, 0, 13]
abbrev dktX5_compare_2_0 : List UInt8 := dkwX5_compare_2_0 ++ dktX5_compare_2_1
theorem dksX5_compare_2_0 : cX5_compare_2.data.toList.drop 0 = dktX5_compare_2_0 := by decide +kernel
theorem dksX5_compare_2_1 : cX5_compare_2.data.toList.drop 22 = dktX5_compare_2_1 := dk_seg dksX5_compare_2_0 22 rfl rfl
theorem dX5_compare_2_0 : decode cX5_compare_2 0 = .ok (.aload_n 1, 1) := dk_43 (dk_at dksX5_compare_2_0 0 rfl rfl)
theorem dX5_compare_2_1 : decode cX5_compare_2 1 = .ok (.getfield 7, 3) := dk_180 0 7 (dk_at dksX5_compare_2_0 1 rfl rfl)
theorem dX5_compare_2_4 : decode cX5_compare_2 4 = .ok (.aload_n 2, 1) := dk_44 (dk_at dksX5_compare_2_0 4 rfl rfl)
theorem dX5_compare_2_5 : decode cX5_compare_2 5 = .ok (.getfield 7, 3) := dk_180 0 7 (dk_at dksX5_compare_2_0 5 rfl rfl)
theorem dX5_compare_2_8 : decode cX5_compare_2 8 = .ok (.if_icmp .eq 17, 3) := dk_159 0 17 (dk_at dksX5_compare_2_0 8 rfl rfl)
theorem dX5_compare_2_11 : decode cX5_compare_2 11 = .ok (.aload_n 1, 1) := dk_43 (dk_at dksX5_compare_2_0 11 rfl rfl)
theorem dX5_compare_2_12 : decode cX5_compare_2 12 = .ok (.getfield 7, 3) := dk_180 0 7 (dk_at dksX5_compare_2_0 12 rfl rfl)
theorem dX5_compare_2_15 : decode cX5_compare_2 15 = .ok (.aload_n 2, 1) := dk_44 (dk_at dksX5_compare_2_0 15 rfl rfl)
theorem dX5_compare_2_16 : decode cX5_compare_2 16 = .ok (.getfield 7, 3) := dk_180 0 7 (dk_at dksX5_compare_2_0 16 rfl rfl)
theorem dX5_compare_2_19 : decode cX5_compare_2 19 = .ok (.invokestatic 13, 3) := dk_184 0 13 (dk_at dksX5_compare_2_0 19 rfl rfl)
theorem dX5_compare_2_22 : decode cX5_compare_2 22 = .ok (.goto 14, 3) := dk_167 0 14 (dk_at dksX5_compare_2_1 0 rfl rfl)
theorem dX5_compare_2_25 : decode cX5_compare_2 25 = .ok (.aload_n 1, 1) := dk_43 (dk_at dksX5_compare_2_1 3 rfl rfl)
theorem dX5_compare_2_26 : decode cX5_compare_2 26 = .ok (.getfield 19, 3) := dk_180 0 19 (dk_at dksX5_compare_2_1 4 rfl rfl)
theorem dX5_compare_2_29 : decode cX5_compare_2 29 = .ok (.aload_n 2, 1) := dk_44 (dk_at dksX5_compare_2_1 7 rfl rfl)
theorem dX5_compare_2_30 : decode cX5_compare_2 30 = .ok (.getfield 19, 3) := dk_180 0 19 (dk_at dksX5_compare_2_1 8 rfl rfl)
theorem dX5_compare_2_33 : decode cX5_compare_2 33 = .ok (.invokestatic 13, 3) := dk_184 0 13 (dk_at dksX5_compare_2_1 11 rfl rfl)
theorem dX5_compare_2_36 : decode cX5_compare_2 36 = .ok (.ireturn, 1) := dk_172 (dk_at dksX5_compare_2_1 14 rfl rfl)
theorem q106 : (Jvm.Cond.initialized "SignalWaves$ByBegin") ∈ lw_all := lw_g (lw_at lw_m1 13 rfl) rfl
theorem q303 : (Jvm.Cond.instantiable "SignalWaves$ByBegin" (0 : Nat)) ∈ lw_all := lw_g (lw_at lw_m1 210 rfl) rfl
theorem q305 : (Jvm.Cond.instanceMethod ({ cls := "SignalWaves$ByBegin", name := "<init>", desc := "()V" } : Jvm.MethodName)) ∈ lw_all := lw_g (lw_at lw_m1 212 rfl) rfl
theorem q306 : (Jvm.Cond.code ({ cls := "SignalWaves$ByBegin", name := "<init>", desc := "()V" } : Jvm.MethodName) prog_5_method_1_code (1 : Nat) (Option.none : Option Jvm.ClassFile.FieldType)) ∈ lw_all := lw_g (lw_at lw_m1 213 rfl) rfl
theorem q307 : (Jvm.Cond.methodLink "SignalWaves$ByBegin" (1 : Nat) ({ cls := "java/lang/Object", name := "<init>", desc := "()V" } : Jvm.MethodName)) ∈ lw_all := lw_g (lw_at lw_m1 214 rfl) rfl
theorem q308 : (Jvm.Cond.superclass "SignalWaves$ByBegin" "java/lang/Object") ∈ lw_all := lw_g (lw_at lw_m1 215 rfl) rfl
theorem q338 : (Jvm.Cond.fieldLinkNest "SignalWaves$ByBegin" (19 : Nat) "SignalWaves$Block" "number" "I" "SignalWaves") ∈ lw_tbl := lw_at lw_m2 5 rfl
theorem q340 : (Jvm.Cond.fieldLinkNest "SignalWaves$ByBegin" (7 : Nat) "SignalWaves$Block" "begin" "I" "SignalWaves") ∈ lw_tbl := lw_at lw_m2 7 rfl
theorem q633 : (Jvm.Cond.castable "SignalWaves$ByBegin" "java/util/Comparator") ∈ lw_tbl := lw_at lw_m3 60 rfl
theorem q634 : (Jvm.Cond.selects "SignalWaves$ByBegin" ({ cls := "java/util/Comparator", name := "compare", desc := "(Ljava/lang/Object;Ljava/lang/Object;)I" } : Jvm.MethodName) ({ cls := "SignalWaves$ByBegin", name := "compare", desc := "(Ljava/lang/Object;Ljava/lang/Object;)I" } : Jvm.MethodName)) ∈ lw_all := lw_g (lw_at lw_m3 61 rfl) rfl
theorem q635 : (Jvm.Cond.unhidden "SignalWaves$ByBegin" "compare" "(Ljava/lang/Object;Ljava/lang/Object;)I") ∈ lw_tbl := lw_at lw_m3 62 rfl
theorem q636 : (Jvm.Cond.instanceMethod ({ cls := "SignalWaves$ByBegin", name := "compare", desc := "(Ljava/lang/Object;Ljava/lang/Object;)I" } : Jvm.MethodName)) ∈ lw_all := lw_g (lw_at lw_m3 63 rfl) rfl
theorem q637 : (Jvm.Cond.publicMethod ({ cls := "SignalWaves$ByBegin", name := "compare", desc := "(Ljava/lang/Object;Ljava/lang/Object;)I" } : Jvm.MethodName)) ∈ lw_tbl := lw_at lw_m3 64 rfl
theorem q638 : (Jvm.Cond.code ({ cls := "SignalWaves$ByBegin", name := "compare", desc := "(Ljava/lang/Object;Ljava/lang/Object;)I" } : Jvm.MethodName) prog_5_method_3_code (3 : Nat) (Option.some Jvm.ClassFile.FieldType.int)) ∈ lw_all := lw_g (lw_at lw_m3 65 rfl) rfl
theorem q639 : (Jvm.Cond.classLink "SignalWaves$ByBegin" (8 : Nat) "SignalWaves$Block") ∈ lw_all := lw_g (lw_at lw_m3 66 rfl) rfl
theorem q640 : (Jvm.Cond.methodLink "SignalWaves$ByBegin" (22 : Nat) ({ cls := "SignalWaves$ByBegin", name := "compare", desc := "(LSignalWaves$Block;LSignalWaves$Block;)I" } : Jvm.MethodName)) ∈ lw_all := lw_g (lw_at lw_m3 67 rfl) rfl
theorem q641 : (Jvm.Cond.instanceMethod ({ cls := "SignalWaves$ByBegin", name := "compare", desc := "(LSignalWaves$Block;LSignalWaves$Block;)I" } : Jvm.MethodName)) ∈ lw_all := lw_g (lw_at lw_m3 68 rfl) rfl
theorem q642 : (Jvm.Cond.selects "SignalWaves$ByBegin" ({ cls := "SignalWaves$ByBegin", name := "compare", desc := "(LSignalWaves$Block;LSignalWaves$Block;)I" } : Jvm.MethodName) ({ cls := "SignalWaves$ByBegin", name := "compare", desc := "(LSignalWaves$Block;LSignalWaves$Block;)I" } : Jvm.MethodName)) ∈ lw_all := lw_g (lw_at lw_m3 69 rfl) rfl
theorem q643 : (Jvm.Cond.code ({ cls := "SignalWaves$ByBegin", name := "compare", desc := "(LSignalWaves$Block;LSignalWaves$Block;)I" } : Jvm.MethodName) prog_5_method_2_code (3 : Nat) (Option.some Jvm.ClassFile.FieldType.int)) ∈ lw_all := lw_g (lw_at lw_m3 70 rfl) rfl
theorem q644 : (Jvm.Cond.methodLink "SignalWaves$ByBegin" (13 : Nat) ({ cls := "java/lang/Integer", name := "compare", desc := "(II)I" } : Jvm.MethodName)) ∈ lw_all := lw_g (lw_at lw_m3 71 rfl) rfl
theorem q1431 : (Jvm.Cond.selects "SignalWaves$ByBegin" ({ cls := "java/lang/Object", name := "getClass", desc := "()Ljava/lang/Class;" } : Jvm.MethodName) ({ cls := "java/lang/Object", name := "getClass", desc := "()Ljava/lang/Class;" } : Jvm.MethodName)) ∈ lw_all := lw_g (lw_at lw_m6 138 rfl) rfl
theorem q1676 : (Jvm.Cond.selects "SignalWaves$ByBegin" ({ cls := "java/lang/Object", name := "equals", desc := "(Ljava/lang/Object;)Z" } : Jvm.MethodName) ({ cls := "java/lang/Object", name := "equals", desc := "(Ljava/lang/Object;)Z" } : Jvm.MethodName)) ∈ lw_all := lw_g (lw_at lw_m7 143 rfl) rfl
theorem q3114 : (Jvm.Cond.castable "SignalWaves$ByBegin" "java/lang/Object") ∈ lw_tbl := lw_at lw_m13 141 rfl

/-! SignalWaves$Block -/
set_option maxRecDepth 100000
def RX6 : String := "SignalWaves$Block"
def TX6 : u_T := fun k => match k with
  | 0 => ("SignalWaves$Block", "number", "I", true)
  | 1 => ("SignalWaves$Block", "begin", "I", false)
  | 2 => ("SignalWaves$Block", "frame", "[I", true)
  | 3 => ("SignalWaves$Block", "end", "I", false)
  | _ => ("SignalWaves$Block", "changes", "Ljava/util/List;", true)
def tyX6 : Nat → FieldType := fun k => match k with
  | 0 => .int
  | 1 => .int
  | 2 => .array .int
  | 3 => .int
  | _ => .object "java/util/List"
abbrev wsX60 : List Cond := u_ws RX6 TX6 5
theorem nmX6 : ∀ a, a < 5 → ∀ b, b < 5 → a ≠ b → (TX6 a).2.1 ≠ (TX6 b).2.1 := by decide +kernel
theorem tyX6_ok : ∀ k, k < 5 → parseFieldDescriptor (TX6 k).2.2.1 = some (tyX6 k) := by decide +kernel
abbrev cX6_init : ByteArray := prog_2_method_1_code
def yX6_init : MethodName := ⟨RX6, "<init>", "(II[I)V"⟩
def dkwX6_init_1 : List UInt8 := [181, 0, 22, 42, 28, 181, 0, 25, 42, 45, 181, 0, 28, 177]
abbrev dktX6_init_1 : List UInt8 := dkwX6_init_1 ++ []
def dkwX6_init_0 : List UInt8 := [42, 183, 0, 3, 42, 16, 247, 181, 0, 9, 42, 187, 0, 15, 89, 183, 0, 17, 181, 0, 18, 42, 27]
abbrev dktX6_init_0 : List UInt8 := dkwX6_init_0 ++ dktX6_init_1
theorem dksX6_init_0 : cX6_init.data.toList.drop 0 = dktX6_init_0 := by decide +kernel
theorem dksX6_init_1 : cX6_init.data.toList.drop 23 = dktX6_init_1 := dk_seg dksX6_init_0 23 rfl rfl
theorem dX6_init_0 : decode cX6_init 0 = .ok (.aload_n 0, 1) := dk_42 (dk_at dksX6_init_0 0 rfl rfl)
theorem dX6_init_1 : decode cX6_init 1 = .ok (.invokespecial 3, 3) := dk_183 0 3 (dk_at dksX6_init_0 1 rfl rfl)
theorem dX6_init_4 : decode cX6_init 4 = .ok (.aload_n 0, 1) := dk_42 (dk_at dksX6_init_0 4 rfl rfl)
theorem dX6_init_5 : decode cX6_init 5 = .ok (.bipush (-9), 2) := dk_16 247 (dk_at dksX6_init_0 5 rfl rfl)
theorem dX6_init_7 : decode cX6_init 7 = .ok (.putfield 9, 3) := dk_181 0 9 (dk_at dksX6_init_0 7 rfl rfl)
theorem dX6_init_10 : decode cX6_init 10 = .ok (.aload_n 0, 1) := dk_42 (dk_at dksX6_init_0 10 rfl rfl)
theorem dX6_init_11 : decode cX6_init 11 = .ok (.new 15, 3) := dk_187 0 15 (dk_at dksX6_init_0 11 rfl rfl)
theorem dX6_init_14 : decode cX6_init 14 = .ok (.dup, 1) := dk_89 (dk_at dksX6_init_0 14 rfl rfl)
theorem dX6_init_15 : decode cX6_init 15 = .ok (.invokespecial 17, 3) := dk_183 0 17 (dk_at dksX6_init_0 15 rfl rfl)
theorem dX6_init_18 : decode cX6_init 18 = .ok (.putfield 18, 3) := dk_181 0 18 (dk_at dksX6_init_0 18 rfl rfl)
theorem dX6_init_21 : decode cX6_init 21 = .ok (.aload_n 0, 1) := dk_42 (dk_at dksX6_init_0 21 rfl rfl)
theorem dX6_init_22 : decode cX6_init 22 = .ok (.iload_n 1, 1) := dk_27 (dk_at dksX6_init_0 22 rfl rfl)
theorem dX6_init_23 : decode cX6_init 23 = .ok (.putfield 22, 3) := dk_181 0 22 (dk_at dksX6_init_1 0 rfl rfl)
theorem dX6_init_26 : decode cX6_init 26 = .ok (.aload_n 0, 1) := dk_42 (dk_at dksX6_init_1 3 rfl rfl)
theorem dX6_init_27 : decode cX6_init 27 = .ok (.iload_n 2, 1) := dk_28 (dk_at dksX6_init_1 4 rfl rfl)
theorem dX6_init_28 : decode cX6_init 28 = .ok (.putfield 25, 3) := dk_181 0 25 (dk_at dksX6_init_1 5 rfl rfl)
theorem dX6_init_31 : decode cX6_init 31 = .ok (.aload_n 0, 1) := dk_42 (dk_at dksX6_init_1 8 rfl rfl)
theorem dX6_init_32 : decode cX6_init 32 = .ok (.aload_n 3, 1) := dk_45 (dk_at dksX6_init_1 9 rfl rfl)
theorem dX6_init_33 : decode cX6_init 33 = .ok (.putfield 28, 3) := dk_181 0 28 (dk_at dksX6_init_1 10 rfl rfl)
theorem dX6_init_36 : decode cX6_init 36 = .ok (.return_, 1) := dk_177 (dk_at dksX6_init_1 13 rfl rfl)
abbrev cX6_copy : ByteArray := prog_2_method_2_code
def yX6_copy : MethodName := ⟨RX6, "copy", "()LSignalWaves$Block;"⟩
def dkwX6_copy_1 : List UInt8 := [180, 0, 9, 181, 0, 9, 43, 180, 0, 18, 42, 180, 0, 18, 185, 0, 35, 2, 0, 87, 43, 176]
abbrev dktX6_copy_1 : List UInt8 := dkwX6_copy_1 ++ []
def dkwX6_copy_0 : List UInt8 := [187, 0, 10, 89, 42, 180, 0, 22, 42, 180, 0, 25, 42, 180, 0, 28, 183, 0, 32, 76, 43, 42]
abbrev dktX6_copy_0 : List UInt8 := dkwX6_copy_0 ++ dktX6_copy_1
theorem dksX6_copy_0 : cX6_copy.data.toList.drop 0 = dktX6_copy_0 := by decide +kernel
theorem dksX6_copy_1 : cX6_copy.data.toList.drop 22 = dktX6_copy_1 := dk_seg dksX6_copy_0 22 rfl rfl
theorem dX6_copy_0 : decode cX6_copy 0 = .ok (.new 10, 3) := dk_187 0 10 (dk_at dksX6_copy_0 0 rfl rfl)
theorem dX6_copy_3 : decode cX6_copy 3 = .ok (.dup, 1) := dk_89 (dk_at dksX6_copy_0 3 rfl rfl)
theorem dX6_copy_4 : decode cX6_copy 4 = .ok (.aload_n 0, 1) := dk_42 (dk_at dksX6_copy_0 4 rfl rfl)
theorem dX6_copy_5 : decode cX6_copy 5 = .ok (.getfield 22, 3) := dk_180 0 22 (dk_at dksX6_copy_0 5 rfl rfl)
theorem dX6_copy_8 : decode cX6_copy 8 = .ok (.aload_n 0, 1) := dk_42 (dk_at dksX6_copy_0 8 rfl rfl)
theorem dX6_copy_9 : decode cX6_copy 9 = .ok (.getfield 25, 3) := dk_180 0 25 (dk_at dksX6_copy_0 9 rfl rfl)
theorem dX6_copy_12 : decode cX6_copy 12 = .ok (.aload_n 0, 1) := dk_42 (dk_at dksX6_copy_0 12 rfl rfl)
theorem dX6_copy_13 : decode cX6_copy 13 = .ok (.getfield 28, 3) := dk_180 0 28 (dk_at dksX6_copy_0 13 rfl rfl)
theorem dX6_copy_16 : decode cX6_copy 16 = .ok (.invokespecial 32, 3) := dk_183 0 32 (dk_at dksX6_copy_0 16 rfl rfl)
theorem dX6_copy_19 : decode cX6_copy 19 = .ok (.astore_n 1, 1) := dk_76 (dk_at dksX6_copy_0 19 rfl rfl)
theorem dX6_copy_20 : decode cX6_copy 20 = .ok (.aload_n 1, 1) := dk_43 (dk_at dksX6_copy_0 20 rfl rfl)
theorem dX6_copy_21 : decode cX6_copy 21 = .ok (.aload_n 0, 1) := dk_42 (dk_at dksX6_copy_0 21 rfl rfl)
theorem dX6_copy_22 : decode cX6_copy 22 = .ok (.getfield 9, 3) := dk_180 0 9 (dk_at dksX6_copy_1 0 rfl rfl)
theorem dX6_copy_25 : decode cX6_copy 25 = .ok (.putfield 9, 3) := dk_181 0 9 (dk_at dksX6_copy_1 3 rfl rfl)
theorem dX6_copy_28 : decode cX6_copy 28 = .ok (.aload_n 1, 1) := dk_43 (dk_at dksX6_copy_1 6 rfl rfl)
theorem dX6_copy_29 : decode cX6_copy 29 = .ok (.getfield 18, 3) := dk_180 0 18 (dk_at dksX6_copy_1 7 rfl rfl)
theorem dX6_copy_32 : decode cX6_copy 32 = .ok (.aload_n 0, 1) := dk_42 (dk_at dksX6_copy_1 10 rfl rfl)
theorem dX6_copy_33 : decode cX6_copy 33 = .ok (.getfield 18, 3) := dk_180 0 18 (dk_at dksX6_copy_1 11 rfl rfl)
theorem dX6_copy_36 : decode cX6_copy 36 = .ok (.invokeinterface 35 2, 5) := by decide +kernel
theorem dX6_copy_41 : decode cX6_copy 41 = .ok (.pop, 1) := dk_87 (dk_at dksX6_copy_1 19 rfl rfl)
theorem dX6_copy_42 : decode cX6_copy 42 = .ok (.aload_n 1, 1) := dk_43 (dk_at dksX6_copy_1 20 rfl rfl)
theorem dX6_copy_43 : decode cX6_copy 43 = .ok (.areturn, 1) := dk_176 (dk_at dksX6_copy_1 21 rfl rfl)
theorem q107 : (Jvm.Cond.initialized "SignalWaves$Block") ∈ lw_all := lw_g (lw_at lw_m1 14 rfl) rfl
theorem q329 : (Jvm.Cond.instantiable "SignalWaves$Block" (5 : Nat)) ∈ lw_all := lw_g (lw_at lw_m1 236 rfl) rfl
theorem q332 : (Jvm.Cond.instanceMethod ({ cls := "SignalWaves$Block", name := "<init>", desc := "(II[I)V" } : Jvm.MethodName)) ∈ lw_all := lw_g (lw_at lw_m1 239 rfl) rfl
theorem q333 : (Jvm.Cond.code ({ cls := "SignalWaves$Block", name := "<init>", desc := "(II[I)V" } : Jvm.MethodName) prog_2_method_1_code (4 : Nat) (Option.none : Option Jvm.ClassFile.FieldType)) ∈ lw_all := lw_g (lw_at lw_m2 0 rfl) rfl
theorem q334 : (Jvm.Cond.methodLink "SignalWaves$Block" (3 : Nat) ({ cls := "java/lang/Object", name := "<init>", desc := "()V" } : Jvm.MethodName)) ∈ lw_all := lw_g (lw_at lw_m2 1 rfl) rfl
theorem q335 : (Jvm.Cond.classLink "SignalWaves$Block" (15 : Nat) "java/util/ArrayList") ∈ lw_all := lw_g (lw_at lw_m2 2 rfl) rfl
theorem q336 : (Jvm.Cond.methodLink "SignalWaves$Block" (17 : Nat) ({ cls := "java/util/ArrayList", name := "<init>", desc := "()V" } : Jvm.MethodName)) ∈ lw_all := lw_g (lw_at lw_m2 3 rfl) rfl
theorem q337 : (Jvm.Cond.fieldLink "SignalWaves$Block" (22 : Nat) "SignalWaves$Block" "number" "I") ∈ lw_all := lw_g (lw_at lw_m2 4 rfl) rfl
theorem q339 : (Jvm.Cond.fieldLink "SignalWaves$Block" (25 : Nat) "SignalWaves$Block" "begin" "I") ∈ lw_all := lw_g (lw_at lw_m2 6 rfl) rfl
theorem q343 : (Jvm.Cond.fieldLink "SignalWaves$Block" (28 : Nat) "SignalWaves$Block" "frame" "[I") ∈ lw_all := lw_g (lw_at lw_m2 10 rfl) rfl
theorem q345 : (Jvm.Cond.fieldLink "SignalWaves$Block" (9 : Nat) "SignalWaves$Block" "end" "I") ∈ lw_all := lw_g (lw_at lw_m2 12 rfl) rfl
theorem q348 : (Jvm.Cond.fieldLink "SignalWaves$Block" (18 : Nat) "SignalWaves$Block" "changes" "Ljava/util/List;") ∈ lw_all := lw_g (lw_at lw_m2 15 rfl) rfl
theorem q351 : (Jvm.Cond.laysFinal "SignalWaves$Block" "SignalWaves$Block" "number" "I") ∈ lw_all := lw_g (lw_at lw_m2 18 rfl) rfl
theorem q352 : (Jvm.Cond.soleField "SignalWaves$Block" "number") ∈ lw_all := lw_g (lw_at lw_m2 19 rfl) rfl
theorem q353 : (Jvm.Cond.lays "SignalWaves$Block" "SignalWaves$Block" "begin" "I") ∈ lw_all := lw_g (lw_at lw_m2 20 rfl) rfl
theorem q354 : (Jvm.Cond.soleField "SignalWaves$Block" "begin") ∈ lw_all := lw_g (lw_at lw_m2 21 rfl) rfl
theorem q355 : (Jvm.Cond.laysFinal "SignalWaves$Block" "SignalWaves$Block" "frame" "[I") ∈ lw_all := lw_g (lw_at lw_m2 22 rfl) rfl
theorem q356 : (Jvm.Cond.soleField "SignalWaves$Block" "frame") ∈ lw_all := lw_g (lw_at lw_m2 23 rfl) rfl
theorem q357 : (Jvm.Cond.lays "SignalWaves$Block" "SignalWaves$Block" "end" "I") ∈ lw_all := lw_g (lw_at lw_m2 24 rfl) rfl
theorem q358 : (Jvm.Cond.soleField "SignalWaves$Block" "end") ∈ lw_all := lw_g (lw_at lw_m2 25 rfl) rfl
theorem q359 : (Jvm.Cond.laysFinal "SignalWaves$Block" "SignalWaves$Block" "changes" "Ljava/util/List;") ∈ lw_all := lw_g (lw_at lw_m2 26 rfl) rfl
theorem q360 : (Jvm.Cond.soleField "SignalWaves$Block" "changes") ∈ lw_all := lw_g (lw_at lw_m2 27 rfl) rfl
theorem q361 : (Jvm.Cond.superclass "SignalWaves$Block" "java/lang/Object") ∈ lw_all := lw_g (lw_at lw_m2 28 rfl) rfl
theorem q1428 : (Jvm.Cond.selects "SignalWaves$Block" ({ cls := "java/lang/Object", name := "getClass", desc := "()Ljava/lang/Class;" } : Jvm.MethodName) ({ cls := "java/lang/Object", name := "getClass", desc := "()Ljava/lang/Class;" } : Jvm.MethodName)) ∈ lw_all := lw_g (lw_at lw_m6 135 rfl) rfl
theorem q1673 : (Jvm.Cond.selects "SignalWaves$Block" ({ cls := "java/lang/Object", name := "equals", desc := "(Ljava/lang/Object;)Z" } : Jvm.MethodName) ({ cls := "java/lang/Object", name := "equals", desc := "(Ljava/lang/Object;)Z" } : Jvm.MethodName)) ∈ lw_all := lw_g (lw_at lw_m7 140 rfl) rfl
theorem q1997 : (Jvm.Cond.instanceMethod ({ cls := "SignalWaves$Block", name := "copy", desc := "()LSignalWaves$Block;" } : Jvm.MethodName)) ∈ lw_all := lw_g (lw_at lw_m8 224 rfl) rfl
theorem q1998 : (Jvm.Cond.selects "SignalWaves$Block" ({ cls := "SignalWaves$Block", name := "copy", desc := "()LSignalWaves$Block;" } : Jvm.MethodName) ({ cls := "SignalWaves$Block", name := "copy", desc := "()LSignalWaves$Block;" } : Jvm.MethodName)) ∈ lw_all := lw_g (lw_at lw_m8 225 rfl) rfl
theorem q1999 : (Jvm.Cond.code ({ cls := "SignalWaves$Block", name := "copy", desc := "()LSignalWaves$Block;" } : Jvm.MethodName) prog_2_method_2_code (2 : Nat) (Option.some (Jvm.ClassFile.FieldType.object "SignalWaves$Block"))) ∈ lw_all := lw_g (lw_at lw_m8 226 rfl) rfl
theorem q2000 : (Jvm.Cond.classLink "SignalWaves$Block" (10 : Nat) "SignalWaves$Block") ∈ lw_all := lw_g (lw_at lw_m8 227 rfl) rfl
theorem q2001 : (Jvm.Cond.methodLink "SignalWaves$Block" (32 : Nat) ({ cls := "SignalWaves$Block", name := "<init>", desc := "(II[I)V" } : Jvm.MethodName)) ∈ lw_all := lw_g (lw_at lw_m8 228 rfl) rfl
theorem q2002 : (Jvm.Cond.interfaceEntry "SignalWaves$Block" (35 : Nat)) ∈ lw_tbl := lw_at lw_m8 229 rfl
theorem q2003 : (Jvm.Cond.methodLink "SignalWaves$Block" (35 : Nat) ({ cls := "java/util/List", name := "addAll", desc := "(Ljava/util/Collection;)Z" } : Jvm.MethodName)) ∈ lw_all := lw_g (lw_at lw_m8 230 rfl) rfl
theorem q3115 : (Jvm.Cond.castable "SignalWaves$Block" "java/lang/Object") ∈ lw_tbl := lw_at lw_m13 142 rfl
theorem in_X6 : ∀ w ∈ wsX60, w ∈ lw_all := lw_in wsX60 [351, 353, 355, 357, 359] (by decide +kernel) (by decide +kernel)

/-! SignalWaves$Reader -/
set_option maxRecDepth 100000
def RX8 : String := "SignalWaves$Reader"
def TX8 : u_T := fun k => match k with
  | 0 => ("SignalWaves$Reader", "at", "I", false)
  | 1 => ("SignalWaves$Reader", "start", "I", false)
  | 2 => ("SignalWaves$Reader", "sort", "I", false)
  | 3 => ("SignalWaves$Reader", "value", "I", false)
  | 4 => ("SignalWaves$Reader", "items", "I", false)
  | 5 => ("SignalWaves$Reader", "parts", "I", false)
  | 6 => ("SignalWaves$Reader", "marks", "I", false)
  | 7 => ("SignalWaves$Reader", "made", "LSignalWaves$Book;", true)
  | 8 => ("SignalWaves$Reader", "open", "LSignalWaves$Scope;", false)
  | _ => ("SignalWaves$Reader", "this$0", "LSignalWaves;", true)
def tyX8 : Nat → FieldType := fun k => match k with
  | 0 => .int
  | 1 => .int
  | 2 => .int
  | 3 => .int
  | 4 => .int
  | 5 => .int
  | 6 => .int
  | 7 => .object "SignalWaves$Book"
  | 8 => .object "SignalWaves$Scope"
  | _ => .object "SignalWaves"
abbrev wsX80 : List Cond := u_ws RX8 TX8 10
theorem nmX8 : ∀ a, a < 10 → ∀ b, b < 10 → a ≠ b → (TX8 a).2.1 ≠ (TX8 b).2.1 := by decide +kernel
theorem tyX8_ok : ∀ k, k < 10 → parseFieldDescriptor (TX8 k).2.2.1 = some (tyX8 k) := by decide +kernel
abbrev cX8_init : ByteArray := prog_13_method_1_code
def yX8_init : MethodName := ⟨RX8, "<init>", "(LSignalWaves;)V"⟩
def dkwX8_init_1 : List UInt8 := [180, 0, 18, 180, 0, 22, 181, 0, 26, 177]
abbrev dktX8_init_1 : List UInt8 := dkwX8_init_1 ++ []
def dkwX8_init_0 : List UInt8 := [42, 43, 181, 0, 3, 42, 183, 0, 9, 42, 187, 0, 15, 89, 183, 0, 17, 181, 0, 18, 42, 42]
abbrev dktX8_init_0 : List UInt8 := dkwX8_init_0 ++ dktX8_init_1
theorem dksX8_init_0 : cX8_init.data.toList.drop 0 = dktX8_init_0 := by decide +kernel
theorem dksX8_init_1 : cX8_init.data.toList.drop 22 = dktX8_init_1 := dk_seg dksX8_init_0 22 rfl rfl
theorem dX8_init_0 : decode cX8_init 0 = .ok (.aload_n 0, 1) := dk_42 (dk_at dksX8_init_0 0 rfl rfl)
theorem dX8_init_1 : decode cX8_init 1 = .ok (.aload_n 1, 1) := dk_43 (dk_at dksX8_init_0 1 rfl rfl)
theorem dX8_init_2 : decode cX8_init 2 = .ok (.putfield 3, 3) := dk_181 0 3 (dk_at dksX8_init_0 2 rfl rfl)
theorem dX8_init_5 : decode cX8_init 5 = .ok (.aload_n 0, 1) := dk_42 (dk_at dksX8_init_0 5 rfl rfl)
theorem dX8_init_6 : decode cX8_init 6 = .ok (.invokespecial 9, 3) := dk_183 0 9 (dk_at dksX8_init_0 6 rfl rfl)
theorem dX8_init_9 : decode cX8_init 9 = .ok (.aload_n 0, 1) := dk_42 (dk_at dksX8_init_0 9 rfl rfl)
theorem dX8_init_10 : decode cX8_init 10 = .ok (.new 15, 3) := dk_187 0 15 (dk_at dksX8_init_0 10 rfl rfl)
theorem dX8_init_13 : decode cX8_init 13 = .ok (.dup, 1) := dk_89 (dk_at dksX8_init_0 13 rfl rfl)
theorem dX8_init_14 : decode cX8_init 14 = .ok (.invokespecial 17, 3) := dk_183 0 17 (dk_at dksX8_init_0 14 rfl rfl)
theorem dX8_init_17 : decode cX8_init 17 = .ok (.putfield 18, 3) := dk_181 0 18 (dk_at dksX8_init_0 17 rfl rfl)
theorem dX8_init_20 : decode cX8_init 20 = .ok (.aload_n 0, 1) := dk_42 (dk_at dksX8_init_0 20 rfl rfl)
theorem dX8_init_21 : decode cX8_init 21 = .ok (.aload_n 0, 1) := dk_42 (dk_at dksX8_init_0 21 rfl rfl)
theorem dX8_init_22 : decode cX8_init 22 = .ok (.getfield 18, 3) := dk_180 0 18 (dk_at dksX8_init_1 0 rfl rfl)
theorem dX8_init_25 : decode cX8_init 25 = .ok (.getfield 22, 3) := dk_180 0 22 (dk_at dksX8_init_1 3 rfl rfl)
theorem dX8_init_28 : decode cX8_init 28 = .ok (.putfield 26, 3) := dk_181 0 26 (dk_at dksX8_init_1 6 rfl rfl)
theorem dX8_init_31 : decode cX8_init 31 = .ok (.return_, 1) := dk_177 (dk_at dksX8_init_1 9 rfl rfl)
abbrev cX8_read : ByteArray := prog_13_method_14_code
def yX8_read : MethodName := ⟨RX8, "read", "()LSignalWaves$Book;"⟩
def dkwX8_read_1 : List UInt8 := [182, 0, 107, 87, 42, 89, 180, 0, 209, 4, 96, 181, 0, 209, 167, 255, 223, 42, 180, 0, 18, 176]
abbrev dktX8_read_1 : List UInt8 := dkwX8_read_1 ++ []
def dkwX8_read_0 : List UInt8 := [42, 182, 0, 76, 42, 180, 0, 50, 6, 159, 0, 31, 42, 182, 0, 206, 42, 42, 16, 59, 182, 0, 113]
abbrev dktX8_read_0 : List UInt8 := dkwX8_read_0 ++ dktX8_read_1
theorem dksX8_read_0 : cX8_read.data.toList.drop 0 = dktX8_read_0 := by decide +kernel
theorem dksX8_read_1 : cX8_read.data.toList.drop 23 = dktX8_read_1 := dk_seg dksX8_read_0 23 rfl rfl
theorem dX8_read_0 : decode cX8_read 0 = .ok (.aload_n 0, 1) := dk_42 (dk_at dksX8_read_0 0 rfl rfl)
theorem dX8_read_1 : decode cX8_read 1 = .ok (.invokevirtual 76, 3) := dk_182 0 76 (dk_at dksX8_read_0 1 rfl rfl)
theorem dX8_read_4 : decode cX8_read 4 = .ok (.aload_n 0, 1) := dk_42 (dk_at dksX8_read_0 4 rfl rfl)
theorem dX8_read_5 : decode cX8_read 5 = .ok (.getfield 50, 3) := dk_180 0 50 (dk_at dksX8_read_0 5 rfl rfl)
theorem dX8_read_8 : decode cX8_read 8 = .ok (.iconst 3, 1) := dk_6 (dk_at dksX8_read_0 8 rfl rfl)
theorem dX8_read_9 : decode cX8_read 9 = .ok (.if_icmp .eq 31, 3) := dk_159 0 31 (dk_at dksX8_read_0 9 rfl rfl)
theorem dX8_read_12 : decode cX8_read 12 = .ok (.aload_n 0, 1) := dk_42 (dk_at dksX8_read_0 12 rfl rfl)
theorem dX8_read_13 : decode cX8_read 13 = .ok (.invokevirtual 206, 3) := dk_182 0 206 (dk_at dksX8_read_0 13 rfl rfl)
theorem dX8_read_16 : decode cX8_read 16 = .ok (.aload_n 0, 1) := dk_42 (dk_at dksX8_read_0 16 rfl rfl)
theorem dX8_read_17 : decode cX8_read 17 = .ok (.aload_n 0, 1) := dk_42 (dk_at dksX8_read_0 17 rfl rfl)
theorem dX8_read_18 : decode cX8_read 18 = .ok (.bipush 59, 2) := dk_16 59 (dk_at dksX8_read_0 18 rfl rfl)
theorem dX8_read_20 : decode cX8_read 20 = .ok (.invokevirtual 113, 3) := dk_182 0 113 (dk_at dksX8_read_0 20 rfl rfl)
theorem dX8_read_23 : decode cX8_read 23 = .ok (.invokevirtual 107, 3) := dk_182 0 107 (dk_at dksX8_read_1 0 rfl rfl)
theorem dX8_read_26 : decode cX8_read 26 = .ok (.pop, 1) := dk_87 (dk_at dksX8_read_1 3 rfl rfl)
theorem dX8_read_27 : decode cX8_read 27 = .ok (.aload_n 0, 1) := dk_42 (dk_at dksX8_read_1 4 rfl rfl)
theorem dX8_read_28 : decode cX8_read 28 = .ok (.dup, 1) := dk_89 (dk_at dksX8_read_1 5 rfl rfl)
theorem dX8_read_29 : decode cX8_read 29 = .ok (.getfield 209, 3) := dk_180 0 209 (dk_at dksX8_read_1 6 rfl rfl)
theorem dX8_read_32 : decode cX8_read 32 = .ok (.iconst 1, 1) := dk_4 (dk_at dksX8_read_1 9 rfl rfl)
theorem dX8_read_33 : decode cX8_read 33 = .ok (.iadd, 1) := dk_96 (dk_at dksX8_read_1 10 rfl rfl)
theorem dX8_read_34 : decode cX8_read 34 = .ok (.putfield 209, 3) := dk_181 0 209 (dk_at dksX8_read_1 11 rfl rfl)
theorem dX8_read_37 : decode cX8_read 37 = .ok (.goto (-33), 3) := dk_167 255 223 (dk_at dksX8_read_1 14 rfl rfl)
theorem dX8_read_40 : decode cX8_read 40 = .ok (.aload_n 0, 1) := dk_42 (dk_at dksX8_read_1 17 rfl rfl)
theorem dX8_read_41 : decode cX8_read 41 = .ok (.getfield 18, 3) := dk_180 0 18 (dk_at dksX8_read_1 18 rfl rfl)
theorem dX8_read_44 : decode cX8_read 44 = .ok (.areturn, 1) := dk_176 (dk_at dksX8_read_1 21 rfl rfl)
abbrev cX8_step : ByteArray := prog_13_method_3_code
def yX8_step : MethodName := ⟨RX8, "step", "()V"⟩
def dkwX8_step_9 : List UInt8 := [18, 63, 27, 182, 0, 65, 155, 0, 7, 5, 167, 0, 4, 7, 181, 0, 50, 177]
abbrev dktX8_step_9 : List UInt8 := dkwX8_step_9 ++ []
def dkwX8_step_8 : List UInt8 := [167, 0, 4, 27, 181, 0, 47, 42, 27, 16, 97, 16, 122, 184, 0, 53, 153, 0, 7, 3, 167, 0, 17]
abbrev dktX8_step_8 : List UInt8 := dkwX8_step_8 ++ dktX8_step_9
def dkwX8_step_7 : List UInt8 := [180, 0, 29, 4, 96, 181, 0, 29, 42, 27, 16, 97, 16, 122, 184, 0, 53, 153, 0, 10, 27, 16, 97, 100]
abbrev dktX8_step_7 : List UInt8 := dkwX8_step_7 ++ dktX8_step_8
def dkwX8_step_6 : List UInt8 := [42, 180, 0, 44, 100, 4, 164, 0, 7, 7, 167, 0, 4, 4, 181, 0, 50, 167, 0, 69, 42, 89]
abbrev dktX8_step_6 : List UInt8 := dkwX8_step_6 ++ dktX8_step_7
def dkwX8_step_5 : List UInt8 := [167, 255, 207, 42, 42, 180, 0, 47, 17, 0, 255, 163, 0, 22, 27, 16, 48, 160, 0, 20, 42, 180, 0, 29]
abbrev dktX8_step_5 : List UInt8 := dkwX8_step_5 ++ dktX8_step_6
def dkwX8_step_4 : List UInt8 := [42, 182, 0, 40, 96, 16, 48, 100, 184, 0, 57, 181, 0, 47, 42, 89, 180, 0, 29, 4, 96, 181, 0, 29]
abbrev dktX8_step_4 : List UInt8 := dkwX8_step_4 ++ dktX8_step_5
def dkwX8_step_3 : List UInt8 := [182, 0, 40, 16, 48, 16, 57, 184, 0, 53, 153, 0, 41, 42, 17, 1, 0, 16, 10, 42, 180, 0, 47, 104]
abbrev dktX8_step_3 : List UInt8 := dkwX8_step_3 ++ dktX8_step_4
def dkwX8_step_2 : List UInt8 := [181, 0, 50, 167, 0, 178, 27, 16, 48, 16, 57, 184, 0, 53, 153, 0, 101, 42, 3, 181, 0, 47, 42]
abbrev dktX8_step_2 : List UInt8 := dkwX8_step_2 ++ dktX8_step_3
def dkwX8_step_1 : List UInt8 := [180, 0, 29, 181, 0, 44, 42, 182, 0, 40, 60, 42, 27, 181, 0, 47, 27, 156, 0, 11, 42, 6]
abbrev dktX8_step_1 : List UInt8 := dkwX8_step_1 ++ dktX8_step_2
def dkwX8_step_0 : List UInt8 := [42, 182, 0, 40, 16, 32, 160, 0, 16, 42, 89, 180, 0, 29, 4, 96, 181, 0, 29, 167, 255, 237, 42, 42]
abbrev dktX8_step_0 : List UInt8 := dkwX8_step_0 ++ dktX8_step_1
theorem dksX8_step_0 : cX8_step.data.toList.drop 0 = dktX8_step_0 := by decide +kernel
theorem dksX8_step_1 : cX8_step.data.toList.drop 24 = dktX8_step_1 := dk_seg dksX8_step_0 24 rfl rfl
theorem dksX8_step_2 : cX8_step.data.toList.drop 46 = dktX8_step_2 := dk_seg dksX8_step_1 22 rfl rfl
theorem dksX8_step_3 : cX8_step.data.toList.drop 69 = dktX8_step_3 := dk_seg dksX8_step_2 23 rfl rfl
theorem dksX8_step_4 : cX8_step.data.toList.drop 93 = dktX8_step_4 := dk_seg dksX8_step_3 24 rfl rfl
theorem dksX8_step_5 : cX8_step.data.toList.drop 117 = dktX8_step_5 := dk_seg dksX8_step_4 24 rfl rfl
theorem dksX8_step_6 : cX8_step.data.toList.drop 141 = dktX8_step_6 := dk_seg dksX8_step_5 24 rfl rfl
theorem dksX8_step_7 : cX8_step.data.toList.drop 163 = dktX8_step_7 := dk_seg dksX8_step_6 22 rfl rfl
theorem dksX8_step_8 : cX8_step.data.toList.drop 187 = dktX8_step_8 := dk_seg dksX8_step_7 24 rfl rfl
theorem dksX8_step_9 : cX8_step.data.toList.drop 210 = dktX8_step_9 := dk_seg dksX8_step_8 23 rfl rfl
theorem dX8_step_0 : decode cX8_step 0 = .ok (.aload_n 0, 1) := dk_42 (dk_at dksX8_step_0 0 rfl rfl)
theorem dX8_step_1 : decode cX8_step 1 = .ok (.invokevirtual 40, 3) := dk_182 0 40 (dk_at dksX8_step_0 1 rfl rfl)
theorem dX8_step_4 : decode cX8_step 4 = .ok (.bipush 32, 2) := dk_16 32 (dk_at dksX8_step_0 4 rfl rfl)
theorem dX8_step_6 : decode cX8_step 6 = .ok (.if_icmp .ne 16, 3) := dk_160 0 16 (dk_at dksX8_step_0 6 rfl rfl)
theorem dX8_step_9 : decode cX8_step 9 = .ok (.aload_n 0, 1) := dk_42 (dk_at dksX8_step_0 9 rfl rfl)
theorem dX8_step_10 : decode cX8_step 10 = .ok (.dup, 1) := dk_89 (dk_at dksX8_step_0 10 rfl rfl)
theorem dX8_step_11 : decode cX8_step 11 = .ok (.getfield 29, 3) := dk_180 0 29 (dk_at dksX8_step_0 11 rfl rfl)
theorem dX8_step_14 : decode cX8_step 14 = .ok (.iconst 1, 1) := dk_4 (dk_at dksX8_step_0 14 rfl rfl)
theorem dX8_step_15 : decode cX8_step 15 = .ok (.iadd, 1) := dk_96 (dk_at dksX8_step_0 15 rfl rfl)
theorem dX8_step_16 : decode cX8_step 16 = .ok (.putfield 29, 3) := dk_181 0 29 (dk_at dksX8_step_0 16 rfl rfl)
theorem dX8_step_19 : decode cX8_step 19 = .ok (.goto (-19), 3) := dk_167 255 237 (dk_at dksX8_step_0 19 rfl rfl)
theorem dX8_step_22 : decode cX8_step 22 = .ok (.aload_n 0, 1) := dk_42 (dk_at dksX8_step_0 22 rfl rfl)
theorem dX8_step_23 : decode cX8_step 23 = .ok (.aload_n 0, 1) := dk_42 (dk_at dksX8_step_0 23 rfl rfl)
theorem dX8_step_24 : decode cX8_step 24 = .ok (.getfield 29, 3) := dk_180 0 29 (dk_at dksX8_step_1 0 rfl rfl)
theorem dX8_step_27 : decode cX8_step 27 = .ok (.putfield 44, 3) := dk_181 0 44 (dk_at dksX8_step_1 3 rfl rfl)
theorem dX8_step_30 : decode cX8_step 30 = .ok (.aload_n 0, 1) := dk_42 (dk_at dksX8_step_1 6 rfl rfl)
theorem dX8_step_31 : decode cX8_step 31 = .ok (.invokevirtual 40, 3) := dk_182 0 40 (dk_at dksX8_step_1 7 rfl rfl)
theorem dX8_step_34 : decode cX8_step 34 = .ok (.istore_n 1, 1) := dk_60 (dk_at dksX8_step_1 10 rfl rfl)
theorem dX8_step_35 : decode cX8_step 35 = .ok (.aload_n 0, 1) := dk_42 (dk_at dksX8_step_1 11 rfl rfl)
theorem dX8_step_36 : decode cX8_step 36 = .ok (.iload_n 1, 1) := dk_27 (dk_at dksX8_step_1 12 rfl rfl)
theorem dX8_step_37 : decode cX8_step 37 = .ok (.putfield 47, 3) := dk_181 0 47 (dk_at dksX8_step_1 13 rfl rfl)
theorem dX8_step_40 : decode cX8_step 40 = .ok (.iload_n 1, 1) := dk_27 (dk_at dksX8_step_1 16 rfl rfl)
theorem dX8_step_41 : decode cX8_step 41 = .ok (.ifCond .ge 11, 3) := dk_156 0 11 (dk_at dksX8_step_1 17 rfl rfl)
theorem dX8_step_44 : decode cX8_step 44 = .ok (.aload_n 0, 1) := dk_42 (dk_at dksX8_step_1 20 rfl rfl)
theorem dX8_step_45 : decode cX8_step 45 = .ok (.iconst 3, 1) := dk_6 (dk_at dksX8_step_1 21 rfl rfl)
theorem dX8_step_46 : decode cX8_step 46 = .ok (.putfield 50, 3) := dk_181 0 50 (dk_at dksX8_step_2 0 rfl rfl)
theorem dX8_step_49 : decode cX8_step 49 = .ok (.goto 178, 3) := dk_167 0 178 (dk_at dksX8_step_2 3 rfl rfl)
theorem dX8_step_52 : decode cX8_step 52 = .ok (.iload_n 1, 1) := dk_27 (dk_at dksX8_step_2 6 rfl rfl)
theorem dX8_step_53 : decode cX8_step 53 = .ok (.bipush 48, 2) := dk_16 48 (dk_at dksX8_step_2 7 rfl rfl)
theorem dX8_step_55 : decode cX8_step 55 = .ok (.bipush 57, 2) := dk_16 57 (dk_at dksX8_step_2 9 rfl rfl)
theorem dX8_step_57 : decode cX8_step 57 = .ok (.invokestatic 53, 3) := dk_184 0 53 (dk_at dksX8_step_2 11 rfl rfl)
theorem dX8_step_60 : decode cX8_step 60 = .ok (.ifCond .eq 101, 3) := dk_153 0 101 (dk_at dksX8_step_2 14 rfl rfl)
theorem dX8_step_63 : decode cX8_step 63 = .ok (.aload_n 0, 1) := dk_42 (dk_at dksX8_step_2 17 rfl rfl)
theorem dX8_step_64 : decode cX8_step 64 = .ok (.iconst 0, 1) := dk_3 (dk_at dksX8_step_2 18 rfl rfl)
theorem dX8_step_65 : decode cX8_step 65 = .ok (.putfield 47, 3) := dk_181 0 47 (dk_at dksX8_step_2 19 rfl rfl)
theorem dX8_step_68 : decode cX8_step 68 = .ok (.aload_n 0, 1) := dk_42 (dk_at dksX8_step_2 22 rfl rfl)
theorem dX8_step_69 : decode cX8_step 69 = .ok (.invokevirtual 40, 3) := dk_182 0 40 (dk_at dksX8_step_3 0 rfl rfl)
theorem dX8_step_72 : decode cX8_step 72 = .ok (.bipush 48, 2) := dk_16 48 (dk_at dksX8_step_3 3 rfl rfl)
theorem dX8_step_74 : decode cX8_step 74 = .ok (.bipush 57, 2) := dk_16 57 (dk_at dksX8_step_3 5 rfl rfl)
theorem dX8_step_76 : decode cX8_step 76 = .ok (.invokestatic 53, 3) := dk_184 0 53 (dk_at dksX8_step_3 7 rfl rfl)
theorem dX8_step_79 : decode cX8_step 79 = .ok (.ifCond .eq 41, 3) := dk_153 0 41 (dk_at dksX8_step_3 10 rfl rfl)
theorem dX8_step_82 : decode cX8_step 82 = .ok (.aload_n 0, 1) := dk_42 (dk_at dksX8_step_3 13 rfl rfl)
theorem dX8_step_83 : decode cX8_step 83 = .ok (.sipush 256, 3) := dk_17 1 0 (dk_at dksX8_step_3 14 rfl rfl)
theorem dX8_step_86 : decode cX8_step 86 = .ok (.bipush 10, 2) := dk_16 10 (dk_at dksX8_step_3 17 rfl rfl)
theorem dX8_step_88 : decode cX8_step 88 = .ok (.aload_n 0, 1) := dk_42 (dk_at dksX8_step_3 19 rfl rfl)
theorem dX8_step_89 : decode cX8_step 89 = .ok (.getfield 47, 3) := dk_180 0 47 (dk_at dksX8_step_3 20 rfl rfl)
theorem dX8_step_92 : decode cX8_step 92 = .ok (.imul, 1) := dk_104 (dk_at dksX8_step_3 23 rfl rfl)
theorem dX8_step_93 : decode cX8_step 93 = .ok (.aload_n 0, 1) := dk_42 (dk_at dksX8_step_4 0 rfl rfl)
theorem dX8_step_94 : decode cX8_step 94 = .ok (.invokevirtual 40, 3) := dk_182 0 40 (dk_at dksX8_step_4 1 rfl rfl)
theorem dX8_step_97 : decode cX8_step 97 = .ok (.iadd, 1) := dk_96 (dk_at dksX8_step_4 4 rfl rfl)
theorem dX8_step_98 : decode cX8_step 98 = .ok (.bipush 48, 2) := dk_16 48 (dk_at dksX8_step_4 5 rfl rfl)
theorem dX8_step_100 : decode cX8_step 100 = .ok (.isub, 1) := dk_100 (dk_at dksX8_step_4 7 rfl rfl)
theorem dX8_step_101 : decode cX8_step 101 = .ok (.invokestatic 57, 3) := dk_184 0 57 (dk_at dksX8_step_4 8 rfl rfl)
theorem dX8_step_104 : decode cX8_step 104 = .ok (.putfield 47, 3) := dk_181 0 47 (dk_at dksX8_step_4 11 rfl rfl)
theorem dX8_step_107 : decode cX8_step 107 = .ok (.aload_n 0, 1) := dk_42 (dk_at dksX8_step_4 14 rfl rfl)
theorem dX8_step_108 : decode cX8_step 108 = .ok (.dup, 1) := dk_89 (dk_at dksX8_step_4 15 rfl rfl)
theorem dX8_step_109 : decode cX8_step 109 = .ok (.getfield 29, 3) := dk_180 0 29 (dk_at dksX8_step_4 16 rfl rfl)
theorem dX8_step_112 : decode cX8_step 112 = .ok (.iconst 1, 1) := dk_4 (dk_at dksX8_step_4 19 rfl rfl)
theorem dX8_step_113 : decode cX8_step 113 = .ok (.iadd, 1) := dk_96 (dk_at dksX8_step_4 20 rfl rfl)
theorem dX8_step_114 : decode cX8_step 114 = .ok (.putfield 29, 3) := dk_181 0 29 (dk_at dksX8_step_4 21 rfl rfl)
theorem dX8_step_117 : decode cX8_step 117 = .ok (.goto (-49), 3) := dk_167 255 207 (dk_at dksX8_step_5 0 rfl rfl)
theorem dX8_step_120 : decode cX8_step 120 = .ok (.aload_n 0, 1) := dk_42 (dk_at dksX8_step_5 3 rfl rfl)
theorem dX8_step_121 : decode cX8_step 121 = .ok (.aload_n 0, 1) := dk_42 (dk_at dksX8_step_5 4 rfl rfl)
theorem dX8_step_122 : decode cX8_step 122 = .ok (.getfield 47, 3) := dk_180 0 47 (dk_at dksX8_step_5 5 rfl rfl)
theorem dX8_step_125 : decode cX8_step 125 = .ok (.sipush 255, 3) := dk_17 0 255 (dk_at dksX8_step_5 8 rfl rfl)
theorem dX8_step_128 : decode cX8_step 128 = .ok (.if_icmp .gt 22, 3) := dk_163 0 22 (dk_at dksX8_step_5 11 rfl rfl)
theorem dX8_step_131 : decode cX8_step 131 = .ok (.iload_n 1, 1) := dk_27 (dk_at dksX8_step_5 14 rfl rfl)
theorem dX8_step_132 : decode cX8_step 132 = .ok (.bipush 48, 2) := dk_16 48 (dk_at dksX8_step_5 15 rfl rfl)
theorem dX8_step_134 : decode cX8_step 134 = .ok (.if_icmp .ne 20, 3) := dk_160 0 20 (dk_at dksX8_step_5 17 rfl rfl)
theorem dX8_step_137 : decode cX8_step 137 = .ok (.aload_n 0, 1) := dk_42 (dk_at dksX8_step_5 20 rfl rfl)
theorem dX8_step_138 : decode cX8_step 138 = .ok (.getfield 29, 3) := dk_180 0 29 (dk_at dksX8_step_5 21 rfl rfl)
theorem dX8_step_141 : decode cX8_step 141 = .ok (.aload_n 0, 1) := dk_42 (dk_at dksX8_step_6 0 rfl rfl)
theorem dX8_step_142 : decode cX8_step 142 = .ok (.getfield 44, 3) := dk_180 0 44 (dk_at dksX8_step_6 1 rfl rfl)
theorem dX8_step_145 : decode cX8_step 145 = .ok (.isub, 1) := dk_100 (dk_at dksX8_step_6 4 rfl rfl)
theorem dX8_step_146 : decode cX8_step 146 = .ok (.iconst 1, 1) := dk_4 (dk_at dksX8_step_6 5 rfl rfl)
theorem dX8_step_147 : decode cX8_step 147 = .ok (.if_icmp .le 7, 3) := dk_164 0 7 (dk_at dksX8_step_6 6 rfl rfl)
theorem dX8_step_150 : decode cX8_step 150 = .ok (.iconst 4, 1) := dk_7 (dk_at dksX8_step_6 9 rfl rfl)
theorem dX8_step_151 : decode cX8_step 151 = .ok (.goto 4, 3) := dk_167 0 4 (dk_at dksX8_step_6 10 rfl rfl)
theorem dX8_step_154 : decode cX8_step 154 = .ok (.iconst 1, 1) := dk_4 (dk_at dksX8_step_6 13 rfl rfl)
theorem dX8_step_155 : decode cX8_step 155 = .ok (.putfield 50, 3) := dk_181 0 50 (dk_at dksX8_step_6 14 rfl rfl)
theorem dX8_step_158 : decode cX8_step 158 = .ok (.goto 69, 3) := dk_167 0 69 (dk_at dksX8_step_6 17 rfl rfl)
theorem dX8_step_161 : decode cX8_step 161 = .ok (.aload_n 0, 1) := dk_42 (dk_at dksX8_step_6 20 rfl rfl)
theorem dX8_step_162 : decode cX8_step 162 = .ok (.dup, 1) := dk_89 (dk_at dksX8_step_6 21 rfl rfl)
theorem dX8_step_163 : decode cX8_step 163 = .ok (.getfield 29, 3) := dk_180 0 29 (dk_at dksX8_step_7 0 rfl rfl)
theorem dX8_step_166 : decode cX8_step 166 = .ok (.iconst 1, 1) := dk_4 (dk_at dksX8_step_7 3 rfl rfl)
theorem dX8_step_167 : decode cX8_step 167 = .ok (.iadd, 1) := dk_96 (dk_at dksX8_step_7 4 rfl rfl)
theorem dX8_step_168 : decode cX8_step 168 = .ok (.putfield 29, 3) := dk_181 0 29 (dk_at dksX8_step_7 5 rfl rfl)
theorem dX8_step_171 : decode cX8_step 171 = .ok (.aload_n 0, 1) := dk_42 (dk_at dksX8_step_7 8 rfl rfl)
theorem dX8_step_172 : decode cX8_step 172 = .ok (.iload_n 1, 1) := dk_27 (dk_at dksX8_step_7 9 rfl rfl)
theorem dX8_step_173 : decode cX8_step 173 = .ok (.bipush 97, 2) := dk_16 97 (dk_at dksX8_step_7 10 rfl rfl)
theorem dX8_step_175 : decode cX8_step 175 = .ok (.bipush 122, 2) := dk_16 122 (dk_at dksX8_step_7 12 rfl rfl)
theorem dX8_step_177 : decode cX8_step 177 = .ok (.invokestatic 53, 3) := dk_184 0 53 (dk_at dksX8_step_7 14 rfl rfl)
theorem dX8_step_180 : decode cX8_step 180 = .ok (.ifCond .eq 10, 3) := dk_153 0 10 (dk_at dksX8_step_7 17 rfl rfl)
theorem dX8_step_183 : decode cX8_step 183 = .ok (.iload_n 1, 1) := dk_27 (dk_at dksX8_step_7 20 rfl rfl)
theorem dX8_step_184 : decode cX8_step 184 = .ok (.bipush 97, 2) := dk_16 97 (dk_at dksX8_step_7 21 rfl rfl)
theorem dX8_step_186 : decode cX8_step 186 = .ok (.isub, 1) := dk_100 (dk_at dksX8_step_7 23 rfl rfl)
theorem dX8_step_187 : decode cX8_step 187 = .ok (.goto 4, 3) := dk_167 0 4 (dk_at dksX8_step_8 0 rfl rfl)
theorem dX8_step_190 : decode cX8_step 190 = .ok (.iload_n 1, 1) := dk_27 (dk_at dksX8_step_8 3 rfl rfl)
theorem dX8_step_191 : decode cX8_step 191 = .ok (.putfield 47, 3) := dk_181 0 47 (dk_at dksX8_step_8 4 rfl rfl)
theorem dX8_step_194 : decode cX8_step 194 = .ok (.aload_n 0, 1) := dk_42 (dk_at dksX8_step_8 7 rfl rfl)
theorem dX8_step_195 : decode cX8_step 195 = .ok (.iload_n 1, 1) := dk_27 (dk_at dksX8_step_8 8 rfl rfl)
theorem dX8_step_196 : decode cX8_step 196 = .ok (.bipush 97, 2) := dk_16 97 (dk_at dksX8_step_8 9 rfl rfl)
theorem dX8_step_198 : decode cX8_step 198 = .ok (.bipush 122, 2) := dk_16 122 (dk_at dksX8_step_8 11 rfl rfl)
theorem dX8_step_200 : decode cX8_step 200 = .ok (.invokestatic 53, 3) := dk_184 0 53 (dk_at dksX8_step_8 13 rfl rfl)
theorem dX8_step_203 : decode cX8_step 203 = .ok (.ifCond .eq 7, 3) := dk_153 0 7 (dk_at dksX8_step_8 16 rfl rfl)
theorem dX8_step_206 : decode cX8_step 206 = .ok (.iconst 0, 1) := dk_3 (dk_at dksX8_step_8 19 rfl rfl)
theorem dX8_step_207 : decode cX8_step 207 = .ok (.goto 17, 3) := dk_167 0 17 (dk_at dksX8_step_8 20 rfl rfl)
theorem dX8_step_210 : decode cX8_step 210 = .ok (.ldc 63, 2) := dk_18 63 (dk_at dksX8_step_9 0 rfl rfl)
theorem dX8_step_212 : decode cX8_step 212 = .ok (.iload_n 1, 1) := dk_27 (dk_at dksX8_step_9 2 rfl rfl)
theorem dX8_step_213 : decode cX8_step 213 = .ok (.invokevirtual 65, 3) := dk_182 0 65 (dk_at dksX8_step_9 3 rfl rfl)
theorem dX8_step_216 : decode cX8_step 216 = .ok (.ifCond .lt 7, 3) := dk_155 0 7 (dk_at dksX8_step_9 6 rfl rfl)
theorem dX8_step_219 : decode cX8_step 219 = .ok (.iconst 2, 1) := dk_5 (dk_at dksX8_step_9 9 rfl rfl)
theorem dX8_step_220 : decode cX8_step 220 = .ok (.goto 4, 3) := dk_167 0 4 (dk_at dksX8_step_9 10 rfl rfl)
theorem dX8_step_223 : decode cX8_step 223 = .ok (.iconst 4, 1) := dk_7 (dk_at dksX8_step_9 13 rfl rfl)
theorem dX8_step_224 : decode cX8_step 224 = .ok (.putfield 50, 3) := dk_181 0 50 (dk_at dksX8_step_9 14 rfl rfl)
theorem dX8_step_227 : decode cX8_step 227 = .ok (.return_, 1) := dk_177 (dk_at dksX8_step_9 17 rfl rfl)
abbrev cX8_here : ByteArray := prog_13_method_2_code
def yX8_here : MethodName := ⟨RX8, "here", "()I"⟩
def dkwX8_here_1 : List UInt8 := [180, 0, 29, 51, 17, 0, 255, 126, 167, 0, 4, 2, 172]
abbrev dktX8_here_1 : List UInt8 := dkwX8_here_1 ++ []
def dkwX8_here_0 : List UInt8 := [42, 180, 0, 29, 42, 180, 0, 3, 180, 0, 33, 162, 0, 22, 42, 180, 0, 3, 180, 0, 36, 42]
abbrev dktX8_here_0 : List UInt8 := dkwX8_here_0 ++ dktX8_here_1
theorem dksX8_here_0 : cX8_here.data.toList.drop 0 = dktX8_here_0 := by decide +kernel
theorem dksX8_here_1 : cX8_here.data.toList.drop 22 = dktX8_here_1 := dk_seg dksX8_here_0 22 rfl rfl
theorem dX8_here_0 : decode cX8_here 0 = .ok (.aload_n 0, 1) := dk_42 (dk_at dksX8_here_0 0 rfl rfl)
theorem dX8_here_1 : decode cX8_here 1 = .ok (.getfield 29, 3) := dk_180 0 29 (dk_at dksX8_here_0 1 rfl rfl)
theorem dX8_here_4 : decode cX8_here 4 = .ok (.aload_n 0, 1) := dk_42 (dk_at dksX8_here_0 4 rfl rfl)
theorem dX8_here_5 : decode cX8_here 5 = .ok (.getfield 3, 3) := dk_180 0 3 (dk_at dksX8_here_0 5 rfl rfl)
theorem dX8_here_8 : decode cX8_here 8 = .ok (.getfield 33, 3) := dk_180 0 33 (dk_at dksX8_here_0 8 rfl rfl)
theorem dX8_here_11 : decode cX8_here 11 = .ok (.if_icmp .ge 22, 3) := dk_162 0 22 (dk_at dksX8_here_0 11 rfl rfl)
theorem dX8_here_14 : decode cX8_here 14 = .ok (.aload_n 0, 1) := dk_42 (dk_at dksX8_here_0 14 rfl rfl)
theorem dX8_here_15 : decode cX8_here 15 = .ok (.getfield 3, 3) := dk_180 0 3 (dk_at dksX8_here_0 15 rfl rfl)
theorem dX8_here_18 : decode cX8_here 18 = .ok (.getfield 36, 3) := dk_180 0 36 (dk_at dksX8_here_0 18 rfl rfl)
theorem dX8_here_21 : decode cX8_here 21 = .ok (.aload_n 0, 1) := dk_42 (dk_at dksX8_here_0 21 rfl rfl)
theorem dX8_here_22 : decode cX8_here 22 = .ok (.getfield 29, 3) := dk_180 0 29 (dk_at dksX8_here_1 0 rfl rfl)
theorem dX8_here_25 : decode cX8_here 25 = .ok (.baload, 1) := dk_51 (dk_at dksX8_here_1 3 rfl rfl)
theorem dX8_here_26 : decode cX8_here 26 = .ok (.sipush 255, 3) := dk_17 0 255 (dk_at dksX8_here_1 4 rfl rfl)
theorem dX8_here_29 : decode cX8_here 29 = .ok (.iand, 1) := dk_126 (dk_at dksX8_here_1 7 rfl rfl)
theorem dX8_here_30 : decode cX8_here 30 = .ok (.goto 4, 3) := dk_167 0 4 (dk_at dksX8_here_1 8 rfl rfl)
theorem dX8_here_33 : decode cX8_here 33 = .ok (.iconst (-1), 1) := dk_2 (dk_at dksX8_here_1 11 rfl rfl)
theorem dX8_here_34 : decode cX8_here 34 = .ok (.ireturn, 1) := dk_172 (dk_at dksX8_here_1 12 rfl rfl)
abbrev cX8_item : ByteArray := prog_13_method_13_code
def yX8_item : MethodName := ⟨RX8, "item", "()V"⟩
def dkwX8_item_6 : List UInt8 := [184, 0, 89, 45, 182, 0, 171, 87, 177]
abbrev dktX8_item_6 : List UInt8 := dkwX8_item_6 ++ []
def dkwX8_item_5 : List UInt8 := [78, 42, 180, 0, 18, 180, 0, 199, 45, 185, 0, 167, 2, 0, 87, 42, 180, 0, 26, 180, 0, 83, 28]
abbrev dktX8_item_5 : List UInt8 := dkwX8_item_5 ++ dktX8_item_6
def dkwX8_item_4 : List UInt8 := [180, 0, 26, 182, 0, 103, 199, 0, 7, 4, 167, 0, 4, 3, 182, 0, 107, 61, 42, 27, 28, 182, 0, 202]
abbrev dktX8_item_4 : List UInt8 := dkwX8_item_4 ++ dktX8_item_5
def dkwX8_item_3 : List UInt8 := [185, 0, 159, 1, 0, 60, 42, 42, 182, 0, 79, 153, 0, 24, 27, 16, 12, 162, 0, 18, 42, 42]
abbrev dktX8_item_3 : List UInt8 := dkwX8_item_3 ++ dktX8_item_4
def dkwX8_item_2 : List UInt8 := [42, 180, 0, 26, 180, 0, 196, 181, 0, 26, 167, 0, 87, 42, 180, 0, 18, 180, 0, 199]
abbrev dktX8_item_2 : List UInt8 := dkwX8_item_2 ++ dktX8_item_3
def dkwX8_item_1 : List UInt8 := [153, 0, 37, 42, 42, 180, 0, 26, 182, 0, 193, 154, 0, 7, 4, 167, 0, 4, 3, 182, 0, 107, 87, 42]
abbrev dktX8_item_1 : List UInt8 := dkwX8_item_1 ++ dktX8_item_2
def dkwX8_item_0 : List UInt8 := [42, 16, 91, 182, 0, 113, 153, 0, 10, 42, 182, 0, 190, 167, 0, 130, 42, 16, 93, 182, 0, 113]
abbrev dktX8_item_0 : List UInt8 := dkwX8_item_0 ++ dktX8_item_1
theorem dksX8_item_0 : cX8_item.data.toList.drop 0 = dktX8_item_0 := by decide +kernel
theorem dksX8_item_1 : cX8_item.data.toList.drop 22 = dktX8_item_1 := dk_seg dksX8_item_0 22 rfl rfl
theorem dksX8_item_2 : cX8_item.data.toList.drop 46 = dktX8_item_2 := dk_seg dksX8_item_1 24 rfl rfl
theorem dksX8_item_3 : cX8_item.data.toList.drop 66 = dktX8_item_3 := dk_seg dksX8_item_2 20 rfl rfl
theorem dksX8_item_4 : cX8_item.data.toList.drop 88 = dktX8_item_4 := dk_seg dksX8_item_3 22 rfl rfl
theorem dksX8_item_5 : cX8_item.data.toList.drop 112 = dktX8_item_5 := dk_seg dksX8_item_4 24 rfl rfl
theorem dksX8_item_6 : cX8_item.data.toList.drop 135 = dktX8_item_6 := dk_seg dksX8_item_5 23 rfl rfl
theorem dX8_item_0 : decode cX8_item 0 = .ok (.aload_n 0, 1) := dk_42 (dk_at dksX8_item_0 0 rfl rfl)
theorem dX8_item_1 : decode cX8_item 1 = .ok (.bipush 91, 2) := dk_16 91 (dk_at dksX8_item_0 1 rfl rfl)
theorem dX8_item_3 : decode cX8_item 3 = .ok (.invokevirtual 113, 3) := dk_182 0 113 (dk_at dksX8_item_0 3 rfl rfl)
theorem dX8_item_6 : decode cX8_item 6 = .ok (.ifCond .eq 10, 3) := dk_153 0 10 (dk_at dksX8_item_0 6 rfl rfl)
theorem dX8_item_9 : decode cX8_item 9 = .ok (.aload_n 0, 1) := dk_42 (dk_at dksX8_item_0 9 rfl rfl)
theorem dX8_item_10 : decode cX8_item 10 = .ok (.invokevirtual 190, 3) := dk_182 0 190 (dk_at dksX8_item_0 10 rfl rfl)
theorem dX8_item_13 : decode cX8_item 13 = .ok (.goto 130, 3) := dk_167 0 130 (dk_at dksX8_item_0 13 rfl rfl)
theorem dX8_item_16 : decode cX8_item 16 = .ok (.aload_n 0, 1) := dk_42 (dk_at dksX8_item_0 16 rfl rfl)
theorem dX8_item_17 : decode cX8_item 17 = .ok (.bipush 93, 2) := dk_16 93 (dk_at dksX8_item_0 17 rfl rfl)
theorem dX8_item_19 : decode cX8_item 19 = .ok (.invokevirtual 113, 3) := dk_182 0 113 (dk_at dksX8_item_0 19 rfl rfl)
theorem dX8_item_22 : decode cX8_item 22 = .ok (.ifCond .eq 37, 3) := dk_153 0 37 (dk_at dksX8_item_1 0 rfl rfl)
theorem dX8_item_25 : decode cX8_item 25 = .ok (.aload_n 0, 1) := dk_42 (dk_at dksX8_item_1 3 rfl rfl)
theorem dX8_item_26 : decode cX8_item 26 = .ok (.aload_n 0, 1) := dk_42 (dk_at dksX8_item_1 4 rfl rfl)
theorem dX8_item_27 : decode cX8_item 27 = .ok (.getfield 26, 3) := dk_180 0 26 (dk_at dksX8_item_1 5 rfl rfl)
theorem dX8_item_30 : decode cX8_item 30 = .ok (.invokevirtual 193, 3) := dk_182 0 193 (dk_at dksX8_item_1 8 rfl rfl)
theorem dX8_item_33 : decode cX8_item 33 = .ok (.ifCond .ne 7, 3) := dk_154 0 7 (dk_at dksX8_item_1 11 rfl rfl)
theorem dX8_item_36 : decode cX8_item 36 = .ok (.iconst 1, 1) := dk_4 (dk_at dksX8_item_1 14 rfl rfl)
theorem dX8_item_37 : decode cX8_item 37 = .ok (.goto 4, 3) := dk_167 0 4 (dk_at dksX8_item_1 15 rfl rfl)
theorem dX8_item_40 : decode cX8_item 40 = .ok (.iconst 0, 1) := dk_3 (dk_at dksX8_item_1 18 rfl rfl)
theorem dX8_item_41 : decode cX8_item 41 = .ok (.invokevirtual 107, 3) := dk_182 0 107 (dk_at dksX8_item_1 19 rfl rfl)
theorem dX8_item_44 : decode cX8_item 44 = .ok (.pop, 1) := dk_87 (dk_at dksX8_item_1 22 rfl rfl)
theorem dX8_item_45 : decode cX8_item 45 = .ok (.aload_n 0, 1) := dk_42 (dk_at dksX8_item_1 23 rfl rfl)
theorem dX8_item_46 : decode cX8_item 46 = .ok (.aload_n 0, 1) := dk_42 (dk_at dksX8_item_2 0 rfl rfl)
theorem dX8_item_47 : decode cX8_item 47 = .ok (.getfield 26, 3) := dk_180 0 26 (dk_at dksX8_item_2 1 rfl rfl)
theorem dX8_item_50 : decode cX8_item 50 = .ok (.getfield 196, 3) := dk_180 0 196 (dk_at dksX8_item_2 4 rfl rfl)
theorem dX8_item_53 : decode cX8_item 53 = .ok (.putfield 26, 3) := dk_181 0 26 (dk_at dksX8_item_2 7 rfl rfl)
theorem dX8_item_56 : decode cX8_item 56 = .ok (.goto 87, 3) := dk_167 0 87 (dk_at dksX8_item_2 10 rfl rfl)
theorem dX8_item_59 : decode cX8_item 59 = .ok (.aload_n 0, 1) := dk_42 (dk_at dksX8_item_2 13 rfl rfl)
theorem dX8_item_60 : decode cX8_item 60 = .ok (.getfield 18, 3) := dk_180 0 18 (dk_at dksX8_item_2 14 rfl rfl)
theorem dX8_item_63 : decode cX8_item 63 = .ok (.getfield 199, 3) := dk_180 0 199 (dk_at dksX8_item_2 17 rfl rfl)
theorem dX8_item_66 : decode cX8_item 66 = .ok (.invokeinterface 159 1, 5) := by decide +kernel
theorem dX8_item_71 : decode cX8_item 71 = .ok (.istore_n 1, 1) := dk_60 (dk_at dksX8_item_3 5 rfl rfl)
theorem dX8_item_72 : decode cX8_item 72 = .ok (.aload_n 0, 1) := dk_42 (dk_at dksX8_item_3 6 rfl rfl)
theorem dX8_item_73 : decode cX8_item 73 = .ok (.aload_n 0, 1) := dk_42 (dk_at dksX8_item_3 7 rfl rfl)
theorem dX8_item_74 : decode cX8_item 74 = .ok (.invokevirtual 79, 3) := dk_182 0 79 (dk_at dksX8_item_3 8 rfl rfl)
theorem dX8_item_77 : decode cX8_item 77 = .ok (.ifCond .eq 24, 3) := dk_153 0 24 (dk_at dksX8_item_3 11 rfl rfl)
theorem dX8_item_80 : decode cX8_item 80 = .ok (.iload_n 1, 1) := dk_27 (dk_at dksX8_item_3 14 rfl rfl)
theorem dX8_item_81 : decode cX8_item 81 = .ok (.bipush 12, 2) := dk_16 12 (dk_at dksX8_item_3 15 rfl rfl)
theorem dX8_item_83 : decode cX8_item 83 = .ok (.if_icmp .ge 18, 3) := dk_162 0 18 (dk_at dksX8_item_3 17 rfl rfl)
theorem dX8_item_86 : decode cX8_item 86 = .ok (.aload_n 0, 1) := dk_42 (dk_at dksX8_item_3 20 rfl rfl)
theorem dX8_item_87 : decode cX8_item 87 = .ok (.aload_n 0, 1) := dk_42 (dk_at dksX8_item_3 21 rfl rfl)
theorem dX8_item_88 : decode cX8_item 88 = .ok (.getfield 26, 3) := dk_180 0 26 (dk_at dksX8_item_4 0 rfl rfl)
theorem dX8_item_91 : decode cX8_item 91 = .ok (.invokevirtual 103, 3) := dk_182 0 103 (dk_at dksX8_item_4 3 rfl rfl)
theorem dX8_item_94 : decode cX8_item 94 = .ok (.ifnonnull 7, 3) := dk_199 0 7 (dk_at dksX8_item_4 6 rfl rfl)
theorem dX8_item_97 : decode cX8_item 97 = .ok (.iconst 1, 1) := dk_4 (dk_at dksX8_item_4 9 rfl rfl)
theorem dX8_item_98 : decode cX8_item 98 = .ok (.goto 4, 3) := dk_167 0 4 (dk_at dksX8_item_4 10 rfl rfl)
theorem dX8_item_101 : decode cX8_item 101 = .ok (.iconst 0, 1) := dk_3 (dk_at dksX8_item_4 13 rfl rfl)
theorem dX8_item_102 : decode cX8_item 102 = .ok (.invokevirtual 107, 3) := dk_182 0 107 (dk_at dksX8_item_4 14 rfl rfl)
theorem dX8_item_105 : decode cX8_item 105 = .ok (.istore_n 2, 1) := dk_61 (dk_at dksX8_item_4 17 rfl rfl)
theorem dX8_item_106 : decode cX8_item 106 = .ok (.aload_n 0, 1) := dk_42 (dk_at dksX8_item_4 18 rfl rfl)
theorem dX8_item_107 : decode cX8_item 107 = .ok (.iload_n 1, 1) := dk_27 (dk_at dksX8_item_4 19 rfl rfl)
theorem dX8_item_108 : decode cX8_item 108 = .ok (.iload_n 2, 1) := dk_28 (dk_at dksX8_item_4 20 rfl rfl)
theorem dX8_item_109 : decode cX8_item 109 = .ok (.invokevirtual 202, 3) := dk_182 0 202 (dk_at dksX8_item_4 21 rfl rfl)
theorem dX8_item_112 : decode cX8_item 112 = .ok (.astore_n 3, 1) := dk_78 (dk_at dksX8_item_5 0 rfl rfl)
theorem dX8_item_113 : decode cX8_item 113 = .ok (.aload_n 0, 1) := dk_42 (dk_at dksX8_item_5 1 rfl rfl)
theorem dX8_item_114 : decode cX8_item 114 = .ok (.getfield 18, 3) := dk_180 0 18 (dk_at dksX8_item_5 2 rfl rfl)
theorem dX8_item_117 : decode cX8_item 117 = .ok (.getfield 199, 3) := dk_180 0 199 (dk_at dksX8_item_5 5 rfl rfl)
theorem dX8_item_120 : decode cX8_item 120 = .ok (.aload_n 3, 1) := dk_45 (dk_at dksX8_item_5 8 rfl rfl)
theorem dX8_item_121 : decode cX8_item 121 = .ok (.invokeinterface 167 2, 5) := by decide +kernel
theorem dX8_item_126 : decode cX8_item 126 = .ok (.pop, 1) := dk_87 (dk_at dksX8_item_5 14 rfl rfl)
theorem dX8_item_127 : decode cX8_item 127 = .ok (.aload_n 0, 1) := dk_42 (dk_at dksX8_item_5 15 rfl rfl)
theorem dX8_item_128 : decode cX8_item 128 = .ok (.getfield 26, 3) := dk_180 0 26 (dk_at dksX8_item_5 16 rfl rfl)
theorem dX8_item_131 : decode cX8_item 131 = .ok (.getfield 83, 3) := dk_180 0 83 (dk_at dksX8_item_5 19 rfl rfl)
theorem dX8_item_134 : decode cX8_item 134 = .ok (.iload_n 2, 1) := dk_28 (dk_at dksX8_item_5 22 rfl rfl)
theorem dX8_item_135 : decode cX8_item 135 = .ok (.invokestatic 89, 3) := dk_184 0 89 (dk_at dksX8_item_6 0 rfl rfl)
theorem dX8_item_138 : decode cX8_item 138 = .ok (.aload_n 3, 1) := dk_45 (dk_at dksX8_item_6 3 rfl rfl)
theorem dX8_item_139 : decode cX8_item 139 = .ok (.invokevirtual 171, 3) := dk_182 0 171 (dk_at dksX8_item_6 4 rfl rfl)
theorem dX8_item_142 : decode cX8_item 142 = .ok (.pop, 1) := dk_87 (dk_at dksX8_item_6 7 rfl rfl)
theorem dX8_item_143 : decode cX8_item 143 = .ok (.return_, 1) := dk_177 (dk_at dksX8_item_6 8 rfl rfl)
abbrev cX8_is : ByteArray := prog_13_method_5_code
def yX8_is : MethodName := ⟨RX8, "is", "(I)Z"⟩
def dkwX8_is_0 : List UInt8 := [42, 180, 0, 50, 5, 160, 0, 15, 42, 180, 0, 47, 27, 160, 0, 7, 4, 167, 0, 4, 3, 172]
abbrev dktX8_is_0 : List UInt8 := dkwX8_is_0 ++ []
theorem dksX8_is_0 : cX8_is.data.toList.drop 0 = dktX8_is_0 := by decide +kernel
theorem dX8_is_0 : decode cX8_is 0 = .ok (.aload_n 0, 1) := dk_42 (dk_at dksX8_is_0 0 rfl rfl)
theorem dX8_is_1 : decode cX8_is 1 = .ok (.getfield 50, 3) := dk_180 0 50 (dk_at dksX8_is_0 1 rfl rfl)
theorem dX8_is_4 : decode cX8_is 4 = .ok (.iconst 2, 1) := dk_5 (dk_at dksX8_is_0 4 rfl rfl)
theorem dX8_is_5 : decode cX8_is 5 = .ok (.if_icmp .ne 15, 3) := dk_160 0 15 (dk_at dksX8_is_0 5 rfl rfl)
theorem dX8_is_8 : decode cX8_is 8 = .ok (.aload_n 0, 1) := dk_42 (dk_at dksX8_is_0 8 rfl rfl)
theorem dX8_is_9 : decode cX8_is 9 = .ok (.getfield 47, 3) := dk_180 0 47 (dk_at dksX8_is_0 9 rfl rfl)
theorem dX8_is_12 : decode cX8_is 12 = .ok (.iload_n 1, 1) := dk_27 (dk_at dksX8_is_0 12 rfl rfl)
theorem dX8_is_13 : decode cX8_is 13 = .ok (.if_icmp .ne 7, 3) := dk_160 0 7 (dk_at dksX8_is_0 13 rfl rfl)
theorem dX8_is_16 : decode cX8_is 16 = .ok (.iconst 1, 1) := dk_4 (dk_at dksX8_is_0 16 rfl rfl)
theorem dX8_is_17 : decode cX8_is 17 = .ok (.goto 4, 3) := dk_167 0 4 (dk_at dksX8_is_0 17 rfl rfl)
theorem dX8_is_20 : decode cX8_is 20 = .ok (.iconst 0, 1) := dk_3 (dk_at dksX8_is_0 20 rfl rfl)
theorem dX8_is_21 : decode cX8_is 21 = .ok (.ireturn, 1) := dk_172 (dk_at dksX8_is_0 21 rfl rfl)
abbrev cX8_opens : ByteArray := prog_13_method_11_code
def yX8_opens : MethodName := ⟨RX8, "opens", "()V"⟩
def dkwX8_opens_6 : List UInt8 := [87, 42, 43, 192, 0, 84, 181, 0, 26, 177]
abbrev dktX8_opens_6 : List UInt8 := dkwX8_opens_6 ++ []
def dkwX8_opens_5 : List UInt8 := [192, 0, 84, 185, 0, 167, 2, 0, 87, 42, 180, 0, 26, 180, 0, 83, 28, 184, 0, 89, 43, 182, 0, 171]
abbrev dktX8_opens_5 : List UInt8 := dkwX8_opens_5 ++ dktX8_opens_6
def dkwX8_opens_4 : List UInt8 := [185, 0, 159, 1, 0, 42, 180, 0, 26, 28, 183, 0, 164, 76, 42, 180, 0, 18, 180, 0, 155, 43]
abbrev dktX8_opens_4 : List UInt8 := dkwX8_opens_4 ++ dktX8_opens_5
def dkwX8_opens_3 : List UInt8 := [167, 0, 4, 3, 182, 0, 107, 61, 43, 199, 0, 61, 187, 0, 84, 89, 42, 180, 0, 18, 180, 0, 155]
abbrev dktX8_opens_3 : List UInt8 := dkwX8_opens_3 ++ dktX8_opens_4
def dkwX8_opens_2 : List UInt8 := [180, 0, 155, 185, 0, 159, 1, 0, 16, 6, 162, 0, 17, 167, 0, 10, 43, 193, 0, 84, 153, 0, 7, 4]
abbrev dktX8_opens_2 : List UInt8 := dkwX8_opens_2 ++ dktX8_opens_3
def dkwX8_opens_1 : List UInt8 := [180, 0, 26, 182, 0, 103, 76, 42, 42, 182, 0, 79, 153, 0, 38, 43, 199, 0, 23, 42, 180, 0, 18]
abbrev dktX8_opens_1 : List UInt8 := dkwX8_opens_1 ++ dktX8_opens_2
def dkwX8_opens_0 : List UInt8 := [42, 42, 180, 0, 26, 182, 0, 152, 7, 162, 0, 7, 4, 167, 0, 4, 3, 182, 0, 107, 87, 42, 42]
abbrev dktX8_opens_0 : List UInt8 := dkwX8_opens_0 ++ dktX8_opens_1
theorem dksX8_opens_0 : cX8_opens.data.toList.drop 0 = dktX8_opens_0 := by decide +kernel
theorem dksX8_opens_1 : cX8_opens.data.toList.drop 23 = dktX8_opens_1 := dk_seg dksX8_opens_0 23 rfl rfl
theorem dksX8_opens_2 : cX8_opens.data.toList.drop 46 = dktX8_opens_2 := dk_seg dksX8_opens_1 23 rfl rfl
theorem dksX8_opens_3 : cX8_opens.data.toList.drop 70 = dktX8_opens_3 := dk_seg dksX8_opens_2 24 rfl rfl
theorem dksX8_opens_4 : cX8_opens.data.toList.drop 93 = dktX8_opens_4 := dk_seg dksX8_opens_3 23 rfl rfl
theorem dksX8_opens_5 : cX8_opens.data.toList.drop 115 = dktX8_opens_5 := dk_seg dksX8_opens_4 22 rfl rfl
theorem dksX8_opens_6 : cX8_opens.data.toList.drop 139 = dktX8_opens_6 := dk_seg dksX8_opens_5 24 rfl rfl
theorem dX8_opens_0 : decode cX8_opens 0 = .ok (.aload_n 0, 1) := dk_42 (dk_at dksX8_opens_0 0 rfl rfl)
theorem dX8_opens_1 : decode cX8_opens 1 = .ok (.aload_n 0, 1) := dk_42 (dk_at dksX8_opens_0 1 rfl rfl)
theorem dX8_opens_2 : decode cX8_opens 2 = .ok (.getfield 26, 3) := dk_180 0 26 (dk_at dksX8_opens_0 2 rfl rfl)
theorem dX8_opens_5 : decode cX8_opens 5 = .ok (.invokevirtual 152, 3) := dk_182 0 152 (dk_at dksX8_opens_0 5 rfl rfl)
theorem dX8_opens_8 : decode cX8_opens 8 = .ok (.iconst 4, 1) := dk_7 (dk_at dksX8_opens_0 8 rfl rfl)
theorem dX8_opens_9 : decode cX8_opens 9 = .ok (.if_icmp .ge 7, 3) := dk_162 0 7 (dk_at dksX8_opens_0 9 rfl rfl)
theorem dX8_opens_12 : decode cX8_opens 12 = .ok (.iconst 1, 1) := dk_4 (dk_at dksX8_opens_0 12 rfl rfl)
theorem dX8_opens_13 : decode cX8_opens 13 = .ok (.goto 4, 3) := dk_167 0 4 (dk_at dksX8_opens_0 13 rfl rfl)
theorem dX8_opens_16 : decode cX8_opens 16 = .ok (.iconst 0, 1) := dk_3 (dk_at dksX8_opens_0 16 rfl rfl)
theorem dX8_opens_17 : decode cX8_opens 17 = .ok (.invokevirtual 107, 3) := dk_182 0 107 (dk_at dksX8_opens_0 17 rfl rfl)
theorem dX8_opens_20 : decode cX8_opens 20 = .ok (.pop, 1) := dk_87 (dk_at dksX8_opens_0 20 rfl rfl)
theorem dX8_opens_21 : decode cX8_opens 21 = .ok (.aload_n 0, 1) := dk_42 (dk_at dksX8_opens_0 21 rfl rfl)
theorem dX8_opens_22 : decode cX8_opens 22 = .ok (.aload_n 0, 1) := dk_42 (dk_at dksX8_opens_0 22 rfl rfl)
theorem dX8_opens_23 : decode cX8_opens 23 = .ok (.getfield 26, 3) := dk_180 0 26 (dk_at dksX8_opens_1 0 rfl rfl)
theorem dX8_opens_26 : decode cX8_opens 26 = .ok (.invokevirtual 103, 3) := dk_182 0 103 (dk_at dksX8_opens_1 3 rfl rfl)
theorem dX8_opens_29 : decode cX8_opens 29 = .ok (.astore_n 1, 1) := dk_76 (dk_at dksX8_opens_1 6 rfl rfl)
theorem dX8_opens_30 : decode cX8_opens 30 = .ok (.aload_n 0, 1) := dk_42 (dk_at dksX8_opens_1 7 rfl rfl)
theorem dX8_opens_31 : decode cX8_opens 31 = .ok (.aload_n 0, 1) := dk_42 (dk_at dksX8_opens_1 8 rfl rfl)
theorem dX8_opens_32 : decode cX8_opens 32 = .ok (.invokevirtual 79, 3) := dk_182 0 79 (dk_at dksX8_opens_1 9 rfl rfl)
theorem dX8_opens_35 : decode cX8_opens 35 = .ok (.ifCond .eq 38, 3) := dk_153 0 38 (dk_at dksX8_opens_1 12 rfl rfl)
theorem dX8_opens_38 : decode cX8_opens 38 = .ok (.aload_n 1, 1) := dk_43 (dk_at dksX8_opens_1 15 rfl rfl)
theorem dX8_opens_39 : decode cX8_opens 39 = .ok (.ifnonnull 23, 3) := dk_199 0 23 (dk_at dksX8_opens_1 16 rfl rfl)
theorem dX8_opens_42 : decode cX8_opens 42 = .ok (.aload_n 0, 1) := dk_42 (dk_at dksX8_opens_1 19 rfl rfl)
theorem dX8_opens_43 : decode cX8_opens 43 = .ok (.getfield 18, 3) := dk_180 0 18 (dk_at dksX8_opens_1 20 rfl rfl)
theorem dX8_opens_46 : decode cX8_opens 46 = .ok (.getfield 155, 3) := dk_180 0 155 (dk_at dksX8_opens_2 0 rfl rfl)
theorem dX8_opens_49 : decode cX8_opens 49 = .ok (.invokeinterface 159 1, 5) := by decide +kernel
theorem dX8_opens_54 : decode cX8_opens 54 = .ok (.bipush 6, 2) := dk_16 6 (dk_at dksX8_opens_2 8 rfl rfl)
theorem dX8_opens_56 : decode cX8_opens 56 = .ok (.if_icmp .ge 17, 3) := dk_162 0 17 (dk_at dksX8_opens_2 10 rfl rfl)
theorem dX8_opens_59 : decode cX8_opens 59 = .ok (.goto 10, 3) := dk_167 0 10 (dk_at dksX8_opens_2 13 rfl rfl)
theorem dX8_opens_62 : decode cX8_opens 62 = .ok (.aload_n 1, 1) := dk_43 (dk_at dksX8_opens_2 16 rfl rfl)
theorem dX8_opens_63 : decode cX8_opens 63 = .ok (.instanceof 84, 3) := dk_193 0 84 (dk_at dksX8_opens_2 17 rfl rfl)
theorem dX8_opens_66 : decode cX8_opens 66 = .ok (.ifCond .eq 7, 3) := dk_153 0 7 (dk_at dksX8_opens_2 20 rfl rfl)
theorem dX8_opens_69 : decode cX8_opens 69 = .ok (.iconst 1, 1) := dk_4 (dk_at dksX8_opens_2 23 rfl rfl)
theorem dX8_opens_70 : decode cX8_opens 70 = .ok (.goto 4, 3) := dk_167 0 4 (dk_at dksX8_opens_3 0 rfl rfl)
theorem dX8_opens_73 : decode cX8_opens 73 = .ok (.iconst 0, 1) := dk_3 (dk_at dksX8_opens_3 3 rfl rfl)
theorem dX8_opens_74 : decode cX8_opens 74 = .ok (.invokevirtual 107, 3) := dk_182 0 107 (dk_at dksX8_opens_3 4 rfl rfl)
theorem dX8_opens_77 : decode cX8_opens 77 = .ok (.istore_n 2, 1) := dk_61 (dk_at dksX8_opens_3 7 rfl rfl)
theorem dX8_opens_78 : decode cX8_opens 78 = .ok (.aload_n 1, 1) := dk_43 (dk_at dksX8_opens_3 8 rfl rfl)
theorem dX8_opens_79 : decode cX8_opens 79 = .ok (.ifnonnull 61, 3) := dk_199 0 61 (dk_at dksX8_opens_3 9 rfl rfl)
theorem dX8_opens_82 : decode cX8_opens 82 = .ok (.new 84, 3) := dk_187 0 84 (dk_at dksX8_opens_3 12 rfl rfl)
theorem dX8_opens_85 : decode cX8_opens 85 = .ok (.dup, 1) := dk_89 (dk_at dksX8_opens_3 15 rfl rfl)
theorem dX8_opens_86 : decode cX8_opens 86 = .ok (.aload_n 0, 1) := dk_42 (dk_at dksX8_opens_3 16 rfl rfl)
theorem dX8_opens_87 : decode cX8_opens 87 = .ok (.getfield 18, 3) := dk_180 0 18 (dk_at dksX8_opens_3 17 rfl rfl)
theorem dX8_opens_90 : decode cX8_opens 90 = .ok (.getfield 155, 3) := dk_180 0 155 (dk_at dksX8_opens_3 20 rfl rfl)
theorem dX8_opens_93 : decode cX8_opens 93 = .ok (.invokeinterface 159 1, 5) := by decide +kernel
theorem dX8_opens_98 : decode cX8_opens 98 = .ok (.aload_n 0, 1) := dk_42 (dk_at dksX8_opens_4 5 rfl rfl)
theorem dX8_opens_99 : decode cX8_opens 99 = .ok (.getfield 26, 3) := dk_180 0 26 (dk_at dksX8_opens_4 6 rfl rfl)
theorem dX8_opens_102 : decode cX8_opens 102 = .ok (.iload_n 2, 1) := dk_28 (dk_at dksX8_opens_4 9 rfl rfl)
theorem dX8_opens_103 : decode cX8_opens 103 = .ok (.invokespecial 164, 3) := dk_183 0 164 (dk_at dksX8_opens_4 10 rfl rfl)
theorem dX8_opens_106 : decode cX8_opens 106 = .ok (.astore_n 1, 1) := dk_76 (dk_at dksX8_opens_4 13 rfl rfl)
theorem dX8_opens_107 : decode cX8_opens 107 = .ok (.aload_n 0, 1) := dk_42 (dk_at dksX8_opens_4 14 rfl rfl)
theorem dX8_opens_108 : decode cX8_opens 108 = .ok (.getfield 18, 3) := dk_180 0 18 (dk_at dksX8_opens_4 15 rfl rfl)
theorem dX8_opens_111 : decode cX8_opens 111 = .ok (.getfield 155, 3) := dk_180 0 155 (dk_at dksX8_opens_4 18 rfl rfl)
theorem dX8_opens_114 : decode cX8_opens 114 = .ok (.aload_n 1, 1) := dk_43 (dk_at dksX8_opens_4 21 rfl rfl)
theorem dX8_opens_115 : decode cX8_opens 115 = .ok (.checkcast 84, 3) := dk_192 0 84 (dk_at dksX8_opens_5 0 rfl rfl)
theorem dX8_opens_118 : decode cX8_opens 118 = .ok (.invokeinterface 167 2, 5) := by decide +kernel
theorem dX8_opens_123 : decode cX8_opens 123 = .ok (.pop, 1) := dk_87 (dk_at dksX8_opens_5 8 rfl rfl)
theorem dX8_opens_124 : decode cX8_opens 124 = .ok (.aload_n 0, 1) := dk_42 (dk_at dksX8_opens_5 9 rfl rfl)
theorem dX8_opens_125 : decode cX8_opens 125 = .ok (.getfield 26, 3) := dk_180 0 26 (dk_at dksX8_opens_5 10 rfl rfl)
theorem dX8_opens_128 : decode cX8_opens 128 = .ok (.getfield 83, 3) := dk_180 0 83 (dk_at dksX8_opens_5 13 rfl rfl)
theorem dX8_opens_131 : decode cX8_opens 131 = .ok (.iload_n 2, 1) := dk_28 (dk_at dksX8_opens_5 16 rfl rfl)
theorem dX8_opens_132 : decode cX8_opens 132 = .ok (.invokestatic 89, 3) := dk_184 0 89 (dk_at dksX8_opens_5 17 rfl rfl)
theorem dX8_opens_135 : decode cX8_opens 135 = .ok (.aload_n 1, 1) := dk_43 (dk_at dksX8_opens_5 20 rfl rfl)
theorem dX8_opens_136 : decode cX8_opens 136 = .ok (.invokevirtual 171, 3) := dk_182 0 171 (dk_at dksX8_opens_5 21 rfl rfl)
theorem dX8_opens_139 : decode cX8_opens 139 = .ok (.pop, 1) := dk_87 (dk_at dksX8_opens_6 0 rfl rfl)
theorem dX8_opens_140 : decode cX8_opens 140 = .ok (.aload_n 0, 1) := dk_42 (dk_at dksX8_opens_6 1 rfl rfl)
theorem dX8_opens_141 : decode cX8_opens 141 = .ok (.aload_n 1, 1) := dk_43 (dk_at dksX8_opens_6 2 rfl rfl)
theorem dX8_opens_142 : decode cX8_opens 142 = .ok (.checkcast 84, 3) := dk_192 0 84 (dk_at dksX8_opens_6 3 rfl rfl)
theorem dX8_opens_145 : decode cX8_opens 145 = .ok (.putfield 26, 3) := dk_181 0 26 (dk_at dksX8_opens_6 6 rfl rfl)
theorem dX8_opens_148 : decode cX8_opens 148 = .ok (.return_, 1) := dk_177 (dk_at dksX8_opens_6 9 rfl rfl)
abbrev cX8_due : ByteArray := prog_13_method_4_code
def yX8_due : MethodName := ⟨RX8, "due", "(Z)I"⟩
def dkwX8_due_1 : List UInt8 := [182, 0, 76, 28, 172]
abbrev dktX8_due_1 : List UInt8 := dkwX8_due_1 ++ []
def dkwX8_due_0 : List UInt8 := [27, 154, 0, 15, 187, 0, 71, 89, 42, 180, 0, 44, 183, 0, 73, 191, 42, 180, 0, 47, 61, 42]
abbrev dktX8_due_0 : List UInt8 := dkwX8_due_0 ++ dktX8_due_1
theorem dksX8_due_0 : cX8_due.data.toList.drop 0 = dktX8_due_0 := by decide +kernel
theorem dksX8_due_1 : cX8_due.data.toList.drop 22 = dktX8_due_1 := dk_seg dksX8_due_0 22 rfl rfl
theorem dX8_due_0 : decode cX8_due 0 = .ok (.iload_n 1, 1) := dk_27 (dk_at dksX8_due_0 0 rfl rfl)
theorem dX8_due_1 : decode cX8_due 1 = .ok (.ifCond .ne 15, 3) := dk_154 0 15 (dk_at dksX8_due_0 1 rfl rfl)
theorem dX8_due_4 : decode cX8_due 4 = .ok (.new 71, 3) := dk_187 0 71 (dk_at dksX8_due_0 4 rfl rfl)
theorem dX8_due_7 : decode cX8_due 7 = .ok (.dup, 1) := dk_89 (dk_at dksX8_due_0 7 rfl rfl)
theorem dX8_due_8 : decode cX8_due 8 = .ok (.aload_n 0, 1) := dk_42 (dk_at dksX8_due_0 8 rfl rfl)
theorem dX8_due_9 : decode cX8_due 9 = .ok (.getfield 44, 3) := dk_180 0 44 (dk_at dksX8_due_0 9 rfl rfl)
theorem dX8_due_12 : decode cX8_due 12 = .ok (.invokespecial 73, 3) := dk_183 0 73 (dk_at dksX8_due_0 12 rfl rfl)
theorem dX8_due_15 : decode cX8_due 15 = .ok (.athrow, 1) := dk_191 (dk_at dksX8_due_0 15 rfl rfl)
theorem dX8_due_16 : decode cX8_due 16 = .ok (.aload_n 0, 1) := dk_42 (dk_at dksX8_due_0 16 rfl rfl)
theorem dX8_due_17 : decode cX8_due 17 = .ok (.getfield 47, 3) := dk_180 0 47 (dk_at dksX8_due_0 17 rfl rfl)
theorem dX8_due_20 : decode cX8_due 20 = .ok (.istore_n 2, 1) := dk_61 (dk_at dksX8_due_0 20 rfl rfl)
theorem dX8_due_21 : decode cX8_due 21 = .ok (.aload_n 0, 1) := dk_42 (dk_at dksX8_due_0 21 rfl rfl)
theorem dX8_due_22 : decode cX8_due 22 = .ok (.invokevirtual 76, 3) := dk_182 0 76 (dk_at dksX8_due_1 0 rfl rfl)
theorem dX8_due_25 : decode cX8_due 25 = .ok (.iload_n 2, 1) := dk_28 (dk_at dksX8_due_1 3 rfl rfl)
theorem dX8_due_26 : decode cX8_due 26 = .ok (.ireturn, 1) := dk_172 (dk_at dksX8_due_1 4 rfl rfl)
abbrev cX8_found : ByteArray := prog_13_method_7_code
def yX8_found : MethodName := ⟨RX8, "found", "(LSignalWaves$Scope;)LSignalWaves$Named;"⟩
def dkwX8_found_1 : List UInt8 := [167, 0, 4, 1, 176]
abbrev dktX8_found_1 : List UInt8 := dkwX8_found_1 ++ []
def dkwX8_found_0 : List UInt8 := [42, 182, 0, 79, 153, 0, 23, 43, 180, 0, 83, 42, 180, 0, 47, 184, 0, 89, 182, 0, 95, 192, 0, 101]
abbrev dktX8_found_0 : List UInt8 := dkwX8_found_0 ++ dktX8_found_1
theorem dksX8_found_0 : cX8_found.data.toList.drop 0 = dktX8_found_0 := by decide +kernel
theorem dksX8_found_1 : cX8_found.data.toList.drop 24 = dktX8_found_1 := dk_seg dksX8_found_0 24 rfl rfl
theorem dX8_found_0 : decode cX8_found 0 = .ok (.aload_n 0, 1) := dk_42 (dk_at dksX8_found_0 0 rfl rfl)
theorem dX8_found_1 : decode cX8_found 1 = .ok (.invokevirtual 79, 3) := dk_182 0 79 (dk_at dksX8_found_0 1 rfl rfl)
theorem dX8_found_4 : decode cX8_found 4 = .ok (.ifCond .eq 23, 3) := dk_153 0 23 (dk_at dksX8_found_0 4 rfl rfl)
theorem dX8_found_7 : decode cX8_found 7 = .ok (.aload_n 1, 1) := dk_43 (dk_at dksX8_found_0 7 rfl rfl)
theorem dX8_found_8 : decode cX8_found 8 = .ok (.getfield 83, 3) := dk_180 0 83 (dk_at dksX8_found_0 8 rfl rfl)
theorem dX8_found_11 : decode cX8_found 11 = .ok (.aload_n 0, 1) := dk_42 (dk_at dksX8_found_0 11 rfl rfl)
theorem dX8_found_12 : decode cX8_found 12 = .ok (.getfield 47, 3) := dk_180 0 47 (dk_at dksX8_found_0 12 rfl rfl)
theorem dX8_found_15 : decode cX8_found 15 = .ok (.invokestatic 89, 3) := dk_184 0 89 (dk_at dksX8_found_0 15 rfl rfl)
theorem dX8_found_18 : decode cX8_found 18 = .ok (.invokevirtual 95, 3) := dk_182 0 95 (dk_at dksX8_found_0 18 rfl rfl)
theorem dX8_found_21 : decode cX8_found 21 = .ok (.checkcast 101, 3) := dk_192 0 101 (dk_at dksX8_found_0 21 rfl rfl)
theorem dX8_found_24 : decode cX8_found 24 = .ok (.goto 4, 3) := dk_167 0 4 (dk_at dksX8_found_1 0 rfl rfl)
theorem dX8_found_27 : decode cX8_found 27 = .ok (.aconst_null, 1) := dk_1 (dk_at dksX8_found_1 3 rfl rfl)
theorem dX8_found_28 : decode cX8_found 28 = .ok (.areturn, 1) := dk_176 (dk_at dksX8_found_1 4 rfl rfl)
abbrev cX8_isName : ByteArray := prog_13_method_6_code
def yX8_isName : MethodName := ⟨RX8, "isName", "()Z"⟩
def dkwX8_isName_0 : List UInt8 := [42, 180, 0, 50, 154, 0, 7, 4, 167, 0, 4, 3, 172]
abbrev dktX8_isName_0 : List UInt8 := dkwX8_isName_0 ++ []
theorem dksX8_isName_0 : cX8_isName.data.toList.drop 0 = dktX8_isName_0 := by decide +kernel
theorem dX8_isName_0 : decode cX8_isName 0 = .ok (.aload_n 0, 1) := dk_42 (dk_at dksX8_isName_0 0 rfl rfl)
theorem dX8_isName_1 : decode cX8_isName 1 = .ok (.getfield 50, 3) := dk_180 0 50 (dk_at dksX8_isName_0 1 rfl rfl)
theorem dX8_isName_4 : decode cX8_isName 4 = .ok (.ifCond .ne 7, 3) := dk_154 0 7 (dk_at dksX8_isName_0 4 rfl rfl)
theorem dX8_isName_7 : decode cX8_isName 7 = .ok (.iconst 1, 1) := dk_4 (dk_at dksX8_isName_0 7 rfl rfl)
theorem dX8_isName_8 : decode cX8_isName 8 = .ok (.goto 4, 3) := dk_167 0 4 (dk_at dksX8_isName_0 8 rfl rfl)
theorem dX8_isName_11 : decode cX8_isName 11 = .ok (.iconst 0, 1) := dk_3 (dk_at dksX8_isName_0 11 rfl rfl)
theorem dX8_isName_12 : decode cX8_isName 12 = .ok (.ireturn, 1) := dk_172 (dk_at dksX8_isName_0 12 rfl rfl)
abbrev cX8_told : ByteArray := prog_13_method_12_code
def yX8_told : MethodName := ⟨RX8, "told", "(II)LSignalWaves$Node;"⟩
def dkwX8_told_6 : List UInt8 := [181, 0, 123, 27, 42, 180, 0, 26, 28, 42, 182, 0, 135, 184, 0, 186, 176]
abbrev dktX8_told_6 : List UInt8 := dkwX8_told_6 ++ []
def dkwX8_told_5 : List UInt8 := [182, 0, 175, 7, 162, 0, 7, 4, 167, 0, 4, 3, 182, 0, 107, 87, 42, 3, 181, 0, 117, 42, 3]
abbrev dktX8_told_5 : List UInt8 := dkwX8_told_5 ++ dktX8_told_6
def dkwX8_told_4 : List UInt8 := [182, 0, 140, 184, 0, 182, 176, 42, 42, 16, 61, 182, 0, 113, 153, 0, 19, 42, 180, 0, 18, 5]
abbrev dktX8_told_4 : List UInt8 := dkwX8_told_4 ++ dktX8_told_5
def dkwX8_told_3 : List UInt8 := [42, 16, 64, 182, 0, 113, 153, 0, 23, 42, 4, 182, 0, 107, 87, 27, 42, 180, 0, 26, 28, 42]
abbrev dktX8_told_3 : List UInt8 := dkwX8_told_3 ++ dktX8_told_4
def dkwX8_told_2 : List UInt8 := [180, 0, 47, 4, 16, 8, 184, 0, 53, 153, 0, 7, 4, 167, 0, 4, 3, 182, 0, 107, 184, 0, 178, 176]
abbrev dktX8_told_2 : List UInt8 := dkwX8_told_2 ++ dktX8_told_3
def dkwX8_told_1 : List UInt8 := [167, 0, 4, 3, 182, 0, 107, 87, 27, 42, 180, 0, 26, 28, 42, 42, 180, 0, 50, 4, 160, 0, 20, 42]
abbrev dktX8_told_1 : List UInt8 := dkwX8_told_1 ++ dktX8_told_2
def dkwX8_told_0 : List UInt8 := [42, 16, 58, 182, 0, 113, 153, 0, 66, 42, 42, 180, 0, 18, 3, 182, 0, 175, 16, 6, 162, 0, 7, 4]
abbrev dktX8_told_0 : List UInt8 := dkwX8_told_0 ++ dktX8_told_1
theorem dksX8_told_0 : cX8_told.data.toList.drop 0 = dktX8_told_0 := by decide +kernel
theorem dksX8_told_1 : cX8_told.data.toList.drop 24 = dktX8_told_1 := dk_seg dksX8_told_0 24 rfl rfl
theorem dksX8_told_2 : cX8_told.data.toList.drop 48 = dktX8_told_2 := dk_seg dksX8_told_1 24 rfl rfl
theorem dksX8_told_3 : cX8_told.data.toList.drop 72 = dktX8_told_3 := dk_seg dksX8_told_2 24 rfl rfl
theorem dksX8_told_4 : cX8_told.data.toList.drop 94 = dktX8_told_4 := dk_seg dksX8_told_3 22 rfl rfl
theorem dksX8_told_5 : cX8_told.data.toList.drop 116 = dktX8_told_5 := dk_seg dksX8_told_4 22 rfl rfl
theorem dksX8_told_6 : cX8_told.data.toList.drop 139 = dktX8_told_6 := dk_seg dksX8_told_5 23 rfl rfl
theorem dX8_told_0 : decode cX8_told 0 = .ok (.aload_n 0, 1) := dk_42 (dk_at dksX8_told_0 0 rfl rfl)
theorem dX8_told_1 : decode cX8_told 1 = .ok (.bipush 58, 2) := dk_16 58 (dk_at dksX8_told_0 1 rfl rfl)
theorem dX8_told_3 : decode cX8_told 3 = .ok (.invokevirtual 113, 3) := dk_182 0 113 (dk_at dksX8_told_0 3 rfl rfl)
theorem dX8_told_6 : decode cX8_told 6 = .ok (.ifCond .eq 66, 3) := dk_153 0 66 (dk_at dksX8_told_0 6 rfl rfl)
theorem dX8_told_9 : decode cX8_told 9 = .ok (.aload_n 0, 1) := dk_42 (dk_at dksX8_told_0 9 rfl rfl)
theorem dX8_told_10 : decode cX8_told 10 = .ok (.aload_n 0, 1) := dk_42 (dk_at dksX8_told_0 10 rfl rfl)
theorem dX8_told_11 : decode cX8_told 11 = .ok (.getfield 18, 3) := dk_180 0 18 (dk_at dksX8_told_0 11 rfl rfl)
theorem dX8_told_14 : decode cX8_told 14 = .ok (.iconst 0, 1) := dk_3 (dk_at dksX8_told_0 14 rfl rfl)
theorem dX8_told_15 : decode cX8_told 15 = .ok (.invokevirtual 175, 3) := dk_182 0 175 (dk_at dksX8_told_0 15 rfl rfl)
theorem dX8_told_18 : decode cX8_told 18 = .ok (.bipush 6, 2) := dk_16 6 (dk_at dksX8_told_0 18 rfl rfl)
theorem dX8_told_20 : decode cX8_told 20 = .ok (.if_icmp .ge 7, 3) := dk_162 0 7 (dk_at dksX8_told_0 20 rfl rfl)
theorem dX8_told_23 : decode cX8_told 23 = .ok (.iconst 1, 1) := dk_4 (dk_at dksX8_told_0 23 rfl rfl)
theorem dX8_told_24 : decode cX8_told 24 = .ok (.goto 4, 3) := dk_167 0 4 (dk_at dksX8_told_1 0 rfl rfl)
theorem dX8_told_27 : decode cX8_told 27 = .ok (.iconst 0, 1) := dk_3 (dk_at dksX8_told_1 3 rfl rfl)
theorem dX8_told_28 : decode cX8_told 28 = .ok (.invokevirtual 107, 3) := dk_182 0 107 (dk_at dksX8_told_1 4 rfl rfl)
theorem dX8_told_31 : decode cX8_told 31 = .ok (.pop, 1) := dk_87 (dk_at dksX8_told_1 7 rfl rfl)
theorem dX8_told_32 : decode cX8_told 32 = .ok (.iload_n 1, 1) := dk_27 (dk_at dksX8_told_1 8 rfl rfl)
theorem dX8_told_33 : decode cX8_told 33 = .ok (.aload_n 0, 1) := dk_42 (dk_at dksX8_told_1 9 rfl rfl)
theorem dX8_told_34 : decode cX8_told 34 = .ok (.getfield 26, 3) := dk_180 0 26 (dk_at dksX8_told_1 10 rfl rfl)
theorem dX8_told_37 : decode cX8_told 37 = .ok (.iload_n 2, 1) := dk_28 (dk_at dksX8_told_1 13 rfl rfl)
theorem dX8_told_38 : decode cX8_told 38 = .ok (.aload_n 0, 1) := dk_42 (dk_at dksX8_told_1 14 rfl rfl)
theorem dX8_told_39 : decode cX8_told 39 = .ok (.aload_n 0, 1) := dk_42 (dk_at dksX8_told_1 15 rfl rfl)
theorem dX8_told_40 : decode cX8_told 40 = .ok (.getfield 50, 3) := dk_180 0 50 (dk_at dksX8_told_1 16 rfl rfl)
theorem dX8_told_43 : decode cX8_told 43 = .ok (.iconst 1, 1) := dk_4 (dk_at dksX8_told_1 19 rfl rfl)
theorem dX8_told_44 : decode cX8_told 44 = .ok (.if_icmp .ne 20, 3) := dk_160 0 20 (dk_at dksX8_told_1 20 rfl rfl)
theorem dX8_told_47 : decode cX8_told 47 = .ok (.aload_n 0, 1) := dk_42 (dk_at dksX8_told_1 23 rfl rfl)
theorem dX8_told_48 : decode cX8_told 48 = .ok (.getfield 47, 3) := dk_180 0 47 (dk_at dksX8_told_2 0 rfl rfl)
theorem dX8_told_51 : decode cX8_told 51 = .ok (.iconst 1, 1) := dk_4 (dk_at dksX8_told_2 3 rfl rfl)
theorem dX8_told_52 : decode cX8_told 52 = .ok (.bipush 8, 2) := dk_16 8 (dk_at dksX8_told_2 4 rfl rfl)
theorem dX8_told_54 : decode cX8_told 54 = .ok (.invokestatic 53, 3) := dk_184 0 53 (dk_at dksX8_told_2 6 rfl rfl)
theorem dX8_told_57 : decode cX8_told 57 = .ok (.ifCond .eq 7, 3) := dk_153 0 7 (dk_at dksX8_told_2 9 rfl rfl)
theorem dX8_told_60 : decode cX8_told 60 = .ok (.iconst 1, 1) := dk_4 (dk_at dksX8_told_2 12 rfl rfl)
theorem dX8_told_61 : decode cX8_told 61 = .ok (.goto 4, 3) := dk_167 0 4 (dk_at dksX8_told_2 13 rfl rfl)
theorem dX8_told_64 : decode cX8_told 64 = .ok (.iconst 0, 1) := dk_3 (dk_at dksX8_told_2 16 rfl rfl)
theorem dX8_told_65 : decode cX8_told 65 = .ok (.invokevirtual 107, 3) := dk_182 0 107 (dk_at dksX8_told_2 17 rfl rfl)
theorem dX8_told_68 : decode cX8_told 68 = .ok (.invokestatic 178, 3) := dk_184 0 178 (dk_at dksX8_told_2 20 rfl rfl)
theorem dX8_told_71 : decode cX8_told 71 = .ok (.areturn, 1) := dk_176 (dk_at dksX8_told_2 23 rfl rfl)
theorem dX8_told_72 : decode cX8_told 72 = .ok (.aload_n 0, 1) := dk_42 (dk_at dksX8_told_3 0 rfl rfl)
theorem dX8_told_73 : decode cX8_told 73 = .ok (.bipush 64, 2) := dk_16 64 (dk_at dksX8_told_3 1 rfl rfl)
theorem dX8_told_75 : decode cX8_told 75 = .ok (.invokevirtual 113, 3) := dk_182 0 113 (dk_at dksX8_told_3 3 rfl rfl)
theorem dX8_told_78 : decode cX8_told 78 = .ok (.ifCond .eq 23, 3) := dk_153 0 23 (dk_at dksX8_told_3 6 rfl rfl)
theorem dX8_told_81 : decode cX8_told 81 = .ok (.aload_n 0, 1) := dk_42 (dk_at dksX8_told_3 9 rfl rfl)
theorem dX8_told_82 : decode cX8_told 82 = .ok (.iconst 1, 1) := dk_4 (dk_at dksX8_told_3 10 rfl rfl)
theorem dX8_told_83 : decode cX8_told 83 = .ok (.invokevirtual 107, 3) := dk_182 0 107 (dk_at dksX8_told_3 11 rfl rfl)
theorem dX8_told_86 : decode cX8_told 86 = .ok (.pop, 1) := dk_87 (dk_at dksX8_told_3 14 rfl rfl)
theorem dX8_told_87 : decode cX8_told 87 = .ok (.iload_n 1, 1) := dk_27 (dk_at dksX8_told_3 15 rfl rfl)
theorem dX8_told_88 : decode cX8_told 88 = .ok (.aload_n 0, 1) := dk_42 (dk_at dksX8_told_3 16 rfl rfl)
theorem dX8_told_89 : decode cX8_told 89 = .ok (.getfield 26, 3) := dk_180 0 26 (dk_at dksX8_told_3 17 rfl rfl)
theorem dX8_told_92 : decode cX8_told 92 = .ok (.iload_n 2, 1) := dk_28 (dk_at dksX8_told_3 20 rfl rfl)
theorem dX8_told_93 : decode cX8_told 93 = .ok (.aload_n 0, 1) := dk_42 (dk_at dksX8_told_3 21 rfl rfl)
theorem dX8_told_94 : decode cX8_told 94 = .ok (.invokevirtual 140, 3) := dk_182 0 140 (dk_at dksX8_told_4 0 rfl rfl)
theorem dX8_told_97 : decode cX8_told 97 = .ok (.invokestatic 182, 3) := dk_184 0 182 (dk_at dksX8_told_4 3 rfl rfl)
theorem dX8_told_100 : decode cX8_told 100 = .ok (.areturn, 1) := dk_176 (dk_at dksX8_told_4 6 rfl rfl)
theorem dX8_told_101 : decode cX8_told 101 = .ok (.aload_n 0, 1) := dk_42 (dk_at dksX8_told_4 7 rfl rfl)
theorem dX8_told_102 : decode cX8_told 102 = .ok (.aload_n 0, 1) := dk_42 (dk_at dksX8_told_4 8 rfl rfl)
theorem dX8_told_103 : decode cX8_told 103 = .ok (.bipush 61, 2) := dk_16 61 (dk_at dksX8_told_4 9 rfl rfl)
theorem dX8_told_105 : decode cX8_told 105 = .ok (.invokevirtual 113, 3) := dk_182 0 113 (dk_at dksX8_told_4 11 rfl rfl)
theorem dX8_told_108 : decode cX8_told 108 = .ok (.ifCond .eq 19, 3) := dk_153 0 19 (dk_at dksX8_told_4 14 rfl rfl)
theorem dX8_told_111 : decode cX8_told 111 = .ok (.aload_n 0, 1) := dk_42 (dk_at dksX8_told_4 17 rfl rfl)
theorem dX8_told_112 : decode cX8_told 112 = .ok (.getfield 18, 3) := dk_180 0 18 (dk_at dksX8_told_4 18 rfl rfl)
theorem dX8_told_115 : decode cX8_told 115 = .ok (.iconst 2, 1) := dk_5 (dk_at dksX8_told_4 21 rfl rfl)
theorem dX8_told_116 : decode cX8_told 116 = .ok (.invokevirtual 175, 3) := dk_182 0 175 (dk_at dksX8_told_5 0 rfl rfl)
theorem dX8_told_119 : decode cX8_told 119 = .ok (.iconst 4, 1) := dk_7 (dk_at dksX8_told_5 3 rfl rfl)
theorem dX8_told_120 : decode cX8_told 120 = .ok (.if_icmp .ge 7, 3) := dk_162 0 7 (dk_at dksX8_told_5 4 rfl rfl)
theorem dX8_told_123 : decode cX8_told 123 = .ok (.iconst 1, 1) := dk_4 (dk_at dksX8_told_5 7 rfl rfl)
theorem dX8_told_124 : decode cX8_told 124 = .ok (.goto 4, 3) := dk_167 0 4 (dk_at dksX8_told_5 8 rfl rfl)
theorem dX8_told_127 : decode cX8_told 127 = .ok (.iconst 0, 1) := dk_3 (dk_at dksX8_told_5 11 rfl rfl)
theorem dX8_told_128 : decode cX8_told 128 = .ok (.invokevirtual 107, 3) := dk_182 0 107 (dk_at dksX8_told_5 12 rfl rfl)
theorem dX8_told_131 : decode cX8_told 131 = .ok (.pop, 1) := dk_87 (dk_at dksX8_told_5 15 rfl rfl)
theorem dX8_told_132 : decode cX8_told 132 = .ok (.aload_n 0, 1) := dk_42 (dk_at dksX8_told_5 16 rfl rfl)
theorem dX8_told_133 : decode cX8_told 133 = .ok (.iconst 0, 1) := dk_3 (dk_at dksX8_told_5 17 rfl rfl)
theorem dX8_told_134 : decode cX8_told 134 = .ok (.putfield 117, 3) := dk_181 0 117 (dk_at dksX8_told_5 18 rfl rfl)
theorem dX8_told_137 : decode cX8_told 137 = .ok (.aload_n 0, 1) := dk_42 (dk_at dksX8_told_5 21 rfl rfl)
theorem dX8_told_138 : decode cX8_told 138 = .ok (.iconst 0, 1) := dk_3 (dk_at dksX8_told_5 22 rfl rfl)
theorem dX8_told_139 : decode cX8_told 139 = .ok (.putfield 123, 3) := dk_181 0 123 (dk_at dksX8_told_6 0 rfl rfl)
theorem dX8_told_142 : decode cX8_told 142 = .ok (.iload_n 1, 1) := dk_27 (dk_at dksX8_told_6 3 rfl rfl)
theorem dX8_told_143 : decode cX8_told 143 = .ok (.aload_n 0, 1) := dk_42 (dk_at dksX8_told_6 4 rfl rfl)
theorem dX8_told_144 : decode cX8_told 144 = .ok (.getfield 26, 3) := dk_180 0 26 (dk_at dksX8_told_6 5 rfl rfl)
theorem dX8_told_147 : decode cX8_told 147 = .ok (.iload_n 2, 1) := dk_28 (dk_at dksX8_told_6 8 rfl rfl)
theorem dX8_told_148 : decode cX8_told 148 = .ok (.aload_n 0, 1) := dk_42 (dk_at dksX8_told_6 9 rfl rfl)
theorem dX8_told_149 : decode cX8_told 149 = .ok (.invokevirtual 135, 3) := dk_182 0 135 (dk_at dksX8_told_6 10 rfl rfl)
theorem dX8_told_152 : decode cX8_told 152 = .ok (.invokestatic 186, 3) := dk_184 0 186 (dk_at dksX8_told_6 13 rfl rfl)
theorem dX8_told_155 : decode cX8_told 155 = .ok (.areturn, 1) := dk_176 (dk_at dksX8_told_6 16 rfl rfl)
abbrev cX8_path : ByteArray := prog_13_method_8_code
def yX8_path : MethodName := ⟨RX8, "path", "()LSignalWaves$Node;"⟩
def dkwX8_path_2 : List UInt8 := [182, 0, 107, 87, 44, 192, 0, 84, 76, 167, 255, 208]
abbrev dktX8_path_2 : List UInt8 := dkwX8_path_2 ++ []
def dkwX8_path_1 : List UInt8 := [182, 0, 107, 87, 44, 193, 0, 111, 153, 0, 8, 44, 192, 0, 111, 176, 42, 42, 16, 46, 182, 0, 113]
abbrev dktX8_path_1 : List UInt8 := dkwX8_path_1 ++ dktX8_path_2
def dkwX8_path_0 : List UInt8 := [42, 180, 0, 18, 180, 0, 22, 76, 42, 43, 182, 0, 103, 77, 42, 44, 198, 0, 7, 4, 167, 0, 4, 3]
abbrev dktX8_path_0 : List UInt8 := dkwX8_path_0 ++ dktX8_path_1
theorem dksX8_path_0 : cX8_path.data.toList.drop 0 = dktX8_path_0 := by decide +kernel
theorem dksX8_path_1 : cX8_path.data.toList.drop 24 = dktX8_path_1 := dk_seg dksX8_path_0 24 rfl rfl
theorem dksX8_path_2 : cX8_path.data.toList.drop 47 = dktX8_path_2 := dk_seg dksX8_path_1 23 rfl rfl
theorem dX8_path_0 : decode cX8_path 0 = .ok (.aload_n 0, 1) := dk_42 (dk_at dksX8_path_0 0 rfl rfl)
theorem dX8_path_1 : decode cX8_path 1 = .ok (.getfield 18, 3) := dk_180 0 18 (dk_at dksX8_path_0 1 rfl rfl)
theorem dX8_path_4 : decode cX8_path 4 = .ok (.getfield 22, 3) := dk_180 0 22 (dk_at dksX8_path_0 4 rfl rfl)
theorem dX8_path_7 : decode cX8_path 7 = .ok (.astore_n 1, 1) := dk_76 (dk_at dksX8_path_0 7 rfl rfl)
theorem dX8_path_8 : decode cX8_path 8 = .ok (.aload_n 0, 1) := dk_42 (dk_at dksX8_path_0 8 rfl rfl)
theorem dX8_path_9 : decode cX8_path 9 = .ok (.aload_n 1, 1) := dk_43 (dk_at dksX8_path_0 9 rfl rfl)
theorem dX8_path_10 : decode cX8_path 10 = .ok (.invokevirtual 103, 3) := dk_182 0 103 (dk_at dksX8_path_0 10 rfl rfl)
theorem dX8_path_13 : decode cX8_path 13 = .ok (.astore_n 2, 1) := dk_77 (dk_at dksX8_path_0 13 rfl rfl)
theorem dX8_path_14 : decode cX8_path 14 = .ok (.aload_n 0, 1) := dk_42 (dk_at dksX8_path_0 14 rfl rfl)
theorem dX8_path_15 : decode cX8_path 15 = .ok (.aload_n 2, 1) := dk_44 (dk_at dksX8_path_0 15 rfl rfl)
theorem dX8_path_16 : decode cX8_path 16 = .ok (.ifnull 7, 3) := dk_198 0 7 (dk_at dksX8_path_0 16 rfl rfl)
theorem dX8_path_19 : decode cX8_path 19 = .ok (.iconst 1, 1) := dk_4 (dk_at dksX8_path_0 19 rfl rfl)
theorem dX8_path_20 : decode cX8_path 20 = .ok (.goto 4, 3) := dk_167 0 4 (dk_at dksX8_path_0 20 rfl rfl)
theorem dX8_path_23 : decode cX8_path 23 = .ok (.iconst 0, 1) := dk_3 (dk_at dksX8_path_0 23 rfl rfl)
theorem dX8_path_24 : decode cX8_path 24 = .ok (.invokevirtual 107, 3) := dk_182 0 107 (dk_at dksX8_path_1 0 rfl rfl)
theorem dX8_path_27 : decode cX8_path 27 = .ok (.pop, 1) := dk_87 (dk_at dksX8_path_1 3 rfl rfl)
theorem dX8_path_28 : decode cX8_path 28 = .ok (.aload_n 2, 1) := dk_44 (dk_at dksX8_path_1 4 rfl rfl)
theorem dX8_path_29 : decode cX8_path 29 = .ok (.instanceof 111, 3) := dk_193 0 111 (dk_at dksX8_path_1 5 rfl rfl)
theorem dX8_path_32 : decode cX8_path 32 = .ok (.ifCond .eq 8, 3) := dk_153 0 8 (dk_at dksX8_path_1 8 rfl rfl)
theorem dX8_path_35 : decode cX8_path 35 = .ok (.aload_n 2, 1) := dk_44 (dk_at dksX8_path_1 11 rfl rfl)
theorem dX8_path_36 : decode cX8_path 36 = .ok (.checkcast 111, 3) := dk_192 0 111 (dk_at dksX8_path_1 12 rfl rfl)
theorem dX8_path_39 : decode cX8_path 39 = .ok (.areturn, 1) := dk_176 (dk_at dksX8_path_1 15 rfl rfl)
theorem dX8_path_40 : decode cX8_path 40 = .ok (.aload_n 0, 1) := dk_42 (dk_at dksX8_path_1 16 rfl rfl)
theorem dX8_path_41 : decode cX8_path 41 = .ok (.aload_n 0, 1) := dk_42 (dk_at dksX8_path_1 17 rfl rfl)
theorem dX8_path_42 : decode cX8_path 42 = .ok (.bipush 46, 2) := dk_16 46 (dk_at dksX8_path_1 18 rfl rfl)
theorem dX8_path_44 : decode cX8_path 44 = .ok (.invokevirtual 113, 3) := dk_182 0 113 (dk_at dksX8_path_1 20 rfl rfl)
theorem dX8_path_47 : decode cX8_path 47 = .ok (.invokevirtual 107, 3) := dk_182 0 107 (dk_at dksX8_path_2 0 rfl rfl)
theorem dX8_path_50 : decode cX8_path 50 = .ok (.pop, 1) := dk_87 (dk_at dksX8_path_2 3 rfl rfl)
theorem dX8_path_51 : decode cX8_path 51 = .ok (.aload_n 2, 1) := dk_44 (dk_at dksX8_path_2 4 rfl rfl)
theorem dX8_path_52 : decode cX8_path 52 = .ok (.checkcast 84, 3) := dk_192 0 84 (dk_at dksX8_path_2 5 rfl rfl)
theorem dX8_path_55 : decode cX8_path 55 = .ok (.astore_n 1, 1) := dk_76 (dk_at dksX8_path_2 8 rfl rfl)
theorem dX8_path_56 : decode cX8_path 56 = .ok (.goto (-48), 3) := dk_167 255 208 (dk_at dksX8_path_2 9 rfl rfl)
abbrev cX8_expr : ByteArray := prog_13_method_10_code
def yX8_expr : MethodName := ⟨RX8, "expr", "()LSignalWaves$Expr;"⟩
def dkwX8_expr_3 : List UInt8 := [167, 255, 191, 43, 176]
abbrev dktX8_expr_3 : List UInt8 := dkwX8_expr_3 ++ []
def dkwX8_expr_2 : List UInt8 := [153, 0, 26, 42, 4, 182, 0, 107, 61, 187, 0, 147, 89, 28, 43, 42, 182, 0, 128, 183, 0, 149, 76]
abbrev dktX8_expr_2 : List UInt8 := dkwX8_expr_2 ++ dktX8_expr_3
def dkwX8_expr_1 : List UInt8 := [16, 94, 182, 0, 113, 154, 0, 21, 42, 16, 43, 182, 0, 113, 154, 0, 12, 42, 16, 45, 182, 0, 113]
abbrev dktX8_expr_1 : List UInt8 := dkwX8_expr_1 ++ dktX8_expr_2
def dkwX8_expr_0 : List UInt8 := [42, 182, 0, 128, 76, 42, 16, 38, 182, 0, 113, 154, 0, 39, 42, 16, 124, 182, 0, 113, 154, 0, 30, 42]
abbrev dktX8_expr_0 : List UInt8 := dkwX8_expr_0 ++ dktX8_expr_1
theorem dksX8_expr_0 : cX8_expr.data.toList.drop 0 = dktX8_expr_0 := by decide +kernel
theorem dksX8_expr_1 : cX8_expr.data.toList.drop 24 = dktX8_expr_1 := dk_seg dksX8_expr_0 24 rfl rfl
theorem dksX8_expr_2 : cX8_expr.data.toList.drop 47 = dktX8_expr_2 := dk_seg dksX8_expr_1 23 rfl rfl
theorem dksX8_expr_3 : cX8_expr.data.toList.drop 70 = dktX8_expr_3 := dk_seg dksX8_expr_2 23 rfl rfl
theorem dX8_expr_0 : decode cX8_expr 0 = .ok (.aload_n 0, 1) := dk_42 (dk_at dksX8_expr_0 0 rfl rfl)
theorem dX8_expr_1 : decode cX8_expr 1 = .ok (.invokevirtual 128, 3) := dk_182 0 128 (dk_at dksX8_expr_0 1 rfl rfl)
theorem dX8_expr_4 : decode cX8_expr 4 = .ok (.astore_n 1, 1) := dk_76 (dk_at dksX8_expr_0 4 rfl rfl)
theorem dX8_expr_5 : decode cX8_expr 5 = .ok (.aload_n 0, 1) := dk_42 (dk_at dksX8_expr_0 5 rfl rfl)
theorem dX8_expr_6 : decode cX8_expr 6 = .ok (.bipush 38, 2) := dk_16 38 (dk_at dksX8_expr_0 6 rfl rfl)
theorem dX8_expr_8 : decode cX8_expr 8 = .ok (.invokevirtual 113, 3) := dk_182 0 113 (dk_at dksX8_expr_0 8 rfl rfl)
theorem dX8_expr_11 : decode cX8_expr 11 = .ok (.ifCond .ne 39, 3) := dk_154 0 39 (dk_at dksX8_expr_0 11 rfl rfl)
theorem dX8_expr_14 : decode cX8_expr 14 = .ok (.aload_n 0, 1) := dk_42 (dk_at dksX8_expr_0 14 rfl rfl)
theorem dX8_expr_15 : decode cX8_expr 15 = .ok (.bipush 124, 2) := dk_16 124 (dk_at dksX8_expr_0 15 rfl rfl)
theorem dX8_expr_17 : decode cX8_expr 17 = .ok (.invokevirtual 113, 3) := dk_182 0 113 (dk_at dksX8_expr_0 17 rfl rfl)
theorem dX8_expr_20 : decode cX8_expr 20 = .ok (.ifCond .ne 30, 3) := dk_154 0 30 (dk_at dksX8_expr_0 20 rfl rfl)
theorem dX8_expr_23 : decode cX8_expr 23 = .ok (.aload_n 0, 1) := dk_42 (dk_at dksX8_expr_0 23 rfl rfl)
theorem dX8_expr_24 : decode cX8_expr 24 = .ok (.bipush 94, 2) := dk_16 94 (dk_at dksX8_expr_1 0 rfl rfl)
theorem dX8_expr_26 : decode cX8_expr 26 = .ok (.invokevirtual 113, 3) := dk_182 0 113 (dk_at dksX8_expr_1 2 rfl rfl)
theorem dX8_expr_29 : decode cX8_expr 29 = .ok (.ifCond .ne 21, 3) := dk_154 0 21 (dk_at dksX8_expr_1 5 rfl rfl)
theorem dX8_expr_32 : decode cX8_expr 32 = .ok (.aload_n 0, 1) := dk_42 (dk_at dksX8_expr_1 8 rfl rfl)
theorem dX8_expr_33 : decode cX8_expr 33 = .ok (.bipush 43, 2) := dk_16 43 (dk_at dksX8_expr_1 9 rfl rfl)
theorem dX8_expr_35 : decode cX8_expr 35 = .ok (.invokevirtual 113, 3) := dk_182 0 113 (dk_at dksX8_expr_1 11 rfl rfl)
theorem dX8_expr_38 : decode cX8_expr 38 = .ok (.ifCond .ne 12, 3) := dk_154 0 12 (dk_at dksX8_expr_1 14 rfl rfl)
theorem dX8_expr_41 : decode cX8_expr 41 = .ok (.aload_n 0, 1) := dk_42 (dk_at dksX8_expr_1 17 rfl rfl)
theorem dX8_expr_42 : decode cX8_expr 42 = .ok (.bipush 45, 2) := dk_16 45 (dk_at dksX8_expr_1 18 rfl rfl)
theorem dX8_expr_44 : decode cX8_expr 44 = .ok (.invokevirtual 113, 3) := dk_182 0 113 (dk_at dksX8_expr_1 20 rfl rfl)
theorem dX8_expr_47 : decode cX8_expr 47 = .ok (.ifCond .eq 26, 3) := dk_153 0 26 (dk_at dksX8_expr_2 0 rfl rfl)
theorem dX8_expr_50 : decode cX8_expr 50 = .ok (.aload_n 0, 1) := dk_42 (dk_at dksX8_expr_2 3 rfl rfl)
theorem dX8_expr_51 : decode cX8_expr 51 = .ok (.iconst 1, 1) := dk_4 (dk_at dksX8_expr_2 4 rfl rfl)
theorem dX8_expr_52 : decode cX8_expr 52 = .ok (.invokevirtual 107, 3) := dk_182 0 107 (dk_at dksX8_expr_2 5 rfl rfl)
theorem dX8_expr_55 : decode cX8_expr 55 = .ok (.istore_n 2, 1) := dk_61 (dk_at dksX8_expr_2 8 rfl rfl)
theorem dX8_expr_56 : decode cX8_expr 56 = .ok (.new 147, 3) := dk_187 0 147 (dk_at dksX8_expr_2 9 rfl rfl)
theorem dX8_expr_59 : decode cX8_expr 59 = .ok (.dup, 1) := dk_89 (dk_at dksX8_expr_2 12 rfl rfl)
theorem dX8_expr_60 : decode cX8_expr 60 = .ok (.iload_n 2, 1) := dk_28 (dk_at dksX8_expr_2 13 rfl rfl)
theorem dX8_expr_61 : decode cX8_expr 61 = .ok (.aload_n 1, 1) := dk_43 (dk_at dksX8_expr_2 14 rfl rfl)
theorem dX8_expr_62 : decode cX8_expr 62 = .ok (.aload_n 0, 1) := dk_42 (dk_at dksX8_expr_2 15 rfl rfl)
theorem dX8_expr_63 : decode cX8_expr 63 = .ok (.invokevirtual 128, 3) := dk_182 0 128 (dk_at dksX8_expr_2 16 rfl rfl)
theorem dX8_expr_66 : decode cX8_expr 66 = .ok (.invokespecial 149, 3) := dk_183 0 149 (dk_at dksX8_expr_2 19 rfl rfl)
theorem dX8_expr_69 : decode cX8_expr 69 = .ok (.astore_n 1, 1) := dk_76 (dk_at dksX8_expr_2 22 rfl rfl)
theorem dX8_expr_70 : decode cX8_expr 70 = .ok (.goto (-65), 3) := dk_167 255 191 (dk_at dksX8_expr_3 0 rfl rfl)
theorem dX8_expr_73 : decode cX8_expr 73 = .ok (.aload_n 1, 1) := dk_43 (dk_at dksX8_expr_3 3 rfl rfl)
theorem dX8_expr_74 : decode cX8_expr 74 = .ok (.areturn, 1) := dk_176 (dk_at dksX8_expr_3 4 rfl rfl)
abbrev cX8_term : ByteArray := prog_13_method_9_code
def yX8_term : MethodName := ⟨RX8, "term", "()LSignalWaves$Expr;"⟩
def dkwX8_term_7 : List UInt8 := [89, 42, 182, 0, 140, 183, 0, 144, 176]
abbrev dktX8_term_7 : List UInt8 := dkwX8_term_7 ++ []
def dkwX8_term_6 : List UInt8 := [16, 6, 160, 0, 9, 42, 3, 182, 0, 107, 87, 42, 89, 180, 0, 117, 4, 96, 181, 0, 117, 187, 0, 138]
abbrev dktX8_term_6 : List UInt8 := dkwX8_term_6 ++ dktX8_term_7
def dkwX8_term_5 : List UInt8 := [27, 16, 40, 160, 0, 14, 42, 42, 16, 41, 182, 0, 113, 182, 0, 107, 87, 44, 176, 42, 180, 0, 117]
abbrev dktX8_term_5 : List UInt8 := dkwX8_term_5 ++ dktX8_term_6
def dkwX8_term_4 : List UInt8 := [16, 33, 160, 0, 17, 187, 0, 126, 89, 42, 182, 0, 128, 183, 0, 132, 167, 0, 7, 42, 182, 0, 135, 77]
abbrev dktX8_term_4 : List UInt8 := dkwX8_term_4 ++ dktX8_term_5
def dkwX8_term_3 : List UInt8 := [162, 0, 7, 4, 167, 0, 4, 3, 182, 0, 107, 60, 42, 89, 180, 0, 123, 4, 96, 181, 0, 123, 27]
abbrev dktX8_term_3 : List UInt8 := dkwX8_term_3 ++ dktX8_term_4
def dkwX8_term_2 : List UInt8 := [16, 33, 182, 0, 113, 154, 0, 12, 42, 16, 40, 182, 0, 113, 153, 0, 76, 42, 42, 180, 0, 123, 16, 6]
abbrev dktX8_term_2 : List UInt8 := dkwX8_term_2 ++ dktX8_term_3
def dkwX8_term_1 : List UInt8 := [182, 0, 107, 60, 42, 89, 180, 0, 117, 4, 96, 181, 0, 117, 187, 0, 120, 89, 27, 183, 0, 122, 176, 42]
abbrev dktX8_term_1 : List UInt8 := dkwX8_term_1 ++ dktX8_term_2
def dkwX8_term_0 : List UInt8 := [42, 180, 0, 50, 4, 160, 0, 41, 42, 42, 180, 0, 117, 16, 6, 162, 0, 7, 4, 167, 0, 4, 3]
abbrev dktX8_term_0 : List UInt8 := dkwX8_term_0 ++ dktX8_term_1
theorem dksX8_term_0 : cX8_term.data.toList.drop 0 = dktX8_term_0 := by decide +kernel
theorem dksX8_term_1 : cX8_term.data.toList.drop 23 = dktX8_term_1 := dk_seg dksX8_term_0 23 rfl rfl
theorem dksX8_term_2 : cX8_term.data.toList.drop 47 = dktX8_term_2 := dk_seg dksX8_term_1 24 rfl rfl
theorem dksX8_term_3 : cX8_term.data.toList.drop 71 = dktX8_term_3 := dk_seg dksX8_term_2 24 rfl rfl
theorem dksX8_term_4 : cX8_term.data.toList.drop 94 = dktX8_term_4 := dk_seg dksX8_term_3 23 rfl rfl
theorem dksX8_term_5 : cX8_term.data.toList.drop 118 = dktX8_term_5 := dk_seg dksX8_term_4 24 rfl rfl
theorem dksX8_term_6 : cX8_term.data.toList.drop 141 = dktX8_term_6 := dk_seg dksX8_term_5 23 rfl rfl
theorem dksX8_term_7 : cX8_term.data.toList.drop 165 = dktX8_term_7 := dk_seg dksX8_term_6 24 rfl rfl
theorem dX8_term_0 : decode cX8_term 0 = .ok (.aload_n 0, 1) := dk_42 (dk_at dksX8_term_0 0 rfl rfl)
theorem dX8_term_1 : decode cX8_term 1 = .ok (.getfield 50, 3) := dk_180 0 50 (dk_at dksX8_term_0 1 rfl rfl)
theorem dX8_term_4 : decode cX8_term 4 = .ok (.iconst 1, 1) := dk_4 (dk_at dksX8_term_0 4 rfl rfl)
theorem dX8_term_5 : decode cX8_term 5 = .ok (.if_icmp .ne 41, 3) := dk_160 0 41 (dk_at dksX8_term_0 5 rfl rfl)
theorem dX8_term_8 : decode cX8_term 8 = .ok (.aload_n 0, 1) := dk_42 (dk_at dksX8_term_0 8 rfl rfl)
theorem dX8_term_9 : decode cX8_term 9 = .ok (.aload_n 0, 1) := dk_42 (dk_at dksX8_term_0 9 rfl rfl)
theorem dX8_term_10 : decode cX8_term 10 = .ok (.getfield 117, 3) := dk_180 0 117 (dk_at dksX8_term_0 10 rfl rfl)
theorem dX8_term_13 : decode cX8_term 13 = .ok (.bipush 6, 2) := dk_16 6 (dk_at dksX8_term_0 13 rfl rfl)
theorem dX8_term_15 : decode cX8_term 15 = .ok (.if_icmp .ge 7, 3) := dk_162 0 7 (dk_at dksX8_term_0 15 rfl rfl)
theorem dX8_term_18 : decode cX8_term 18 = .ok (.iconst 1, 1) := dk_4 (dk_at dksX8_term_0 18 rfl rfl)
theorem dX8_term_19 : decode cX8_term 19 = .ok (.goto 4, 3) := dk_167 0 4 (dk_at dksX8_term_0 19 rfl rfl)
theorem dX8_term_22 : decode cX8_term 22 = .ok (.iconst 0, 1) := dk_3 (dk_at dksX8_term_0 22 rfl rfl)
theorem dX8_term_23 : decode cX8_term 23 = .ok (.invokevirtual 107, 3) := dk_182 0 107 (dk_at dksX8_term_1 0 rfl rfl)
theorem dX8_term_26 : decode cX8_term 26 = .ok (.istore_n 1, 1) := dk_60 (dk_at dksX8_term_1 3 rfl rfl)
theorem dX8_term_27 : decode cX8_term 27 = .ok (.aload_n 0, 1) := dk_42 (dk_at dksX8_term_1 4 rfl rfl)
theorem dX8_term_28 : decode cX8_term 28 = .ok (.dup, 1) := dk_89 (dk_at dksX8_term_1 5 rfl rfl)
theorem dX8_term_29 : decode cX8_term 29 = .ok (.getfield 117, 3) := dk_180 0 117 (dk_at dksX8_term_1 6 rfl rfl)
theorem dX8_term_32 : decode cX8_term 32 = .ok (.iconst 1, 1) := dk_4 (dk_at dksX8_term_1 9 rfl rfl)
theorem dX8_term_33 : decode cX8_term 33 = .ok (.iadd, 1) := dk_96 (dk_at dksX8_term_1 10 rfl rfl)
theorem dX8_term_34 : decode cX8_term 34 = .ok (.putfield 117, 3) := dk_181 0 117 (dk_at dksX8_term_1 11 rfl rfl)
theorem dX8_term_37 : decode cX8_term 37 = .ok (.new 120, 3) := dk_187 0 120 (dk_at dksX8_term_1 14 rfl rfl)
theorem dX8_term_40 : decode cX8_term 40 = .ok (.dup, 1) := dk_89 (dk_at dksX8_term_1 17 rfl rfl)
theorem dX8_term_41 : decode cX8_term 41 = .ok (.iload_n 1, 1) := dk_27 (dk_at dksX8_term_1 18 rfl rfl)
theorem dX8_term_42 : decode cX8_term 42 = .ok (.invokespecial 122, 3) := dk_183 0 122 (dk_at dksX8_term_1 19 rfl rfl)
theorem dX8_term_45 : decode cX8_term 45 = .ok (.areturn, 1) := dk_176 (dk_at dksX8_term_1 22 rfl rfl)
theorem dX8_term_46 : decode cX8_term 46 = .ok (.aload_n 0, 1) := dk_42 (dk_at dksX8_term_1 23 rfl rfl)
theorem dX8_term_47 : decode cX8_term 47 = .ok (.bipush 33, 2) := dk_16 33 (dk_at dksX8_term_2 0 rfl rfl)
theorem dX8_term_49 : decode cX8_term 49 = .ok (.invokevirtual 113, 3) := dk_182 0 113 (dk_at dksX8_term_2 2 rfl rfl)
theorem dX8_term_52 : decode cX8_term 52 = .ok (.ifCond .ne 12, 3) := dk_154 0 12 (dk_at dksX8_term_2 5 rfl rfl)
theorem dX8_term_55 : decode cX8_term 55 = .ok (.aload_n 0, 1) := dk_42 (dk_at dksX8_term_2 8 rfl rfl)
theorem dX8_term_56 : decode cX8_term 56 = .ok (.bipush 40, 2) := dk_16 40 (dk_at dksX8_term_2 9 rfl rfl)
theorem dX8_term_58 : decode cX8_term 58 = .ok (.invokevirtual 113, 3) := dk_182 0 113 (dk_at dksX8_term_2 11 rfl rfl)
theorem dX8_term_61 : decode cX8_term 61 = .ok (.ifCond .eq 76, 3) := dk_153 0 76 (dk_at dksX8_term_2 14 rfl rfl)
theorem dX8_term_64 : decode cX8_term 64 = .ok (.aload_n 0, 1) := dk_42 (dk_at dksX8_term_2 17 rfl rfl)
theorem dX8_term_65 : decode cX8_term 65 = .ok (.aload_n 0, 1) := dk_42 (dk_at dksX8_term_2 18 rfl rfl)
theorem dX8_term_66 : decode cX8_term 66 = .ok (.getfield 123, 3) := dk_180 0 123 (dk_at dksX8_term_2 19 rfl rfl)
theorem dX8_term_69 : decode cX8_term 69 = .ok (.bipush 6, 2) := dk_16 6 (dk_at dksX8_term_2 22 rfl rfl)
theorem dX8_term_71 : decode cX8_term 71 = .ok (.if_icmp .ge 7, 3) := dk_162 0 7 (dk_at dksX8_term_3 0 rfl rfl)
theorem dX8_term_74 : decode cX8_term 74 = .ok (.iconst 1, 1) := dk_4 (dk_at dksX8_term_3 3 rfl rfl)
theorem dX8_term_75 : decode cX8_term 75 = .ok (.goto 4, 3) := dk_167 0 4 (dk_at dksX8_term_3 4 rfl rfl)
theorem dX8_term_78 : decode cX8_term 78 = .ok (.iconst 0, 1) := dk_3 (dk_at dksX8_term_3 7 rfl rfl)
theorem dX8_term_79 : decode cX8_term 79 = .ok (.invokevirtual 107, 3) := dk_182 0 107 (dk_at dksX8_term_3 8 rfl rfl)
theorem dX8_term_82 : decode cX8_term 82 = .ok (.istore_n 1, 1) := dk_60 (dk_at dksX8_term_3 11 rfl rfl)
theorem dX8_term_83 : decode cX8_term 83 = .ok (.aload_n 0, 1) := dk_42 (dk_at dksX8_term_3 12 rfl rfl)
theorem dX8_term_84 : decode cX8_term 84 = .ok (.dup, 1) := dk_89 (dk_at dksX8_term_3 13 rfl rfl)
theorem dX8_term_85 : decode cX8_term 85 = .ok (.getfield 123, 3) := dk_180 0 123 (dk_at dksX8_term_3 14 rfl rfl)
theorem dX8_term_88 : decode cX8_term 88 = .ok (.iconst 1, 1) := dk_4 (dk_at dksX8_term_3 17 rfl rfl)
theorem dX8_term_89 : decode cX8_term 89 = .ok (.iadd, 1) := dk_96 (dk_at dksX8_term_3 18 rfl rfl)
theorem dX8_term_90 : decode cX8_term 90 = .ok (.putfield 123, 3) := dk_181 0 123 (dk_at dksX8_term_3 19 rfl rfl)
theorem dX8_term_93 : decode cX8_term 93 = .ok (.iload_n 1, 1) := dk_27 (dk_at dksX8_term_3 22 rfl rfl)
theorem dX8_term_94 : decode cX8_term 94 = .ok (.bipush 33, 2) := dk_16 33 (dk_at dksX8_term_4 0 rfl rfl)
theorem dX8_term_96 : decode cX8_term 96 = .ok (.if_icmp .ne 17, 3) := dk_160 0 17 (dk_at dksX8_term_4 2 rfl rfl)
theorem dX8_term_99 : decode cX8_term 99 = .ok (.new 126, 3) := dk_187 0 126 (dk_at dksX8_term_4 5 rfl rfl)
theorem dX8_term_102 : decode cX8_term 102 = .ok (.dup, 1) := dk_89 (dk_at dksX8_term_4 8 rfl rfl)
theorem dX8_term_103 : decode cX8_term 103 = .ok (.aload_n 0, 1) := dk_42 (dk_at dksX8_term_4 9 rfl rfl)
theorem dX8_term_104 : decode cX8_term 104 = .ok (.invokevirtual 128, 3) := dk_182 0 128 (dk_at dksX8_term_4 10 rfl rfl)
theorem dX8_term_107 : decode cX8_term 107 = .ok (.invokespecial 132, 3) := dk_183 0 132 (dk_at dksX8_term_4 13 rfl rfl)
theorem dX8_term_110 : decode cX8_term 110 = .ok (.goto 7, 3) := dk_167 0 7 (dk_at dksX8_term_4 16 rfl rfl)
theorem dX8_term_113 : decode cX8_term 113 = .ok (.aload_n 0, 1) := dk_42 (dk_at dksX8_term_4 19 rfl rfl)
theorem dX8_term_114 : decode cX8_term 114 = .ok (.invokevirtual 135, 3) := dk_182 0 135 (dk_at dksX8_term_4 20 rfl rfl)
theorem dX8_term_117 : decode cX8_term 117 = .ok (.astore_n 2, 1) := dk_77 (dk_at dksX8_term_4 23 rfl rfl)
theorem dX8_term_118 : decode cX8_term 118 = .ok (.iload_n 1, 1) := dk_27 (dk_at dksX8_term_5 0 rfl rfl)
theorem dX8_term_119 : decode cX8_term 119 = .ok (.bipush 40, 2) := dk_16 40 (dk_at dksX8_term_5 1 rfl rfl)
theorem dX8_term_121 : decode cX8_term 121 = .ok (.if_icmp .ne 14, 3) := dk_160 0 14 (dk_at dksX8_term_5 3 rfl rfl)
theorem dX8_term_124 : decode cX8_term 124 = .ok (.aload_n 0, 1) := dk_42 (dk_at dksX8_term_5 6 rfl rfl)
theorem dX8_term_125 : decode cX8_term 125 = .ok (.aload_n 0, 1) := dk_42 (dk_at dksX8_term_5 7 rfl rfl)
theorem dX8_term_126 : decode cX8_term 126 = .ok (.bipush 41, 2) := dk_16 41 (dk_at dksX8_term_5 8 rfl rfl)
theorem dX8_term_128 : decode cX8_term 128 = .ok (.invokevirtual 113, 3) := dk_182 0 113 (dk_at dksX8_term_5 10 rfl rfl)
theorem dX8_term_131 : decode cX8_term 131 = .ok (.invokevirtual 107, 3) := dk_182 0 107 (dk_at dksX8_term_5 13 rfl rfl)
theorem dX8_term_134 : decode cX8_term 134 = .ok (.pop, 1) := dk_87 (dk_at dksX8_term_5 16 rfl rfl)
theorem dX8_term_135 : decode cX8_term 135 = .ok (.aload_n 2, 1) := dk_44 (dk_at dksX8_term_5 17 rfl rfl)
theorem dX8_term_136 : decode cX8_term 136 = .ok (.areturn, 1) := dk_176 (dk_at dksX8_term_5 18 rfl rfl)
theorem dX8_term_137 : decode cX8_term 137 = .ok (.aload_n 0, 1) := dk_42 (dk_at dksX8_term_5 19 rfl rfl)
theorem dX8_term_138 : decode cX8_term 138 = .ok (.getfield 117, 3) := dk_180 0 117 (dk_at dksX8_term_5 20 rfl rfl)
theorem dX8_term_141 : decode cX8_term 141 = .ok (.bipush 6, 2) := dk_16 6 (dk_at dksX8_term_6 0 rfl rfl)
theorem dX8_term_143 : decode cX8_term 143 = .ok (.if_icmp .ne 9, 3) := dk_160 0 9 (dk_at dksX8_term_6 2 rfl rfl)
theorem dX8_term_146 : decode cX8_term 146 = .ok (.aload_n 0, 1) := dk_42 (dk_at dksX8_term_6 5 rfl rfl)
theorem dX8_term_147 : decode cX8_term 147 = .ok (.iconst 0, 1) := dk_3 (dk_at dksX8_term_6 6 rfl rfl)
theorem dX8_term_148 : decode cX8_term 148 = .ok (.invokevirtual 107, 3) := dk_182 0 107 (dk_at dksX8_term_6 7 rfl rfl)
theorem dX8_term_151 : decode cX8_term 151 = .ok (.pop, 1) := dk_87 (dk_at dksX8_term_6 10 rfl rfl)
theorem dX8_term_152 : decode cX8_term 152 = .ok (.aload_n 0, 1) := dk_42 (dk_at dksX8_term_6 11 rfl rfl)
theorem dX8_term_153 : decode cX8_term 153 = .ok (.dup, 1) := dk_89 (dk_at dksX8_term_6 12 rfl rfl)
theorem dX8_term_154 : decode cX8_term 154 = .ok (.getfield 117, 3) := dk_180 0 117 (dk_at dksX8_term_6 13 rfl rfl)
theorem dX8_term_157 : decode cX8_term 157 = .ok (.iconst 1, 1) := dk_4 (dk_at dksX8_term_6 16 rfl rfl)
theorem dX8_term_158 : decode cX8_term 158 = .ok (.iadd, 1) := dk_96 (dk_at dksX8_term_6 17 rfl rfl)
theorem dX8_term_159 : decode cX8_term 159 = .ok (.putfield 117, 3) := dk_181 0 117 (dk_at dksX8_term_6 18 rfl rfl)
theorem dX8_term_162 : decode cX8_term 162 = .ok (.new 138, 3) := dk_187 0 138 (dk_at dksX8_term_6 21 rfl rfl)
theorem dX8_term_165 : decode cX8_term 165 = .ok (.dup, 1) := dk_89 (dk_at dksX8_term_7 0 rfl rfl)
theorem dX8_term_166 : decode cX8_term 166 = .ok (.aload_n 0, 1) := dk_42 (dk_at dksX8_term_7 1 rfl rfl)
theorem dX8_term_167 : decode cX8_term 167 = .ok (.invokevirtual 140, 3) := dk_182 0 140 (dk_at dksX8_term_7 2 rfl rfl)
theorem dX8_term_170 : decode cX8_term 170 = .ok (.invokespecial 144, 3) := dk_183 0 144 (dk_at dksX8_term_7 5 rfl rfl)
theorem dX8_term_173 : decode cX8_term 173 = .ok (.areturn, 1) := dk_176 (dk_at dksX8_term_7 8 rfl rfl)
abbrev cX8_names : ByteArray := prog_13_method_15_code
def yX8_names : MethodName := ⟨RX8, "names", "()Ljava/util/List;"⟩
def dkwX8_names_3 : List UInt8 := [159, 0, 9, 42, 3, 182, 0, 107, 87, 43, 176]
abbrev dktX8_names_3 : List UInt8 := dkwX8_names_3 ++ []
def dkwX8_names_2 : List UInt8 := [182, 0, 79, 182, 0, 107, 184, 0, 89, 185, 0, 167, 2, 0, 87, 167, 255, 223, 42, 180, 0, 50, 6]
abbrev dktX8_names_2 : List UInt8 := dkwX8_names_2 ++ dktX8_names_3
def dkwX8_names_1 : List UInt8 := [185, 0, 167, 2, 0, 87, 42, 16, 46, 182, 0, 113, 153, 0, 30, 42, 4, 182, 0, 107, 87, 43, 42, 42]
abbrev dktX8_names_1 : List UInt8 := dkwX8_names_1 ++ dktX8_names_2
def dkwX8_names_0 : List UInt8 := [187, 0, 212, 89, 183, 0, 214, 76, 42, 182, 0, 76, 43, 42, 42, 182, 0, 79, 182, 0, 107, 184, 0, 89]
abbrev dktX8_names_0 : List UInt8 := dkwX8_names_0 ++ dktX8_names_1
theorem dksX8_names_0 : cX8_names.data.toList.drop 0 = dktX8_names_0 := by decide +kernel
theorem dksX8_names_1 : cX8_names.data.toList.drop 24 = dktX8_names_1 := dk_seg dksX8_names_0 24 rfl rfl
theorem dksX8_names_2 : cX8_names.data.toList.drop 48 = dktX8_names_2 := dk_seg dksX8_names_1 24 rfl rfl
theorem dksX8_names_3 : cX8_names.data.toList.drop 71 = dktX8_names_3 := dk_seg dksX8_names_2 23 rfl rfl
theorem dX8_names_0 : decode cX8_names 0 = .ok (.new 212, 3) := dk_187 0 212 (dk_at dksX8_names_0 0 rfl rfl)
theorem dX8_names_3 : decode cX8_names 3 = .ok (.dup, 1) := dk_89 (dk_at dksX8_names_0 3 rfl rfl)
theorem dX8_names_4 : decode cX8_names 4 = .ok (.invokespecial 214, 3) := dk_183 0 214 (dk_at dksX8_names_0 4 rfl rfl)
theorem dX8_names_7 : decode cX8_names 7 = .ok (.astore_n 1, 1) := dk_76 (dk_at dksX8_names_0 7 rfl rfl)
theorem dX8_names_8 : decode cX8_names 8 = .ok (.aload_n 0, 1) := dk_42 (dk_at dksX8_names_0 8 rfl rfl)
theorem dX8_names_9 : decode cX8_names 9 = .ok (.invokevirtual 76, 3) := dk_182 0 76 (dk_at dksX8_names_0 9 rfl rfl)
theorem dX8_names_12 : decode cX8_names 12 = .ok (.aload_n 1, 1) := dk_43 (dk_at dksX8_names_0 12 rfl rfl)
theorem dX8_names_13 : decode cX8_names 13 = .ok (.aload_n 0, 1) := dk_42 (dk_at dksX8_names_0 13 rfl rfl)
theorem dX8_names_14 : decode cX8_names 14 = .ok (.aload_n 0, 1) := dk_42 (dk_at dksX8_names_0 14 rfl rfl)
theorem dX8_names_15 : decode cX8_names 15 = .ok (.invokevirtual 79, 3) := dk_182 0 79 (dk_at dksX8_names_0 15 rfl rfl)
theorem dX8_names_18 : decode cX8_names 18 = .ok (.invokevirtual 107, 3) := dk_182 0 107 (dk_at dksX8_names_0 18 rfl rfl)
theorem dX8_names_21 : decode cX8_names 21 = .ok (.invokestatic 89, 3) := dk_184 0 89 (dk_at dksX8_names_0 21 rfl rfl)
theorem dX8_names_24 : decode cX8_names 24 = .ok (.invokeinterface 167 2, 5) := by decide +kernel
theorem dX8_names_29 : decode cX8_names 29 = .ok (.pop, 1) := dk_87 (dk_at dksX8_names_1 5 rfl rfl)
theorem dX8_names_30 : decode cX8_names 30 = .ok (.aload_n 0, 1) := dk_42 (dk_at dksX8_names_1 6 rfl rfl)
theorem dX8_names_31 : decode cX8_names 31 = .ok (.bipush 46, 2) := dk_16 46 (dk_at dksX8_names_1 7 rfl rfl)
theorem dX8_names_33 : decode cX8_names 33 = .ok (.invokevirtual 113, 3) := dk_182 0 113 (dk_at dksX8_names_1 9 rfl rfl)
theorem dX8_names_36 : decode cX8_names 36 = .ok (.ifCond .eq 30, 3) := dk_153 0 30 (dk_at dksX8_names_1 12 rfl rfl)
theorem dX8_names_39 : decode cX8_names 39 = .ok (.aload_n 0, 1) := dk_42 (dk_at dksX8_names_1 15 rfl rfl)
theorem dX8_names_40 : decode cX8_names 40 = .ok (.iconst 1, 1) := dk_4 (dk_at dksX8_names_1 16 rfl rfl)
theorem dX8_names_41 : decode cX8_names 41 = .ok (.invokevirtual 107, 3) := dk_182 0 107 (dk_at dksX8_names_1 17 rfl rfl)
theorem dX8_names_44 : decode cX8_names 44 = .ok (.pop, 1) := dk_87 (dk_at dksX8_names_1 20 rfl rfl)
theorem dX8_names_45 : decode cX8_names 45 = .ok (.aload_n 1, 1) := dk_43 (dk_at dksX8_names_1 21 rfl rfl)
theorem dX8_names_46 : decode cX8_names 46 = .ok (.aload_n 0, 1) := dk_42 (dk_at dksX8_names_1 22 rfl rfl)
theorem dX8_names_47 : decode cX8_names 47 = .ok (.aload_n 0, 1) := dk_42 (dk_at dksX8_names_1 23 rfl rfl)
theorem dX8_names_48 : decode cX8_names 48 = .ok (.invokevirtual 79, 3) := dk_182 0 79 (dk_at dksX8_names_2 0 rfl rfl)
theorem dX8_names_51 : decode cX8_names 51 = .ok (.invokevirtual 107, 3) := dk_182 0 107 (dk_at dksX8_names_2 3 rfl rfl)
theorem dX8_names_54 : decode cX8_names 54 = .ok (.invokestatic 89, 3) := dk_184 0 89 (dk_at dksX8_names_2 6 rfl rfl)
theorem dX8_names_57 : decode cX8_names 57 = .ok (.invokeinterface 167 2, 5) := by decide +kernel
theorem dX8_names_62 : decode cX8_names 62 = .ok (.pop, 1) := dk_87 (dk_at dksX8_names_2 14 rfl rfl)
theorem dX8_names_63 : decode cX8_names 63 = .ok (.goto (-33), 3) := dk_167 255 223 (dk_at dksX8_names_2 15 rfl rfl)
theorem dX8_names_66 : decode cX8_names 66 = .ok (.aload_n 0, 1) := dk_42 (dk_at dksX8_names_2 18 rfl rfl)
theorem dX8_names_67 : decode cX8_names 67 = .ok (.getfield 50, 3) := dk_180 0 50 (dk_at dksX8_names_2 19 rfl rfl)
theorem dX8_names_70 : decode cX8_names 70 = .ok (.iconst 3, 1) := dk_6 (dk_at dksX8_names_2 22 rfl rfl)
theorem dX8_names_71 : decode cX8_names 71 = .ok (.if_icmp .eq 9, 3) := dk_159 0 9 (dk_at dksX8_names_3 0 rfl rfl)
theorem dX8_names_74 : decode cX8_names 74 = .ok (.aload_n 0, 1) := dk_42 (dk_at dksX8_names_3 3 rfl rfl)
theorem dX8_names_75 : decode cX8_names 75 = .ok (.iconst 0, 1) := dk_3 (dk_at dksX8_names_3 4 rfl rfl)
theorem dX8_names_76 : decode cX8_names 76 = .ok (.invokevirtual 107, 3) := dk_182 0 107 (dk_at dksX8_names_3 5 rfl rfl)
theorem dX8_names_79 : decode cX8_names 79 = .ok (.pop, 1) := dk_87 (dk_at dksX8_names_3 8 rfl rfl)
theorem dX8_names_80 : decode cX8_names 80 = .ok (.aload_n 1, 1) := dk_43 (dk_at dksX8_names_3 9 rfl rfl)
theorem dX8_names_81 : decode cX8_names 81 = .ok (.areturn, 1) := dk_176 (dk_at dksX8_names_3 10 rfl rfl)
theorem q127 : (Jvm.Cond.initialized "SignalWaves$Reader") ∈ lw_all := lw_g (lw_at lw_m1 34 rfl) rfl
theorem q219 : (Jvm.Cond.fieldLinkNest "SignalWaves$Reader" (83 : Nat) "SignalWaves$Scope" "things" "Ljava/util/TreeMap;" "SignalWaves") ∈ lw_tbl := lw_at lw_m1 126 rfl
theorem q233 : (Jvm.Cond.fieldLink "SignalWaves$Reader" (196 : Nat) "SignalWaves$Scope" "scope" "LSignalWaves$Scope;") ∈ lw_all := lw_g (lw_at lw_m1 140 rfl) rfl
theorem q279 : (Jvm.Cond.fieldLinkNest "SignalWaves$Reader" (22 : Nat) "SignalWaves$Book" "top" "LSignalWaves$Scope;" "SignalWaves") ∈ lw_tbl := lw_at lw_m1 186 rfl
theorem q282 : (Jvm.Cond.fieldLinkNest "SignalWaves$Reader" (155 : Nat) "SignalWaves$Book" "scopes" "Ljava/util/List;" "SignalWaves") ∈ lw_tbl := lw_at lw_m1 189 rfl
theorem q286 : (Jvm.Cond.fieldLinkNest "SignalWaves$Reader" (199 : Nat) "SignalWaves$Book" "nodes" "Ljava/util/List;" "SignalWaves") ∈ lw_tbl := lw_at lw_m1 193 rfl
theorem q1073 : (Jvm.Cond.fieldLinkNest "SignalWaves$Reader" (36 : Nat) "SignalWaves" "text" "[B" "SignalWaves") ∈ lw_tbl := lw_at lw_m5 20 rfl
theorem q1075 : (Jvm.Cond.fieldLinkNest "SignalWaves$Reader" (33 : Nat) "SignalWaves" "typed" "I" "SignalWaves") ∈ lw_tbl := lw_at lw_m5 22 rfl
theorem q1128 : (Jvm.Cond.instantiable "SignalWaves$Reader" (10 : Nat)) ∈ lw_all := lw_g (lw_at lw_m5 75 rfl) rfl
theorem q1130 : (Jvm.Cond.instanceMethod ({ cls := "SignalWaves$Reader", name := "<init>", desc := "(LSignalWaves;)V" } : Jvm.MethodName)) ∈ lw_all := lw_g (lw_at lw_m5 77 rfl) rfl
theorem q1131 : (Jvm.Cond.code ({ cls := "SignalWaves$Reader", name := "<init>", desc := "(LSignalWaves;)V" } : Jvm.MethodName) prog_13_method_1_code (2 : Nat) (Option.none : Option Jvm.ClassFile.FieldType)) ∈ lw_all := lw_g (lw_at lw_m5 78 rfl) rfl
theorem q1132 : (Jvm.Cond.methodLink "SignalWaves$Reader" (9 : Nat) ({ cls := "java/lang/Object", name := "<init>", desc := "()V" } : Jvm.MethodName)) ∈ lw_all := lw_g (lw_at lw_m5 79 rfl) rfl
theorem q1133 : (Jvm.Cond.classLink "SignalWaves$Reader" (15 : Nat) "SignalWaves$Book") ∈ lw_all := lw_g (lw_at lw_m5 80 rfl) rfl
theorem q1134 : (Jvm.Cond.methodLinkNest "SignalWaves$Reader" (17 : Nat) ({ cls := "SignalWaves$Book", name := "<init>", desc := "()V" } : Jvm.MethodName) "SignalWaves") ∈ lw_tbl := lw_at lw_m5 81 rfl
theorem q1135 : (Jvm.Cond.fieldLink "SignalWaves$Reader" (29 : Nat) "SignalWaves$Reader" "at" "I") ∈ lw_all := lw_g (lw_at lw_m5 82 rfl) rfl
theorem q1136 : (Jvm.Cond.fieldLink "SignalWaves$Reader" (44 : Nat) "SignalWaves$Reader" "start" "I") ∈ lw_all := lw_g (lw_at lw_m5 83 rfl) rfl
theorem q1137 : (Jvm.Cond.fieldLink "SignalWaves$Reader" (50 : Nat) "SignalWaves$Reader" "sort" "I") ∈ lw_all := lw_g (lw_at lw_m5 84 rfl) rfl
theorem q1138 : (Jvm.Cond.fieldLink "SignalWaves$Reader" (47 : Nat) "SignalWaves$Reader" "value" "I") ∈ lw_all := lw_g (lw_at lw_m5 85 rfl) rfl
theorem q1140 : (Jvm.Cond.fieldLink "SignalWaves$Reader" (209 : Nat) "SignalWaves$Reader" "items" "I") ∈ lw_all := lw_g (lw_at lw_m5 87 rfl) rfl
theorem q1141 : (Jvm.Cond.fieldLink "SignalWaves$Reader" (117 : Nat) "SignalWaves$Reader" "parts" "I") ∈ lw_all := lw_g (lw_at lw_m5 88 rfl) rfl
theorem q1142 : (Jvm.Cond.fieldLink "SignalWaves$Reader" (123 : Nat) "SignalWaves$Reader" "marks" "I") ∈ lw_all := lw_g (lw_at lw_m5 89 rfl) rfl
theorem q1143 : (Jvm.Cond.fieldLink "SignalWaves$Reader" (18 : Nat) "SignalWaves$Reader" "made" "LSignalWaves$Book;") ∈ lw_all := lw_g (lw_at lw_m5 90 rfl) rfl
theorem q1144 : (Jvm.Cond.fieldLink "SignalWaves$Reader" (26 : Nat) "SignalWaves$Reader" "open" "LSignalWaves$Scope;") ∈ lw_all := lw_g (lw_at lw_m5 91 rfl) rfl
theorem q1145 : (Jvm.Cond.fieldLink "SignalWaves$Reader" (3 : Nat) "SignalWaves$Reader" "this$0" "LSignalWaves;") ∈ lw_all := lw_g (lw_at lw_m5 92 rfl) rfl
theorem q1146 : (Jvm.Cond.lays "SignalWaves$Reader" "SignalWaves$Reader" "at" "I") ∈ lw_all := lw_g (lw_at lw_m5 93 rfl) rfl
theorem q1147 : (Jvm.Cond.soleField "SignalWaves$Reader" "at") ∈ lw_all := lw_g (lw_at lw_m5 94 rfl) rfl
theorem q1148 : (Jvm.Cond.lays "SignalWaves$Reader" "SignalWaves$Reader" "start" "I") ∈ lw_all := lw_g (lw_at lw_m5 95 rfl) rfl
theorem q1149 : (Jvm.Cond.soleField "SignalWaves$Reader" "start") ∈ lw_all := lw_g (lw_at lw_m5 96 rfl) rfl
theorem q1150 : (Jvm.Cond.lays "SignalWaves$Reader" "SignalWaves$Reader" "sort" "I") ∈ lw_all := lw_g (lw_at lw_m5 97 rfl) rfl
theorem q1151 : (Jvm.Cond.soleField "SignalWaves$Reader" "sort") ∈ lw_all := lw_g (lw_at lw_m5 98 rfl) rfl
theorem q1152 : (Jvm.Cond.lays "SignalWaves$Reader" "SignalWaves$Reader" "value" "I") ∈ lw_all := lw_g (lw_at lw_m5 99 rfl) rfl
theorem q1153 : (Jvm.Cond.soleField "SignalWaves$Reader" "value") ∈ lw_all := lw_g (lw_at lw_m5 100 rfl) rfl
theorem q1154 : (Jvm.Cond.lays "SignalWaves$Reader" "SignalWaves$Reader" "items" "I") ∈ lw_all := lw_g (lw_at lw_m5 101 rfl) rfl
theorem q1155 : (Jvm.Cond.soleField "SignalWaves$Reader" "items") ∈ lw_all := lw_g (lw_at lw_m5 102 rfl) rfl
theorem q1156 : (Jvm.Cond.lays "SignalWaves$Reader" "SignalWaves$Reader" "parts" "I") ∈ lw_all := lw_g (lw_at lw_m5 103 rfl) rfl
theorem q1157 : (Jvm.Cond.soleField "SignalWaves$Reader" "parts") ∈ lw_all := lw_g (lw_at lw_m5 104 rfl) rfl
theorem q1158 : (Jvm.Cond.lays "SignalWaves$Reader" "SignalWaves$Reader" "marks" "I") ∈ lw_all := lw_g (lw_at lw_m5 105 rfl) rfl
theorem q1159 : (Jvm.Cond.soleField "SignalWaves$Reader" "marks") ∈ lw_all := lw_g (lw_at lw_m5 106 rfl) rfl
theorem q1160 : (Jvm.Cond.laysFinal "SignalWaves$Reader" "SignalWaves$Reader" "made" "LSignalWaves$Book;") ∈ lw_all := lw_g (lw_at lw_m5 107 rfl) rfl
theorem q1161 : (Jvm.Cond.soleField "SignalWaves$Reader" "made") ∈ lw_all := lw_g (lw_at lw_m5 108 rfl) rfl
theorem q1162 : (Jvm.Cond.lays "SignalWaves$Reader" "SignalWaves$Reader" "open" "LSignalWaves$Scope;") ∈ lw_all := lw_g (lw_at lw_m5 109 rfl) rfl
theorem q1163 : (Jvm.Cond.soleField "SignalWaves$Reader" "open") ∈ lw_all := lw_g (lw_at lw_m5 110 rfl) rfl
theorem q1164 : (Jvm.Cond.laysFinal "SignalWaves$Reader" "SignalWaves$Reader" "this$0" "LSignalWaves;") ∈ lw_all := lw_g (lw_at lw_m5 111 rfl) rfl
theorem q1165 : (Jvm.Cond.soleField "SignalWaves$Reader" "this$0") ∈ lw_all := lw_g (lw_at lw_m5 112 rfl) rfl
theorem q1166 : (Jvm.Cond.superclass "SignalWaves$Reader" "java/lang/Object") ∈ lw_all := lw_g (lw_at lw_m5 113 rfl) rfl
theorem q1168 : (Jvm.Cond.instanceMethod ({ cls := "SignalWaves$Reader", name := "read", desc := "()LSignalWaves$Book;" } : Jvm.MethodName)) ∈ lw_all := lw_g (lw_at lw_m5 115 rfl) rfl
theorem q1169 : (Jvm.Cond.selects "SignalWaves$Reader" ({ cls := "SignalWaves$Reader", name := "read", desc := "()LSignalWaves$Book;" } : Jvm.MethodName) ({ cls := "SignalWaves$Reader", name := "read", desc := "()LSignalWaves$Book;" } : Jvm.MethodName)) ∈ lw_all := lw_g (lw_at lw_m5 116 rfl) rfl
theorem q1170 : (Jvm.Cond.code ({ cls := "SignalWaves$Reader", name := "read", desc := "()LSignalWaves$Book;" } : Jvm.MethodName) prog_13_method_14_code (1 : Nat) (Option.some (Jvm.ClassFile.FieldType.object "SignalWaves$Book"))) ∈ lw_all := lw_g (lw_at lw_m5 117 rfl) rfl
theorem q1171 : (Jvm.Cond.methodLink "SignalWaves$Reader" (76 : Nat) ({ cls := "SignalWaves$Reader", name := "step", desc := "()V" } : Jvm.MethodName)) ∈ lw_all := lw_g (lw_at lw_m5 118 rfl) rfl
theorem q1172 : (Jvm.Cond.privateMethod ({ cls := "SignalWaves$Reader", name := "step", desc := "()V" } : Jvm.MethodName)) ∈ lw_tbl := lw_at lw_m5 119 rfl
theorem q1173 : (Jvm.Cond.instanceMethod ({ cls := "SignalWaves$Reader", name := "step", desc := "()V" } : Jvm.MethodName)) ∈ lw_all := lw_g (lw_at lw_m5 120 rfl) rfl
theorem q1174 : (Jvm.Cond.code ({ cls := "SignalWaves$Reader", name := "step", desc := "()V" } : Jvm.MethodName) prog_13_method_3_code (2 : Nat) (Option.none : Option Jvm.ClassFile.FieldType)) ∈ lw_all := lw_g (lw_at lw_m5 121 rfl) rfl
theorem q1175 : (Jvm.Cond.methodLink "SignalWaves$Reader" (40 : Nat) ({ cls := "SignalWaves$Reader", name := "here", desc := "()I" } : Jvm.MethodName)) ∈ lw_all := lw_g (lw_at lw_m5 122 rfl) rfl
theorem q1176 : (Jvm.Cond.privateMethod ({ cls := "SignalWaves$Reader", name := "here", desc := "()I" } : Jvm.MethodName)) ∈ lw_tbl := lw_at lw_m5 123 rfl
theorem q1177 : (Jvm.Cond.instanceMethod ({ cls := "SignalWaves$Reader", name := "here", desc := "()I" } : Jvm.MethodName)) ∈ lw_all := lw_g (lw_at lw_m5 124 rfl) rfl
theorem q1178 : (Jvm.Cond.code ({ cls := "SignalWaves$Reader", name := "here", desc := "()I" } : Jvm.MethodName) prog_13_method_2_code (1 : Nat) (Option.some Jvm.ClassFile.FieldType.int)) ∈ lw_all := lw_g (lw_at lw_m5 125 rfl) rfl
theorem q1179 : (Jvm.Cond.methodLinkNest "SignalWaves$Reader" (53 : Nat) ({ cls := "SignalWaves", name := "in", desc := "(III)Z" } : Jvm.MethodName) "SignalWaves") ∈ lw_tbl := lw_at lw_m5 126 rfl
theorem q1180 : (Jvm.Cond.methodLink "SignalWaves$Reader" (57 : Nat) ({ cls := "java/lang/Math", name := "min", desc := "(II)I" } : Jvm.MethodName)) ∈ lw_all := lw_g (lw_at lw_m5 127 rfl) rfl
theorem q1181 : (Jvm.Cond.stringRef "SignalWaves$Reader" (63 : Nat) "[]:@=.&|^+-!();") ∈ lw_tbl := lw_at lw_m5 128 rfl
theorem q1182 : (Jvm.Cond.methodLink "SignalWaves$Reader" (65 : Nat) ({ cls := "java/lang/String", name := "indexOf", desc := "(I)I" } : Jvm.MethodName)) ∈ lw_all := lw_g (lw_at lw_m5 129 rfl) rfl
theorem q1246 : (Jvm.Cond.methodLink "SignalWaves$Reader" (206 : Nat) ({ cls := "SignalWaves$Reader", name := "item", desc := "()V" } : Jvm.MethodName)) ∈ lw_all := lw_g (lw_at lw_m5 193 rfl) rfl
theorem q1247 : (Jvm.Cond.privateMethod ({ cls := "SignalWaves$Reader", name := "item", desc := "()V" } : Jvm.MethodName)) ∈ lw_tbl := lw_at lw_m5 194 rfl
theorem q1248 : (Jvm.Cond.instanceMethod ({ cls := "SignalWaves$Reader", name := "item", desc := "()V" } : Jvm.MethodName)) ∈ lw_all := lw_g (lw_at lw_m5 195 rfl) rfl
theorem q1249 : (Jvm.Cond.code ({ cls := "SignalWaves$Reader", name := "item", desc := "()V" } : Jvm.MethodName) prog_13_method_13_code (4 : Nat) (Option.none : Option Jvm.ClassFile.FieldType)) ∈ lw_all := lw_g (lw_at lw_m5 196 rfl) rfl
theorem q1250 : (Jvm.Cond.methodLink "SignalWaves$Reader" (113 : Nat) ({ cls := "SignalWaves$Reader", name := "is", desc := "(I)Z" } : Jvm.MethodName)) ∈ lw_all := lw_g (lw_at lw_m5 197 rfl) rfl
theorem q1251 : (Jvm.Cond.privateMethod ({ cls := "SignalWaves$Reader", name := "is", desc := "(I)Z" } : Jvm.MethodName)) ∈ lw_tbl := lw_at lw_m5 198 rfl
theorem q1252 : (Jvm.Cond.instanceMethod ({ cls := "SignalWaves$Reader", name := "is", desc := "(I)Z" } : Jvm.MethodName)) ∈ lw_all := lw_g (lw_at lw_m5 199 rfl) rfl
theorem q1253 : (Jvm.Cond.code ({ cls := "SignalWaves$Reader", name := "is", desc := "(I)Z" } : Jvm.MethodName) prog_13_method_5_code (2 : Nat) (Option.some Jvm.ClassFile.FieldType.boolean)) ∈ lw_all := lw_g (lw_at lw_m5 200 rfl) rfl
theorem q1254 : (Jvm.Cond.methodLink "SignalWaves$Reader" (190 : Nat) ({ cls := "SignalWaves$Reader", name := "opens", desc := "()V" } : Jvm.MethodName)) ∈ lw_all := lw_g (lw_at lw_m5 201 rfl) rfl
theorem q1255 : (Jvm.Cond.privateMethod ({ cls := "SignalWaves$Reader", name := "opens", desc := "()V" } : Jvm.MethodName)) ∈ lw_tbl := lw_at lw_m5 202 rfl
theorem q1256 : (Jvm.Cond.instanceMethod ({ cls := "SignalWaves$Reader", name := "opens", desc := "()V" } : Jvm.MethodName)) ∈ lw_all := lw_g (lw_at lw_m5 203 rfl) rfl
theorem q1257 : (Jvm.Cond.code ({ cls := "SignalWaves$Reader", name := "opens", desc := "()V" } : Jvm.MethodName) prog_13_method_11_code (3 : Nat) (Option.none : Option Jvm.ClassFile.FieldType)) ∈ lw_all := lw_g (lw_at lw_m5 204 rfl) rfl
theorem q1258 : (Jvm.Cond.methodLink "SignalWaves$Reader" (152 : Nat) ({ cls := "SignalWaves$Scope", name := "deep", desc := "()I" } : Jvm.MethodName)) ∈ lw_all := lw_g (lw_at lw_m5 205 rfl) rfl
theorem q1267 : (Jvm.Cond.methodLink "SignalWaves$Reader" (107 : Nat) ({ cls := "SignalWaves$Reader", name := "due", desc := "(Z)I" } : Jvm.MethodName)) ∈ lw_all := lw_g (lw_at lw_m5 214 rfl) rfl
theorem q1268 : (Jvm.Cond.privateMethod ({ cls := "SignalWaves$Reader", name := "due", desc := "(Z)I" } : Jvm.MethodName)) ∈ lw_tbl := lw_at lw_m5 215 rfl
theorem q1269 : (Jvm.Cond.instanceMethod ({ cls := "SignalWaves$Reader", name := "due", desc := "(Z)I" } : Jvm.MethodName)) ∈ lw_all := lw_g (lw_at lw_m5 216 rfl) rfl
theorem q1270 : (Jvm.Cond.code ({ cls := "SignalWaves$Reader", name := "due", desc := "(Z)I" } : Jvm.MethodName) prog_13_method_4_code (3 : Nat) (Option.some Jvm.ClassFile.FieldType.int)) ∈ lw_all := lw_g (lw_at lw_m5 217 rfl) rfl
theorem q1271 : (Jvm.Cond.classLink "SignalWaves$Reader" (71 : Nat) "SignalWaves$Wrong") ∈ lw_all := lw_g (lw_at lw_m5 218 rfl) rfl
theorem q1310 : (Jvm.Cond.methodLink "SignalWaves$Reader" (73 : Nat) ({ cls := "SignalWaves$Wrong", name := "<init>", desc := "(I)V" } : Jvm.MethodName)) ∈ lw_all := lw_g (lw_at lw_m6 17 rfl) rfl
theorem q1340 : (Jvm.Cond.methodLink "SignalWaves$Reader" (103 : Nat) ({ cls := "SignalWaves$Reader", name := "found", desc := "(LSignalWaves$Scope;)LSignalWaves$Named;" } : Jvm.MethodName)) ∈ lw_all := lw_g (lw_at lw_m6 47 rfl) rfl
theorem q1341 : (Jvm.Cond.privateMethod ({ cls := "SignalWaves$Reader", name := "found", desc := "(LSignalWaves$Scope;)LSignalWaves$Named;" } : Jvm.MethodName)) ∈ lw_tbl := lw_at lw_m6 48 rfl
theorem q1342 : (Jvm.Cond.instanceMethod ({ cls := "SignalWaves$Reader", name := "found", desc := "(LSignalWaves$Scope;)LSignalWaves$Named;" } : Jvm.MethodName)) ∈ lw_all := lw_g (lw_at lw_m6 49 rfl) rfl
theorem q1343 : (Jvm.Cond.code ({ cls := "SignalWaves$Reader", name := "found", desc := "(LSignalWaves$Scope;)LSignalWaves$Named;" } : Jvm.MethodName) prog_13_method_7_code (2 : Nat) (Option.some (Jvm.ClassFile.FieldType.object "SignalWaves$Named"))) ∈ lw_all := lw_g (lw_at lw_m6 50 rfl) rfl
theorem q1344 : (Jvm.Cond.methodLink "SignalWaves$Reader" (79 : Nat) ({ cls := "SignalWaves$Reader", name := "isName", desc := "()Z" } : Jvm.MethodName)) ∈ lw_all := lw_g (lw_at lw_m6 51 rfl) rfl
theorem q1345 : (Jvm.Cond.privateMethod ({ cls := "SignalWaves$Reader", name := "isName", desc := "()Z" } : Jvm.MethodName)) ∈ lw_tbl := lw_at lw_m6 52 rfl
theorem q1346 : (Jvm.Cond.instanceMethod ({ cls := "SignalWaves$Reader", name := "isName", desc := "()Z" } : Jvm.MethodName)) ∈ lw_all := lw_g (lw_at lw_m6 53 rfl) rfl
theorem q1347 : (Jvm.Cond.code ({ cls := "SignalWaves$Reader", name := "isName", desc := "()Z" } : Jvm.MethodName) prog_13_method_6_code (1 : Nat) (Option.some Jvm.ClassFile.FieldType.boolean)) ∈ lw_all := lw_g (lw_at lw_m6 54 rfl) rfl
theorem q1348 : (Jvm.Cond.methodLink "SignalWaves$Reader" (89 : Nat) ({ cls := "java/lang/Integer", name := "valueOf", desc := "(I)Ljava/lang/Integer;" } : Jvm.MethodName)) ∈ lw_all := lw_g (lw_at lw_m6 55 rfl) rfl
theorem q1367 : (Jvm.Cond.methodLink "SignalWaves$Reader" (95 : Nat) ({ cls := "java/util/TreeMap", name := "get", desc := "(Ljava/lang/Object;)Ljava/lang/Object;" } : Jvm.MethodName)) ∈ lw_all := lw_g (lw_at lw_m6 74 rfl) rfl
theorem q1379 : (Jvm.Cond.classLink "SignalWaves$Reader" (101 : Nat) "SignalWaves$Named") ∈ lw_all := lw_g (lw_at lw_m6 86 rfl) rfl
theorem q1380 : (Jvm.Cond.interfaceEntry "SignalWaves$Reader" (159 : Nat)) ∈ lw_tbl := lw_at lw_m6 87 rfl
theorem q1381 : (Jvm.Cond.methodLink "SignalWaves$Reader" (159 : Nat) ({ cls := "java/util/List", name := "size", desc := "()I" } : Jvm.MethodName)) ∈ lw_all := lw_g (lw_at lw_m6 88 rfl) rfl
theorem q1390 : (Jvm.Cond.classLink "SignalWaves$Reader" (84 : Nat) "SignalWaves$Scope") ∈ lw_all := lw_g (lw_at lw_m6 97 rfl) rfl
theorem q1391 : (Jvm.Cond.methodLink "SignalWaves$Reader" (164 : Nat) ({ cls := "SignalWaves$Scope", name := "<init>", desc := "(ILSignalWaves$Scope;I)V" } : Jvm.MethodName)) ∈ lw_all := lw_g (lw_at lw_m6 98 rfl) rfl
theorem q1392 : (Jvm.Cond.interfaceEntry "SignalWaves$Reader" (167 : Nat)) ∈ lw_tbl := lw_at lw_m6 99 rfl
theorem q1393 : (Jvm.Cond.methodLink "SignalWaves$Reader" (167 : Nat) ({ cls := "java/util/List", name := "add", desc := "(Ljava/lang/Object;)Z" } : Jvm.MethodName)) ∈ lw_all := lw_g (lw_at lw_m6 100 rfl) rfl
theorem q1437 : (Jvm.Cond.selects "SignalWaves$Reader" ({ cls := "java/lang/Object", name := "getClass", desc := "()Ljava/lang/Class;" } : Jvm.MethodName) ({ cls := "java/lang/Object", name := "getClass", desc := "()Ljava/lang/Class;" } : Jvm.MethodName)) ∈ lw_all := lw_g (lw_at lw_m6 144 rfl) rfl
theorem q1474 : (Jvm.Cond.methodLink "SignalWaves$Reader" (171 : Nat) ({ cls := "java/util/TreeMap", name := "put", desc := "(Ljava/lang/Object;Ljava/lang/Object;)Ljava/lang/Object;" } : Jvm.MethodName)) ∈ lw_all := lw_g (lw_at lw_m6 181 rfl) rfl
theorem q1475 : (Jvm.Cond.methodLink "SignalWaves$Reader" (193 : Nat) ({ cls := "SignalWaves$Scope", name := "isTop", desc := "()Z" } : Jvm.MethodName)) ∈ lw_all := lw_g (lw_at lw_m6 182 rfl) rfl
theorem q1476 : (Jvm.Cond.methodLink "SignalWaves$Reader" (202 : Nat) ({ cls := "SignalWaves$Reader", name := "told", desc := "(II)LSignalWaves$Node;" } : Jvm.MethodName)) ∈ lw_all := lw_g (lw_at lw_m6 183 rfl) rfl
theorem q1477 : (Jvm.Cond.privateMethod ({ cls := "SignalWaves$Reader", name := "told", desc := "(II)LSignalWaves$Node;" } : Jvm.MethodName)) ∈ lw_tbl := lw_at lw_m6 184 rfl
theorem q1478 : (Jvm.Cond.instanceMethod ({ cls := "SignalWaves$Reader", name := "told", desc := "(II)LSignalWaves$Node;" } : Jvm.MethodName)) ∈ lw_all := lw_g (lw_at lw_m6 185 rfl) rfl
theorem q1479 : (Jvm.Cond.code ({ cls := "SignalWaves$Reader", name := "told", desc := "(II)LSignalWaves$Node;" } : Jvm.MethodName) prog_13_method_12_code (3 : Nat) (Option.some (Jvm.ClassFile.FieldType.object "SignalWaves$Node"))) ∈ lw_all := lw_g (lw_at lw_m6 186 rfl) rfl
theorem q1480 : (Jvm.Cond.methodLink "SignalWaves$Reader" (175 : Nat) ({ cls := "SignalWaves$Book", name := "many", desc := "(I)I" } : Jvm.MethodName)) ∈ lw_all := lw_g (lw_at lw_m6 187 rfl) rfl
theorem q1517 : (Jvm.Cond.methodLink "SignalWaves$Reader" (178 : Nat) ({ cls := "SignalWaves$Node", name := "wire", desc := "(ILSignalWaves$Scope;II)LSignalWaves$Node;" } : Jvm.MethodName)) ∈ lw_all := lw_g (lw_at lw_m6 224 rfl) rfl
theorem q1547 : (Jvm.Cond.methodLink "SignalWaves$Reader" (140 : Nat) ({ cls := "SignalWaves$Reader", name := "path", desc := "()LSignalWaves$Node;" } : Jvm.MethodName)) ∈ lw_all := lw_g (lw_at lw_m7 14 rfl) rfl
theorem q1548 : (Jvm.Cond.privateMethod ({ cls := "SignalWaves$Reader", name := "path", desc := "()LSignalWaves$Node;" } : Jvm.MethodName)) ∈ lw_tbl := lw_at lw_m7 15 rfl
theorem q1549 : (Jvm.Cond.instanceMethod ({ cls := "SignalWaves$Reader", name := "path", desc := "()LSignalWaves$Node;" } : Jvm.MethodName)) ∈ lw_all := lw_g (lw_at lw_m7 16 rfl) rfl
theorem q1550 : (Jvm.Cond.code ({ cls := "SignalWaves$Reader", name := "path", desc := "()LSignalWaves$Node;" } : Jvm.MethodName) prog_13_method_8_code (3 : Nat) (Option.some (Jvm.ClassFile.FieldType.object "SignalWaves$Node"))) ∈ lw_all := lw_g (lw_at lw_m7 17 rfl) rfl
theorem q1551 : (Jvm.Cond.classLink "SignalWaves$Reader" (111 : Nat) "SignalWaves$Node") ∈ lw_all := lw_g (lw_at lw_m7 18 rfl) rfl
theorem q1552 : (Jvm.Cond.methodLink "SignalWaves$Reader" (182 : Nat) ({ cls := "SignalWaves$Node", name := "alias", desc := "(ILSignalWaves$Scope;ILSignalWaves$Node;)LSignalWaves$Node;" } : Jvm.MethodName)) ∈ lw_all := lw_g (lw_at lw_m7 19 rfl) rfl
theorem q1568 : (Jvm.Cond.methodLink "SignalWaves$Reader" (135 : Nat) ({ cls := "SignalWaves$Reader", name := "expr", desc := "()LSignalWaves$Expr;" } : Jvm.MethodName)) ∈ lw_all := lw_g (lw_at lw_m7 35 rfl) rfl
theorem q1569 : (Jvm.Cond.privateMethod ({ cls := "SignalWaves$Reader", name := "expr", desc := "()LSignalWaves$Expr;" } : Jvm.MethodName)) ∈ lw_tbl := lw_at lw_m7 36 rfl
theorem q1570 : (Jvm.Cond.instanceMethod ({ cls := "SignalWaves$Reader", name := "expr", desc := "()LSignalWaves$Expr;" } : Jvm.MethodName)) ∈ lw_all := lw_g (lw_at lw_m7 37 rfl) rfl
theorem q1571 : (Jvm.Cond.code ({ cls := "SignalWaves$Reader", name := "expr", desc := "()LSignalWaves$Expr;" } : Jvm.MethodName) prog_13_method_10_code (3 : Nat) (Option.some (Jvm.ClassFile.FieldType.object "SignalWaves$Expr"))) ∈ lw_all := lw_g (lw_at lw_m7 38 rfl) rfl
theorem q1572 : (Jvm.Cond.methodLink "SignalWaves$Reader" (128 : Nat) ({ cls := "SignalWaves$Reader", name := "term", desc := "()LSignalWaves$Expr;" } : Jvm.MethodName)) ∈ lw_all := lw_g (lw_at lw_m7 39 rfl) rfl
theorem q1573 : (Jvm.Cond.privateMethod ({ cls := "SignalWaves$Reader", name := "term", desc := "()LSignalWaves$Expr;" } : Jvm.MethodName)) ∈ lw_tbl := lw_at lw_m7 40 rfl
theorem q1574 : (Jvm.Cond.instanceMethod ({ cls := "SignalWaves$Reader", name := "term", desc := "()LSignalWaves$Expr;" } : Jvm.MethodName)) ∈ lw_all := lw_g (lw_at lw_m7 41 rfl) rfl
theorem q1575 : (Jvm.Cond.code ({ cls := "SignalWaves$Reader", name := "term", desc := "()LSignalWaves$Expr;" } : Jvm.MethodName) prog_13_method_9_code (3 : Nat) (Option.some (Jvm.ClassFile.FieldType.object "SignalWaves$Expr"))) ∈ lw_all := lw_g (lw_at lw_m7 42 rfl) rfl
theorem q1576 : (Jvm.Cond.classLink "SignalWaves$Reader" (120 : Nat) "SignalWaves$Plain") ∈ lw_all := lw_g (lw_at lw_m7 43 rfl) rfl
theorem q1578 : (Jvm.Cond.methodLink "SignalWaves$Reader" (122 : Nat) ({ cls := "SignalWaves$Plain", name := "<init>", desc := "(I)V" } : Jvm.MethodName)) ∈ lw_all := lw_g (lw_at lw_m7 45 rfl) rfl
theorem q1586 : (Jvm.Cond.classLink "SignalWaves$Reader" (126 : Nat) "SignalWaves$Not") ∈ lw_all := lw_g (lw_at lw_m7 53 rfl) rfl
theorem q1588 : (Jvm.Cond.methodLink "SignalWaves$Reader" (132 : Nat) ({ cls := "SignalWaves$Not", name := "<init>", desc := "(LSignalWaves$Expr;)V" } : Jvm.MethodName)) ∈ lw_all := lw_g (lw_at lw_m7 55 rfl) rfl
theorem q1596 : (Jvm.Cond.classLink "SignalWaves$Reader" (138 : Nat) "SignalWaves$Of") ∈ lw_all := lw_g (lw_at lw_m7 63 rfl) rfl
theorem q1597 : (Jvm.Cond.methodLink "SignalWaves$Reader" (144 : Nat) ({ cls := "SignalWaves$Of", name := "<init>", desc := "(LSignalWaves$Node;)V" } : Jvm.MethodName)) ∈ lw_all := lw_g (lw_at lw_m7 64 rfl) rfl
theorem q1598 : (Jvm.Cond.classLink "SignalWaves$Reader" (147 : Nat) "SignalWaves$Both") ∈ lw_all := lw_g (lw_at lw_m7 65 rfl) rfl
theorem q1600 : (Jvm.Cond.methodLink "SignalWaves$Reader" (149 : Nat) ({ cls := "SignalWaves$Both", name := "<init>", desc := "(ILSignalWaves$Expr;LSignalWaves$Expr;)V" } : Jvm.MethodName)) ∈ lw_all := lw_g (lw_at lw_m7 67 rfl) rfl
theorem q1614 : (Jvm.Cond.methodLink "SignalWaves$Reader" (186 : Nat) ({ cls := "SignalWaves$Node", name := "derived", desc := "(ILSignalWaves$Scope;ILSignalWaves$Expr;)LSignalWaves$Node;" } : Jvm.MethodName)) ∈ lw_all := lw_g (lw_at lw_m7 81 rfl) rfl
theorem q1622 : (Jvm.Cond.instanceMethod ({ cls := "SignalWaves$Reader", name := "names", desc := "()Ljava/util/List;" } : Jvm.MethodName)) ∈ lw_all := lw_g (lw_at lw_m7 89 rfl) rfl
theorem q1623 : (Jvm.Cond.selects "SignalWaves$Reader" ({ cls := "SignalWaves$Reader", name := "names", desc := "()Ljava/util/List;" } : Jvm.MethodName) ({ cls := "SignalWaves$Reader", name := "names", desc := "()Ljava/util/List;" } : Jvm.MethodName)) ∈ lw_all := lw_g (lw_at lw_m7 90 rfl) rfl
theorem q1624 : (Jvm.Cond.code ({ cls := "SignalWaves$Reader", name := "names", desc := "()Ljava/util/List;" } : Jvm.MethodName) prog_13_method_15_code (2 : Nat) (Option.some (Jvm.ClassFile.FieldType.object "java/util/List"))) ∈ lw_all := lw_g (lw_at lw_m7 91 rfl) rfl
theorem q1625 : (Jvm.Cond.classLink "SignalWaves$Reader" (212 : Nat) "java/util/ArrayList") ∈ lw_all := lw_g (lw_at lw_m7 92 rfl) rfl
theorem q1626 : (Jvm.Cond.methodLink "SignalWaves$Reader" (214 : Nat) ({ cls := "java/util/ArrayList", name := "<init>", desc := "()V" } : Jvm.MethodName)) ∈ lw_all := lw_g (lw_at lw_m7 93 rfl) rfl
theorem q1682 : (Jvm.Cond.selects "SignalWaves$Reader" ({ cls := "java/lang/Object", name := "equals", desc := "(Ljava/lang/Object;)Z" } : Jvm.MethodName) ({ cls := "java/lang/Object", name := "equals", desc := "(Ljava/lang/Object;)Z" } : Jvm.MethodName)) ∈ lw_all := lw_g (lw_at lw_m7 149 rfl) rfl
theorem q3119 : (Jvm.Cond.castable "SignalWaves$Reader" "java/lang/Object") ∈ lw_tbl := lw_at lw_m13 146 rfl
theorem in_X8 : ∀ w ∈ wsX80, w ∈ lw_all := lw_in wsX80 [1146, 1148, 1150, 1152, 1154, 1156, 1158, 1160, 1162, 1164] (by decide +kernel) (by decide +kernel)

/-! SignalWaves$Wrong -/
set_option maxRecDepth 100000
def RX9 : String := "SignalWaves$Wrong"
def TX9 : u_T := fun k => match k with
  | 0 => ("java/lang/Throwable", "cause", "Ljava/lang/Throwable;", false)
  | 1 => ("java/lang/Throwable", "stackTrace", "[Ljava/lang/StackTraceElement;", false)
  | 2 => ("java/lang/Throwable", "suppressedExceptions", "Ljava/util/List;", false)
  | 3 => ("java/lang/Throwable", "detailMessage", "Ljava/lang/String;", false)
  | 4 => ("java/lang/Throwable", "backtrace", "Ljava/lang/Object;", false)
  | 5 => ("java/lang/Throwable", "depth", "I", false)
  | _ => ("SignalWaves$Wrong", "at", "I", true)
def tyX9 : Nat → FieldType := fun k => match k with
  | 0 => .object "java/lang/Throwable"
  | 1 => .array (.object "java/lang/StackTraceElement")
  | 2 => .object "java/util/List"
  | 3 => .object "java/lang/String"
  | 4 => .object "java/lang/Object"
  | 5 => .int
  | _ => .int
abbrev wsX90 : List Cond := u_ws RX9 TX9 7
theorem nmX9 : ∀ a, a < 7 → ∀ b, b < 7 → a ≠ b → (TX9 a).2.1 ≠ (TX9 b).2.1 := by decide +kernel
theorem tyX9_ok : ∀ k, k < 7 → parseFieldDescriptor (TX9 k).2.2.1 = some (tyX9 k) := by decide +kernel
abbrev cX9_init : ByteArray := prog_17_method_1_code
def yX9_init : MethodName := ⟨RX9, "<init>", "(I)V"⟩
def dkwX9_init_0 : List UInt8 := [42, 18, 1, 183, 0, 3, 42, 27, 181, 0, 9, 177]
abbrev dktX9_init_0 : List UInt8 := dkwX9_init_0 ++ []
theorem dksX9_init_0 : cX9_init.data.toList.drop 0 = dktX9_init_0 := by decide +kernel
theorem dX9_init_0 : decode cX9_init 0 = .ok (.aload_n 0, 1) := dk_42 (dk_at dksX9_init_0 0 rfl rfl)
theorem dX9_init_1 : decode cX9_init 1 = .ok (.ldc 1, 2) := dk_18 1 (dk_at dksX9_init_0 1 rfl rfl)
theorem dX9_init_3 : decode cX9_init 3 = .ok (.invokespecial 3, 3) := dk_183 0 3 (dk_at dksX9_init_0 3 rfl rfl)
theorem dX9_init_6 : decode cX9_init 6 = .ok (.aload_n 0, 1) := dk_42 (dk_at dksX9_init_0 6 rfl rfl)
theorem dX9_init_7 : decode cX9_init 7 = .ok (.iload_n 1, 1) := dk_27 (dk_at dksX9_init_0 7 rfl rfl)
theorem dX9_init_8 : decode cX9_init 8 = .ok (.putfield 9, 3) := dk_181 0 9 (dk_at dksX9_init_0 8 rfl rfl)
theorem dX9_init_11 : decode cX9_init 11 = .ok (.return_, 1) := dk_177 (dk_at dksX9_init_0 11 rfl rfl)
theorem q133 : (Jvm.Cond.initialized "SignalWaves$Wrong") ∈ lw_all := lw_g (lw_at lw_m1 40 rfl) rfl
theorem q1272 : (Jvm.Cond.instantiable "SignalWaves$Wrong" (7 : Nat)) ∈ lw_all := lw_g (lw_at lw_m5 219 rfl) rfl
theorem q1273 : (Jvm.Cond.castable "SignalWaves$Wrong" "SignalWaves$Wrong") ∈ lw_tbl := lw_at lw_m5 220 rfl
theorem q1280 : (Jvm.Cond.selects "SignalWaves$Wrong" ({ cls := "java/lang/Throwable", name := "fillInStackTrace", desc := "(I)Ljava/lang/Throwable;" } : Jvm.MethodName) ({ cls := "java/lang/Throwable", name := "fillInStackTrace", desc := "(I)Ljava/lang/Throwable;" } : Jvm.MethodName)) ∈ lw_all := lw_g (lw_at lw_m5 227 rfl) rfl
theorem q1281 : (Jvm.Cond.selects "SignalWaves$Wrong" ({ cls := "java/lang/Throwable", name := "fillInStackTrace", desc := "()Ljava/lang/Throwable;" } : Jvm.MethodName) ({ cls := "java/lang/Throwable", name := "fillInStackTrace", desc := "()Ljava/lang/Throwable;" } : Jvm.MethodName)) ∈ lw_all := lw_g (lw_at lw_m5 228 rfl) rfl
theorem q1282 : (Jvm.Cond.lays "SignalWaves$Wrong" "java/lang/Throwable" "cause" "Ljava/lang/Throwable;") ∈ lw_all := lw_g (lw_at lw_m5 229 rfl) rfl
theorem q1284 : (Jvm.Cond.lays "SignalWaves$Wrong" "java/lang/Throwable" "stackTrace" "[Ljava/lang/StackTraceElement;") ∈ lw_all := lw_g (lw_at lw_m5 231 rfl) rfl
theorem q1286 : (Jvm.Cond.lays "SignalWaves$Wrong" "java/lang/Throwable" "suppressedExceptions" "Ljava/util/List;") ∈ lw_all := lw_g (lw_at lw_m5 233 rfl) rfl
theorem q1288 : (Jvm.Cond.lays "SignalWaves$Wrong" "java/lang/Throwable" "detailMessage" "Ljava/lang/String;") ∈ lw_all := lw_g (lw_at lw_m5 235 rfl) rfl
theorem q1290 : (Jvm.Cond.lays "SignalWaves$Wrong" "java/lang/Throwable" "backtrace" "Ljava/lang/Object;") ∈ lw_all := lw_g (lw_at lw_m5 237 rfl) rfl
theorem q1311 : (Jvm.Cond.instanceMethod ({ cls := "SignalWaves$Wrong", name := "<init>", desc := "(I)V" } : Jvm.MethodName)) ∈ lw_all := lw_g (lw_at lw_m6 18 rfl) rfl
theorem q1312 : (Jvm.Cond.code ({ cls := "SignalWaves$Wrong", name := "<init>", desc := "(I)V" } : Jvm.MethodName) prog_17_method_1_code (2 : Nat) (Option.none : Option Jvm.ClassFile.FieldType)) ∈ lw_all := lw_g (lw_at lw_m6 19 rfl) rfl
theorem q1313 : (Jvm.Cond.stringRef "SignalWaves$Wrong" (1 : Nat) "a token that cannot stand here") ∈ lw_tbl := lw_at lw_m6 20 rfl
theorem q1314 : (Jvm.Cond.methodLink "SignalWaves$Wrong" (3 : Nat) ({ cls := "java/lang/RuntimeException", name := "<init>", desc := "(Ljava/lang/String;)V" } : Jvm.MethodName)) ∈ lw_all := lw_g (lw_at lw_m6 21 rfl) rfl
theorem q1323 : (Jvm.Cond.fieldLink "SignalWaves$Wrong" (9 : Nat) "SignalWaves$Wrong" "at" "I") ∈ lw_all := lw_g (lw_at lw_m6 30 rfl) rfl
theorem q1330 : (Jvm.Cond.laysFinal "SignalWaves$Wrong" "SignalWaves$Wrong" "at" "I") ∈ lw_all := lw_g (lw_at lw_m6 37 rfl) rfl
theorem q1331 : (Jvm.Cond.soleField "SignalWaves$Wrong" "at") ∈ lw_all := lw_g (lw_at lw_m6 38 rfl) rfl
theorem q1336 : (Jvm.Cond.lays "SignalWaves$Wrong" "java/lang/Throwable" "depth" "I") ∈ lw_all := lw_g (lw_at lw_m6 43 rfl) rfl
theorem q1339 : (Jvm.Cond.superclass "SignalWaves$Wrong" "java/lang/RuntimeException") ∈ lw_all := lw_g (lw_at lw_m6 46 rfl) rfl
theorem q1441 : (Jvm.Cond.selects "SignalWaves$Wrong" ({ cls := "java/lang/Object", name := "getClass", desc := "()Ljava/lang/Class;" } : Jvm.MethodName) ({ cls := "java/lang/Object", name := "getClass", desc := "()Ljava/lang/Class;" } : Jvm.MethodName)) ∈ lw_all := lw_g (lw_at lw_m6 148 rfl) rfl
theorem q1686 : (Jvm.Cond.selects "SignalWaves$Wrong" ({ cls := "java/lang/Object", name := "equals", desc := "(Ljava/lang/Object;)Z" } : Jvm.MethodName) ({ cls := "java/lang/Object", name := "equals", desc := "(Ljava/lang/Object;)Z" } : Jvm.MethodName)) ∈ lw_all := lw_g (lw_at lw_m7 153 rfl) rfl
theorem q3120 : (Jvm.Cond.castable "SignalWaves$Wrong" "java/lang/Object") ∈ lw_tbl := lw_at lw_m13 147 rfl
theorem in_X9 : ∀ w ∈ wsX90, w ∈ lw_all := lw_in wsX90 [1282, 1284, 1286, 1288, 1290, 1336, 1330] (by decide +kernel) (by decide +kernel)

/-! SignalWaves$Node -/
set_option maxRecDepth 100000
def RX10 : String := "SignalWaves$Node"
def TX10 : u_T := fun k => match k with
  | 0 => ("SignalWaves$Named", "number", "I", true)
  | 1 => ("SignalWaves$Named", "scope", "LSignalWaves$Scope;", true)
  | 2 => ("SignalWaves$Named", "name", "I", true)
  | 3 => ("SignalWaves$Node", "kind", "I", true)
  | 4 => ("SignalWaves$Node", "bits", "I", true)
  | 5 => ("SignalWaves$Node", "of", "LSignalWaves$Node;", true)
  | _ => ("SignalWaves$Node", "by", "LSignalWaves$Expr;", true)
def tyX10 : Nat → FieldType := fun k => match k with
  | 0 => .int
  | 1 => .object "SignalWaves$Scope"
  | 2 => .int
  | 3 => .int
  | 4 => .int
  | 5 => .object "SignalWaves$Node"
  | _ => .object "SignalWaves$Expr"
abbrev wsX100 : List Cond := u_ws RX10 TX10 7
theorem nmX10 : ∀ a, a < 7 → ∀ b, b < 7 → a ≠ b → (TX10 a).2.1 ≠ (TX10 b).2.1 := by decide +kernel
theorem tyX10_ok : ∀ k, k < 7 → parseFieldDescriptor (TX10 k).2.2.1 = some (tyX10 k) := by decide +kernel
abbrev cX10_wire : ByteArray := prog_9_method_2_code
def yX10_wire : MethodName := ⟨RX10, "wire", "(ILSignalWaves$Scope;II)LSignalWaves$Node;"⟩
def dkwX10_wire_0 : List UInt8 := [187, 0, 10, 89, 26, 43, 28, 3, 29, 1, 1, 183, 0, 26, 176]
abbrev dktX10_wire_0 : List UInt8 := dkwX10_wire_0 ++ []
theorem dksX10_wire_0 : cX10_wire.data.toList.drop 0 = dktX10_wire_0 := by decide +kernel
theorem dX10_wire_0 : decode cX10_wire 0 = .ok (.new 10, 3) := dk_187 0 10 (dk_at dksX10_wire_0 0 rfl rfl)
theorem dX10_wire_3 : decode cX10_wire 3 = .ok (.dup, 1) := dk_89 (dk_at dksX10_wire_0 3 rfl rfl)
theorem dX10_wire_4 : decode cX10_wire 4 = .ok (.iload_n 0, 1) := dk_26 (dk_at dksX10_wire_0 4 rfl rfl)
theorem dX10_wire_5 : decode cX10_wire 5 = .ok (.aload_n 1, 1) := dk_43 (dk_at dksX10_wire_0 5 rfl rfl)
theorem dX10_wire_6 : decode cX10_wire 6 = .ok (.iload_n 2, 1) := dk_28 (dk_at dksX10_wire_0 6 rfl rfl)
theorem dX10_wire_7 : decode cX10_wire 7 = .ok (.iconst 0, 1) := dk_3 (dk_at dksX10_wire_0 7 rfl rfl)
theorem dX10_wire_8 : decode cX10_wire 8 = .ok (.iload_n 3, 1) := dk_29 (dk_at dksX10_wire_0 8 rfl rfl)
theorem dX10_wire_9 : decode cX10_wire 9 = .ok (.aconst_null, 1) := dk_1 (dk_at dksX10_wire_0 9 rfl rfl)
theorem dX10_wire_10 : decode cX10_wire 10 = .ok (.aconst_null, 1) := dk_1 (dk_at dksX10_wire_0 10 rfl rfl)
theorem dX10_wire_11 : decode cX10_wire 11 = .ok (.invokespecial 26, 3) := dk_183 0 26 (dk_at dksX10_wire_0 11 rfl rfl)
theorem dX10_wire_14 : decode cX10_wire 14 = .ok (.areturn, 1) := dk_176 (dk_at dksX10_wire_0 14 rfl rfl)
abbrev cX10_init : ByteArray := prog_9_method_1_code
def yX10_init : MethodName := ⟨RX10, "<init>", "(ILSignalWaves$Scope;IIILSignalWaves$Node;LSignalWaves$Expr;)V"⟩
def dkwX10_init_1 : List UInt8 := [181, 0, 18, 42, 25, 7, 181, 0, 22, 177]
abbrev dktX10_init_1 : List UInt8 := dkwX10_init_1 ++ []
def dkwX10_init_0 : List UInt8 := [42, 27, 44, 29, 183, 0, 3, 42, 21, 4, 181, 0, 9, 42, 21, 5, 181, 0, 15, 42, 25, 6]
abbrev dktX10_init_0 : List UInt8 := dkwX10_init_0 ++ dktX10_init_1
theorem dksX10_init_0 : cX10_init.data.toList.drop 0 = dktX10_init_0 := by decide +kernel
theorem dksX10_init_1 : cX10_init.data.toList.drop 22 = dktX10_init_1 := dk_seg dksX10_init_0 22 rfl rfl
theorem dX10_init_0 : decode cX10_init 0 = .ok (.aload_n 0, 1) := dk_42 (dk_at dksX10_init_0 0 rfl rfl)
theorem dX10_init_1 : decode cX10_init 1 = .ok (.iload_n 1, 1) := dk_27 (dk_at dksX10_init_0 1 rfl rfl)
theorem dX10_init_2 : decode cX10_init 2 = .ok (.aload_n 2, 1) := dk_44 (dk_at dksX10_init_0 2 rfl rfl)
theorem dX10_init_3 : decode cX10_init 3 = .ok (.iload_n 3, 1) := dk_29 (dk_at dksX10_init_0 3 rfl rfl)
theorem dX10_init_4 : decode cX10_init 4 = .ok (.invokespecial 3, 3) := dk_183 0 3 (dk_at dksX10_init_0 4 rfl rfl)
theorem dX10_init_7 : decode cX10_init 7 = .ok (.aload_n 0, 1) := dk_42 (dk_at dksX10_init_0 7 rfl rfl)
theorem dX10_init_8 : decode cX10_init 8 = .ok (.iload 4, 2) := dk_21 4 (dk_at dksX10_init_0 8 rfl rfl)
theorem dX10_init_10 : decode cX10_init 10 = .ok (.putfield 9, 3) := dk_181 0 9 (dk_at dksX10_init_0 10 rfl rfl)
theorem dX10_init_13 : decode cX10_init 13 = .ok (.aload_n 0, 1) := dk_42 (dk_at dksX10_init_0 13 rfl rfl)
theorem dX10_init_14 : decode cX10_init 14 = .ok (.iload 5, 2) := dk_21 5 (dk_at dksX10_init_0 14 rfl rfl)
theorem dX10_init_16 : decode cX10_init 16 = .ok (.putfield 15, 3) := dk_181 0 15 (dk_at dksX10_init_0 16 rfl rfl)
theorem dX10_init_19 : decode cX10_init 19 = .ok (.aload_n 0, 1) := dk_42 (dk_at dksX10_init_0 19 rfl rfl)
theorem dX10_init_20 : decode cX10_init 20 = .ok (.aload 6, 2) := dk_25 6 (dk_at dksX10_init_0 20 rfl rfl)
theorem dX10_init_22 : decode cX10_init 22 = .ok (.putfield 18, 3) := dk_181 0 18 (dk_at dksX10_init_1 0 rfl rfl)
theorem dX10_init_25 : decode cX10_init 25 = .ok (.aload_n 0, 1) := dk_42 (dk_at dksX10_init_1 3 rfl rfl)
theorem dX10_init_26 : decode cX10_init 26 = .ok (.aload 7, 2) := dk_25 7 (dk_at dksX10_init_1 4 rfl rfl)
theorem dX10_init_28 : decode cX10_init 28 = .ok (.putfield 22, 3) := dk_181 0 22 (dk_at dksX10_init_1 6 rfl rfl)
theorem dX10_init_31 : decode cX10_init 31 = .ok (.return_, 1) := dk_177 (dk_at dksX10_init_1 9 rfl rfl)
abbrev cX10_alias : ByteArray := prog_9_method_3_code
def yX10_alias : MethodName := ⟨RX10, "alias", "(ILSignalWaves$Scope;ILSignalWaves$Node;)LSignalWaves$Node;"⟩
def dkwX10_alias_0 : List UInt8 := [187, 0, 10, 89, 26, 43, 28, 4, 16, 247, 45, 187, 0, 29, 89, 45, 183, 0, 31, 183, 0, 26, 176]
abbrev dktX10_alias_0 : List UInt8 := dkwX10_alias_0 ++ []
theorem dksX10_alias_0 : cX10_alias.data.toList.drop 0 = dktX10_alias_0 := by decide +kernel
theorem dX10_alias_0 : decode cX10_alias 0 = .ok (.new 10, 3) := dk_187 0 10 (dk_at dksX10_alias_0 0 rfl rfl)
theorem dX10_alias_3 : decode cX10_alias 3 = .ok (.dup, 1) := dk_89 (dk_at dksX10_alias_0 3 rfl rfl)
theorem dX10_alias_4 : decode cX10_alias 4 = .ok (.iload_n 0, 1) := dk_26 (dk_at dksX10_alias_0 4 rfl rfl)
theorem dX10_alias_5 : decode cX10_alias 5 = .ok (.aload_n 1, 1) := dk_43 (dk_at dksX10_alias_0 5 rfl rfl)
theorem dX10_alias_6 : decode cX10_alias 6 = .ok (.iload_n 2, 1) := dk_28 (dk_at dksX10_alias_0 6 rfl rfl)
theorem dX10_alias_7 : decode cX10_alias 7 = .ok (.iconst 1, 1) := dk_4 (dk_at dksX10_alias_0 7 rfl rfl)
theorem dX10_alias_8 : decode cX10_alias 8 = .ok (.bipush (-9), 2) := dk_16 247 (dk_at dksX10_alias_0 8 rfl rfl)
theorem dX10_alias_10 : decode cX10_alias 10 = .ok (.aload_n 3, 1) := dk_45 (dk_at dksX10_alias_0 10 rfl rfl)
theorem dX10_alias_11 : decode cX10_alias 11 = .ok (.new 29, 3) := dk_187 0 29 (dk_at dksX10_alias_0 11 rfl rfl)
theorem dX10_alias_14 : decode cX10_alias 14 = .ok (.dup, 1) := dk_89 (dk_at dksX10_alias_0 14 rfl rfl)
theorem dX10_alias_15 : decode cX10_alias 15 = .ok (.aload_n 3, 1) := dk_45 (dk_at dksX10_alias_0 15 rfl rfl)
theorem dX10_alias_16 : decode cX10_alias 16 = .ok (.invokespecial 31, 3) := dk_183 0 31 (dk_at dksX10_alias_0 16 rfl rfl)
theorem dX10_alias_19 : decode cX10_alias 19 = .ok (.invokespecial 26, 3) := dk_183 0 26 (dk_at dksX10_alias_0 19 rfl rfl)
theorem dX10_alias_22 : decode cX10_alias 22 = .ok (.areturn, 1) := dk_176 (dk_at dksX10_alias_0 22 rfl rfl)
abbrev cX10_derived : ByteArray := prog_9_method_4_code
def yX10_derived : MethodName := ⟨RX10, "derived", "(ILSignalWaves$Scope;ILSignalWaves$Expr;)LSignalWaves$Node;"⟩
def dkwX10_derived_0 : List UInt8 := [187, 0, 10, 89, 26, 43, 28, 5, 16, 247, 1, 45, 183, 0, 26, 176]
abbrev dktX10_derived_0 : List UInt8 := dkwX10_derived_0 ++ []
theorem dksX10_derived_0 : cX10_derived.data.toList.drop 0 = dktX10_derived_0 := by decide +kernel
theorem dX10_derived_0 : decode cX10_derived 0 = .ok (.new 10, 3) := dk_187 0 10 (dk_at dksX10_derived_0 0 rfl rfl)
theorem dX10_derived_3 : decode cX10_derived 3 = .ok (.dup, 1) := dk_89 (dk_at dksX10_derived_0 3 rfl rfl)
theorem dX10_derived_4 : decode cX10_derived 4 = .ok (.iload_n 0, 1) := dk_26 (dk_at dksX10_derived_0 4 rfl rfl)
theorem dX10_derived_5 : decode cX10_derived 5 = .ok (.aload_n 1, 1) := dk_43 (dk_at dksX10_derived_0 5 rfl rfl)
theorem dX10_derived_6 : decode cX10_derived 6 = .ok (.iload_n 2, 1) := dk_28 (dk_at dksX10_derived_0 6 rfl rfl)
theorem dX10_derived_7 : decode cX10_derived 7 = .ok (.iconst 2, 1) := dk_5 (dk_at dksX10_derived_0 7 rfl rfl)
theorem dX10_derived_8 : decode cX10_derived 8 = .ok (.bipush (-9), 2) := dk_16 247 (dk_at dksX10_derived_0 8 rfl rfl)
theorem dX10_derived_10 : decode cX10_derived 10 = .ok (.aconst_null, 1) := dk_1 (dk_at dksX10_derived_0 10 rfl rfl)
theorem dX10_derived_11 : decode cX10_derived 11 = .ok (.aload_n 3, 1) := dk_45 (dk_at dksX10_derived_0 11 rfl rfl)
theorem dX10_derived_12 : decode cX10_derived 12 = .ok (.invokespecial 26, 3) := dk_183 0 26 (dk_at dksX10_derived_0 12 rfl rfl)
theorem dX10_derived_15 : decode cX10_derived 15 = .ok (.areturn, 1) := dk_176 (dk_at dksX10_derived_0 15 rfl rfl)
abbrev cX10_listed : ByteArray := prog_9_method_5_code
def yX10_listed : MethodName := ⟨RX10, "listed", "()I"⟩
theorem dX10_listed_0 : decode cX10_listed 0 = .ok (.aload_n 0, 1) := by decide +kernel
theorem dX10_listed_1 : decode cX10_listed 1 = .ok (.getfield 34, 3) := by decide +kernel
theorem dX10_listed_4 : decode cX10_listed 4 = .ok (.ireturn, 1) := by decide +kernel
theorem q138 : (Jvm.Cond.initialized "SignalWaves$Node") ∈ lw_all := lw_g (lw_at lw_m1 45 rfl) rfl
theorem q223 : (Jvm.Cond.sameField "SignalWaves$Node" "SignalWaves$Named" "number" "I") ∈ lw_all := lw_g (lw_at lw_m1 130 rfl) rfl
theorem q226 : (Jvm.Cond.fieldLink "SignalWaves$Node" (34 : Nat) "SignalWaves$Node" "number" "I") ∈ lw_all := lw_g (lw_at lw_m1 133 rfl) rfl
theorem q232 : (Jvm.Cond.sameField "SignalWaves$Node" "SignalWaves$Named" "scope" "LSignalWaves$Scope;") ∈ lw_all := lw_g (lw_at lw_m1 139 rfl) rfl
theorem q237 : (Jvm.Cond.sameField "SignalWaves$Node" "SignalWaves$Named" "name" "I") ∈ lw_all := lw_g (lw_at lw_m1 144 rfl) rfl
theorem q1433 : (Jvm.Cond.selects "SignalWaves$Node" ({ cls := "java/lang/Object", name := "getClass", desc := "()Ljava/lang/Class;" } : Jvm.MethodName) ({ cls := "java/lang/Object", name := "getClass", desc := "()Ljava/lang/Class;" } : Jvm.MethodName)) ∈ lw_all := lw_g (lw_at lw_m6 140 rfl) rfl
theorem q1518 : (Jvm.Cond.static ({ cls := "SignalWaves$Node", name := "wire", desc := "(ILSignalWaves$Scope;II)LSignalWaves$Node;" } : Jvm.MethodName)) ∈ lw_all := lw_g (lw_at lw_m6 225 rfl) rfl
theorem q1519 : (Jvm.Cond.code ({ cls := "SignalWaves$Node", name := "wire", desc := "(ILSignalWaves$Scope;II)LSignalWaves$Node;" } : Jvm.MethodName) prog_9_method_2_code (4 : Nat) (Option.some (Jvm.ClassFile.FieldType.object "SignalWaves$Node"))) ∈ lw_all := lw_g (lw_at lw_m6 226 rfl) rfl
theorem q1520 : (Jvm.Cond.classLink "SignalWaves$Node" (10 : Nat) "SignalWaves$Node") ∈ lw_all := lw_g (lw_at lw_m6 227 rfl) rfl
theorem q1521 : (Jvm.Cond.instantiable "SignalWaves$Node" (7 : Nat)) ∈ lw_all := lw_g (lw_at lw_m6 228 rfl) rfl
theorem q1522 : (Jvm.Cond.methodLink "SignalWaves$Node" (26 : Nat) ({ cls := "SignalWaves$Node", name := "<init>", desc := "(ILSignalWaves$Scope;IIILSignalWaves$Node;LSignalWaves$Expr;)V" } : Jvm.MethodName)) ∈ lw_all := lw_g (lw_at lw_m6 229 rfl) rfl
theorem q1523 : (Jvm.Cond.instanceMethod ({ cls := "SignalWaves$Node", name := "<init>", desc := "(ILSignalWaves$Scope;IIILSignalWaves$Node;LSignalWaves$Expr;)V" } : Jvm.MethodName)) ∈ lw_all := lw_g (lw_at lw_m6 230 rfl) rfl
theorem q1524 : (Jvm.Cond.code ({ cls := "SignalWaves$Node", name := "<init>", desc := "(ILSignalWaves$Scope;IIILSignalWaves$Node;LSignalWaves$Expr;)V" } : Jvm.MethodName) prog_9_method_1_code (8 : Nat) (Option.none : Option Jvm.ClassFile.FieldType)) ∈ lw_all := lw_g (lw_at lw_m6 231 rfl) rfl
theorem q1525 : (Jvm.Cond.methodLink "SignalWaves$Node" (3 : Nat) ({ cls := "SignalWaves$Named", name := "<init>", desc := "(ILSignalWaves$Scope;I)V" } : Jvm.MethodName)) ∈ lw_all := lw_g (lw_at lw_m6 232 rfl) rfl
theorem q1526 : (Jvm.Cond.fieldLink "SignalWaves$Node" (9 : Nat) "SignalWaves$Node" "kind" "I") ∈ lw_all := lw_g (lw_at lw_m6 233 rfl) rfl
theorem q1529 : (Jvm.Cond.fieldLink "SignalWaves$Node" (15 : Nat) "SignalWaves$Node" "bits" "I") ∈ lw_all := lw_g (lw_at lw_m6 236 rfl) rfl
theorem q1531 : (Jvm.Cond.fieldLink "SignalWaves$Node" (18 : Nat) "SignalWaves$Node" "of" "LSignalWaves$Node;") ∈ lw_all := lw_g (lw_at lw_m6 238 rfl) rfl
theorem q1533 : (Jvm.Cond.fieldLink "SignalWaves$Node" (22 : Nat) "SignalWaves$Node" "by" "LSignalWaves$Expr;") ∈ lw_all := lw_g (lw_at lw_m7 0 rfl) rfl
theorem q1535 : (Jvm.Cond.laysFinal "SignalWaves$Node" "SignalWaves$Node" "kind" "I") ∈ lw_all := lw_g (lw_at lw_m7 2 rfl) rfl
theorem q1536 : (Jvm.Cond.soleField "SignalWaves$Node" "kind") ∈ lw_all := lw_g (lw_at lw_m7 3 rfl) rfl
theorem q1537 : (Jvm.Cond.laysFinal "SignalWaves$Node" "SignalWaves$Node" "bits" "I") ∈ lw_all := lw_g (lw_at lw_m7 4 rfl) rfl
theorem q1538 : (Jvm.Cond.soleField "SignalWaves$Node" "bits") ∈ lw_all := lw_g (lw_at lw_m7 5 rfl) rfl
theorem q1539 : (Jvm.Cond.laysFinal "SignalWaves$Node" "SignalWaves$Node" "of" "LSignalWaves$Node;") ∈ lw_all := lw_g (lw_at lw_m7 6 rfl) rfl
theorem q1540 : (Jvm.Cond.soleField "SignalWaves$Node" "of") ∈ lw_all := lw_g (lw_at lw_m7 7 rfl) rfl
theorem q1541 : (Jvm.Cond.laysFinal "SignalWaves$Node" "SignalWaves$Node" "by" "LSignalWaves$Expr;") ∈ lw_all := lw_g (lw_at lw_m7 8 rfl) rfl
theorem q1542 : (Jvm.Cond.soleField "SignalWaves$Node" "by") ∈ lw_all := lw_g (lw_at lw_m7 9 rfl) rfl
theorem q1543 : (Jvm.Cond.laysFinal "SignalWaves$Node" "SignalWaves$Named" "number" "I") ∈ lw_all := lw_g (lw_at lw_m7 10 rfl) rfl
theorem q1544 : (Jvm.Cond.laysFinal "SignalWaves$Node" "SignalWaves$Named" "scope" "LSignalWaves$Scope;") ∈ lw_all := lw_g (lw_at lw_m7 11 rfl) rfl
theorem q1545 : (Jvm.Cond.laysFinal "SignalWaves$Node" "SignalWaves$Named" "name" "I") ∈ lw_all := lw_g (lw_at lw_m7 12 rfl) rfl
theorem q1546 : (Jvm.Cond.superclass "SignalWaves$Node" "SignalWaves$Named") ∈ lw_all := lw_g (lw_at lw_m7 13 rfl) rfl
theorem q1553 : (Jvm.Cond.static ({ cls := "SignalWaves$Node", name := "alias", desc := "(ILSignalWaves$Scope;ILSignalWaves$Node;)LSignalWaves$Node;" } : Jvm.MethodName)) ∈ lw_all := lw_g (lw_at lw_m7 20 rfl) rfl
theorem q1554 : (Jvm.Cond.code ({ cls := "SignalWaves$Node", name := "alias", desc := "(ILSignalWaves$Scope;ILSignalWaves$Node;)LSignalWaves$Node;" } : Jvm.MethodName) prog_9_method_3_code (4 : Nat) (Option.some (Jvm.ClassFile.FieldType.object "SignalWaves$Node"))) ∈ lw_all := lw_g (lw_at lw_m7 21 rfl) rfl
theorem q1555 : (Jvm.Cond.classLink "SignalWaves$Node" (29 : Nat) "SignalWaves$Of") ∈ lw_all := lw_g (lw_at lw_m7 22 rfl) rfl
theorem q1557 : (Jvm.Cond.methodLink "SignalWaves$Node" (31 : Nat) ({ cls := "SignalWaves$Of", name := "<init>", desc := "(LSignalWaves$Node;)V" } : Jvm.MethodName)) ∈ lw_all := lw_g (lw_at lw_m7 24 rfl) rfl
theorem q1615 : (Jvm.Cond.static ({ cls := "SignalWaves$Node", name := "derived", desc := "(ILSignalWaves$Scope;ILSignalWaves$Expr;)LSignalWaves$Node;" } : Jvm.MethodName)) ∈ lw_all := lw_g (lw_at lw_m7 82 rfl) rfl
theorem q1616 : (Jvm.Cond.code ({ cls := "SignalWaves$Node", name := "derived", desc := "(ILSignalWaves$Scope;ILSignalWaves$Expr;)LSignalWaves$Node;" } : Jvm.MethodName) prog_9_method_4_code (4 : Nat) (Option.some (Jvm.ClassFile.FieldType.object "SignalWaves$Node"))) ∈ lw_all := lw_g (lw_at lw_m7 83 rfl) rfl
theorem q1635 : (Jvm.Cond.sameMethod "SignalWaves$Node" "SignalWaves$Named" "names" "()Ljava/util/List;") ∈ lw_all := lw_g (lw_at lw_m7 102 rfl) rfl
theorem q1637 : (Jvm.Cond.selects "SignalWaves$Node" ({ cls := "SignalWaves$Node", name := "names", desc := "()Ljava/util/List;" } : Jvm.MethodName) ({ cls := "SignalWaves$Named", name := "names", desc := "()Ljava/util/List;" } : Jvm.MethodName)) ∈ lw_all := lw_g (lw_at lw_m7 104 rfl) rfl
theorem q1678 : (Jvm.Cond.selects "SignalWaves$Node" ({ cls := "java/lang/Object", name := "equals", desc := "(Ljava/lang/Object;)Z" } : Jvm.MethodName) ({ cls := "java/lang/Object", name := "equals", desc := "(Ljava/lang/Object;)Z" } : Jvm.MethodName)) ∈ lw_all := lw_g (lw_at lw_m7 145 rfl) rfl
theorem q1959 : (Jvm.Cond.selects "SignalWaves$Node" ({ cls := "SignalWaves$Named", name := "listed", desc := "()I" } : Jvm.MethodName) ({ cls := "SignalWaves$Node", name := "listed", desc := "()I" } : Jvm.MethodName)) ∈ lw_all := lw_g (lw_at lw_m8 186 rfl) rfl
theorem q1960 : (Jvm.Cond.instanceMethod ({ cls := "SignalWaves$Node", name := "listed", desc := "()I" } : Jvm.MethodName)) ∈ lw_all := lw_g (lw_at lw_m8 187 rfl) rfl
theorem q1961 : (Jvm.Cond.code ({ cls := "SignalWaves$Node", name := "listed", desc := "()I" } : Jvm.MethodName) prog_9_method_5_code (1 : Nat) (Option.some Jvm.ClassFile.FieldType.int)) ∈ lw_all := lw_g (lw_at lw_m8 188 rfl) rfl
theorem q3104 : (Jvm.Cond.castable "SignalWaves$Node" "SignalWaves$Named") ∈ lw_tbl := lw_at lw_m13 131 rfl
theorem q3124 : (Jvm.Cond.castable "SignalWaves$Node" "java/lang/Object") ∈ lw_tbl := lw_at lw_m13 151 rfl
theorem in_X10 : ∀ w ∈ wsX100, w ∈ lw_all := lw_in wsX100 [1543, 1544, 1545, 1535, 1537, 1539, 1541] (by decide +kernel) (by decide +kernel)

/-! SignalWaves$Expr -/
set_option maxRecDepth 100000
def RX11 : String := "SignalWaves$Expr"
abbrev cX11_init : ByteArray := prog_7_method_1_code
def yX11_init : MethodName := ⟨RX11, "<init>", "()V"⟩
theorem dX11_init_0 : decode cX11_init 0 = .ok (.aload_n 0, 1) := by decide +kernel
theorem dX11_init_1 : decode cX11_init 1 = .ok (.invokespecial 1, 3) := by decide +kernel
theorem dX11_init_4 : decode cX11_init 4 = .ok (.return_, 1) := by decide +kernel
theorem q139 : (Jvm.Cond.initialized "SignalWaves$Expr") ∈ lw_all := lw_g (lw_at lw_m1 46 rfl) rfl
theorem q1561 : (Jvm.Cond.instanceMethod ({ cls := "SignalWaves$Expr", name := "<init>", desc := "()V" } : Jvm.MethodName)) ∈ lw_all := lw_g (lw_at lw_m7 28 rfl) rfl
theorem q1562 : (Jvm.Cond.code ({ cls := "SignalWaves$Expr", name := "<init>", desc := "()V" } : Jvm.MethodName) prog_7_method_1_code (1 : Nat) (Option.none : Option Jvm.ClassFile.FieldType)) ∈ lw_all := lw_g (lw_at lw_m7 29 rfl) rfl
theorem q1563 : (Jvm.Cond.methodLink "SignalWaves$Expr" (1 : Nat) ({ cls := "java/lang/Object", name := "<init>", desc := "()V" } : Jvm.MethodName)) ∈ lw_all := lw_g (lw_at lw_m7 30 rfl) rfl
theorem q1761 : (Jvm.Cond.declares ({ cls := "SignalWaves$Expr", name := "worked", desc := "([I)I" } : Jvm.MethodName)) ∈ lw_tbl := lw_at lw_m7 228 rfl
theorem q1762 : (Jvm.Cond.sameMethod "SignalWaves$Expr" "SignalWaves$Expr" "worked" "([I)I") ∈ lw_all := lw_g (lw_at lw_m7 229 rfl) rfl

/-! SignalWaves$Of -/
set_option maxRecDepth 100000
def RX12 : String := "SignalWaves$Of"
def TX12 : u_T := fun k => match k with
  | _ => ("SignalWaves$Of", "node", "LSignalWaves$Node;", true)
def tyX12 : Nat → FieldType := fun k => match k with
  | _ => .object "SignalWaves$Node"
abbrev wsX120 : List Cond := u_ws RX12 TX12 1
theorem nmX12 : ∀ a, a < 1 → ∀ b, b < 1 → a ≠ b → (TX12 a).2.1 ≠ (TX12 b).2.1 := by decide +kernel
theorem tyX12_ok : ∀ k, k < 1 → parseFieldDescriptor (TX12 k).2.2.1 = some (tyX12 k) := by decide +kernel
abbrev cX12_init : ByteArray := prog_11_method_1_code
def yX12_init : MethodName := ⟨RX12, "<init>", "(LSignalWaves$Node;)V"⟩
def dkwX12_init_0 : List UInt8 := [42, 183, 0, 1, 42, 43, 181, 0, 7, 177]
abbrev dktX12_init_0 : List UInt8 := dkwX12_init_0 ++ []
theorem dksX12_init_0 : cX12_init.data.toList.drop 0 = dktX12_init_0 := by decide +kernel
theorem dX12_init_0 : decode cX12_init 0 = .ok (.aload_n 0, 1) := dk_42 (dk_at dksX12_init_0 0 rfl rfl)
theorem dX12_init_1 : decode cX12_init 1 = .ok (.invokespecial 1, 3) := dk_183 0 1 (dk_at dksX12_init_0 1 rfl rfl)
theorem dX12_init_4 : decode cX12_init 4 = .ok (.aload_n 0, 1) := dk_42 (dk_at dksX12_init_0 4 rfl rfl)
theorem dX12_init_5 : decode cX12_init 5 = .ok (.aload_n 1, 1) := dk_43 (dk_at dksX12_init_0 5 rfl rfl)
theorem dX12_init_6 : decode cX12_init 6 = .ok (.putfield 7, 3) := dk_181 0 7 (dk_at dksX12_init_0 6 rfl rfl)
theorem dX12_init_9 : decode cX12_init 9 = .ok (.return_, 1) := dk_177 (dk_at dksX12_init_0 9 rfl rfl)
abbrev cX12_worked : ByteArray := prog_11_method_2_code
def yX12_worked : MethodName := ⟨RX12, "worked", "([I)I"⟩
def dkwX12_worked_0 : List UInt8 := [43, 42, 180, 0, 7, 180, 0, 13, 46, 172]
abbrev dktX12_worked_0 : List UInt8 := dkwX12_worked_0 ++ []
theorem dksX12_worked_0 : cX12_worked.data.toList.drop 0 = dktX12_worked_0 := by decide +kernel
theorem dX12_worked_0 : decode cX12_worked 0 = .ok (.aload_n 1, 1) := dk_43 (dk_at dksX12_worked_0 0 rfl rfl)
theorem dX12_worked_1 : decode cX12_worked 1 = .ok (.aload_n 0, 1) := dk_42 (dk_at dksX12_worked_0 1 rfl rfl)
theorem dX12_worked_2 : decode cX12_worked 2 = .ok (.getfield 7, 3) := dk_180 0 7 (dk_at dksX12_worked_0 2 rfl rfl)
theorem dX12_worked_5 : decode cX12_worked 5 = .ok (.getfield 13, 3) := dk_180 0 13 (dk_at dksX12_worked_0 5 rfl rfl)
theorem dX12_worked_8 : decode cX12_worked 8 = .ok (.iaload, 1) := dk_46 (dk_at dksX12_worked_0 8 rfl rfl)
theorem dX12_worked_9 : decode cX12_worked 9 = .ok (.ireturn, 1) := dk_172 (dk_at dksX12_worked_0 9 rfl rfl)
theorem q140 : (Jvm.Cond.initialized "SignalWaves$Of") ∈ lw_all := lw_g (lw_at lw_m1 47 rfl) rfl
theorem q222 : (Jvm.Cond.fieldLink "SignalWaves$Of" (13 : Nat) "SignalWaves$Node" "number" "I") ∈ lw_all := lw_g (lw_at lw_m1 129 rfl) rfl
theorem q1435 : (Jvm.Cond.selects "SignalWaves$Of" ({ cls := "java/lang/Object", name := "getClass", desc := "()Ljava/lang/Class;" } : Jvm.MethodName) ({ cls := "java/lang/Object", name := "getClass", desc := "()Ljava/lang/Class;" } : Jvm.MethodName)) ∈ lw_all := lw_g (lw_at lw_m6 142 rfl) rfl
theorem q1556 : (Jvm.Cond.instantiable "SignalWaves$Of" (1 : Nat)) ∈ lw_all := lw_g (lw_at lw_m7 23 rfl) rfl
theorem q1558 : (Jvm.Cond.instanceMethod ({ cls := "SignalWaves$Of", name := "<init>", desc := "(LSignalWaves$Node;)V" } : Jvm.MethodName)) ∈ lw_all := lw_g (lw_at lw_m7 25 rfl) rfl
theorem q1559 : (Jvm.Cond.code ({ cls := "SignalWaves$Of", name := "<init>", desc := "(LSignalWaves$Node;)V" } : Jvm.MethodName) prog_11_method_1_code (2 : Nat) (Option.none : Option Jvm.ClassFile.FieldType)) ∈ lw_all := lw_g (lw_at lw_m7 26 rfl) rfl
theorem q1560 : (Jvm.Cond.methodLinkNest "SignalWaves$Of" (1 : Nat) ({ cls := "SignalWaves$Expr", name := "<init>", desc := "()V" } : Jvm.MethodName) "SignalWaves") ∈ lw_tbl := lw_at lw_m7 27 rfl
theorem q1564 : (Jvm.Cond.fieldLink "SignalWaves$Of" (7 : Nat) "SignalWaves$Of" "node" "LSignalWaves$Node;") ∈ lw_all := lw_g (lw_at lw_m7 31 rfl) rfl
theorem q1565 : (Jvm.Cond.laysFinal "SignalWaves$Of" "SignalWaves$Of" "node" "LSignalWaves$Node;") ∈ lw_all := lw_g (lw_at lw_m7 32 rfl) rfl
theorem q1566 : (Jvm.Cond.soleField "SignalWaves$Of" "node") ∈ lw_all := lw_g (lw_at lw_m7 33 rfl) rfl
theorem q1567 : (Jvm.Cond.superclass "SignalWaves$Of" "SignalWaves$Expr") ∈ lw_all := lw_g (lw_at lw_m7 34 rfl) rfl
theorem q1680 : (Jvm.Cond.selects "SignalWaves$Of" ({ cls := "java/lang/Object", name := "equals", desc := "(Ljava/lang/Object;)Z" } : Jvm.MethodName) ({ cls := "java/lang/Object", name := "equals", desc := "(Ljava/lang/Object;)Z" } : Jvm.MethodName)) ∈ lw_all := lw_g (lw_at lw_m7 147 rfl) rfl
theorem q1770 : (Jvm.Cond.instanceMethod ({ cls := "SignalWaves$Of", name := "worked", desc := "([I)I" } : Jvm.MethodName)) ∈ lw_all := lw_g (lw_at lw_m7 237 rfl) rfl
theorem q1771 : (Jvm.Cond.code ({ cls := "SignalWaves$Of", name := "worked", desc := "([I)I" } : Jvm.MethodName) prog_11_method_2_code (2 : Nat) (Option.some Jvm.ClassFile.FieldType.int)) ∈ lw_all := lw_g (lw_at lw_m7 238 rfl) rfl
theorem q1775 : (Jvm.Cond.selects "SignalWaves$Of" ({ cls := "SignalWaves$Expr", name := "worked", desc := "([I)I" } : Jvm.MethodName) ({ cls := "SignalWaves$Of", name := "worked", desc := "([I)I" } : Jvm.MethodName)) ∈ lw_all := lw_g (lw_at lw_m8 2 rfl) rfl
theorem q3125 : (Jvm.Cond.castable "SignalWaves$Of" "java/lang/Object") ∈ lw_tbl := lw_at lw_m13 152 rfl
theorem in_X12 : ∀ w ∈ wsX120, w ∈ lw_all := lw_in wsX120 [1565] (by decide +kernel) (by decide +kernel)

/-! SignalWaves$Plain -/
set_option maxRecDepth 100000
def RX13 : String := "SignalWaves$Plain"
def TX13 : u_T := fun k => match k with
  | _ => ("SignalWaves$Plain", "value", "I", true)
def tyX13 : Nat → FieldType := fun k => match k with
  | _ => .int
abbrev wsX130 : List Cond := u_ws RX13 TX13 1
theorem nmX13 : ∀ a, a < 1 → ∀ b, b < 1 → a ≠ b → (TX13 a).2.1 ≠ (TX13 b).2.1 := by decide +kernel
theorem tyX13_ok : ∀ k, k < 1 → parseFieldDescriptor (TX13 k).2.2.1 = some (tyX13 k) := by decide +kernel
abbrev cX13_init : ByteArray := prog_12_method_1_code
def yX13_init : MethodName := ⟨RX13, "<init>", "(I)V"⟩
def dkwX13_init_0 : List UInt8 := [42, 183, 0, 1, 42, 27, 181, 0, 7, 177]
abbrev dktX13_init_0 : List UInt8 := dkwX13_init_0 ++ []
theorem dksX13_init_0 : cX13_init.data.toList.drop 0 = dktX13_init_0 := by decide +kernel
theorem dX13_init_0 : decode cX13_init 0 = .ok (.aload_n 0, 1) := dk_42 (dk_at dksX13_init_0 0 rfl rfl)
theorem dX13_init_1 : decode cX13_init 1 = .ok (.invokespecial 1, 3) := dk_183 0 1 (dk_at dksX13_init_0 1 rfl rfl)
theorem dX13_init_4 : decode cX13_init 4 = .ok (.aload_n 0, 1) := dk_42 (dk_at dksX13_init_0 4 rfl rfl)
theorem dX13_init_5 : decode cX13_init 5 = .ok (.iload_n 1, 1) := dk_27 (dk_at dksX13_init_0 5 rfl rfl)
theorem dX13_init_6 : decode cX13_init 6 = .ok (.putfield 7, 3) := dk_181 0 7 (dk_at dksX13_init_0 6 rfl rfl)
theorem dX13_init_9 : decode cX13_init 9 = .ok (.return_, 1) := dk_177 (dk_at dksX13_init_0 9 rfl rfl)
abbrev cX13_worked : ByteArray := prog_12_method_2_code
def yX13_worked : MethodName := ⟨RX13, "worked", "([I)I"⟩
theorem dX13_worked_0 : decode cX13_worked 0 = .ok (.aload_n 0, 1) := by decide +kernel
theorem dX13_worked_1 : decode cX13_worked 1 = .ok (.getfield 7, 3) := by decide +kernel
theorem dX13_worked_4 : decode cX13_worked 4 = .ok (.ireturn, 1) := by decide +kernel
theorem q141 : (Jvm.Cond.initialized "SignalWaves$Plain") ∈ lw_all := lw_g (lw_at lw_m1 48 rfl) rfl
theorem q1436 : (Jvm.Cond.selects "SignalWaves$Plain" ({ cls := "java/lang/Object", name := "getClass", desc := "()Ljava/lang/Class;" } : Jvm.MethodName) ({ cls := "java/lang/Object", name := "getClass", desc := "()Ljava/lang/Class;" } : Jvm.MethodName)) ∈ lw_all := lw_g (lw_at lw_m6 143 rfl) rfl
theorem q1577 : (Jvm.Cond.instantiable "SignalWaves$Plain" (1 : Nat)) ∈ lw_all := lw_g (lw_at lw_m7 44 rfl) rfl
theorem q1579 : (Jvm.Cond.instanceMethod ({ cls := "SignalWaves$Plain", name := "<init>", desc := "(I)V" } : Jvm.MethodName)) ∈ lw_all := lw_g (lw_at lw_m7 46 rfl) rfl
theorem q1580 : (Jvm.Cond.code ({ cls := "SignalWaves$Plain", name := "<init>", desc := "(I)V" } : Jvm.MethodName) prog_12_method_1_code (2 : Nat) (Option.none : Option Jvm.ClassFile.FieldType)) ∈ lw_all := lw_g (lw_at lw_m7 47 rfl) rfl
theorem q1581 : (Jvm.Cond.methodLinkNest "SignalWaves$Plain" (1 : Nat) ({ cls := "SignalWaves$Expr", name := "<init>", desc := "()V" } : Jvm.MethodName) "SignalWaves") ∈ lw_tbl := lw_at lw_m7 48 rfl
theorem q1582 : (Jvm.Cond.fieldLink "SignalWaves$Plain" (7 : Nat) "SignalWaves$Plain" "value" "I") ∈ lw_all := lw_g (lw_at lw_m7 49 rfl) rfl
theorem q1583 : (Jvm.Cond.laysFinal "SignalWaves$Plain" "SignalWaves$Plain" "value" "I") ∈ lw_all := lw_g (lw_at lw_m7 50 rfl) rfl
theorem q1584 : (Jvm.Cond.soleField "SignalWaves$Plain" "value") ∈ lw_all := lw_g (lw_at lw_m7 51 rfl) rfl
theorem q1585 : (Jvm.Cond.superclass "SignalWaves$Plain" "SignalWaves$Expr") ∈ lw_all := lw_g (lw_at lw_m7 52 rfl) rfl
theorem q1681 : (Jvm.Cond.selects "SignalWaves$Plain" ({ cls := "java/lang/Object", name := "equals", desc := "(Ljava/lang/Object;)Z" } : Jvm.MethodName) ({ cls := "java/lang/Object", name := "equals", desc := "(Ljava/lang/Object;)Z" } : Jvm.MethodName)) ∈ lw_all := lw_g (lw_at lw_m7 148 rfl) rfl
theorem q1772 : (Jvm.Cond.instanceMethod ({ cls := "SignalWaves$Plain", name := "worked", desc := "([I)I" } : Jvm.MethodName)) ∈ lw_all := lw_g (lw_at lw_m7 239 rfl) rfl
theorem q1773 : (Jvm.Cond.code ({ cls := "SignalWaves$Plain", name := "worked", desc := "([I)I" } : Jvm.MethodName) prog_12_method_2_code (2 : Nat) (Option.some Jvm.ClassFile.FieldType.int)) ∈ lw_all := lw_g (lw_at lw_m8 0 rfl) rfl
theorem q1776 : (Jvm.Cond.selects "SignalWaves$Plain" ({ cls := "SignalWaves$Expr", name := "worked", desc := "([I)I" } : Jvm.MethodName) ({ cls := "SignalWaves$Plain", name := "worked", desc := "([I)I" } : Jvm.MethodName)) ∈ lw_all := lw_g (lw_at lw_m8 3 rfl) rfl
theorem q3126 : (Jvm.Cond.castable "SignalWaves$Plain" "java/lang/Object") ∈ lw_tbl := lw_at lw_m13 153 rfl
theorem in_X13 : ∀ w ∈ wsX130, w ∈ lw_all := lw_in wsX130 [1583] (by decide +kernel) (by decide +kernel)

/-! SignalWaves$Not -/
set_option maxRecDepth 100000
def RX14 : String := "SignalWaves$Not"
def TX14 : u_T := fun k => match k with
  | _ => ("SignalWaves$Not", "of", "LSignalWaves$Expr;", true)
def tyX14 : Nat → FieldType := fun k => match k with
  | _ => .object "SignalWaves$Expr"
abbrev wsX140 : List Cond := u_ws RX14 TX14 1
theorem nmX14 : ∀ a, a < 1 → ∀ b, b < 1 → a ≠ b → (TX14 a).2.1 ≠ (TX14 b).2.1 := by decide +kernel
theorem tyX14_ok : ∀ k, k < 1 → parseFieldDescriptor (TX14 k).2.2.1 = some (tyX14 k) := by decide +kernel
abbrev cX14_init : ByteArray := prog_10_method_1_code
def yX14_init : MethodName := ⟨RX14, "<init>", "(LSignalWaves$Expr;)V"⟩
def dkwX14_init_0 : List UInt8 := [42, 183, 0, 3, 42, 43, 181, 0, 9, 177]
abbrev dktX14_init_0 : List UInt8 := dkwX14_init_0 ++ []
theorem dksX14_init_0 : cX14_init.data.toList.drop 0 = dktX14_init_0 := by decide +kernel
theorem dX14_init_0 : decode cX14_init 0 = .ok (.aload_n 0, 1) := dk_42 (dk_at dksX14_init_0 0 rfl rfl)
theorem dX14_init_1 : decode cX14_init 1 = .ok (.invokespecial 3, 3) := dk_183 0 3 (dk_at dksX14_init_0 1 rfl rfl)
theorem dX14_init_4 : decode cX14_init 4 = .ok (.aload_n 0, 1) := dk_42 (dk_at dksX14_init_0 4 rfl rfl)
theorem dX14_init_5 : decode cX14_init 5 = .ok (.aload_n 1, 1) := dk_43 (dk_at dksX14_init_0 5 rfl rfl)
theorem dX14_init_6 : decode cX14_init 6 = .ok (.putfield 9, 3) := dk_181 0 9 (dk_at dksX14_init_0 6 rfl rfl)
theorem dX14_init_9 : decode cX14_init 9 = .ok (.return_, 1) := dk_177 (dk_at dksX14_init_0 9 rfl rfl)
abbrev cX14_worked : ByteArray := prog_10_method_2_code
def yX14_worked : MethodName := ⟨RX14, "worked", "([I)I"⟩
def dkwX14_worked_1 : List UInt8 := [4, 167, 0, 4, 3, 172]
abbrev dktX14_worked_1 : List UInt8 := dkwX14_worked_1 ++ []
def dkwX14_worked_0 : List UInt8 := [42, 180, 0, 9, 43, 182, 0, 15, 61, 28, 16, 249, 160, 0, 8, 16, 249, 167, 0, 12, 28, 154, 0, 7]
abbrev dktX14_worked_0 : List UInt8 := dkwX14_worked_0 ++ dktX14_worked_1
theorem dksX14_worked_0 : cX14_worked.data.toList.drop 0 = dktX14_worked_0 := by decide +kernel
theorem dksX14_worked_1 : cX14_worked.data.toList.drop 24 = dktX14_worked_1 := dk_seg dksX14_worked_0 24 rfl rfl
theorem dX14_worked_0 : decode cX14_worked 0 = .ok (.aload_n 0, 1) := dk_42 (dk_at dksX14_worked_0 0 rfl rfl)
theorem dX14_worked_1 : decode cX14_worked 1 = .ok (.getfield 9, 3) := dk_180 0 9 (dk_at dksX14_worked_0 1 rfl rfl)
theorem dX14_worked_4 : decode cX14_worked 4 = .ok (.aload_n 1, 1) := dk_43 (dk_at dksX14_worked_0 4 rfl rfl)
theorem dX14_worked_5 : decode cX14_worked 5 = .ok (.invokevirtual 15, 3) := dk_182 0 15 (dk_at dksX14_worked_0 5 rfl rfl)
theorem dX14_worked_8 : decode cX14_worked 8 = .ok (.istore_n 2, 1) := dk_61 (dk_at dksX14_worked_0 8 rfl rfl)
theorem dX14_worked_9 : decode cX14_worked 9 = .ok (.iload_n 2, 1) := dk_28 (dk_at dksX14_worked_0 9 rfl rfl)
theorem dX14_worked_10 : decode cX14_worked 10 = .ok (.bipush (-7), 2) := dk_16 249 (dk_at dksX14_worked_0 10 rfl rfl)
theorem dX14_worked_12 : decode cX14_worked 12 = .ok (.if_icmp .ne 8, 3) := dk_160 0 8 (dk_at dksX14_worked_0 12 rfl rfl)
theorem dX14_worked_15 : decode cX14_worked 15 = .ok (.bipush (-7), 2) := dk_16 249 (dk_at dksX14_worked_0 15 rfl rfl)
theorem dX14_worked_17 : decode cX14_worked 17 = .ok (.goto 12, 3) := dk_167 0 12 (dk_at dksX14_worked_0 17 rfl rfl)
theorem dX14_worked_20 : decode cX14_worked 20 = .ok (.iload_n 2, 1) := dk_28 (dk_at dksX14_worked_0 20 rfl rfl)
theorem dX14_worked_21 : decode cX14_worked 21 = .ok (.ifCond .ne 7, 3) := dk_154 0 7 (dk_at dksX14_worked_0 21 rfl rfl)
theorem dX14_worked_24 : decode cX14_worked 24 = .ok (.iconst 1, 1) := dk_4 (dk_at dksX14_worked_1 0 rfl rfl)
theorem dX14_worked_25 : decode cX14_worked 25 = .ok (.goto 4, 3) := dk_167 0 4 (dk_at dksX14_worked_1 1 rfl rfl)
theorem dX14_worked_28 : decode cX14_worked 28 = .ok (.iconst 0, 1) := dk_3 (dk_at dksX14_worked_1 4 rfl rfl)
theorem dX14_worked_29 : decode cX14_worked 29 = .ok (.ireturn, 1) := dk_172 (dk_at dksX14_worked_1 5 rfl rfl)
theorem q142 : (Jvm.Cond.initialized "SignalWaves$Not") ∈ lw_all := lw_g (lw_at lw_m1 49 rfl) rfl
theorem q1434 : (Jvm.Cond.selects "SignalWaves$Not" ({ cls := "java/lang/Object", name := "getClass", desc := "()Ljava/lang/Class;" } : Jvm.MethodName) ({ cls := "java/lang/Object", name := "getClass", desc := "()Ljava/lang/Class;" } : Jvm.MethodName)) ∈ lw_all := lw_g (lw_at lw_m6 141 rfl) rfl
theorem q1587 : (Jvm.Cond.instantiable "SignalWaves$Not" (1 : Nat)) ∈ lw_all := lw_g (lw_at lw_m7 54 rfl) rfl
theorem q1589 : (Jvm.Cond.instanceMethod ({ cls := "SignalWaves$Not", name := "<init>", desc := "(LSignalWaves$Expr;)V" } : Jvm.MethodName)) ∈ lw_all := lw_g (lw_at lw_m7 56 rfl) rfl
theorem q1590 : (Jvm.Cond.code ({ cls := "SignalWaves$Not", name := "<init>", desc := "(LSignalWaves$Expr;)V" } : Jvm.MethodName) prog_10_method_1_code (2 : Nat) (Option.none : Option Jvm.ClassFile.FieldType)) ∈ lw_all := lw_g (lw_at lw_m7 57 rfl) rfl
theorem q1591 : (Jvm.Cond.methodLinkNest "SignalWaves$Not" (3 : Nat) ({ cls := "SignalWaves$Expr", name := "<init>", desc := "()V" } : Jvm.MethodName) "SignalWaves") ∈ lw_tbl := lw_at lw_m7 58 rfl
theorem q1592 : (Jvm.Cond.fieldLink "SignalWaves$Not" (9 : Nat) "SignalWaves$Not" "of" "LSignalWaves$Expr;") ∈ lw_all := lw_g (lw_at lw_m7 59 rfl) rfl
theorem q1593 : (Jvm.Cond.laysFinal "SignalWaves$Not" "SignalWaves$Not" "of" "LSignalWaves$Expr;") ∈ lw_all := lw_g (lw_at lw_m7 60 rfl) rfl
theorem q1594 : (Jvm.Cond.soleField "SignalWaves$Not" "of") ∈ lw_all := lw_g (lw_at lw_m7 61 rfl) rfl
theorem q1595 : (Jvm.Cond.superclass "SignalWaves$Not" "SignalWaves$Expr") ∈ lw_all := lw_g (lw_at lw_m7 62 rfl) rfl
theorem q1679 : (Jvm.Cond.selects "SignalWaves$Not" ({ cls := "java/lang/Object", name := "equals", desc := "(Ljava/lang/Object;)Z" } : Jvm.MethodName) ({ cls := "java/lang/Object", name := "equals", desc := "(Ljava/lang/Object;)Z" } : Jvm.MethodName)) ∈ lw_all := lw_g (lw_at lw_m7 146 rfl) rfl
theorem q1767 : (Jvm.Cond.instanceMethod ({ cls := "SignalWaves$Not", name := "worked", desc := "([I)I" } : Jvm.MethodName)) ∈ lw_all := lw_g (lw_at lw_m7 234 rfl) rfl
theorem q1768 : (Jvm.Cond.code ({ cls := "SignalWaves$Not", name := "worked", desc := "([I)I" } : Jvm.MethodName) prog_10_method_2_code (3 : Nat) (Option.some Jvm.ClassFile.FieldType.int)) ∈ lw_all := lw_g (lw_at lw_m7 235 rfl) rfl
theorem q1769 : (Jvm.Cond.methodLink "SignalWaves$Not" (15 : Nat) ({ cls := "SignalWaves$Expr", name := "worked", desc := "([I)I" } : Jvm.MethodName)) ∈ lw_all := lw_g (lw_at lw_m7 236 rfl) rfl
theorem q1774 : (Jvm.Cond.selects "SignalWaves$Not" ({ cls := "SignalWaves$Expr", name := "worked", desc := "([I)I" } : Jvm.MethodName) ({ cls := "SignalWaves$Not", name := "worked", desc := "([I)I" } : Jvm.MethodName)) ∈ lw_all := lw_g (lw_at lw_m8 1 rfl) rfl
theorem q3127 : (Jvm.Cond.castable "SignalWaves$Not" "java/lang/Object") ∈ lw_tbl := lw_at lw_m13 154 rfl
theorem in_X14 : ∀ w ∈ wsX140, w ∈ lw_all := lw_in wsX140 [1593] (by decide +kernel) (by decide +kernel)

/-! SignalWaves$Both -/
set_option maxRecDepth 100000
def RX15 : String := "SignalWaves$Both"
def TX15 : u_T := fun k => match k with
  | 0 => ("SignalWaves$Both", "sign", "I", true)
  | 1 => ("SignalWaves$Both", "left", "LSignalWaves$Expr;", true)
  | _ => ("SignalWaves$Both", "right", "LSignalWaves$Expr;", true)
def tyX15 : Nat → FieldType := fun k => match k with
  | 0 => .int
  | 1 => .object "SignalWaves$Expr"
  | _ => .object "SignalWaves$Expr"
abbrev wsX150 : List Cond := u_ws RX15 TX15 3
theorem nmX15 : ∀ a, a < 3 → ∀ b, b < 3 → a ≠ b → (TX15 a).2.1 ≠ (TX15 b).2.1 := by decide +kernel
theorem tyX15_ok : ∀ k, k < 3 → parseFieldDescriptor (TX15 k).2.2.1 = some (tyX15 k) := by decide +kernel
abbrev cX15_init : ByteArray := prog_4_method_1_code
def yX15_init : MethodName := ⟨RX15, "<init>", "(ILSignalWaves$Expr;LSignalWaves$Expr;)V"⟩
def dkwX15_init_0 : List UInt8 := [42, 183, 0, 3, 42, 27, 181, 0, 9, 42, 44, 181, 0, 15, 42, 45, 181, 0, 19, 177]
abbrev dktX15_init_0 : List UInt8 := dkwX15_init_0 ++ []
theorem dksX15_init_0 : cX15_init.data.toList.drop 0 = dktX15_init_0 := by decide +kernel
theorem dX15_init_0 : decode cX15_init 0 = .ok (.aload_n 0, 1) := dk_42 (dk_at dksX15_init_0 0 rfl rfl)
theorem dX15_init_1 : decode cX15_init 1 = .ok (.invokespecial 3, 3) := dk_183 0 3 (dk_at dksX15_init_0 1 rfl rfl)
theorem dX15_init_4 : decode cX15_init 4 = .ok (.aload_n 0, 1) := dk_42 (dk_at dksX15_init_0 4 rfl rfl)
theorem dX15_init_5 : decode cX15_init 5 = .ok (.iload_n 1, 1) := dk_27 (dk_at dksX15_init_0 5 rfl rfl)
theorem dX15_init_6 : decode cX15_init 6 = .ok (.putfield 9, 3) := dk_181 0 9 (dk_at dksX15_init_0 6 rfl rfl)
theorem dX15_init_9 : decode cX15_init 9 = .ok (.aload_n 0, 1) := dk_42 (dk_at dksX15_init_0 9 rfl rfl)
theorem dX15_init_10 : decode cX15_init 10 = .ok (.aload_n 2, 1) := dk_44 (dk_at dksX15_init_0 10 rfl rfl)
theorem dX15_init_11 : decode cX15_init 11 = .ok (.putfield 15, 3) := dk_181 0 15 (dk_at dksX15_init_0 11 rfl rfl)
theorem dX15_init_14 : decode cX15_init 14 = .ok (.aload_n 0, 1) := dk_42 (dk_at dksX15_init_0 14 rfl rfl)
theorem dX15_init_15 : decode cX15_init 15 = .ok (.aload_n 3, 1) := dk_45 (dk_at dksX15_init_0 15 rfl rfl)
theorem dX15_init_16 : decode cX15_init 16 = .ok (.putfield 19, 3) := dk_181 0 19 (dk_at dksX15_init_0 16 rfl rfl)
theorem dX15_init_19 : decode cX15_init 19 = .ok (.return_, 1) := dk_177 (dk_at dksX15_init_0 19 rfl rfl)
abbrev cX15_worked : ByteArray := prog_4_method_2_code
def yX15_worked : MethodName := ⟨RX15, "worked", "([I)I"⟩
def dkwX15_worked_5 : List UInt8 := [17, 0, 255, 126, 172]
abbrev dktX15_worked_5 : List UInt8 := dkwX15_worked_5 ++ []
def dkwX15_worked_4 : List UInt8 := [28, 29, 126, 172, 28, 29, 128, 172, 28, 29, 130, 172, 28, 29, 96, 17, 0, 255, 126, 172, 28, 29, 100]
abbrev dktX15_worked_4 : List UInt8 := dkwX15_worked_4 ++ dktX15_worked_5
def dkwX15_worked_3 : List UInt8 := [171, 0, 0, 0, 0, 0, 0, 64, 0, 0, 0, 4, 0, 0, 0, 38, 0, 0, 0, 44, 0, 0, 0, 43, 0, 0, 0, 56, 0, 0, 0, 94, 0, 0, 0, 52, 0, 0, 0, 124, 0, 0, 0, 48]
abbrev dktX15_worked_3 : List UInt8 := dkwX15_worked_3 ++ dktX15_worked_4
def dkwX15_worked_2 : List UInt8 := [160, 0, 6, 16, 249, 172, 42, 180, 0, 9]
abbrev dktX15_worked_2 : List UInt8 := dkwX15_worked_2 ++ dktX15_worked_3
def dkwX15_worked_1 : List UInt8 := [160, 0, 13, 28, 153, 0, 7, 29, 154, 0, 5, 3, 172, 28, 16, 249, 159, 0, 9, 29, 16, 249]
abbrev dktX15_worked_1 : List UInt8 := dkwX15_worked_1 ++ dktX15_worked_2
def dkwX15_worked_0 : List UInt8 := [42, 180, 0, 15, 43, 182, 0, 22, 61, 42, 180, 0, 19, 43, 182, 0, 22, 62, 42, 180, 0, 9, 16, 38]
abbrev dktX15_worked_0 : List UInt8 := dkwX15_worked_0 ++ dktX15_worked_1
theorem dksX15_worked_0 : cX15_worked.data.toList.drop 0 = dktX15_worked_0 := by decide +kernel
theorem dksX15_worked_1 : cX15_worked.data.toList.drop 24 = dktX15_worked_1 := dk_seg dksX15_worked_0 24 rfl rfl
theorem dksX15_worked_2 : cX15_worked.data.toList.drop 46 = dktX15_worked_2 := dk_seg dksX15_worked_1 22 rfl rfl
theorem dksX15_worked_3 : cX15_worked.data.toList.drop 56 = dktX15_worked_3 := dk_seg dksX15_worked_2 10 rfl rfl
theorem dksX15_worked_4 : cX15_worked.data.toList.drop 100 = dktX15_worked_4 := dk_seg dksX15_worked_3 44 rfl rfl
theorem dksX15_worked_5 : cX15_worked.data.toList.drop 123 = dktX15_worked_5 := dk_seg dksX15_worked_4 23 rfl rfl
theorem dX15_worked_0 : decode cX15_worked 0 = .ok (.aload_n 0, 1) := dk_42 (dk_at dksX15_worked_0 0 rfl rfl)
theorem dX15_worked_1 : decode cX15_worked 1 = .ok (.getfield 15, 3) := dk_180 0 15 (dk_at dksX15_worked_0 1 rfl rfl)
theorem dX15_worked_4 : decode cX15_worked 4 = .ok (.aload_n 1, 1) := dk_43 (dk_at dksX15_worked_0 4 rfl rfl)
theorem dX15_worked_5 : decode cX15_worked 5 = .ok (.invokevirtual 22, 3) := dk_182 0 22 (dk_at dksX15_worked_0 5 rfl rfl)
theorem dX15_worked_8 : decode cX15_worked 8 = .ok (.istore_n 2, 1) := dk_61 (dk_at dksX15_worked_0 8 rfl rfl)
theorem dX15_worked_9 : decode cX15_worked 9 = .ok (.aload_n 0, 1) := dk_42 (dk_at dksX15_worked_0 9 rfl rfl)
theorem dX15_worked_10 : decode cX15_worked 10 = .ok (.getfield 19, 3) := dk_180 0 19 (dk_at dksX15_worked_0 10 rfl rfl)
theorem dX15_worked_13 : decode cX15_worked 13 = .ok (.aload_n 1, 1) := dk_43 (dk_at dksX15_worked_0 13 rfl rfl)
theorem dX15_worked_14 : decode cX15_worked 14 = .ok (.invokevirtual 22, 3) := dk_182 0 22 (dk_at dksX15_worked_0 14 rfl rfl)
theorem dX15_worked_17 : decode cX15_worked 17 = .ok (.istore_n 3, 1) := dk_62 (dk_at dksX15_worked_0 17 rfl rfl)
theorem dX15_worked_18 : decode cX15_worked 18 = .ok (.aload_n 0, 1) := dk_42 (dk_at dksX15_worked_0 18 rfl rfl)
theorem dX15_worked_19 : decode cX15_worked 19 = .ok (.getfield 9, 3) := dk_180 0 9 (dk_at dksX15_worked_0 19 rfl rfl)
theorem dX15_worked_22 : decode cX15_worked 22 = .ok (.bipush 38, 2) := dk_16 38 (dk_at dksX15_worked_0 22 rfl rfl)
theorem dX15_worked_24 : decode cX15_worked 24 = .ok (.if_icmp .ne 13, 3) := dk_160 0 13 (dk_at dksX15_worked_1 0 rfl rfl)
theorem dX15_worked_27 : decode cX15_worked 27 = .ok (.iload_n 2, 1) := dk_28 (dk_at dksX15_worked_1 3 rfl rfl)
theorem dX15_worked_28 : decode cX15_worked 28 = .ok (.ifCond .eq 7, 3) := dk_153 0 7 (dk_at dksX15_worked_1 4 rfl rfl)
theorem dX15_worked_31 : decode cX15_worked 31 = .ok (.iload_n 3, 1) := dk_29 (dk_at dksX15_worked_1 7 rfl rfl)
theorem dX15_worked_32 : decode cX15_worked 32 = .ok (.ifCond .ne 5, 3) := dk_154 0 5 (dk_at dksX15_worked_1 8 rfl rfl)
theorem dX15_worked_35 : decode cX15_worked 35 = .ok (.iconst 0, 1) := dk_3 (dk_at dksX15_worked_1 11 rfl rfl)
theorem dX15_worked_36 : decode cX15_worked 36 = .ok (.ireturn, 1) := dk_172 (dk_at dksX15_worked_1 12 rfl rfl)
theorem dX15_worked_37 : decode cX15_worked 37 = .ok (.iload_n 2, 1) := dk_28 (dk_at dksX15_worked_1 13 rfl rfl)
theorem dX15_worked_38 : decode cX15_worked 38 = .ok (.bipush (-7), 2) := dk_16 249 (dk_at dksX15_worked_1 14 rfl rfl)
theorem dX15_worked_40 : decode cX15_worked 40 = .ok (.if_icmp .eq 9, 3) := dk_159 0 9 (dk_at dksX15_worked_1 16 rfl rfl)
theorem dX15_worked_43 : decode cX15_worked 43 = .ok (.iload_n 3, 1) := dk_29 (dk_at dksX15_worked_1 19 rfl rfl)
theorem dX15_worked_44 : decode cX15_worked 44 = .ok (.bipush (-7), 2) := dk_16 249 (dk_at dksX15_worked_1 20 rfl rfl)
theorem dX15_worked_46 : decode cX15_worked 46 = .ok (.if_icmp .ne 6, 3) := dk_160 0 6 (dk_at dksX15_worked_2 0 rfl rfl)
theorem dX15_worked_49 : decode cX15_worked 49 = .ok (.bipush (-7), 2) := dk_16 249 (dk_at dksX15_worked_2 3 rfl rfl)
theorem dX15_worked_51 : decode cX15_worked 51 = .ok (.ireturn, 1) := dk_172 (dk_at dksX15_worked_2 5 rfl rfl)
theorem dX15_worked_52 : decode cX15_worked 52 = .ok (.aload_n 0, 1) := dk_42 (dk_at dksX15_worked_2 6 rfl rfl)
theorem dX15_worked_53 : decode cX15_worked 53 = .ok (.getfield 9, 3) := dk_180 0 9 (dk_at dksX15_worked_2 7 rfl rfl)
theorem dX15_worked_56 : decode cX15_worked 56 = .ok (.lookupswitch 64 #[(38, 44), (43, 56), (94, 52), (124, 48)], 44) := by decide +kernel
theorem dX15_worked_100 : decode cX15_worked 100 = .ok (.iload_n 2, 1) := dk_28 (dk_at dksX15_worked_4 0 rfl rfl)
theorem dX15_worked_101 : decode cX15_worked 101 = .ok (.iload_n 3, 1) := dk_29 (dk_at dksX15_worked_4 1 rfl rfl)
theorem dX15_worked_102 : decode cX15_worked 102 = .ok (.iand, 1) := dk_126 (dk_at dksX15_worked_4 2 rfl rfl)
theorem dX15_worked_103 : decode cX15_worked 103 = .ok (.ireturn, 1) := dk_172 (dk_at dksX15_worked_4 3 rfl rfl)
theorem dX15_worked_104 : decode cX15_worked 104 = .ok (.iload_n 2, 1) := dk_28 (dk_at dksX15_worked_4 4 rfl rfl)
theorem dX15_worked_105 : decode cX15_worked 105 = .ok (.iload_n 3, 1) := dk_29 (dk_at dksX15_worked_4 5 rfl rfl)
theorem dX15_worked_106 : decode cX15_worked 106 = .ok (.ior, 1) := dk_128 (dk_at dksX15_worked_4 6 rfl rfl)
theorem dX15_worked_107 : decode cX15_worked 107 = .ok (.ireturn, 1) := dk_172 (dk_at dksX15_worked_4 7 rfl rfl)
theorem dX15_worked_108 : decode cX15_worked 108 = .ok (.iload_n 2, 1) := dk_28 (dk_at dksX15_worked_4 8 rfl rfl)
theorem dX15_worked_109 : decode cX15_worked 109 = .ok (.iload_n 3, 1) := dk_29 (dk_at dksX15_worked_4 9 rfl rfl)
theorem dX15_worked_110 : decode cX15_worked 110 = .ok (.ixor, 1) := dk_130 (dk_at dksX15_worked_4 10 rfl rfl)
theorem dX15_worked_111 : decode cX15_worked 111 = .ok (.ireturn, 1) := dk_172 (dk_at dksX15_worked_4 11 rfl rfl)
theorem dX15_worked_112 : decode cX15_worked 112 = .ok (.iload_n 2, 1) := dk_28 (dk_at dksX15_worked_4 12 rfl rfl)
theorem dX15_worked_113 : decode cX15_worked 113 = .ok (.iload_n 3, 1) := dk_29 (dk_at dksX15_worked_4 13 rfl rfl)
theorem dX15_worked_114 : decode cX15_worked 114 = .ok (.iadd, 1) := dk_96 (dk_at dksX15_worked_4 14 rfl rfl)
theorem dX15_worked_115 : decode cX15_worked 115 = .ok (.sipush 255, 3) := dk_17 0 255 (dk_at dksX15_worked_4 15 rfl rfl)
theorem dX15_worked_118 : decode cX15_worked 118 = .ok (.iand, 1) := dk_126 (dk_at dksX15_worked_4 18 rfl rfl)
theorem dX15_worked_119 : decode cX15_worked 119 = .ok (.ireturn, 1) := dk_172 (dk_at dksX15_worked_4 19 rfl rfl)
theorem dX15_worked_120 : decode cX15_worked 120 = .ok (.iload_n 2, 1) := dk_28 (dk_at dksX15_worked_4 20 rfl rfl)
theorem dX15_worked_121 : decode cX15_worked 121 = .ok (.iload_n 3, 1) := dk_29 (dk_at dksX15_worked_4 21 rfl rfl)
theorem dX15_worked_122 : decode cX15_worked 122 = .ok (.isub, 1) := dk_100 (dk_at dksX15_worked_4 22 rfl rfl)
theorem dX15_worked_123 : decode cX15_worked 123 = .ok (.sipush 255, 3) := dk_17 0 255 (dk_at dksX15_worked_5 0 rfl rfl)
theorem dX15_worked_126 : decode cX15_worked 126 = .ok (.iand, 1) := dk_126 (dk_at dksX15_worked_5 3 rfl rfl)
theorem dX15_worked_127 : decode cX15_worked 127 = .ok (.ireturn, 1) := dk_172 (dk_at dksX15_worked_5 4 rfl rfl)
theorem q143 : (Jvm.Cond.initialized "SignalWaves$Both") ∈ lw_all := lw_g (lw_at lw_m1 50 rfl) rfl
theorem q1430 : (Jvm.Cond.selects "SignalWaves$Both" ({ cls := "java/lang/Object", name := "getClass", desc := "()Ljava/lang/Class;" } : Jvm.MethodName) ({ cls := "java/lang/Object", name := "getClass", desc := "()Ljava/lang/Class;" } : Jvm.MethodName)) ∈ lw_all := lw_g (lw_at lw_m6 137 rfl) rfl
theorem q1599 : (Jvm.Cond.instantiable "SignalWaves$Both" (3 : Nat)) ∈ lw_all := lw_g (lw_at lw_m7 66 rfl) rfl
theorem q1601 : (Jvm.Cond.instanceMethod ({ cls := "SignalWaves$Both", name := "<init>", desc := "(ILSignalWaves$Expr;LSignalWaves$Expr;)V" } : Jvm.MethodName)) ∈ lw_all := lw_g (lw_at lw_m7 68 rfl) rfl
theorem q1602 : (Jvm.Cond.code ({ cls := "SignalWaves$Both", name := "<init>", desc := "(ILSignalWaves$Expr;LSignalWaves$Expr;)V" } : Jvm.MethodName) prog_4_method_1_code (4 : Nat) (Option.none : Option Jvm.ClassFile.FieldType)) ∈ lw_all := lw_g (lw_at lw_m7 69 rfl) rfl
theorem q1603 : (Jvm.Cond.methodLinkNest "SignalWaves$Both" (3 : Nat) ({ cls := "SignalWaves$Expr", name := "<init>", desc := "()V" } : Jvm.MethodName) "SignalWaves") ∈ lw_tbl := lw_at lw_m7 70 rfl
theorem q1604 : (Jvm.Cond.fieldLink "SignalWaves$Both" (9 : Nat) "SignalWaves$Both" "sign" "I") ∈ lw_all := lw_g (lw_at lw_m7 71 rfl) rfl
theorem q1605 : (Jvm.Cond.fieldLink "SignalWaves$Both" (15 : Nat) "SignalWaves$Both" "left" "LSignalWaves$Expr;") ∈ lw_all := lw_g (lw_at lw_m7 72 rfl) rfl
theorem q1606 : (Jvm.Cond.fieldLink "SignalWaves$Both" (19 : Nat) "SignalWaves$Both" "right" "LSignalWaves$Expr;") ∈ lw_all := lw_g (lw_at lw_m7 73 rfl) rfl
theorem q1607 : (Jvm.Cond.laysFinal "SignalWaves$Both" "SignalWaves$Both" "sign" "I") ∈ lw_all := lw_g (lw_at lw_m7 74 rfl) rfl
theorem q1608 : (Jvm.Cond.soleField "SignalWaves$Both" "sign") ∈ lw_all := lw_g (lw_at lw_m7 75 rfl) rfl
theorem q1609 : (Jvm.Cond.laysFinal "SignalWaves$Both" "SignalWaves$Both" "left" "LSignalWaves$Expr;") ∈ lw_all := lw_g (lw_at lw_m7 76 rfl) rfl
theorem q1610 : (Jvm.Cond.soleField "SignalWaves$Both" "left") ∈ lw_all := lw_g (lw_at lw_m7 77 rfl) rfl
theorem q1611 : (Jvm.Cond.laysFinal "SignalWaves$Both" "SignalWaves$Both" "right" "LSignalWaves$Expr;") ∈ lw_all := lw_g (lw_at lw_m7 78 rfl) rfl
theorem q1612 : (Jvm.Cond.soleField "SignalWaves$Both" "right") ∈ lw_all := lw_g (lw_at lw_m7 79 rfl) rfl
theorem q1613 : (Jvm.Cond.superclass "SignalWaves$Both" "SignalWaves$Expr") ∈ lw_all := lw_g (lw_at lw_m7 80 rfl) rfl
theorem q1675 : (Jvm.Cond.selects "SignalWaves$Both" ({ cls := "java/lang/Object", name := "equals", desc := "(Ljava/lang/Object;)Z" } : Jvm.MethodName) ({ cls := "java/lang/Object", name := "equals", desc := "(Ljava/lang/Object;)Z" } : Jvm.MethodName)) ∈ lw_all := lw_g (lw_at lw_m7 142 rfl) rfl
theorem q1763 : (Jvm.Cond.selects "SignalWaves$Both" ({ cls := "SignalWaves$Expr", name := "worked", desc := "([I)I" } : Jvm.MethodName) ({ cls := "SignalWaves$Both", name := "worked", desc := "([I)I" } : Jvm.MethodName)) ∈ lw_all := lw_g (lw_at lw_m7 230 rfl) rfl
theorem q1764 : (Jvm.Cond.instanceMethod ({ cls := "SignalWaves$Both", name := "worked", desc := "([I)I" } : Jvm.MethodName)) ∈ lw_all := lw_g (lw_at lw_m7 231 rfl) rfl
theorem q1765 : (Jvm.Cond.code ({ cls := "SignalWaves$Both", name := "worked", desc := "([I)I" } : Jvm.MethodName) prog_4_method_2_code (4 : Nat) (Option.some Jvm.ClassFile.FieldType.int)) ∈ lw_all := lw_g (lw_at lw_m7 232 rfl) rfl
theorem q1766 : (Jvm.Cond.methodLink "SignalWaves$Both" (22 : Nat) ({ cls := "SignalWaves$Expr", name := "worked", desc := "([I)I" } : Jvm.MethodName)) ∈ lw_all := lw_g (lw_at lw_m7 233 rfl) rfl
theorem q3128 : (Jvm.Cond.castable "SignalWaves$Both" "java/lang/Object") ∈ lw_tbl := lw_at lw_m13 155 rfl
theorem in_X15 : ∀ w ∈ wsX150, w ∈ lw_all := lw_in wsX150 [1607, 1609, 1611] (by decide +kernel) (by decide +kernel)

/-! SignalWaves$Change -/
set_option maxRecDepth 100000
def RX16 : String := "SignalWaves$Change"
def TX16 : u_T := fun k => match k with
  | 0 => ("SignalWaves$Change", "time", "I", true)
  | 1 => ("SignalWaves$Change", "wire", "I", true)
  | _ => ("SignalWaves$Change", "value", "I", true)
def tyX16 : Nat → FieldType := fun k => match k with
  | 0 => .int
  | 1 => .int
  | _ => .int
abbrev wsX160 : List Cond := u_ws RX16 TX16 3
theorem nmX16 : ∀ a, a < 3 → ∀ b, b < 3 → a ≠ b → (TX16 a).2.1 ≠ (TX16 b).2.1 := by decide +kernel
theorem tyX16_ok : ∀ k, k < 3 → parseFieldDescriptor (TX16 k).2.2.1 = some (tyX16 k) := by decide +kernel
abbrev cX16_init : ByteArray := prog_6_method_1_code
def yX16_init : MethodName := ⟨RX16, "<init>", "(III)V"⟩
def dkwX16_init_0 : List UInt8 := [42, 183, 0, 1, 42, 27, 181, 0, 7, 42, 28, 181, 0, 13, 42, 29, 181, 0, 16, 177]
abbrev dktX16_init_0 : List UInt8 := dkwX16_init_0 ++ []
theorem dksX16_init_0 : cX16_init.data.toList.drop 0 = dktX16_init_0 := by decide +kernel
theorem dX16_init_0 : decode cX16_init 0 = .ok (.aload_n 0, 1) := dk_42 (dk_at dksX16_init_0 0 rfl rfl)
theorem dX16_init_1 : decode cX16_init 1 = .ok (.invokespecial 1, 3) := dk_183 0 1 (dk_at dksX16_init_0 1 rfl rfl)
theorem dX16_init_4 : decode cX16_init 4 = .ok (.aload_n 0, 1) := dk_42 (dk_at dksX16_init_0 4 rfl rfl)
theorem dX16_init_5 : decode cX16_init 5 = .ok (.iload_n 1, 1) := dk_27 (dk_at dksX16_init_0 5 rfl rfl)
theorem dX16_init_6 : decode cX16_init 6 = .ok (.putfield 7, 3) := dk_181 0 7 (dk_at dksX16_init_0 6 rfl rfl)
theorem dX16_init_9 : decode cX16_init 9 = .ok (.aload_n 0, 1) := dk_42 (dk_at dksX16_init_0 9 rfl rfl)
theorem dX16_init_10 : decode cX16_init 10 = .ok (.iload_n 2, 1) := dk_28 (dk_at dksX16_init_0 10 rfl rfl)
theorem dX16_init_11 : decode cX16_init 11 = .ok (.putfield 13, 3) := dk_181 0 13 (dk_at dksX16_init_0 11 rfl rfl)
theorem dX16_init_14 : decode cX16_init 14 = .ok (.aload_n 0, 1) := dk_42 (dk_at dksX16_init_0 14 rfl rfl)
theorem dX16_init_15 : decode cX16_init 15 = .ok (.iload_n 3, 1) := dk_29 (dk_at dksX16_init_0 15 rfl rfl)
theorem dX16_init_16 : decode cX16_init 16 = .ok (.putfield 16, 3) := dk_181 0 16 (dk_at dksX16_init_0 16 rfl rfl)
theorem dX16_init_19 : decode cX16_init 19 = .ok (.return_, 1) := dk_177 (dk_at dksX16_init_0 19 rfl rfl)
theorem q151 : (Jvm.Cond.initialized "SignalWaves$Change") ∈ lw_all := lw_g (lw_at lw_m1 58 rfl) rfl
theorem q1432 : (Jvm.Cond.selects "SignalWaves$Change" ({ cls := "java/lang/Object", name := "getClass", desc := "()Ljava/lang/Class;" } : Jvm.MethodName) ({ cls := "java/lang/Object", name := "getClass", desc := "()Ljava/lang/Class;" } : Jvm.MethodName)) ∈ lw_all := lw_g (lw_at lw_m6 139 rfl) rfl
theorem q1677 : (Jvm.Cond.selects "SignalWaves$Change" ({ cls := "java/lang/Object", name := "equals", desc := "(Ljava/lang/Object;)Z" } : Jvm.MethodName) ({ cls := "java/lang/Object", name := "equals", desc := "(Ljava/lang/Object;)Z" } : Jvm.MethodName)) ∈ lw_all := lw_g (lw_at lw_m7 144 rfl) rfl
theorem q2117 : (Jvm.Cond.instantiable "SignalWaves$Change" (3 : Nat)) ∈ lw_all := lw_g (lw_at lw_m9 104 rfl) rfl
theorem q2119 : (Jvm.Cond.instanceMethod ({ cls := "SignalWaves$Change", name := "<init>", desc := "(III)V" } : Jvm.MethodName)) ∈ lw_all := lw_g (lw_at lw_m9 106 rfl) rfl
theorem q2120 : (Jvm.Cond.code ({ cls := "SignalWaves$Change", name := "<init>", desc := "(III)V" } : Jvm.MethodName) prog_6_method_1_code (4 : Nat) (Option.none : Option Jvm.ClassFile.FieldType)) ∈ lw_all := lw_g (lw_at lw_m9 107 rfl) rfl
theorem q2121 : (Jvm.Cond.methodLink "SignalWaves$Change" (1 : Nat) ({ cls := "java/lang/Object", name := "<init>", desc := "()V" } : Jvm.MethodName)) ∈ lw_all := lw_g (lw_at lw_m9 108 rfl) rfl
theorem q2122 : (Jvm.Cond.fieldLink "SignalWaves$Change" (7 : Nat) "SignalWaves$Change" "time" "I") ∈ lw_all := lw_g (lw_at lw_m9 109 rfl) rfl
theorem q2124 : (Jvm.Cond.fieldLink "SignalWaves$Change" (13 : Nat) "SignalWaves$Change" "wire" "I") ∈ lw_all := lw_g (lw_at lw_m9 111 rfl) rfl
theorem q2126 : (Jvm.Cond.fieldLink "SignalWaves$Change" (16 : Nat) "SignalWaves$Change" "value" "I") ∈ lw_all := lw_g (lw_at lw_m9 113 rfl) rfl
theorem q2128 : (Jvm.Cond.laysFinal "SignalWaves$Change" "SignalWaves$Change" "time" "I") ∈ lw_all := lw_g (lw_at lw_m9 115 rfl) rfl
theorem q2129 : (Jvm.Cond.soleField "SignalWaves$Change" "time") ∈ lw_all := lw_g (lw_at lw_m9 116 rfl) rfl
theorem q2130 : (Jvm.Cond.laysFinal "SignalWaves$Change" "SignalWaves$Change" "wire" "I") ∈ lw_all := lw_g (lw_at lw_m9 117 rfl) rfl
theorem q2131 : (Jvm.Cond.soleField "SignalWaves$Change" "wire") ∈ lw_all := lw_g (lw_at lw_m9 118 rfl) rfl
theorem q2132 : (Jvm.Cond.laysFinal "SignalWaves$Change" "SignalWaves$Change" "value" "I") ∈ lw_all := lw_g (lw_at lw_m9 119 rfl) rfl
theorem q2133 : (Jvm.Cond.soleField "SignalWaves$Change" "value") ∈ lw_all := lw_g (lw_at lw_m9 120 rfl) rfl
theorem q2134 : (Jvm.Cond.superclass "SignalWaves$Change" "java/lang/Object") ∈ lw_all := lw_g (lw_at lw_m9 121 rfl) rfl
theorem q3133 : (Jvm.Cond.castable "SignalWaves$Change" "java/lang/Object") ∈ lw_tbl := lw_at lw_m13 160 rfl
theorem in_X16 : ∀ w ∈ wsX160, w ∈ lw_all := lw_in wsX160 [2128, 2130, 2132] (by decide +kernel) (by decide +kernel)

/-! SignalWaves$Tick -/
set_option maxRecDepth 100000
def RX17 : String := "SignalWaves$Tick"
def TX17 : u_T := fun k => match k with
  | 0 => ("SignalWaves$Tick", "wave", "[I", true)
  | 1 => ("SignalWaves$Tick", "time", "I", true)
  | _ => ("SignalWaves$Tick", "this$0", "LSignalWaves;", true)
def tyX17 : Nat → FieldType := fun k => match k with
  | 0 => .array .int
  | 1 => .int
  | _ => .object "SignalWaves"
abbrev wsX170 : List Cond := u_ws RX17 TX17 3
theorem nmX17 : ∀ a, a < 3 → ∀ b, b < 3 → a ≠ b → (TX17 a).2.1 ≠ (TX17 b).2.1 := by decide +kernel
theorem tyX17_ok : ∀ k, k < 3 → parseFieldDescriptor (TX17 k).2.2.1 = some (tyX17 k) := by decide +kernel
abbrev cX17_compareTo : ByteArray := prog_15_method_4_code
def yX17_compareTo : MethodName := ⟨RX17, "compareTo", "(Ljava/lang/Object;)I"⟩
def dkwX17_compareTo_0 : List UInt8 := [42, 43, 192, 0, 4, 182, 0, 36, 172]
abbrev dktX17_compareTo_0 : List UInt8 := dkwX17_compareTo_0 ++ []
theorem dksX17_compareTo_0 : cX17_compareTo.data.toList.drop 0 = dktX17_compareTo_0 := by decide +kernel
theorem dX17_compareTo_0 : decode cX17_compareTo 0 = .ok (.aload_n 0, 1) := dk_42 (dk_at dksX17_compareTo_0 0 rfl rfl)
theorem dX17_compareTo_1 : decode cX17_compareTo 1 = .ok (.aload_n 1, 1) := dk_43 (dk_at dksX17_compareTo_0 1 rfl rfl)
theorem dX17_compareTo_2 : decode cX17_compareTo 2 = .ok (.checkcast 4, 3) := dk_192 0 4 (dk_at dksX17_compareTo_0 2 rfl rfl)
theorem dX17_compareTo_5 : decode cX17_compareTo 5 = .ok (.invokevirtual 36, 3) := dk_182 0 36 (dk_at dksX17_compareTo_0 5 rfl rfl)
theorem dX17_compareTo_8 : decode cX17_compareTo 8 = .ok (.ireturn, 1) := dk_172 (dk_at dksX17_compareTo_0 8 rfl rfl)
abbrev cX17_compareTo_2 : ByteArray := prog_15_method_3_code
def yX17_compareTo_2 : MethodName := ⟨RX17, "compareTo", "(LSignalWaves$Tick;)I"⟩
def dkwX17_compareTo_2_0 : List UInt8 := [42, 180, 0, 19, 43, 180, 0, 19, 184, 0, 30, 172]
abbrev dktX17_compareTo_2_0 : List UInt8 := dkwX17_compareTo_2_0 ++ []
theorem dksX17_compareTo_2_0 : cX17_compareTo_2.data.toList.drop 0 = dktX17_compareTo_2_0 := by decide +kernel
theorem dX17_compareTo_2_0 : decode cX17_compareTo_2 0 = .ok (.aload_n 0, 1) := dk_42 (dk_at dksX17_compareTo_2_0 0 rfl rfl)
theorem dX17_compareTo_2_1 : decode cX17_compareTo_2 1 = .ok (.getfield 19, 3) := dk_180 0 19 (dk_at dksX17_compareTo_2_0 1 rfl rfl)
theorem dX17_compareTo_2_4 : decode cX17_compareTo_2 4 = .ok (.aload_n 1, 1) := dk_43 (dk_at dksX17_compareTo_2_0 4 rfl rfl)
theorem dX17_compareTo_2_5 : decode cX17_compareTo_2 5 = .ok (.getfield 19, 3) := dk_180 0 19 (dk_at dksX17_compareTo_2_0 5 rfl rfl)
theorem dX17_compareTo_2_8 : decode cX17_compareTo_2 8 = .ok (.invokestatic 30, 3) := dk_184 0 30 (dk_at dksX17_compareTo_2_0 8 rfl rfl)
theorem dX17_compareTo_2_11 : decode cX17_compareTo_2 11 = .ok (.ireturn, 1) := dk_172 (dk_at dksX17_compareTo_2_0 11 rfl rfl)
abbrev cX17_init : ByteArray := prog_15_method_1_code
def yX17_init : MethodName := ⟨RX17, "<init>", "(LSignalWaves;[II)V"⟩
def dkwX17_init_0 : List UInt8 := [42, 43, 181, 0, 3, 42, 183, 0, 9, 42, 44, 181, 0, 15, 42, 29, 181, 0, 19, 177]
abbrev dktX17_init_0 : List UInt8 := dkwX17_init_0 ++ []
theorem dksX17_init_0 : cX17_init.data.toList.drop 0 = dktX17_init_0 := by decide +kernel
theorem dX17_init_0 : decode cX17_init 0 = .ok (.aload_n 0, 1) := dk_42 (dk_at dksX17_init_0 0 rfl rfl)
theorem dX17_init_1 : decode cX17_init 1 = .ok (.aload_n 1, 1) := dk_43 (dk_at dksX17_init_0 1 rfl rfl)
theorem dX17_init_2 : decode cX17_init 2 = .ok (.putfield 3, 3) := dk_181 0 3 (dk_at dksX17_init_0 2 rfl rfl)
theorem dX17_init_5 : decode cX17_init 5 = .ok (.aload_n 0, 1) := dk_42 (dk_at dksX17_init_0 5 rfl rfl)
theorem dX17_init_6 : decode cX17_init 6 = .ok (.invokespecial 9, 3) := dk_183 0 9 (dk_at dksX17_init_0 6 rfl rfl)
theorem dX17_init_9 : decode cX17_init 9 = .ok (.aload_n 0, 1) := dk_42 (dk_at dksX17_init_0 9 rfl rfl)
theorem dX17_init_10 : decode cX17_init 10 = .ok (.aload_n 2, 1) := dk_44 (dk_at dksX17_init_0 10 rfl rfl)
theorem dX17_init_11 : decode cX17_init 11 = .ok (.putfield 15, 3) := dk_181 0 15 (dk_at dksX17_init_0 11 rfl rfl)
theorem dX17_init_14 : decode cX17_init 14 = .ok (.aload_n 0, 1) := dk_42 (dk_at dksX17_init_0 14 rfl rfl)
theorem dX17_init_15 : decode cX17_init 15 = .ok (.iload_n 3, 1) := dk_29 (dk_at dksX17_init_0 15 rfl rfl)
theorem dX17_init_16 : decode cX17_init 16 = .ok (.putfield 19, 3) := dk_181 0 19 (dk_at dksX17_init_0 16 rfl rfl)
theorem dX17_init_19 : decode cX17_init 19 = .ok (.return_, 1) := dk_177 (dk_at dksX17_init_0 19 rfl rfl)
abbrev cX17_next : ByteArray := prog_15_method_2_code
def yX17_next : MethodName := ⟨RX17, "next", "()LSignalWaves$Tick;"⟩
def dkwX17_next_1 : List UInt8 := [160, 0, 7, 1, 167, 0, 19, 187, 0, 4, 89, 42, 180, 0, 3, 42, 180, 0, 15, 27, 183, 0, 27, 176]
abbrev dktX17_next_1 : List UInt8 := dkwX17_next_1 ++ []
def dkwX17_next_0 : List UInt8 := [42, 180, 0, 3, 42, 180, 0, 15, 3, 42, 180, 0, 19, 4, 96, 182, 0, 23, 60, 27, 16, 247]
abbrev dktX17_next_0 : List UInt8 := dkwX17_next_0 ++ dktX17_next_1
theorem dksX17_next_0 : cX17_next.data.toList.drop 0 = dktX17_next_0 := by decide +kernel
theorem dksX17_next_1 : cX17_next.data.toList.drop 22 = dktX17_next_1 := dk_seg dksX17_next_0 22 rfl rfl
theorem dX17_next_0 : decode cX17_next 0 = .ok (.aload_n 0, 1) := dk_42 (dk_at dksX17_next_0 0 rfl rfl)
theorem dX17_next_1 : decode cX17_next 1 = .ok (.getfield 3, 3) := dk_180 0 3 (dk_at dksX17_next_0 1 rfl rfl)
theorem dX17_next_4 : decode cX17_next 4 = .ok (.aload_n 0, 1) := dk_42 (dk_at dksX17_next_0 4 rfl rfl)
theorem dX17_next_5 : decode cX17_next 5 = .ok (.getfield 15, 3) := dk_180 0 15 (dk_at dksX17_next_0 5 rfl rfl)
theorem dX17_next_8 : decode cX17_next 8 = .ok (.iconst 0, 1) := dk_3 (dk_at dksX17_next_0 8 rfl rfl)
theorem dX17_next_9 : decode cX17_next 9 = .ok (.aload_n 0, 1) := dk_42 (dk_at dksX17_next_0 9 rfl rfl)
theorem dX17_next_10 : decode cX17_next 10 = .ok (.getfield 19, 3) := dk_180 0 19 (dk_at dksX17_next_0 10 rfl rfl)
theorem dX17_next_13 : decode cX17_next 13 = .ok (.iconst 1, 1) := dk_4 (dk_at dksX17_next_0 13 rfl rfl)
theorem dX17_next_14 : decode cX17_next 14 = .ok (.iadd, 1) := dk_96 (dk_at dksX17_next_0 14 rfl rfl)
theorem dX17_next_15 : decode cX17_next 15 = .ok (.invokevirtual 23, 3) := dk_182 0 23 (dk_at dksX17_next_0 15 rfl rfl)
theorem dX17_next_18 : decode cX17_next 18 = .ok (.istore_n 1, 1) := dk_60 (dk_at dksX17_next_0 18 rfl rfl)
theorem dX17_next_19 : decode cX17_next 19 = .ok (.iload_n 1, 1) := dk_27 (dk_at dksX17_next_0 19 rfl rfl)
theorem dX17_next_20 : decode cX17_next 20 = .ok (.bipush (-9), 2) := dk_16 247 (dk_at dksX17_next_0 20 rfl rfl)
theorem dX17_next_22 : decode cX17_next 22 = .ok (.if_icmp .ne 7, 3) := dk_160 0 7 (dk_at dksX17_next_1 0 rfl rfl)
theorem dX17_next_25 : decode cX17_next 25 = .ok (.aconst_null, 1) := dk_1 (dk_at dksX17_next_1 3 rfl rfl)
theorem dX17_next_26 : decode cX17_next 26 = .ok (.goto 19, 3) := dk_167 0 19 (dk_at dksX17_next_1 4 rfl rfl)
theorem dX17_next_29 : decode cX17_next 29 = .ok (.new 4, 3) := dk_187 0 4 (dk_at dksX17_next_1 7 rfl rfl)
theorem dX17_next_32 : decode cX17_next 32 = .ok (.dup, 1) := dk_89 (dk_at dksX17_next_1 10 rfl rfl)
theorem dX17_next_33 : decode cX17_next 33 = .ok (.aload_n 0, 1) := dk_42 (dk_at dksX17_next_1 11 rfl rfl)
theorem dX17_next_34 : decode cX17_next 34 = .ok (.getfield 3, 3) := dk_180 0 3 (dk_at dksX17_next_1 12 rfl rfl)
theorem dX17_next_37 : decode cX17_next 37 = .ok (.aload_n 0, 1) := dk_42 (dk_at dksX17_next_1 15 rfl rfl)
theorem dX17_next_38 : decode cX17_next 38 = .ok (.getfield 15, 3) := dk_180 0 15 (dk_at dksX17_next_1 16 rfl rfl)
theorem dX17_next_41 : decode cX17_next 41 = .ok (.iload_n 1, 1) := dk_27 (dk_at dksX17_next_1 19 rfl rfl)
theorem dX17_next_42 : decode cX17_next 42 = .ok (.invokespecial 27, 3) := dk_183 0 27 (dk_at dksX17_next_1 20 rfl rfl)
theorem dX17_next_45 : decode cX17_next 45 = .ok (.areturn, 1) := dk_176 (dk_at dksX17_next_1 23 rfl rfl)
theorem q154 : (Jvm.Cond.initialized "SignalWaves$Tick") ∈ lw_all := lw_g (lw_at lw_m1 61 rfl) rfl
theorem q436 : (Jvm.Cond.castable "SignalWaves$Tick" "java/lang/Comparable") ∈ lw_tbl := lw_at lw_m2 103 rfl
theorem q437 : (Jvm.Cond.selects "SignalWaves$Tick" ({ cls := "java/lang/Comparable", name := "compareTo", desc := "(Ljava/lang/Object;)I" } : Jvm.MethodName) ({ cls := "SignalWaves$Tick", name := "compareTo", desc := "(Ljava/lang/Object;)I" } : Jvm.MethodName)) ∈ lw_all := lw_g (lw_at lw_m2 104 rfl) rfl
theorem q438 : (Jvm.Cond.unhidden "SignalWaves$Tick" "compareTo" "(Ljava/lang/Object;)I") ∈ lw_tbl := lw_at lw_m2 105 rfl
theorem q439 : (Jvm.Cond.instanceMethod ({ cls := "SignalWaves$Tick", name := "compareTo", desc := "(Ljava/lang/Object;)I" } : Jvm.MethodName)) ∈ lw_all := lw_g (lw_at lw_m2 106 rfl) rfl
theorem q440 : (Jvm.Cond.publicMethod ({ cls := "SignalWaves$Tick", name := "compareTo", desc := "(Ljava/lang/Object;)I" } : Jvm.MethodName)) ∈ lw_tbl := lw_at lw_m2 107 rfl
theorem q441 : (Jvm.Cond.code ({ cls := "SignalWaves$Tick", name := "compareTo", desc := "(Ljava/lang/Object;)I" } : Jvm.MethodName) prog_15_method_4_code (2 : Nat) (Option.some Jvm.ClassFile.FieldType.int)) ∈ lw_all := lw_g (lw_at lw_m2 108 rfl) rfl
theorem q442 : (Jvm.Cond.classLink "SignalWaves$Tick" (4 : Nat) "SignalWaves$Tick") ∈ lw_all := lw_g (lw_at lw_m2 109 rfl) rfl
theorem q443 : (Jvm.Cond.methodLink "SignalWaves$Tick" (36 : Nat) ({ cls := "SignalWaves$Tick", name := "compareTo", desc := "(LSignalWaves$Tick;)I" } : Jvm.MethodName)) ∈ lw_all := lw_g (lw_at lw_m2 110 rfl) rfl
theorem q444 : (Jvm.Cond.instanceMethod ({ cls := "SignalWaves$Tick", name := "compareTo", desc := "(LSignalWaves$Tick;)I" } : Jvm.MethodName)) ∈ lw_all := lw_g (lw_at lw_m2 111 rfl) rfl
theorem q445 : (Jvm.Cond.selects "SignalWaves$Tick" ({ cls := "SignalWaves$Tick", name := "compareTo", desc := "(LSignalWaves$Tick;)I" } : Jvm.MethodName) ({ cls := "SignalWaves$Tick", name := "compareTo", desc := "(LSignalWaves$Tick;)I" } : Jvm.MethodName)) ∈ lw_all := lw_g (lw_at lw_m2 112 rfl) rfl
theorem q446 : (Jvm.Cond.code ({ cls := "SignalWaves$Tick", name := "compareTo", desc := "(LSignalWaves$Tick;)I" } : Jvm.MethodName) prog_15_method_3_code (2 : Nat) (Option.some Jvm.ClassFile.FieldType.int)) ∈ lw_all := lw_g (lw_at lw_m2 113 rfl) rfl
theorem q447 : (Jvm.Cond.methodLink "SignalWaves$Tick" (30 : Nat) ({ cls := "java/lang/Integer", name := "compare", desc := "(II)I" } : Jvm.MethodName)) ∈ lw_all := lw_g (lw_at lw_m2 114 rfl) rfl
theorem q1439 : (Jvm.Cond.selects "SignalWaves$Tick" ({ cls := "java/lang/Object", name := "getClass", desc := "()Ljava/lang/Class;" } : Jvm.MethodName) ({ cls := "java/lang/Object", name := "getClass", desc := "()Ljava/lang/Class;" } : Jvm.MethodName)) ∈ lw_all := lw_g (lw_at lw_m6 146 rfl) rfl
theorem q1684 : (Jvm.Cond.selects "SignalWaves$Tick" ({ cls := "java/lang/Object", name := "equals", desc := "(Ljava/lang/Object;)Z" } : Jvm.MethodName) ({ cls := "java/lang/Object", name := "equals", desc := "(Ljava/lang/Object;)Z" } : Jvm.MethodName)) ∈ lw_all := lw_g (lw_at lw_m7 151 rfl) rfl
theorem q2286 : (Jvm.Cond.instantiable "SignalWaves$Tick" (3 : Nat)) ∈ lw_all := lw_g (lw_at lw_m10 33 rfl) rfl
theorem q2288 : (Jvm.Cond.instanceMethod ({ cls := "SignalWaves$Tick", name := "<init>", desc := "(LSignalWaves;[II)V" } : Jvm.MethodName)) ∈ lw_all := lw_g (lw_at lw_m10 35 rfl) rfl
theorem q2289 : (Jvm.Cond.code ({ cls := "SignalWaves$Tick", name := "<init>", desc := "(LSignalWaves;[II)V" } : Jvm.MethodName) prog_15_method_1_code (4 : Nat) (Option.none : Option Jvm.ClassFile.FieldType)) ∈ lw_all := lw_g (lw_at lw_m10 36 rfl) rfl
theorem q2290 : (Jvm.Cond.methodLink "SignalWaves$Tick" (9 : Nat) ({ cls := "java/lang/Object", name := "<init>", desc := "()V" } : Jvm.MethodName)) ∈ lw_all := lw_g (lw_at lw_m10 37 rfl) rfl
theorem q2291 : (Jvm.Cond.fieldLink "SignalWaves$Tick" (15 : Nat) "SignalWaves$Tick" "wave" "[I") ∈ lw_all := lw_g (lw_at lw_m10 38 rfl) rfl
theorem q2292 : (Jvm.Cond.fieldLink "SignalWaves$Tick" (19 : Nat) "SignalWaves$Tick" "time" "I") ∈ lw_all := lw_g (lw_at lw_m10 39 rfl) rfl
theorem q2294 : (Jvm.Cond.fieldLink "SignalWaves$Tick" (3 : Nat) "SignalWaves$Tick" "this$0" "LSignalWaves;") ∈ lw_all := lw_g (lw_at lw_m10 41 rfl) rfl
theorem q2295 : (Jvm.Cond.laysFinal "SignalWaves$Tick" "SignalWaves$Tick" "wave" "[I") ∈ lw_all := lw_g (lw_at lw_m10 42 rfl) rfl
theorem q2296 : (Jvm.Cond.soleField "SignalWaves$Tick" "wave") ∈ lw_all := lw_g (lw_at lw_m10 43 rfl) rfl
theorem q2297 : (Jvm.Cond.laysFinal "SignalWaves$Tick" "SignalWaves$Tick" "time" "I") ∈ lw_all := lw_g (lw_at lw_m10 44 rfl) rfl
theorem q2298 : (Jvm.Cond.soleField "SignalWaves$Tick" "time") ∈ lw_all := lw_g (lw_at lw_m10 45 rfl) rfl
theorem q2299 : (Jvm.Cond.laysFinal "SignalWaves$Tick" "SignalWaves$Tick" "this$0" "LSignalWaves;") ∈ lw_all := lw_g (lw_at lw_m10 46 rfl) rfl
theorem q2300 : (Jvm.Cond.soleField "SignalWaves$Tick" "this$0") ∈ lw_all := lw_g (lw_at lw_m10 47 rfl) rfl
theorem q2301 : (Jvm.Cond.superclass "SignalWaves$Tick" "java/lang/Object") ∈ lw_all := lw_g (lw_at lw_m10 48 rfl) rfl
theorem q2303 : (Jvm.Cond.instanceMethod ({ cls := "SignalWaves$Tick", name := "next", desc := "()LSignalWaves$Tick;" } : Jvm.MethodName)) ∈ lw_all := lw_g (lw_at lw_m10 50 rfl) rfl
theorem q2304 : (Jvm.Cond.selects "SignalWaves$Tick" ({ cls := "SignalWaves$Tick", name := "next", desc := "()LSignalWaves$Tick;" } : Jvm.MethodName) ({ cls := "SignalWaves$Tick", name := "next", desc := "()LSignalWaves$Tick;" } : Jvm.MethodName)) ∈ lw_all := lw_g (lw_at lw_m10 51 rfl) rfl
theorem q2305 : (Jvm.Cond.code ({ cls := "SignalWaves$Tick", name := "next", desc := "()LSignalWaves$Tick;" } : Jvm.MethodName) prog_15_method_2_code (2 : Nat) (Option.some (Jvm.ClassFile.FieldType.object "SignalWaves$Tick"))) ∈ lw_all := lw_g (lw_at lw_m10 52 rfl) rfl
theorem q2306 : (Jvm.Cond.methodLinkNest "SignalWaves$Tick" (23 : Nat) ({ cls := "SignalWaves", name := "edgeFrom", desc := "([III)I" } : Jvm.MethodName) "SignalWaves") ∈ lw_tbl := lw_at lw_m10 53 rfl
theorem q2307 : (Jvm.Cond.methodLink "SignalWaves$Tick" (27 : Nat) ({ cls := "SignalWaves$Tick", name := "<init>", desc := "(LSignalWaves;[II)V" } : Jvm.MethodName)) ∈ lw_all := lw_g (lw_at lw_m10 54 rfl) rfl
theorem q3135 : (Jvm.Cond.castable "SignalWaves$Tick" "java/lang/Object") ∈ lw_tbl := lw_at lw_m13 162 rfl
theorem in_X17 : ∀ w ∈ wsX170, w ∈ lw_all := lw_in wsX170 [2295, 2297, 2299] (by decide +kernel) (by decide +kernel)
